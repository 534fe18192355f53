section
-- ===== PART A: goes FIRST, ahead of the names: the tables' words, and 'selects' of the private methods out of them =====
/-- a private method of a class that the tables say can be made, by its rows of tables_1 -/
def lw_okq (q : MethodName × Nat) : Prop := (q.1.cls ≠ "java/lang/invoke/MethodHandle" ∧ q.1.cls ≠ "java/lang/invoke/VarHandle") ∧ Cond.instantiable q.1.cls q.2 ∈ tables_1 ∧ Cond.privateMethod q.1 ∈ tables_1 ∧ Cond.instanceMethod q.1 ∈ tables_1
set_option maxRecDepth 100000
theorem lw_p0 : lw_okq (⟨"CachedMemory", "isPage", "(II)Z"⟩, 15) := ⟨⟨by decide +kernel, by decide +kernel⟩, List.mem_of_getElem? (i := 4) rfl, List.mem_of_getElem? (i := 69) rfl, List.mem_of_getElem? (i := 70) rfl⟩
theorem lw_p1 : lw_okq (⟨"CachedMemory", "forget", "(I)V"⟩, 15) := ⟨⟨by decide +kernel, by decide +kernel⟩, List.mem_of_getElem? (i := 4) rfl, List.mem_of_getElem? (i := 73) rfl, List.mem_of_getElem? (i := 74) rfl⟩
theorem lw_p2 : lw_okq (⟨"CachedMemory", "translation", "(I)I"⟩, 15) := ⟨⟨by decide +kernel, by decide +kernel⟩, List.mem_of_getElem? (i := 4) rfl, List.mem_of_getElem? (i := 89) rfl, List.mem_of_getElem? (i := 90) rfl⟩
theorem lw_p3 : lw_okq (⟨"CachedMemory", "bringIn", "(I)I"⟩, 15) := ⟨⟨by decide +kernel, by decide +kernel⟩, List.mem_of_getElem? (i := 4) rfl, List.mem_of_getElem? (i := 93) rfl, List.mem_of_getElem? (i := 94) rfl⟩
theorem lw_p4 : lw_okq (⟨"CachedMemory", "lineWith", "(I)I"⟩, 15) := ⟨⟨by decide +kernel, by decide +kernel⟩, List.mem_of_getElem? (i := 4) rfl, List.mem_of_getElem? (i := 97) rfl, List.mem_of_getElem? (i := 98) rfl⟩
theorem lw_p5 : lw_okq (⟨"CachedMemory", "evict", "(I)V"⟩, 15) := ⟨⟨by decide +kernel, by decide +kernel⟩, List.mem_of_getElem? (i := 4) rfl, List.mem_of_getElem? (i := 101) rfl, List.mem_of_getElem? (i := 102) rfl⟩
theorem lw_p6 : lw_okq (⟨"CachedMemory", "change", "(IIZ)I"⟩, 15) := ⟨⟨by decide +kernel, by decide +kernel⟩, List.mem_of_getElem? (i := 4) rfl, List.mem_of_getElem? (i := 113) rfl, List.mem_of_getElem? (i := 114) rfl⟩
theorem lw_p7 : lw_okq (⟨"CachedMemoryModel", "isSpace", "(I)Z"⟩, 5) := ⟨⟨by decide +kernel, by decide +kernel⟩, List.mem_of_getElem? (i := 142) rfl, List.mem_of_getElem? (i := 168) rfl, List.mem_of_getElem? (i := 169) rfl⟩
theorem lw_p8 : lw_okq (⟨"CachedMemoryModel", "isPage", "(I)Z"⟩, 5) := ⟨⟨by decide +kernel, by decide +kernel⟩, List.mem_of_getElem? (i := 142) rfl, List.mem_of_getElem? (i := 176) rfl, List.mem_of_getElem? (i := 177) rfl⟩
theorem lw_p9 : lw_okq (⟨"CachedMemoryModel", "isWord", "(I)Z"⟩, 5) := ⟨⟨by decide +kernel, by decide +kernel⟩, List.mem_of_getElem? (i := 142) rfl, List.mem_of_getElem? (i := 196) rfl, List.mem_of_getElem? (i := 197) rfl⟩
def lw_privs_1 : List (MethodName × Nat) := [(⟨"CachedMemory", "isPage", "(II)Z"⟩, 15), (⟨"CachedMemory", "forget", "(I)V"⟩, 15), (⟨"CachedMemory", "translation", "(I)I"⟩, 15), (⟨"CachedMemory", "bringIn", "(I)I"⟩, 15), (⟨"CachedMemory", "lineWith", "(I)I"⟩, 15), (⟨"CachedMemory", "evict", "(I)V"⟩, 15), (⟨"CachedMemory", "change", "(IIZ)I"⟩, 15), (⟨"CachedMemoryModel", "isSpace", "(I)Z"⟩, 5), (⟨"CachedMemoryModel", "isPage", "(I)Z"⟩, 5), (⟨"CachedMemoryModel", "isWord", "(I)Z"⟩, 5)]
theorem lw_r1 : ∀ q ∈ lw_privs_1, lw_okq q := List.forall_mem_cons.mpr ⟨lw_p0, List.forall_mem_cons.mpr ⟨lw_p1, List.forall_mem_cons.mpr ⟨lw_p2, List.forall_mem_cons.mpr ⟨lw_p3, List.forall_mem_cons.mpr ⟨lw_p4, List.forall_mem_cons.mpr ⟨lw_p5, List.forall_mem_cons.mpr ⟨lw_p6, List.forall_mem_cons.mpr ⟨lw_p7, List.forall_mem_cons.mpr ⟨lw_p8, List.forall_mem_cons.mpr ⟨lw_p9, fun _ h => absurd h List.not_mem_nil⟩⟩⟩⟩⟩⟩⟩⟩⟩⟩
def lw_privs : List (MethodName × Nat) := lw_privs_1
def lw_tbl : List Cond := k2_sels lw_privs ++ tables_1
theorem lw_privs_ok : ∀ q ∈ lw_privs, lw_okq q := lw_r1
-- ===== ONE list of words for every method: the tables' words that hold all through a run =====
def lw_all : List Cond := lw_tbl.filter goodWord
/-- a word of the tables by its place: claim/WORDS.tsv -/
theorem lw_w {w : Cond} (i : Nat) (h : lw_tbl[i]? = some w) (g : goodWord w = true) : w ∈ lw_all := List.mem_filter.mpr ⟨List.mem_of_getElem? h, g⟩
theorem lw_all_tbl {w : Cond} (h : w ∈ lw_all) : w ∈ lw_tbl := (List.mem_filter.mp h).1
theorem lw_self : GoodIn lw_all lw_all := fun w h => ⟨h, good_of_word (List.mem_filter.mp h).2⟩
/-- a class's field words, by their places -/
theorem lw_in (ws : List Cond) (ps : List Nat) (hp : ws = ps.filterMap (fun i => lw_tbl[i]?)) (hg : ws.all goodWord = true) : ∀ w ∈ ws, w ∈ lw_all := by
  intro w h
  have h1 := List.all_eq_true.mp hg w h
  rw [hp] at h
  obtain ⟨i, -, hi⟩ := List.mem_filterMap.mp h
  exact lw_w i hi h1
/-- the words of a contract for the method y with code b, L locals, answer r -/
abbrev ws_ (y : MethodName) (b : ByteArray) (L : Nat) (r : Option FieldType) : List Cond := Cond.code y b L r :: lw_all
theorem lw_meth {y : MethodName} {b : ByteArray} {L : Nat} {r : Option FieldType} (h : Cond.code y b L r ∈ lw_all) : GoodIn lw_all (ws_ y b L r) := by
  intro w hw
  rcases List.mem_cons.mp hw with e | e
  · rw [e]
    exact lw_self _ h
  · exact lw_self _ e
theorem lw_app {a c : List Cond} (ha : ∀ w ∈ a, w ∈ lw_all) (hc : GoodIn lw_all c) : GoodIn lw_all (a ++ c) := by
  intro w hw
  rcases List.mem_append.mp hw with e | e
  · exact lw_self w (ha w e)
  · exact hc w e
/-- what a call through an object asks: cwV n hts (lw_V ..) -/
theorem lw_V {own : String} {idx : Nat} {C : String} {y : MethodName} {b : ByteArray} {L : Nat} {r : Option FieldType} (h1 : Cond.methodLink own idx y ∈ lw_all) (h2 : Cond.instanceMethod y ∈ lw_all) (h3 : Cond.selects C y y ∈ lw_all) (h4 : Cond.initialized C ∈ lw_all) (h5 : Cond.code y b L r ∈ lw_all) : GoodIn lw_all (wsV own idx C y (ws_ y b L r)) := by
  refine lw_app ?_ (lw_meth h5)
  intro w hw
  simp only [List.mem_cons, List.not_mem_nil, or_false] at hw
  rcases hw with e | e | e | e
  · rw [e]; exact h1
  · rw [e]; exact h2
  · rw [e]; exact h3
  · rw [e]; exact h4
/-- what a static call asks: va_cwS n hts (lw_S ..) -/
theorem lw_S {own : String} {idx : Nat} {y : MethodName} {b : ByteArray} {L : Nat} {r : Option FieldType} (h1 : Cond.methodLink own idx y ∈ lw_all) (h2 : Cond.static y ∈ lw_all) (h3 : Cond.initialized y.cls ∈ lw_all) (h4 : Cond.code y b L r ∈ lw_all) : GoodIn lw_all (va_wsS own idx y (ws_ y b L r)) := by
  refine lw_app ?_ (lw_meth h4)
  intro w hw
  simp only [List.mem_cons, List.not_mem_nil, or_false] at hw
  rcases hw with e | e | e
  · rw [e]; exact h1
  · rw [e]; exact h2
  · rw [e]; exact h3
/-- the words of a contract for a method WITH HANDLERS (hh: its table) -/
abbrev wsW_ (y : MethodName) (b : ByteArray) (L : Nat) (r : Option FieldType) (hh : List (Nat × Nat × Nat × Nat)) : List Cond := Cond.codeWith y b L r hh :: lw_all
theorem lw_methW {y : MethodName} {b : ByteArray} {L : Nat} {r : Option FieldType} {hh : List (Nat × Nat × Nat × Nat)} (h : Cond.codeWith y b L r hh ∈ lw_all) : GoodIn lw_all (wsW_ y b L r hh) := by
  intro w hw
  rcases List.mem_cons.mp hw with e | e
  · rw [e]
    exact lw_self _ h
  · exact lw_self _ e
/-- any list of words by their places (lw_in), good -/
theorem lw_good {ws : List Cond} (h : ∀ w ∈ ws, w ∈ lw_all) : GoodIn lw_all ws := fun w hw => lw_self w (h w hw)
/-- what a call of a method with handlers asks: vx_cwVW n hts (lw_VW ..), vx_cwSW n hts (lw_SW ..) -/
theorem lw_VW {own : String} {idx : Nat} {C : String} {y : MethodName} {b : ByteArray} {L : Nat} {r : Option FieldType} {hh : List (Nat × Nat × Nat × Nat)} (h1 : Cond.methodLink own idx y ∈ lw_all) (h2 : Cond.instanceMethod y ∈ lw_all) (h3 : Cond.selects C y y ∈ lw_all) (h4 : Cond.initialized C ∈ lw_all) (h5 : Cond.codeWith y b L r hh ∈ lw_all) : GoodIn lw_all (wsV own idx C y (wsW_ y b L r hh)) := by
  refine lw_app ?_ (lw_methW h5)
  intro w hw
  simp only [List.mem_cons, List.not_mem_nil, or_false] at hw
  rcases hw with e | e | e | e
  · rw [e]; exact h1
  · rw [e]; exact h2
  · rw [e]; exact h3
  · rw [e]; exact h4
theorem lw_SW {own : String} {idx : Nat} {y : MethodName} {b : ByteArray} {L : Nat} {r : Option FieldType} {hh : List (Nat × Nat × Nat × Nat)} (h1 : Cond.methodLink own idx y ∈ lw_all) (h2 : Cond.static y ∈ lw_all) (h3 : Cond.initialized y.cls ∈ lw_all) (h4 : Cond.codeWith y b L r hh ∈ lw_all) : GoodIn lw_all (va_wsS own idx y (wsW_ y b L r hh)) := by
  refine lw_app ?_ (lw_methW h4)
  intro w hw
  simp only [List.mem_cons, List.not_mem_nil, or_false] at hw
  rcases hw with e | e | e
  · rw [e]; exact h1
  · rw [e]; exact h2
  · rw [e]; exact h3
/-- a word by its place in its run of the tables -/
theorem lw_at {r : List Cond} (hr : ∀ w ∈ r, w ∈ lw_tbl) {w : Cond} (i : Nat) (h : r[i]? = some w) : w ∈ lw_tbl := hr w (List.mem_of_getElem? h)
theorem lw_g {w : Cond} (h : w ∈ lw_tbl) (g : goodWord w = true) : w ∈ lw_all := List.mem_filter.mpr ⟨h, g⟩
theorem lw_ms : ∀ w ∈ k2_sels lw_privs, w ∈ lw_tbl := fun w h => show w ∈ k2_sels lw_privs ++ tables_1 from List.mem_append_left _ h
theorem lw_m0 : ∀ w ∈ tables_1, w ∈ lw_tbl := fun w h => show w ∈ k2_sels lw_privs ++ tables_1 from List.mem_append_right (k2_sels lw_privs) h
theorem qs0 : (Cond.selects "CachedMemory" ⟨"CachedMemory", "isPage", "(II)Z"⟩ ⟨"CachedMemory", "isPage", "(II)Z"⟩) ∈ lw_all := lw_g (lw_at lw_ms 0 rfl) rfl
theorem qs1 : (Cond.selects "CachedMemory" ⟨"CachedMemory", "forget", "(I)V"⟩ ⟨"CachedMemory", "forget", "(I)V"⟩) ∈ lw_all := lw_g (lw_at lw_ms 1 rfl) rfl
theorem qs2 : (Cond.selects "CachedMemory" ⟨"CachedMemory", "translation", "(I)I"⟩ ⟨"CachedMemory", "translation", "(I)I"⟩) ∈ lw_all := lw_g (lw_at lw_ms 2 rfl) rfl
theorem qs3 : (Cond.selects "CachedMemory" ⟨"CachedMemory", "bringIn", "(I)I"⟩ ⟨"CachedMemory", "bringIn", "(I)I"⟩) ∈ lw_all := lw_g (lw_at lw_ms 3 rfl) rfl
theorem qs4 : (Cond.selects "CachedMemory" ⟨"CachedMemory", "lineWith", "(I)I"⟩ ⟨"CachedMemory", "lineWith", "(I)I"⟩) ∈ lw_all := lw_g (lw_at lw_ms 4 rfl) rfl
theorem qs5 : (Cond.selects "CachedMemory" ⟨"CachedMemory", "evict", "(I)V"⟩ ⟨"CachedMemory", "evict", "(I)V"⟩) ∈ lw_all := lw_g (lw_at lw_ms 5 rfl) rfl
theorem qs6 : (Cond.selects "CachedMemory" ⟨"CachedMemory", "change", "(IIZ)I"⟩ ⟨"CachedMemory", "change", "(IIZ)I"⟩) ∈ lw_all := lw_g (lw_at lw_ms 6 rfl) rfl
theorem qs7 : (Cond.selects "CachedMemoryModel" ⟨"CachedMemoryModel", "isSpace", "(I)Z"⟩ ⟨"CachedMemoryModel", "isSpace", "(I)Z"⟩) ∈ lw_all := lw_g (lw_at lw_ms 7 rfl) rfl
theorem qs8 : (Cond.selects "CachedMemoryModel" ⟨"CachedMemoryModel", "isPage", "(I)Z"⟩ ⟨"CachedMemoryModel", "isPage", "(I)Z"⟩) ∈ lw_all := lw_g (lw_at lw_ms 8 rfl) rfl
theorem qs9 : (Cond.selects "CachedMemoryModel" ⟨"CachedMemoryModel", "isWord", "(I)Z"⟩ ⟨"CachedMemoryModel", "isWord", "(I)Z"⟩) ∈ lw_all := lw_g (lw_at lw_ms 9 rfl) rfl
end
section
/-! CachedMemory -/
set_option maxRecDepth 100000
def RX1 : String := "CachedMemory"
def TX1 : u_T := fun k => match k with
  | 0 => ("CachedMemory", "words", "[I", true)
  | 1 => ("CachedMemory", "current", "I", false)
  | 2 => ("CachedMemory", "lastLoaded", "I", false)
  | 3 => ("CachedMemory", "frameOf", "[B", true)
  | 4 => ("CachedMemory", "writable", "[Z", true)
  | 5 => ("CachedMemory", "keptCount", "I", false)
  | 6 => ("CachedMemory", "keptEntry", "[B", true)
  | 7 => ("CachedMemory", "keptFrame", "[B", true)
  | 8 => ("CachedMemory", "keptWritable", "[Z", true)
  | 9 => ("CachedMemory", "nextKept", "I", false)
  | 10 => ("CachedMemory", "lineCount", "I", false)
  | 11 => ("CachedMemory", "block", "[B", true)
  | 12 => ("CachedMemory", "dirty", "[Z", true)
  | 13 => ("CachedMemory", "cached", "[I", true)
  | _ => ("CachedMemory", "lastWay", "[B", true)
def tyX1 : Nat → FieldType := fun k => match k with
  | 0 => .array .int
  | 1 => .int
  | 2 => .int
  | 3 => .array .byte
  | 4 => .array .boolean
  | 5 => .int
  | 6 => .array .byte
  | 7 => .array .byte
  | 8 => .array .boolean
  | 9 => .int
  | 10 => .int
  | 11 => .array .byte
  | 12 => .array .boolean
  | 13 => .array .int
  | _ => .array .byte
abbrev wsX10 : List Cond := u_ws RX1 TX1 15
set_option maxRecDepth 100000 in
theorem nmX1 : ∀ a, a < 15 → ∀ b, b < 15 → a ≠ b → (TX1 a).2.1 ≠ (TX1 b).2.1 := by decide +kernel
set_option maxRecDepth 100000 in
theorem tyX1_ok : ∀ k, k < 15 → parseFieldDescriptor (TX1 k).2.2.1 = some (tyX1 k) := by decide +kernel
abbrev cX1_init : ByteArray := prog_1_method_1_code
def yX1_init : MethodName := ⟨RX1, "<init>", "(II)V"⟩
abbrev cX1_enter : ByteArray := prog_1_method_2_code
def yX1_enter : MethodName := ⟨RX1, "enter", "(I)I"⟩
abbrev cX1_map : ByteArray := prog_1_method_3_code
def yX1_map : MethodName := ⟨RX1, "map", "(IIIZ)I"⟩
abbrev cX1_isPage : ByteArray := prog_1_method_6_code
def yX1_isPage : MethodName := ⟨RX1, "isPage", "(II)Z"⟩
abbrev cX1_forget : ByteArray := prog_1_method_17_code
def yX1_forget : MethodName := ⟨RX1, "forget", "(I)V"⟩
abbrev cX1_unmap : ByteArray := prog_1_method_4_code
def yX1_unmap : MethodName := ⟨RX1, "unmap", "(II)I"⟩
abbrev cX1_protect : ByteArray := prog_1_method_5_code
def yX1_protect : MethodName := ⟨RX1, "protect", "(I)I"⟩
abbrev cX1_load : ByteArray := prog_1_method_7_code
def yX1_load : MethodName := ⟨RX1, "load", "(I)I"⟩
abbrev cX1_translation : ByteArray := prog_1_method_16_code
def yX1_translation : MethodName := ⟨RX1, "translation", "(I)I"⟩
abbrev cX1_bringIn : ByteArray := prog_1_method_19_code
def yX1_bringIn : MethodName := ⟨RX1, "bringIn", "(I)I"⟩
abbrev cX1_lineWith : ByteArray := prog_1_method_18_code
def yX1_lineWith : MethodName := ⟨RX1, "lineWith", "(I)I"⟩
abbrev cX1_evict : ByteArray := prog_1_method_20_code
def yX1_evict : MethodName := ⟨RX1, "evict", "(I)V"⟩
abbrev cX1_last : ByteArray := prog_1_method_8_code
def yX1_last : MethodName := ⟨RX1, "last", "()I"⟩
abbrev cX1_store : ByteArray := prog_1_method_9_code
def yX1_store : MethodName := ⟨RX1, "store", "(II)I"⟩
abbrev cX1_change : ByteArray := prog_1_method_11_code
def yX1_change : MethodName := ⟨RX1, "change", "(IIZ)I"⟩
abbrev cX1_add : ByteArray := prog_1_method_10_code
def yX1_add : MethodName := ⟨RX1, "add", "(II)I"⟩
abbrev cX1_deviceRead : ByteArray := prog_1_method_12_code
def yX1_deviceRead : MethodName := ⟨RX1, "deviceRead", "(I)I"⟩
abbrev cX1_deviceWrite : ByteArray := prog_1_method_13_code
def yX1_deviceWrite : MethodName := ⟨RX1, "deviceWrite", "(II)I"⟩
abbrev cX1_deviceCopy : ByteArray := prog_1_method_14_code
def yX1_deviceCopy : MethodName := ⟨RX1, "deviceCopy", "(III)I"⟩
abbrev cX1_translate : ByteArray := prog_1_method_15_code
def yX1_translate : MethodName := ⟨RX1, "translate", "(I)I"⟩
theorem q11 : (Jvm.Cond.initialized "CachedMemory") ∈ lw_all := lw_g (lw_at lw_m0 1 rfl) rfl
theorem q14 : (Jvm.Cond.instantiable "CachedMemory" (15 : Nat)) ∈ lw_all := lw_g (lw_at lw_m0 4 rfl) rfl
theorem q16 : (Jvm.Cond.instanceMethod ({ cls := "CachedMemory", name := "<init>", desc := "(II)V" } : Jvm.MethodName)) ∈ lw_all := lw_g (lw_at lw_m0 6 rfl) rfl
theorem q17 : (Jvm.Cond.code ({ cls := "CachedMemory", name := "<init>", desc := "(II)V" } : Jvm.MethodName) prog_1_method_1_code (4 : Nat) (Option.none : Option Jvm.ClassFile.FieldType)) ∈ lw_all := lw_g (lw_at lw_m0 7 rfl) rfl
theorem q18 : (Jvm.Cond.methodLink "CachedMemory" (1 : Nat) ({ cls := "java/lang/Object", name := "<init>", desc := "()V" } : Jvm.MethodName)) ∈ lw_all := lw_g (lw_at lw_m0 8 rfl) rfl
theorem q21 : (Jvm.Cond.fieldLink "CachedMemory" (7 : Nat) "CachedMemory" "words" "[I") ∈ lw_all := lw_g (lw_at lw_m0 11 rfl) rfl
theorem q22 : (Jvm.Cond.fieldLink "CachedMemory" (49 : Nat) "CachedMemory" "current" "I") ∈ lw_all := lw_g (lw_at lw_m0 12 rfl) rfl
theorem q23 : (Jvm.Cond.fieldLink "CachedMemory" (67 : Nat) "CachedMemory" "lastLoaded" "I") ∈ lw_all := lw_g (lw_at lw_m0 13 rfl) rfl
theorem q24 : (Jvm.Cond.fieldLink "CachedMemory" (13 : Nat) "CachedMemory" "frameOf" "[B") ∈ lw_all := lw_g (lw_at lw_m0 14 rfl) rfl
theorem q25 : (Jvm.Cond.fieldLink "CachedMemory" (17 : Nat) "CachedMemory" "writable" "[Z") ∈ lw_all := lw_g (lw_at lw_m0 15 rfl) rfl
theorem q26 : (Jvm.Cond.fieldLink "CachedMemory" (46 : Nat) "CachedMemory" "keptCount" "I") ∈ lw_all := lw_g (lw_at lw_m0 16 rfl) rfl
theorem q27 : (Jvm.Cond.fieldLink "CachedMemory" (21 : Nat) "CachedMemory" "keptEntry" "[B") ∈ lw_all := lw_g (lw_at lw_m0 17 rfl) rfl
theorem q28 : (Jvm.Cond.fieldLink "CachedMemory" (24 : Nat) "CachedMemory" "keptFrame" "[B") ∈ lw_all := lw_g (lw_at lw_m0 18 rfl) rfl
theorem q29 : (Jvm.Cond.fieldLink "CachedMemory" (27 : Nat) "CachedMemory" "keptWritable" "[Z") ∈ lw_all := lw_g (lw_at lw_m0 19 rfl) rfl
theorem q30 : (Jvm.Cond.fieldLink "CachedMemory" (87 : Nat) "CachedMemory" "nextKept" "I") ∈ lw_all := lw_g (lw_at lw_m0 20 rfl) rfl
theorem q31 : (Jvm.Cond.fieldLink "CachedMemory" (42 : Nat) "CachedMemory" "lineCount" "I") ∈ lw_all := lw_g (lw_at lw_m0 21 rfl) rfl
theorem q32 : (Jvm.Cond.fieldLink "CachedMemory" (30 : Nat) "CachedMemory" "block" "[B") ∈ lw_all := lw_g (lw_at lw_m0 22 rfl) rfl
theorem q33 : (Jvm.Cond.fieldLink "CachedMemory" (33 : Nat) "CachedMemory" "dirty" "[Z") ∈ lw_all := lw_g (lw_at lw_m0 23 rfl) rfl
theorem q34 : (Jvm.Cond.fieldLink "CachedMemory" (36 : Nat) "CachedMemory" "cached" "[I") ∈ lw_all := lw_g (lw_at lw_m0 24 rfl) rfl
theorem q35 : (Jvm.Cond.fieldLink "CachedMemory" (39 : Nat) "CachedMemory" "lastWay" "[B") ∈ lw_all := lw_g (lw_at lw_m0 25 rfl) rfl
theorem q36 : (Jvm.Cond.laysFinal "CachedMemory" "CachedMemory" "words" "[I") ∈ lw_all := lw_g (lw_at lw_m0 26 rfl) rfl
theorem q37 : (Jvm.Cond.soleField "CachedMemory" "words") ∈ lw_all := lw_g (lw_at lw_m0 27 rfl) rfl
theorem q38 : (Jvm.Cond.lays "CachedMemory" "CachedMemory" "current" "I") ∈ lw_all := lw_g (lw_at lw_m0 28 rfl) rfl
theorem q39 : (Jvm.Cond.soleField "CachedMemory" "current") ∈ lw_all := lw_g (lw_at lw_m0 29 rfl) rfl
theorem q40 : (Jvm.Cond.lays "CachedMemory" "CachedMemory" "lastLoaded" "I") ∈ lw_all := lw_g (lw_at lw_m0 30 rfl) rfl
theorem q41 : (Jvm.Cond.soleField "CachedMemory" "lastLoaded") ∈ lw_all := lw_g (lw_at lw_m0 31 rfl) rfl
theorem q42 : (Jvm.Cond.laysFinal "CachedMemory" "CachedMemory" "frameOf" "[B") ∈ lw_all := lw_g (lw_at lw_m0 32 rfl) rfl
theorem q43 : (Jvm.Cond.soleField "CachedMemory" "frameOf") ∈ lw_all := lw_g (lw_at lw_m0 33 rfl) rfl
theorem q44 : (Jvm.Cond.laysFinal "CachedMemory" "CachedMemory" "writable" "[Z") ∈ lw_all := lw_g (lw_at lw_m0 34 rfl) rfl
theorem q45 : (Jvm.Cond.soleField "CachedMemory" "writable") ∈ lw_all := lw_g (lw_at lw_m0 35 rfl) rfl
theorem q46 : (Jvm.Cond.lays "CachedMemory" "CachedMemory" "keptCount" "I") ∈ lw_all := lw_g (lw_at lw_m0 36 rfl) rfl
theorem q47 : (Jvm.Cond.soleField "CachedMemory" "keptCount") ∈ lw_all := lw_g (lw_at lw_m0 37 rfl) rfl
theorem q48 : (Jvm.Cond.laysFinal "CachedMemory" "CachedMemory" "keptEntry" "[B") ∈ lw_all := lw_g (lw_at lw_m0 38 rfl) rfl
theorem q49 : (Jvm.Cond.soleField "CachedMemory" "keptEntry") ∈ lw_all := lw_g (lw_at lw_m0 39 rfl) rfl
theorem q50 : (Jvm.Cond.laysFinal "CachedMemory" "CachedMemory" "keptFrame" "[B") ∈ lw_all := lw_g (lw_at lw_m0 40 rfl) rfl
theorem q51 : (Jvm.Cond.soleField "CachedMemory" "keptFrame") ∈ lw_all := lw_g (lw_at lw_m0 41 rfl) rfl
theorem q52 : (Jvm.Cond.laysFinal "CachedMemory" "CachedMemory" "keptWritable" "[Z") ∈ lw_all := lw_g (lw_at lw_m0 42 rfl) rfl
theorem q53 : (Jvm.Cond.soleField "CachedMemory" "keptWritable") ∈ lw_all := lw_g (lw_at lw_m0 43 rfl) rfl
theorem q54 : (Jvm.Cond.lays "CachedMemory" "CachedMemory" "nextKept" "I") ∈ lw_all := lw_g (lw_at lw_m0 44 rfl) rfl
theorem q55 : (Jvm.Cond.soleField "CachedMemory" "nextKept") ∈ lw_all := lw_g (lw_at lw_m0 45 rfl) rfl
theorem q56 : (Jvm.Cond.lays "CachedMemory" "CachedMemory" "lineCount" "I") ∈ lw_all := lw_g (lw_at lw_m0 46 rfl) rfl
theorem q57 : (Jvm.Cond.soleField "CachedMemory" "lineCount") ∈ lw_all := lw_g (lw_at lw_m0 47 rfl) rfl
theorem q58 : (Jvm.Cond.laysFinal "CachedMemory" "CachedMemory" "block" "[B") ∈ lw_all := lw_g (lw_at lw_m0 48 rfl) rfl
theorem q59 : (Jvm.Cond.soleField "CachedMemory" "block") ∈ lw_all := lw_g (lw_at lw_m0 49 rfl) rfl
theorem q60 : (Jvm.Cond.laysFinal "CachedMemory" "CachedMemory" "dirty" "[Z") ∈ lw_all := lw_g (lw_at lw_m0 50 rfl) rfl
theorem q61 : (Jvm.Cond.soleField "CachedMemory" "dirty") ∈ lw_all := lw_g (lw_at lw_m0 51 rfl) rfl
theorem q62 : (Jvm.Cond.laysFinal "CachedMemory" "CachedMemory" "cached" "[I") ∈ lw_all := lw_g (lw_at lw_m0 52 rfl) rfl
theorem q63 : (Jvm.Cond.soleField "CachedMemory" "cached") ∈ lw_all := lw_g (lw_at lw_m0 53 rfl) rfl
theorem q64 : (Jvm.Cond.laysFinal "CachedMemory" "CachedMemory" "lastWay" "[B") ∈ lw_all := lw_g (lw_at lw_m0 54 rfl) rfl
theorem q65 : (Jvm.Cond.soleField "CachedMemory" "lastWay") ∈ lw_all := lw_g (lw_at lw_m0 55 rfl) rfl
theorem q66 : (Jvm.Cond.superclass "CachedMemory" "java/lang/Object") ∈ lw_all := lw_g (lw_at lw_m0 56 rfl) rfl
theorem q71 : (Jvm.Cond.instanceMethod ({ cls := "CachedMemory", name := "enter", desc := "(I)I" } : Jvm.MethodName)) ∈ lw_all := lw_g (lw_at lw_m0 61 rfl) rfl
theorem q72 : (Jvm.Cond.selects "CachedMemory" ({ cls := "CachedMemory", name := "enter", desc := "(I)I" } : Jvm.MethodName) ({ cls := "CachedMemory", name := "enter", desc := "(I)I" } : Jvm.MethodName)) ∈ lw_all := lw_g (lw_at lw_m0 62 rfl) rfl
theorem q73 : (Jvm.Cond.code ({ cls := "CachedMemory", name := "enter", desc := "(I)I" } : Jvm.MethodName) prog_1_method_2_code (2 : Nat) (Option.some Jvm.ClassFile.FieldType.int)) ∈ lw_all := lw_g (lw_at lw_m0 63 rfl) rfl
theorem q75 : (Jvm.Cond.instanceMethod ({ cls := "CachedMemory", name := "map", desc := "(IIIZ)I" } : Jvm.MethodName)) ∈ lw_all := lw_g (lw_at lw_m0 65 rfl) rfl
theorem q76 : (Jvm.Cond.selects "CachedMemory" ({ cls := "CachedMemory", name := "map", desc := "(IIIZ)I" } : Jvm.MethodName) ({ cls := "CachedMemory", name := "map", desc := "(IIIZ)I" } : Jvm.MethodName)) ∈ lw_all := lw_g (lw_at lw_m0 66 rfl) rfl
theorem q77 : (Jvm.Cond.code ({ cls := "CachedMemory", name := "map", desc := "(IIIZ)I" } : Jvm.MethodName) prog_1_method_3_code (7 : Nat) (Option.some Jvm.ClassFile.FieldType.int)) ∈ lw_all := lw_g (lw_at lw_m0 67 rfl) rfl
theorem q78 : (Jvm.Cond.methodLink "CachedMemory" (52 : Nat) ({ cls := "CachedMemory", name := "isPage", desc := "(II)Z" } : Jvm.MethodName)) ∈ lw_all := lw_g (lw_at lw_m0 68 rfl) rfl
theorem q79 : (Jvm.Cond.privateMethod ({ cls := "CachedMemory", name := "isPage", desc := "(II)Z" } : Jvm.MethodName)) ∈ lw_tbl := lw_at lw_m0 69 rfl
theorem q80 : (Jvm.Cond.instanceMethod ({ cls := "CachedMemory", name := "isPage", desc := "(II)Z" } : Jvm.MethodName)) ∈ lw_all := lw_g (lw_at lw_m0 70 rfl) rfl
theorem q81 : (Jvm.Cond.code ({ cls := "CachedMemory", name := "isPage", desc := "(II)Z" } : Jvm.MethodName) prog_1_method_6_code (3 : Nat) (Option.some Jvm.ClassFile.FieldType.boolean)) ∈ lw_all := lw_g (lw_at lw_m0 71 rfl) rfl
theorem q82 : (Jvm.Cond.methodLink "CachedMemory" (56 : Nat) ({ cls := "CachedMemory", name := "forget", desc := "(I)V" } : Jvm.MethodName)) ∈ lw_all := lw_g (lw_at lw_m0 72 rfl) rfl
theorem q83 : (Jvm.Cond.privateMethod ({ cls := "CachedMemory", name := "forget", desc := "(I)V" } : Jvm.MethodName)) ∈ lw_tbl := lw_at lw_m0 73 rfl
theorem q84 : (Jvm.Cond.instanceMethod ({ cls := "CachedMemory", name := "forget", desc := "(I)V" } : Jvm.MethodName)) ∈ lw_all := lw_g (lw_at lw_m0 74 rfl) rfl
theorem q85 : (Jvm.Cond.code ({ cls := "CachedMemory", name := "forget", desc := "(I)V" } : Jvm.MethodName) prog_1_method_17_code (3 : Nat) (Option.none : Option Jvm.ClassFile.FieldType)) ∈ lw_all := lw_g (lw_at lw_m0 75 rfl) rfl
theorem q87 : (Jvm.Cond.instanceMethod ({ cls := "CachedMemory", name := "unmap", desc := "(II)I" } : Jvm.MethodName)) ∈ lw_all := lw_g (lw_at lw_m0 77 rfl) rfl
theorem q88 : (Jvm.Cond.selects "CachedMemory" ({ cls := "CachedMemory", name := "unmap", desc := "(II)I" } : Jvm.MethodName) ({ cls := "CachedMemory", name := "unmap", desc := "(II)I" } : Jvm.MethodName)) ∈ lw_all := lw_g (lw_at lw_m0 78 rfl) rfl
theorem q89 : (Jvm.Cond.code ({ cls := "CachedMemory", name := "unmap", desc := "(II)I" } : Jvm.MethodName) prog_1_method_4_code (4 : Nat) (Option.some Jvm.ClassFile.FieldType.int)) ∈ lw_all := lw_g (lw_at lw_m0 79 rfl) rfl
theorem q91 : (Jvm.Cond.instanceMethod ({ cls := "CachedMemory", name := "protect", desc := "(I)I" } : Jvm.MethodName)) ∈ lw_all := lw_g (lw_at lw_m0 81 rfl) rfl
theorem q92 : (Jvm.Cond.selects "CachedMemory" ({ cls := "CachedMemory", name := "protect", desc := "(I)I" } : Jvm.MethodName) ({ cls := "CachedMemory", name := "protect", desc := "(I)I" } : Jvm.MethodName)) ∈ lw_all := lw_g (lw_at lw_m0 82 rfl) rfl
theorem q93 : (Jvm.Cond.code ({ cls := "CachedMemory", name := "protect", desc := "(I)I" } : Jvm.MethodName) prog_1_method_5_code (4 : Nat) (Option.some Jvm.ClassFile.FieldType.int)) ∈ lw_all := lw_g (lw_at lw_m0 83 rfl) rfl
theorem q95 : (Jvm.Cond.instanceMethod ({ cls := "CachedMemory", name := "load", desc := "(I)I" } : Jvm.MethodName)) ∈ lw_all := lw_g (lw_at lw_m0 85 rfl) rfl
theorem q96 : (Jvm.Cond.selects "CachedMemory" ({ cls := "CachedMemory", name := "load", desc := "(I)I" } : Jvm.MethodName) ({ cls := "CachedMemory", name := "load", desc := "(I)I" } : Jvm.MethodName)) ∈ lw_all := lw_g (lw_at lw_m0 86 rfl) rfl
theorem q97 : (Jvm.Cond.code ({ cls := "CachedMemory", name := "load", desc := "(I)I" } : Jvm.MethodName) prog_1_method_7_code (5 : Nat) (Option.some Jvm.ClassFile.FieldType.int)) ∈ lw_all := lw_g (lw_at lw_m0 87 rfl) rfl
theorem q98 : (Jvm.Cond.methodLink "CachedMemory" (60 : Nat) ({ cls := "CachedMemory", name := "translation", desc := "(I)I" } : Jvm.MethodName)) ∈ lw_all := lw_g (lw_at lw_m0 88 rfl) rfl
theorem q99 : (Jvm.Cond.privateMethod ({ cls := "CachedMemory", name := "translation", desc := "(I)I" } : Jvm.MethodName)) ∈ lw_tbl := lw_at lw_m0 89 rfl
theorem q100 : (Jvm.Cond.instanceMethod ({ cls := "CachedMemory", name := "translation", desc := "(I)I" } : Jvm.MethodName)) ∈ lw_all := lw_g (lw_at lw_m0 90 rfl) rfl
theorem q101 : (Jvm.Cond.code ({ cls := "CachedMemory", name := "translation", desc := "(I)I" } : Jvm.MethodName) prog_1_method_16_code (4 : Nat) (Option.some Jvm.ClassFile.FieldType.int)) ∈ lw_all := lw_g (lw_at lw_m0 91 rfl) rfl
theorem q102 : (Jvm.Cond.methodLink "CachedMemory" (64 : Nat) ({ cls := "CachedMemory", name := "bringIn", desc := "(I)I" } : Jvm.MethodName)) ∈ lw_all := lw_g (lw_at lw_m0 92 rfl) rfl
theorem q103 : (Jvm.Cond.privateMethod ({ cls := "CachedMemory", name := "bringIn", desc := "(I)I" } : Jvm.MethodName)) ∈ lw_tbl := lw_at lw_m0 93 rfl
theorem q104 : (Jvm.Cond.instanceMethod ({ cls := "CachedMemory", name := "bringIn", desc := "(I)I" } : Jvm.MethodName)) ∈ lw_all := lw_g (lw_at lw_m0 94 rfl) rfl
theorem q105 : (Jvm.Cond.code ({ cls := "CachedMemory", name := "bringIn", desc := "(I)I" } : Jvm.MethodName) prog_1_method_19_code (5 : Nat) (Option.some Jvm.ClassFile.FieldType.int)) ∈ lw_all := lw_g (lw_at lw_m0 95 rfl) rfl
theorem q106 : (Jvm.Cond.methodLink "CachedMemory" (74 : Nat) ({ cls := "CachedMemory", name := "lineWith", desc := "(I)I" } : Jvm.MethodName)) ∈ lw_all := lw_g (lw_at lw_m0 96 rfl) rfl
theorem q107 : (Jvm.Cond.privateMethod ({ cls := "CachedMemory", name := "lineWith", desc := "(I)I" } : Jvm.MethodName)) ∈ lw_tbl := lw_at lw_m0 97 rfl
theorem q108 : (Jvm.Cond.instanceMethod ({ cls := "CachedMemory", name := "lineWith", desc := "(I)I" } : Jvm.MethodName)) ∈ lw_all := lw_g (lw_at lw_m0 98 rfl) rfl
theorem q109 : (Jvm.Cond.code ({ cls := "CachedMemory", name := "lineWith", desc := "(I)I" } : Jvm.MethodName) prog_1_method_18_code (3 : Nat) (Option.some Jvm.ClassFile.FieldType.int)) ∈ lw_all := lw_g (lw_at lw_m0 99 rfl) rfl
theorem q110 : (Jvm.Cond.methodLink "CachedMemory" (77 : Nat) ({ cls := "CachedMemory", name := "evict", desc := "(I)V" } : Jvm.MethodName)) ∈ lw_all := lw_g (lw_at lw_m0 100 rfl) rfl
theorem q111 : (Jvm.Cond.privateMethod ({ cls := "CachedMemory", name := "evict", desc := "(I)V" } : Jvm.MethodName)) ∈ lw_tbl := lw_at lw_m0 101 rfl
theorem q112 : (Jvm.Cond.instanceMethod ({ cls := "CachedMemory", name := "evict", desc := "(I)V" } : Jvm.MethodName)) ∈ lw_all := lw_g (lw_at lw_m0 102 rfl) rfl
theorem q113 : (Jvm.Cond.code ({ cls := "CachedMemory", name := "evict", desc := "(I)V" } : Jvm.MethodName) prog_1_method_20_code (3 : Nat) (Option.none : Option Jvm.ClassFile.FieldType)) ∈ lw_all := lw_g (lw_at lw_m0 103 rfl) rfl
theorem q115 : (Jvm.Cond.instanceMethod ({ cls := "CachedMemory", name := "last", desc := "()I" } : Jvm.MethodName)) ∈ lw_all := lw_g (lw_at lw_m0 105 rfl) rfl
theorem q116 : (Jvm.Cond.selects "CachedMemory" ({ cls := "CachedMemory", name := "last", desc := "()I" } : Jvm.MethodName) ({ cls := "CachedMemory", name := "last", desc := "()I" } : Jvm.MethodName)) ∈ lw_all := lw_g (lw_at lw_m0 106 rfl) rfl
theorem q117 : (Jvm.Cond.code ({ cls := "CachedMemory", name := "last", desc := "()I" } : Jvm.MethodName) prog_1_method_8_code (1 : Nat) (Option.some Jvm.ClassFile.FieldType.int)) ∈ lw_all := lw_g (lw_at lw_m0 107 rfl) rfl
theorem q119 : (Jvm.Cond.instanceMethod ({ cls := "CachedMemory", name := "store", desc := "(II)I" } : Jvm.MethodName)) ∈ lw_all := lw_g (lw_at lw_m0 109 rfl) rfl
theorem q120 : (Jvm.Cond.selects "CachedMemory" ({ cls := "CachedMemory", name := "store", desc := "(II)I" } : Jvm.MethodName) ({ cls := "CachedMemory", name := "store", desc := "(II)I" } : Jvm.MethodName)) ∈ lw_all := lw_g (lw_at lw_m0 110 rfl) rfl
theorem q121 : (Jvm.Cond.code ({ cls := "CachedMemory", name := "store", desc := "(II)I" } : Jvm.MethodName) prog_1_method_9_code (3 : Nat) (Option.some Jvm.ClassFile.FieldType.int)) ∈ lw_all := lw_g (lw_at lw_m0 111 rfl) rfl
theorem q122 : (Jvm.Cond.methodLink "CachedMemory" (70 : Nat) ({ cls := "CachedMemory", name := "change", desc := "(IIZ)I" } : Jvm.MethodName)) ∈ lw_all := lw_g (lw_at lw_m0 112 rfl) rfl
theorem q123 : (Jvm.Cond.privateMethod ({ cls := "CachedMemory", name := "change", desc := "(IIZ)I" } : Jvm.MethodName)) ∈ lw_tbl := lw_at lw_m0 113 rfl
theorem q124 : (Jvm.Cond.instanceMethod ({ cls := "CachedMemory", name := "change", desc := "(IIZ)I" } : Jvm.MethodName)) ∈ lw_all := lw_g (lw_at lw_m0 114 rfl) rfl
theorem q125 : (Jvm.Cond.code ({ cls := "CachedMemory", name := "change", desc := "(IIZ)I" } : Jvm.MethodName) prog_1_method_11_code (8 : Nat) (Option.some Jvm.ClassFile.FieldType.int)) ∈ lw_all := lw_g (lw_at lw_m0 115 rfl) rfl
theorem q127 : (Jvm.Cond.instanceMethod ({ cls := "CachedMemory", name := "add", desc := "(II)I" } : Jvm.MethodName)) ∈ lw_all := lw_g (lw_at lw_m0 117 rfl) rfl
theorem q128 : (Jvm.Cond.selects "CachedMemory" ({ cls := "CachedMemory", name := "add", desc := "(II)I" } : Jvm.MethodName) ({ cls := "CachedMemory", name := "add", desc := "(II)I" } : Jvm.MethodName)) ∈ lw_all := lw_g (lw_at lw_m0 118 rfl) rfl
theorem q129 : (Jvm.Cond.code ({ cls := "CachedMemory", name := "add", desc := "(II)I" } : Jvm.MethodName) prog_1_method_10_code (3 : Nat) (Option.some Jvm.ClassFile.FieldType.int)) ∈ lw_all := lw_g (lw_at lw_m0 119 rfl) rfl
theorem q131 : (Jvm.Cond.instanceMethod ({ cls := "CachedMemory", name := "deviceRead", desc := "(I)I" } : Jvm.MethodName)) ∈ lw_all := lw_g (lw_at lw_m0 121 rfl) rfl
theorem q132 : (Jvm.Cond.selects "CachedMemory" ({ cls := "CachedMemory", name := "deviceRead", desc := "(I)I" } : Jvm.MethodName) ({ cls := "CachedMemory", name := "deviceRead", desc := "(I)I" } : Jvm.MethodName)) ∈ lw_all := lw_g (lw_at lw_m0 122 rfl) rfl
theorem q133 : (Jvm.Cond.code ({ cls := "CachedMemory", name := "deviceRead", desc := "(I)I" } : Jvm.MethodName) prog_1_method_12_code (3 : Nat) (Option.some Jvm.ClassFile.FieldType.int)) ∈ lw_all := lw_g (lw_at lw_m0 123 rfl) rfl
theorem q135 : (Jvm.Cond.instanceMethod ({ cls := "CachedMemory", name := "deviceWrite", desc := "(II)I" } : Jvm.MethodName)) ∈ lw_all := lw_g (lw_at lw_m0 125 rfl) rfl
theorem q136 : (Jvm.Cond.selects "CachedMemory" ({ cls := "CachedMemory", name := "deviceWrite", desc := "(II)I" } : Jvm.MethodName) ({ cls := "CachedMemory", name := "deviceWrite", desc := "(II)I" } : Jvm.MethodName)) ∈ lw_all := lw_g (lw_at lw_m0 126 rfl) rfl
theorem q137 : (Jvm.Cond.code ({ cls := "CachedMemory", name := "deviceWrite", desc := "(II)I" } : Jvm.MethodName) prog_1_method_13_code (4 : Nat) (Option.some Jvm.ClassFile.FieldType.int)) ∈ lw_all := lw_g (lw_at lw_m0 127 rfl) rfl
theorem q139 : (Jvm.Cond.instanceMethod ({ cls := "CachedMemory", name := "deviceCopy", desc := "(III)I" } : Jvm.MethodName)) ∈ lw_all := lw_g (lw_at lw_m0 129 rfl) rfl
theorem q140 : (Jvm.Cond.selects "CachedMemory" ({ cls := "CachedMemory", name := "deviceCopy", desc := "(III)I" } : Jvm.MethodName) ({ cls := "CachedMemory", name := "deviceCopy", desc := "(III)I" } : Jvm.MethodName)) ∈ lw_all := lw_g (lw_at lw_m0 130 rfl) rfl
theorem q141 : (Jvm.Cond.code ({ cls := "CachedMemory", name := "deviceCopy", desc := "(III)I" } : Jvm.MethodName) prog_1_method_14_code (6 : Nat) (Option.some Jvm.ClassFile.FieldType.int)) ∈ lw_all := lw_g (lw_at lw_m0 131 rfl) rfl
theorem q142 : (Jvm.Cond.methodLink "CachedMemory" (80 : Nat) ({ cls := "CachedMemory", name := "deviceRead", desc := "(I)I" } : Jvm.MethodName)) ∈ lw_all := lw_g (lw_at lw_m0 132 rfl) rfl
theorem q143 : (Jvm.Cond.methodLink "CachedMemory" (83 : Nat) ({ cls := "CachedMemory", name := "deviceWrite", desc := "(II)I" } : Jvm.MethodName)) ∈ lw_all := lw_g (lw_at lw_m0 133 rfl) rfl
theorem q145 : (Jvm.Cond.instanceMethod ({ cls := "CachedMemory", name := "translate", desc := "(I)I" } : Jvm.MethodName)) ∈ lw_all := lw_g (lw_at lw_m0 135 rfl) rfl
theorem q146 : (Jvm.Cond.selects "CachedMemory" ({ cls := "CachedMemory", name := "translate", desc := "(I)I" } : Jvm.MethodName) ({ cls := "CachedMemory", name := "translate", desc := "(I)I" } : Jvm.MethodName)) ∈ lw_all := lw_g (lw_at lw_m0 136 rfl) rfl
theorem q147 : (Jvm.Cond.code ({ cls := "CachedMemory", name := "translate", desc := "(I)I" } : Jvm.MethodName) prog_1_method_15_code (3 : Nat) (Option.some Jvm.ClassFile.FieldType.int)) ∈ lw_all := lw_g (lw_at lw_m0 137 rfl) rfl
theorem in_X1 : ∀ w ∈ wsX10, w ∈ lw_all := lw_in wsX10 [36, 38, 40, 42, 44, 46, 48, 50, 52, 54, 56, 58, 60, 62, 64] (by decide +kernel) (by decide +kernel)
theorem dX1_init_0 : decode cX1_init 0 = .ok (.aload_n 0, 1) := by decide +kernel
theorem dX1_init_1 : decode cX1_init 1 = .ok (.invokespecial 1, 3) := by decide +kernel
theorem dX1_init_4 : decode cX1_init 4 = .ok (.aload_n 0, 1) := by decide +kernel
theorem dX1_init_5 : decode cX1_init 5 = .ok (.bipush 64, 2) := by decide +kernel
theorem dX1_init_7 : decode cX1_init 7 = .ok (.newarray .int, 2) := by decide +kernel
theorem dX1_init_9 : decode cX1_init 9 = .ok (.putfield 7, 3) := by decide +kernel
theorem dX1_init_12 : decode cX1_init 12 = .ok (.aload_n 0, 1) := by decide +kernel
theorem dX1_init_13 : decode cX1_init 13 = .ok (.bipush 32, 2) := by decide +kernel
theorem dX1_init_15 : decode cX1_init 15 = .ok (.newarray .byte, 2) := by decide +kernel
theorem dX1_init_17 : decode cX1_init 17 = .ok (.putfield 13, 3) := by decide +kernel
theorem dX1_init_20 : decode cX1_init 20 = .ok (.aload_n 0, 1) := by decide +kernel
theorem dX1_init_21 : decode cX1_init 21 = .ok (.bipush 32, 2) := by decide +kernel
theorem dX1_init_23 : decode cX1_init 23 = .ok (.newarray .boolean, 2) := by decide +kernel
theorem dX1_init_25 : decode cX1_init 25 = .ok (.putfield 17, 3) := by decide +kernel
theorem dX1_init_28 : decode cX1_init 28 = .ok (.aload_n 0, 1) := by decide +kernel
theorem dX1_init_29 : decode cX1_init 29 = .ok (.iconst 4, 1) := by decide +kernel
theorem dX1_init_30 : decode cX1_init 30 = .ok (.newarray .byte, 2) := by decide +kernel
theorem dX1_init_32 : decode cX1_init 32 = .ok (.putfield 21, 3) := by decide +kernel
theorem dX1_init_35 : decode cX1_init 35 = .ok (.aload_n 0, 1) := by decide +kernel
theorem dX1_init_36 : decode cX1_init 36 = .ok (.iconst 4, 1) := by decide +kernel
theorem dX1_init_37 : decode cX1_init 37 = .ok (.newarray .byte, 2) := by decide +kernel
theorem dX1_init_39 : decode cX1_init 39 = .ok (.putfield 24, 3) := by decide +kernel
theorem dX1_init_42 : decode cX1_init 42 = .ok (.aload_n 0, 1) := by decide +kernel
theorem dX1_init_43 : decode cX1_init 43 = .ok (.iconst 4, 1) := by decide +kernel
theorem dX1_init_44 : decode cX1_init 44 = .ok (.newarray .boolean, 2) := by decide +kernel
theorem dX1_init_46 : decode cX1_init 46 = .ok (.putfield 27, 3) := by decide +kernel
theorem dX1_init_49 : decode cX1_init 49 = .ok (.aload_n 0, 1) := by decide +kernel
theorem dX1_init_50 : decode cX1_init 50 = .ok (.bipush 8, 2) := by decide +kernel
theorem dX1_init_52 : decode cX1_init 52 = .ok (.newarray .byte, 2) := by decide +kernel
theorem dX1_init_54 : decode cX1_init 54 = .ok (.putfield 30, 3) := by decide +kernel
theorem dX1_init_57 : decode cX1_init 57 = .ok (.aload_n 0, 1) := by decide +kernel
theorem dX1_init_58 : decode cX1_init 58 = .ok (.bipush 8, 2) := by decide +kernel
theorem dX1_init_60 : decode cX1_init 60 = .ok (.newarray .boolean, 2) := by decide +kernel
theorem dX1_init_62 : decode cX1_init 62 = .ok (.putfield 33, 3) := by decide +kernel
theorem dX1_init_65 : decode cX1_init 65 = .ok (.aload_n 0, 1) := by decide +kernel
theorem dX1_init_66 : decode cX1_init 66 = .ok (.bipush 32, 2) := by decide +kernel
theorem dX1_init_68 : decode cX1_init 68 = .ok (.newarray .int, 2) := by decide +kernel
theorem dX1_init_70 : decode cX1_init 70 = .ok (.putfield 36, 3) := by decide +kernel
theorem dX1_init_73 : decode cX1_init 73 = .ok (.aload_n 0, 1) := by decide +kernel
theorem dX1_init_74 : decode cX1_init 74 = .ok (.iconst 4, 1) := by decide +kernel
theorem dX1_init_75 : decode cX1_init 75 = .ok (.newarray .byte, 2) := by decide +kernel
theorem dX1_init_77 : decode cX1_init 77 = .ok (.putfield 39, 3) := by decide +kernel
theorem dX1_init_80 : decode cX1_init 80 = .ok (.aload_n 0, 1) := by decide +kernel
theorem dX1_init_81 : decode cX1_init 81 = .ok (.iload_n 1, 1) := by decide +kernel
theorem dX1_init_82 : decode cX1_init 82 = .ok (.iconst 1, 1) := by decide +kernel
theorem dX1_init_83 : decode cX1_init 83 = .ok (.if_icmp .ge 7, 3) := by decide +kernel
theorem dX1_init_86 : decode cX1_init 86 = .ok (.iconst 1, 1) := by decide +kernel
theorem dX1_init_87 : decode cX1_init 87 = .ok (.goto 13, 3) := by decide +kernel
theorem dX1_init_90 : decode cX1_init 90 = .ok (.iload_n 1, 1) := by decide +kernel
theorem dX1_init_91 : decode cX1_init 91 = .ok (.iconst 4, 1) := by decide +kernel
theorem dX1_init_92 : decode cX1_init 92 = .ok (.if_icmp .le 7, 3) := by decide +kernel
theorem dX1_init_95 : decode cX1_init 95 = .ok (.iconst 4, 1) := by decide +kernel
theorem dX1_init_96 : decode cX1_init 96 = .ok (.goto 4, 3) := by decide +kernel
theorem dX1_init_99 : decode cX1_init 99 = .ok (.iload_n 1, 1) := by decide +kernel
theorem dX1_init_100 : decode cX1_init 100 = .ok (.putfield 42, 3) := by decide +kernel
theorem dX1_init_103 : decode cX1_init 103 = .ok (.aload_n 0, 1) := by decide +kernel
theorem dX1_init_104 : decode cX1_init 104 = .ok (.iload_n 2, 1) := by decide +kernel
theorem dX1_init_105 : decode cX1_init 105 = .ok (.iconst 1, 1) := by decide +kernel
theorem dX1_init_106 : decode cX1_init 106 = .ok (.if_icmp .ge 7, 3) := by decide +kernel
theorem dX1_init_109 : decode cX1_init 109 = .ok (.iconst 1, 1) := by decide +kernel
theorem dX1_init_110 : decode cX1_init 110 = .ok (.goto 13, 3) := by decide +kernel
theorem dX1_init_113 : decode cX1_init 113 = .ok (.iload_n 2, 1) := by decide +kernel
theorem dX1_init_114 : decode cX1_init 114 = .ok (.iconst 4, 1) := by decide +kernel
theorem dX1_init_115 : decode cX1_init 115 = .ok (.if_icmp .le 7, 3) := by decide +kernel
theorem dX1_init_118 : decode cX1_init 118 = .ok (.iconst 4, 1) := by decide +kernel
theorem dX1_init_119 : decode cX1_init 119 = .ok (.goto 4, 3) := by decide +kernel
theorem dX1_init_122 : decode cX1_init 122 = .ok (.iload_n 2, 1) := by decide +kernel
theorem dX1_init_123 : decode cX1_init 123 = .ok (.putfield 46, 3) := by decide +kernel
theorem dX1_init_126 : decode cX1_init 126 = .ok (.iconst 0, 1) := by decide +kernel
theorem dX1_init_127 : decode cX1_init 127 = .ok (.istore_n 3, 1) := by decide +kernel
theorem dX1_init_128 : decode cX1_init 128 = .ok (.iload_n 3, 1) := by decide +kernel
theorem dX1_init_129 : decode cX1_init 129 = .ok (.bipush 32, 2) := by decide +kernel
theorem dX1_init_131 : decode cX1_init 131 = .ok (.if_icmp .ge 16, 3) := by decide +kernel
theorem dX1_init_134 : decode cX1_init 134 = .ok (.aload_n 0, 1) := by decide +kernel
theorem dX1_init_135 : decode cX1_init 135 = .ok (.getfield 13, 3) := by decide +kernel
theorem dX1_init_138 : decode cX1_init 138 = .ok (.iload_n 3, 1) := by decide +kernel
theorem dX1_init_139 : decode cX1_init 139 = .ok (.iconst (-1), 1) := by decide +kernel
theorem dX1_init_140 : decode cX1_init 140 = .ok (.bastore, 1) := by decide +kernel
theorem dX1_init_141 : decode cX1_init 141 = .ok (.iinc 3 1, 3) := by decide +kernel
theorem dX1_init_144 : decode cX1_init 144 = .ok (.goto (-16), 3) := by decide +kernel
theorem dX1_init_147 : decode cX1_init 147 = .ok (.iconst 0, 1) := by decide +kernel
theorem dX1_init_148 : decode cX1_init 148 = .ok (.istore_n 3, 1) := by decide +kernel
theorem dX1_init_149 : decode cX1_init 149 = .ok (.iload_n 3, 1) := by decide +kernel
theorem dX1_init_150 : decode cX1_init 150 = .ok (.iconst 4, 1) := by decide +kernel
theorem dX1_init_151 : decode cX1_init 151 = .ok (.if_icmp .ge 16, 3) := by decide +kernel
theorem dX1_init_154 : decode cX1_init 154 = .ok (.aload_n 0, 1) := by decide +kernel
theorem dX1_init_155 : decode cX1_init 155 = .ok (.getfield 21, 3) := by decide +kernel
theorem dX1_init_158 : decode cX1_init 158 = .ok (.iload_n 3, 1) := by decide +kernel
theorem dX1_init_159 : decode cX1_init 159 = .ok (.iconst (-1), 1) := by decide +kernel
theorem dX1_init_160 : decode cX1_init 160 = .ok (.bastore, 1) := by decide +kernel
theorem dX1_init_161 : decode cX1_init 161 = .ok (.iinc 3 1, 3) := by decide +kernel
theorem dX1_init_164 : decode cX1_init 164 = .ok (.goto (-15), 3) := by decide +kernel
theorem dX1_init_167 : decode cX1_init 167 = .ok (.iconst 0, 1) := by decide +kernel
theorem dX1_init_168 : decode cX1_init 168 = .ok (.istore_n 3, 1) := by decide +kernel
theorem dX1_init_169 : decode cX1_init 169 = .ok (.iload_n 3, 1) := by decide +kernel
theorem dX1_init_170 : decode cX1_init 170 = .ok (.bipush 8, 2) := by decide +kernel
theorem dX1_init_172 : decode cX1_init 172 = .ok (.if_icmp .ge 16, 3) := by decide +kernel
theorem dX1_init_175 : decode cX1_init 175 = .ok (.aload_n 0, 1) := by decide +kernel
theorem dX1_init_176 : decode cX1_init 176 = .ok (.getfield 30, 3) := by decide +kernel
theorem dX1_init_179 : decode cX1_init 179 = .ok (.iload_n 3, 1) := by decide +kernel
theorem dX1_init_180 : decode cX1_init 180 = .ok (.iconst (-1), 1) := by decide +kernel
theorem dX1_init_181 : decode cX1_init 181 = .ok (.bastore, 1) := by decide +kernel
theorem dX1_init_182 : decode cX1_init 182 = .ok (.iinc 3 1, 3) := by decide +kernel
theorem dX1_init_185 : decode cX1_init 185 = .ok (.goto (-16), 3) := by decide +kernel
theorem dX1_init_188 : decode cX1_init 188 = .ok (.return_, 1) := by decide +kernel
theorem dX1_enter_0 : decode cX1_enter 0 = .ok (.iload_n 1, 1) := by decide +kernel
theorem dX1_enter_1 : decode cX1_enter 1 = .ok (.ifCond .lt 8, 3) := by decide +kernel
theorem dX1_enter_4 : decode cX1_enter 4 = .ok (.iload_n 1, 1) := by decide +kernel
theorem dX1_enter_5 : decode cX1_enter 5 = .ok (.iconst 3, 1) := by decide +kernel
theorem dX1_enter_6 : decode cX1_enter 6 = .ok (.if_icmp .le 5, 3) := by decide +kernel
theorem dX1_enter_9 : decode cX1_enter 9 = .ok (.iconst (-1), 1) := by decide +kernel
theorem dX1_enter_10 : decode cX1_enter 10 = .ok (.ireturn, 1) := by decide +kernel
theorem dX1_enter_11 : decode cX1_enter 11 = .ok (.aload_n 0, 1) := by decide +kernel
theorem dX1_enter_12 : decode cX1_enter 12 = .ok (.iload_n 1, 1) := by decide +kernel
theorem dX1_enter_13 : decode cX1_enter 13 = .ok (.putfield 49, 3) := by decide +kernel
theorem dX1_enter_16 : decode cX1_enter 16 = .ok (.iconst 0, 1) := by decide +kernel
theorem dX1_enter_17 : decode cX1_enter 17 = .ok (.ireturn, 1) := by decide +kernel
theorem dX1_map_0 : decode cX1_map 0 = .ok (.aload_n 0, 1) := by decide +kernel
theorem dX1_map_1 : decode cX1_map 1 = .ok (.iload_n 1, 1) := by decide +kernel
theorem dX1_map_2 : decode cX1_map 2 = .ok (.iload_n 2, 1) := by decide +kernel
theorem dX1_map_3 : decode cX1_map 3 = .ok (.invokevirtual 52, 3) := by decide +kernel
theorem dX1_map_6 : decode cX1_map 6 = .ok (.ifCond .eq 13, 3) := by decide +kernel
theorem dX1_map_9 : decode cX1_map 9 = .ok (.iload_n 3, 1) := by decide +kernel
theorem dX1_map_10 : decode cX1_map 10 = .ok (.ifCond .lt 9, 3) := by decide +kernel
theorem dX1_map_13 : decode cX1_map 13 = .ok (.iload_n 3, 1) := by decide +kernel
theorem dX1_map_14 : decode cX1_map 14 = .ok (.bipush 7, 2) := by decide +kernel
theorem dX1_map_16 : decode cX1_map 16 = .ok (.if_icmp .le 5, 3) := by decide +kernel
theorem dX1_map_19 : decode cX1_map 19 = .ok (.iconst (-1), 1) := by decide +kernel
theorem dX1_map_20 : decode cX1_map 20 = .ok (.ireturn, 1) := by decide +kernel
theorem dX1_map_21 : decode cX1_map 21 = .ok (.bipush 8, 2) := by decide +kernel
theorem dX1_map_23 : decode cX1_map 23 = .ok (.iload_n 1, 1) := by decide +kernel
theorem dX1_map_24 : decode cX1_map 24 = .ok (.imul, 1) := by decide +kernel
theorem dX1_map_25 : decode cX1_map 25 = .ok (.iload_n 2, 1) := by decide +kernel
theorem dX1_map_26 : decode cX1_map 26 = .ok (.iadd, 1) := by decide +kernel
theorem dX1_map_27 : decode cX1_map 27 = .ok (.istore 5, 2) := by decide +kernel
theorem dX1_map_29 : decode cX1_map 29 = .ok (.aload_n 0, 1) := by decide +kernel
theorem dX1_map_30 : decode cX1_map 30 = .ok (.getfield 13, 3) := by decide +kernel
theorem dX1_map_33 : decode cX1_map 33 = .ok (.iload 5, 2) := by decide +kernel
theorem dX1_map_35 : decode cX1_map 35 = .ok (.baload, 1) := by decide +kernel
theorem dX1_map_36 : decode cX1_map 36 = .ok (.ifCond .ge 7, 3) := by decide +kernel
theorem dX1_map_39 : decode cX1_map 39 = .ok (.iconst 0, 1) := by decide +kernel
theorem dX1_map_40 : decode cX1_map 40 = .ok (.goto 4, 3) := by decide +kernel
theorem dX1_map_43 : decode cX1_map 43 = .ok (.iconst 1, 1) := by decide +kernel
theorem dX1_map_44 : decode cX1_map 44 = .ok (.istore 6, 2) := by decide +kernel
theorem dX1_map_46 : decode cX1_map 46 = .ok (.aload_n 0, 1) := by decide +kernel
theorem dX1_map_47 : decode cX1_map 47 = .ok (.getfield 13, 3) := by decide +kernel
theorem dX1_map_50 : decode cX1_map 50 = .ok (.iload 5, 2) := by decide +kernel
theorem dX1_map_52 : decode cX1_map 52 = .ok (.iload_n 3, 1) := by decide +kernel
theorem dX1_map_53 : decode cX1_map 53 = .ok (.i2b, 1) := by decide +kernel
theorem dX1_map_54 : decode cX1_map 54 = .ok (.bastore, 1) := by decide +kernel
theorem dX1_map_55 : decode cX1_map 55 = .ok (.aload_n 0, 1) := by decide +kernel
theorem dX1_map_56 : decode cX1_map 56 = .ok (.getfield 17, 3) := by decide +kernel
theorem dX1_map_59 : decode cX1_map 59 = .ok (.iload 5, 2) := by decide +kernel
theorem dX1_map_61 : decode cX1_map 61 = .ok (.iload 4, 2) := by decide +kernel
theorem dX1_map_63 : decode cX1_map 63 = .ok (.bastore, 1) := by decide +kernel
theorem dX1_map_64 : decode cX1_map 64 = .ok (.aload_n 0, 1) := by decide +kernel
theorem dX1_map_65 : decode cX1_map 65 = .ok (.iload 5, 2) := by decide +kernel
theorem dX1_map_67 : decode cX1_map 67 = .ok (.invokevirtual 56, 3) := by decide +kernel
theorem dX1_map_70 : decode cX1_map 70 = .ok (.iload 6, 2) := by decide +kernel
theorem dX1_map_72 : decode cX1_map 72 = .ok (.ireturn, 1) := by decide +kernel
theorem dX1_isPage_0 : decode cX1_isPage 0 = .ok (.iload_n 1, 1) := by decide +kernel
theorem dX1_isPage_1 : decode cX1_isPage 1 = .ok (.ifCond .lt 22, 3) := by decide +kernel
theorem dX1_isPage_4 : decode cX1_isPage 4 = .ok (.iload_n 1, 1) := by decide +kernel
theorem dX1_isPage_5 : decode cX1_isPage 5 = .ok (.iconst 3, 1) := by decide +kernel
theorem dX1_isPage_6 : decode cX1_isPage 6 = .ok (.if_icmp .gt 17, 3) := by decide +kernel
theorem dX1_isPage_9 : decode cX1_isPage 9 = .ok (.iload_n 2, 1) := by decide +kernel
theorem dX1_isPage_10 : decode cX1_isPage 10 = .ok (.ifCond .lt 13, 3) := by decide +kernel
theorem dX1_isPage_13 : decode cX1_isPage 13 = .ok (.iload_n 2, 1) := by decide +kernel
theorem dX1_isPage_14 : decode cX1_isPage 14 = .ok (.bipush 7, 2) := by decide +kernel
theorem dX1_isPage_16 : decode cX1_isPage 16 = .ok (.if_icmp .gt 7, 3) := by decide +kernel
theorem dX1_isPage_19 : decode cX1_isPage 19 = .ok (.iconst 1, 1) := by decide +kernel
theorem dX1_isPage_20 : decode cX1_isPage 20 = .ok (.goto 4, 3) := by decide +kernel
theorem dX1_isPage_23 : decode cX1_isPage 23 = .ok (.iconst 0, 1) := by decide +kernel
theorem dX1_isPage_24 : decode cX1_isPage 24 = .ok (.ireturn, 1) := by decide +kernel
theorem dX1_forget_0 : decode cX1_forget 0 = .ok (.iconst 0, 1) := by decide +kernel
theorem dX1_forget_1 : decode cX1_forget 1 = .ok (.istore_n 2, 1) := by decide +kernel
theorem dX1_forget_2 : decode cX1_forget 2 = .ok (.iload_n 2, 1) := by decide +kernel
theorem dX1_forget_3 : decode cX1_forget 3 = .ok (.aload_n 0, 1) := by decide +kernel
theorem dX1_forget_4 : decode cX1_forget 4 = .ok (.getfield 46, 3) := by decide +kernel
theorem dX1_forget_7 : decode cX1_forget 7 = .ok (.if_icmp .ge 26, 3) := by decide +kernel
theorem dX1_forget_10 : decode cX1_forget 10 = .ok (.aload_n 0, 1) := by decide +kernel
theorem dX1_forget_11 : decode cX1_forget 11 = .ok (.getfield 21, 3) := by decide +kernel
theorem dX1_forget_14 : decode cX1_forget 14 = .ok (.iload_n 2, 1) := by decide +kernel
theorem dX1_forget_15 : decode cX1_forget 15 = .ok (.baload, 1) := by decide +kernel
theorem dX1_forget_16 : decode cX1_forget 16 = .ok (.iload_n 1, 1) := by decide +kernel
theorem dX1_forget_17 : decode cX1_forget 17 = .ok (.if_icmp .ne 10, 3) := by decide +kernel
theorem dX1_forget_20 : decode cX1_forget 20 = .ok (.aload_n 0, 1) := by decide +kernel
theorem dX1_forget_21 : decode cX1_forget 21 = .ok (.getfield 21, 3) := by decide +kernel
theorem dX1_forget_24 : decode cX1_forget 24 = .ok (.iload_n 2, 1) := by decide +kernel
theorem dX1_forget_25 : decode cX1_forget 25 = .ok (.iconst (-1), 1) := by decide +kernel
theorem dX1_forget_26 : decode cX1_forget 26 = .ok (.bastore, 1) := by decide +kernel
theorem dX1_forget_27 : decode cX1_forget 27 = .ok (.iinc 2 1, 3) := by decide +kernel
theorem dX1_forget_30 : decode cX1_forget 30 = .ok (.goto (-28), 3) := by decide +kernel
theorem dX1_forget_33 : decode cX1_forget 33 = .ok (.return_, 1) := by decide +kernel
theorem dX1_unmap_0 : decode cX1_unmap 0 = .ok (.aload_n 0, 1) := by decide +kernel
theorem dX1_unmap_1 : decode cX1_unmap 1 = .ok (.iload_n 1, 1) := by decide +kernel
theorem dX1_unmap_2 : decode cX1_unmap 2 = .ok (.iload_n 2, 1) := by decide +kernel
theorem dX1_unmap_3 : decode cX1_unmap 3 = .ok (.invokevirtual 52, 3) := by decide +kernel
theorem dX1_unmap_6 : decode cX1_unmap 6 = .ok (.ifCond .ne 5, 3) := by decide +kernel
theorem dX1_unmap_9 : decode cX1_unmap 9 = .ok (.iconst (-1), 1) := by decide +kernel
theorem dX1_unmap_10 : decode cX1_unmap 10 = .ok (.ireturn, 1) := by decide +kernel
theorem dX1_unmap_11 : decode cX1_unmap 11 = .ok (.bipush 8, 2) := by decide +kernel
theorem dX1_unmap_13 : decode cX1_unmap 13 = .ok (.iload_n 1, 1) := by decide +kernel
theorem dX1_unmap_14 : decode cX1_unmap 14 = .ok (.imul, 1) := by decide +kernel
theorem dX1_unmap_15 : decode cX1_unmap 15 = .ok (.iload_n 2, 1) := by decide +kernel
theorem dX1_unmap_16 : decode cX1_unmap 16 = .ok (.iadd, 1) := by decide +kernel
theorem dX1_unmap_17 : decode cX1_unmap 17 = .ok (.istore_n 3, 1) := by decide +kernel
theorem dX1_unmap_18 : decode cX1_unmap 18 = .ok (.aload_n 0, 1) := by decide +kernel
theorem dX1_unmap_19 : decode cX1_unmap 19 = .ok (.getfield 13, 3) := by decide +kernel
theorem dX1_unmap_22 : decode cX1_unmap 22 = .ok (.iload_n 3, 1) := by decide +kernel
theorem dX1_unmap_23 : decode cX1_unmap 23 = .ok (.baload, 1) := by decide +kernel
theorem dX1_unmap_24 : decode cX1_unmap 24 = .ok (.ifCond .ge 6, 3) := by decide +kernel
theorem dX1_unmap_27 : decode cX1_unmap 27 = .ok (.bipush (-2), 2) := by decide +kernel
theorem dX1_unmap_29 : decode cX1_unmap 29 = .ok (.ireturn, 1) := by decide +kernel
theorem dX1_unmap_30 : decode cX1_unmap 30 = .ok (.aload_n 0, 1) := by decide +kernel
theorem dX1_unmap_31 : decode cX1_unmap 31 = .ok (.getfield 13, 3) := by decide +kernel
theorem dX1_unmap_34 : decode cX1_unmap 34 = .ok (.iload_n 3, 1) := by decide +kernel
theorem dX1_unmap_35 : decode cX1_unmap 35 = .ok (.iconst (-1), 1) := by decide +kernel
theorem dX1_unmap_36 : decode cX1_unmap 36 = .ok (.bastore, 1) := by decide +kernel
theorem dX1_unmap_37 : decode cX1_unmap 37 = .ok (.aload_n 0, 1) := by decide +kernel
theorem dX1_unmap_38 : decode cX1_unmap 38 = .ok (.iload_n 3, 1) := by decide +kernel
theorem dX1_unmap_39 : decode cX1_unmap 39 = .ok (.invokevirtual 56, 3) := by decide +kernel
theorem dX1_unmap_42 : decode cX1_unmap 42 = .ok (.iconst 0, 1) := by decide +kernel
theorem dX1_unmap_43 : decode cX1_unmap 43 = .ok (.ireturn, 1) := by decide +kernel
theorem dX1_protect_0 : decode cX1_protect 0 = .ok (.iload_n 1, 1) := by decide +kernel
theorem dX1_protect_1 : decode cX1_protect 1 = .ok (.ifCond .lt 9, 3) := by decide +kernel
theorem dX1_protect_4 : decode cX1_protect 4 = .ok (.iload_n 1, 1) := by decide +kernel
theorem dX1_protect_5 : decode cX1_protect 5 = .ok (.bipush 7, 2) := by decide +kernel
theorem dX1_protect_7 : decode cX1_protect 7 = .ok (.if_icmp .le 5, 3) := by decide +kernel
theorem dX1_protect_10 : decode cX1_protect 10 = .ok (.iconst (-1), 1) := by decide +kernel
theorem dX1_protect_11 : decode cX1_protect 11 = .ok (.ireturn, 1) := by decide +kernel
theorem dX1_protect_12 : decode cX1_protect 12 = .ok (.iconst 0, 1) := by decide +kernel
theorem dX1_protect_13 : decode cX1_protect 13 = .ok (.istore_n 2, 1) := by decide +kernel
theorem dX1_protect_14 : decode cX1_protect 14 = .ok (.iconst 0, 1) := by decide +kernel
theorem dX1_protect_15 : decode cX1_protect 15 = .ok (.istore_n 3, 1) := by decide +kernel
theorem dX1_protect_16 : decode cX1_protect 16 = .ok (.iload_n 3, 1) := by decide +kernel
theorem dX1_protect_17 : decode cX1_protect 17 = .ok (.bipush 32, 2) := by decide +kernel
theorem dX1_protect_19 : decode cX1_protect 19 = .ok (.if_icmp .ge 46, 3) := by decide +kernel
theorem dX1_protect_22 : decode cX1_protect 22 = .ok (.aload_n 0, 1) := by decide +kernel
theorem dX1_protect_23 : decode cX1_protect 23 = .ok (.getfield 13, 3) := by decide +kernel
theorem dX1_protect_26 : decode cX1_protect 26 = .ok (.iload_n 3, 1) := by decide +kernel
theorem dX1_protect_27 : decode cX1_protect 27 = .ok (.baload, 1) := by decide +kernel
theorem dX1_protect_28 : decode cX1_protect 28 = .ok (.iload_n 1, 1) := by decide +kernel
theorem dX1_protect_29 : decode cX1_protect 29 = .ok (.if_icmp .ne 30, 3) := by decide +kernel
theorem dX1_protect_32 : decode cX1_protect 32 = .ok (.aload_n 0, 1) := by decide +kernel
theorem dX1_protect_33 : decode cX1_protect 33 = .ok (.getfield 17, 3) := by decide +kernel
theorem dX1_protect_36 : decode cX1_protect 36 = .ok (.iload_n 3, 1) := by decide +kernel
theorem dX1_protect_37 : decode cX1_protect 37 = .ok (.baload, 1) := by decide +kernel
theorem dX1_protect_38 : decode cX1_protect 38 = .ok (.ifCond .ne 6, 3) := by decide +kernel
theorem dX1_protect_41 : decode cX1_protect 41 = .ok (.goto 18, 3) := by decide +kernel
theorem dX1_protect_44 : decode cX1_protect 44 = .ok (.aload_n 0, 1) := by decide +kernel
theorem dX1_protect_45 : decode cX1_protect 45 = .ok (.getfield 17, 3) := by decide +kernel
theorem dX1_protect_48 : decode cX1_protect 48 = .ok (.iload_n 3, 1) := by decide +kernel
theorem dX1_protect_49 : decode cX1_protect 49 = .ok (.iconst 0, 1) := by decide +kernel
theorem dX1_protect_50 : decode cX1_protect 50 = .ok (.bastore, 1) := by decide +kernel
theorem dX1_protect_51 : decode cX1_protect 51 = .ok (.aload_n 0, 1) := by decide +kernel
theorem dX1_protect_52 : decode cX1_protect 52 = .ok (.iload_n 3, 1) := by decide +kernel
theorem dX1_protect_53 : decode cX1_protect 53 = .ok (.invokevirtual 56, 3) := by decide +kernel
theorem dX1_protect_56 : decode cX1_protect 56 = .ok (.iinc 2 1, 3) := by decide +kernel
theorem dX1_protect_59 : decode cX1_protect 59 = .ok (.iinc 3 1, 3) := by decide +kernel
theorem dX1_protect_62 : decode cX1_protect 62 = .ok (.goto (-46), 3) := by decide +kernel
theorem dX1_protect_65 : decode cX1_protect 65 = .ok (.iload_n 2, 1) := by decide +kernel
theorem dX1_protect_66 : decode cX1_protect 66 = .ok (.ireturn, 1) := by decide +kernel
theorem dX1_load_0 : decode cX1_load 0 = .ok (.iload_n 1, 1) := by decide +kernel
theorem dX1_load_1 : decode cX1_load 1 = .ok (.ifCond .lt 9, 3) := by decide +kernel
theorem dX1_load_4 : decode cX1_load 4 = .ok (.iload_n 1, 1) := by decide +kernel
theorem dX1_load_5 : decode cX1_load 5 = .ok (.bipush 63, 2) := by decide +kernel
theorem dX1_load_7 : decode cX1_load 7 = .ok (.if_icmp .le 5, 3) := by decide +kernel
theorem dX1_load_10 : decode cX1_load 10 = .ok (.iconst (-1), 1) := by decide +kernel
theorem dX1_load_11 : decode cX1_load 11 = .ok (.ireturn, 1) := by decide +kernel
theorem dX1_load_12 : decode cX1_load 12 = .ok (.aload_n 0, 1) := by decide +kernel
theorem dX1_load_13 : decode cX1_load 13 = .ok (.iload_n 1, 1) := by decide +kernel
theorem dX1_load_14 : decode cX1_load 14 = .ok (.iconst 3, 1) := by decide +kernel
theorem dX1_load_15 : decode cX1_load 15 = .ok (.ishr, 1) := by decide +kernel
theorem dX1_load_16 : decode cX1_load 16 = .ok (.invokevirtual 60, 3) := by decide +kernel
theorem dX1_load_19 : decode cX1_load 19 = .ok (.istore_n 2, 1) := by decide +kernel
theorem dX1_load_20 : decode cX1_load 20 = .ok (.iload_n 2, 1) := by decide +kernel
theorem dX1_load_21 : decode cX1_load 21 = .ok (.ifCond .ge 6, 3) := by decide +kernel
theorem dX1_load_24 : decode cX1_load 24 = .ok (.bipush (-2), 2) := by decide +kernel
theorem dX1_load_26 : decode cX1_load 26 = .ok (.ireturn, 1) := by decide +kernel
theorem dX1_load_27 : decode cX1_load 27 = .ok (.bipush 8, 2) := by decide +kernel
theorem dX1_load_29 : decode cX1_load 29 = .ok (.aload_n 0, 1) := by decide +kernel
theorem dX1_load_30 : decode cX1_load 30 = .ok (.getfield 24, 3) := by decide +kernel
theorem dX1_load_33 : decode cX1_load 33 = .ok (.iload_n 2, 1) := by decide +kernel
theorem dX1_load_34 : decode cX1_load 34 = .ok (.baload, 1) := by decide +kernel
theorem dX1_load_35 : decode cX1_load 35 = .ok (.imul, 1) := by decide +kernel
theorem dX1_load_36 : decode cX1_load 36 = .ok (.iload_n 1, 1) := by decide +kernel
theorem dX1_load_37 : decode cX1_load 37 = .ok (.bipush 7, 2) := by decide +kernel
theorem dX1_load_39 : decode cX1_load 39 = .ok (.iand, 1) := by decide +kernel
theorem dX1_load_40 : decode cX1_load 40 = .ok (.iadd, 1) := by decide +kernel
theorem dX1_load_41 : decode cX1_load 41 = .ok (.istore_n 3, 1) := by decide +kernel
theorem dX1_load_42 : decode cX1_load 42 = .ok (.aload_n 0, 1) := by decide +kernel
theorem dX1_load_43 : decode cX1_load 43 = .ok (.iload_n 3, 1) := by decide +kernel
theorem dX1_load_44 : decode cX1_load 44 = .ok (.iconst 2, 1) := by decide +kernel
theorem dX1_load_45 : decode cX1_load 45 = .ok (.ishr, 1) := by decide +kernel
theorem dX1_load_46 : decode cX1_load 46 = .ok (.invokevirtual 64, 3) := by decide +kernel
theorem dX1_load_49 : decode cX1_load 49 = .ok (.istore 4, 2) := by decide +kernel
theorem dX1_load_51 : decode cX1_load 51 = .ok (.aload_n 0, 1) := by decide +kernel
theorem dX1_load_52 : decode cX1_load 52 = .ok (.aload_n 0, 1) := by decide +kernel
theorem dX1_load_53 : decode cX1_load 53 = .ok (.getfield 36, 3) := by decide +kernel
theorem dX1_load_56 : decode cX1_load 56 = .ok (.iconst 4, 1) := by decide +kernel
theorem dX1_load_57 : decode cX1_load 57 = .ok (.iload 4, 2) := by decide +kernel
theorem dX1_load_59 : decode cX1_load 59 = .ok (.imul, 1) := by decide +kernel
theorem dX1_load_60 : decode cX1_load 60 = .ok (.iload_n 3, 1) := by decide +kernel
theorem dX1_load_61 : decode cX1_load 61 = .ok (.iconst 3, 1) := by decide +kernel
theorem dX1_load_62 : decode cX1_load 62 = .ok (.iand, 1) := by decide +kernel
theorem dX1_load_63 : decode cX1_load 63 = .ok (.iadd, 1) := by decide +kernel
theorem dX1_load_64 : decode cX1_load 64 = .ok (.iaload, 1) := by decide +kernel
theorem dX1_load_65 : decode cX1_load 65 = .ok (.putfield 67, 3) := by decide +kernel
theorem dX1_load_68 : decode cX1_load 68 = .ok (.iconst 0, 1) := by decide +kernel
theorem dX1_load_69 : decode cX1_load 69 = .ok (.ireturn, 1) := by decide +kernel
theorem dX1_translation_0 : decode cX1_translation 0 = .ok (.bipush 8, 2) := by decide +kernel
theorem dX1_translation_2 : decode cX1_translation 2 = .ok (.aload_n 0, 1) := by decide +kernel
theorem dX1_translation_3 : decode cX1_translation 3 = .ok (.getfield 49, 3) := by decide +kernel
theorem dX1_translation_6 : decode cX1_translation 6 = .ok (.imul, 1) := by decide +kernel
theorem dX1_translation_7 : decode cX1_translation 7 = .ok (.iload_n 1, 1) := by decide +kernel
theorem dX1_translation_8 : decode cX1_translation 8 = .ok (.iadd, 1) := by decide +kernel
theorem dX1_translation_9 : decode cX1_translation 9 = .ok (.istore_n 2, 1) := by decide +kernel
theorem dX1_translation_10 : decode cX1_translation 10 = .ok (.iconst 0, 1) := by decide +kernel
theorem dX1_translation_11 : decode cX1_translation 11 = .ok (.istore_n 3, 1) := by decide +kernel
theorem dX1_translation_12 : decode cX1_translation 12 = .ok (.iload_n 3, 1) := by decide +kernel
theorem dX1_translation_13 : decode cX1_translation 13 = .ok (.aload_n 0, 1) := by decide +kernel
theorem dX1_translation_14 : decode cX1_translation 14 = .ok (.getfield 46, 3) := by decide +kernel
theorem dX1_translation_17 : decode cX1_translation 17 = .ok (.if_icmp .ge 21, 3) := by decide +kernel
theorem dX1_translation_20 : decode cX1_translation 20 = .ok (.aload_n 0, 1) := by decide +kernel
theorem dX1_translation_21 : decode cX1_translation 21 = .ok (.getfield 21, 3) := by decide +kernel
theorem dX1_translation_24 : decode cX1_translation 24 = .ok (.iload_n 3, 1) := by decide +kernel
theorem dX1_translation_25 : decode cX1_translation 25 = .ok (.baload, 1) := by decide +kernel
theorem dX1_translation_26 : decode cX1_translation 26 = .ok (.iload_n 2, 1) := by decide +kernel
theorem dX1_translation_27 : decode cX1_translation 27 = .ok (.if_icmp .ne 5, 3) := by decide +kernel
theorem dX1_translation_30 : decode cX1_translation 30 = .ok (.iload_n 3, 1) := by decide +kernel
theorem dX1_translation_31 : decode cX1_translation 31 = .ok (.ireturn, 1) := by decide +kernel
theorem dX1_translation_32 : decode cX1_translation 32 = .ok (.iinc 3 1, 3) := by decide +kernel
theorem dX1_translation_35 : decode cX1_translation 35 = .ok (.goto (-23), 3) := by decide +kernel
theorem dX1_translation_38 : decode cX1_translation 38 = .ok (.aload_n 0, 1) := by decide +kernel
theorem dX1_translation_39 : decode cX1_translation 39 = .ok (.getfield 13, 3) := by decide +kernel
theorem dX1_translation_42 : decode cX1_translation 42 = .ok (.iload_n 2, 1) := by decide +kernel
theorem dX1_translation_43 : decode cX1_translation 43 = .ok (.baload, 1) := by decide +kernel
theorem dX1_translation_44 : decode cX1_translation 44 = .ok (.ifCond .ge 5, 3) := by decide +kernel
theorem dX1_translation_47 : decode cX1_translation 47 = .ok (.iconst (-1), 1) := by decide +kernel
theorem dX1_translation_48 : decode cX1_translation 48 = .ok (.ireturn, 1) := by decide +kernel
theorem dX1_translation_49 : decode cX1_translation 49 = .ok (.aload_n 0, 1) := by decide +kernel
theorem dX1_translation_50 : decode cX1_translation 50 = .ok (.getfield 87, 3) := by decide +kernel
theorem dX1_translation_53 : decode cX1_translation 53 = .ok (.istore_n 3, 1) := by decide +kernel
theorem dX1_translation_54 : decode cX1_translation 54 = .ok (.aload_n 0, 1) := by decide +kernel
theorem dX1_translation_55 : decode cX1_translation 55 = .ok (.aload_n 0, 1) := by decide +kernel
theorem dX1_translation_56 : decode cX1_translation 56 = .ok (.getfield 87, 3) := by decide +kernel
theorem dX1_translation_59 : decode cX1_translation 59 = .ok (.iconst 1, 1) := by decide +kernel
theorem dX1_translation_60 : decode cX1_translation 60 = .ok (.iadd, 1) := by decide +kernel
theorem dX1_translation_61 : decode cX1_translation 61 = .ok (.aload_n 0, 1) := by decide +kernel
theorem dX1_translation_62 : decode cX1_translation 62 = .ok (.getfield 46, 3) := by decide +kernel
theorem dX1_translation_65 : decode cX1_translation 65 = .ok (.if_icmp .ge 12, 3) := by decide +kernel
theorem dX1_translation_68 : decode cX1_translation 68 = .ok (.aload_n 0, 1) := by decide +kernel
theorem dX1_translation_69 : decode cX1_translation 69 = .ok (.getfield 87, 3) := by decide +kernel
theorem dX1_translation_72 : decode cX1_translation 72 = .ok (.iconst 1, 1) := by decide +kernel
theorem dX1_translation_73 : decode cX1_translation 73 = .ok (.iadd, 1) := by decide +kernel
theorem dX1_translation_74 : decode cX1_translation 74 = .ok (.goto 4, 3) := by decide +kernel
theorem dX1_translation_77 : decode cX1_translation 77 = .ok (.iconst 0, 1) := by decide +kernel
theorem dX1_translation_78 : decode cX1_translation 78 = .ok (.putfield 87, 3) := by decide +kernel
theorem dX1_translation_81 : decode cX1_translation 81 = .ok (.aload_n 0, 1) := by decide +kernel
theorem dX1_translation_82 : decode cX1_translation 82 = .ok (.getfield 21, 3) := by decide +kernel
theorem dX1_translation_85 : decode cX1_translation 85 = .ok (.iload_n 3, 1) := by decide +kernel
theorem dX1_translation_86 : decode cX1_translation 86 = .ok (.iload_n 2, 1) := by decide +kernel
theorem dX1_translation_87 : decode cX1_translation 87 = .ok (.i2b, 1) := by decide +kernel
theorem dX1_translation_88 : decode cX1_translation 88 = .ok (.bastore, 1) := by decide +kernel
theorem dX1_translation_89 : decode cX1_translation 89 = .ok (.aload_n 0, 1) := by decide +kernel
theorem dX1_translation_90 : decode cX1_translation 90 = .ok (.getfield 24, 3) := by decide +kernel
theorem dX1_translation_93 : decode cX1_translation 93 = .ok (.iload_n 3, 1) := by decide +kernel
theorem dX1_translation_94 : decode cX1_translation 94 = .ok (.aload_n 0, 1) := by decide +kernel
end
section
set_option maxRecDepth 100000
theorem dX1_translation_95 : decode cX1_translation 95 = .ok (.getfield 13, 3) := by decide +kernel
theorem dX1_translation_98 : decode cX1_translation 98 = .ok (.iload_n 2, 1) := by decide +kernel
theorem dX1_translation_99 : decode cX1_translation 99 = .ok (.baload, 1) := by decide +kernel
theorem dX1_translation_100 : decode cX1_translation 100 = .ok (.bastore, 1) := by decide +kernel
theorem dX1_translation_101 : decode cX1_translation 101 = .ok (.aload_n 0, 1) := by decide +kernel
theorem dX1_translation_102 : decode cX1_translation 102 = .ok (.getfield 27, 3) := by decide +kernel
theorem dX1_translation_105 : decode cX1_translation 105 = .ok (.iload_n 3, 1) := by decide +kernel
theorem dX1_translation_106 : decode cX1_translation 106 = .ok (.aload_n 0, 1) := by decide +kernel
theorem dX1_translation_107 : decode cX1_translation 107 = .ok (.getfield 17, 3) := by decide +kernel
theorem dX1_translation_110 : decode cX1_translation 110 = .ok (.iload_n 2, 1) := by decide +kernel
theorem dX1_translation_111 : decode cX1_translation 111 = .ok (.baload, 1) := by decide +kernel
theorem dX1_translation_112 : decode cX1_translation 112 = .ok (.bastore, 1) := by decide +kernel
theorem dX1_translation_113 : decode cX1_translation 113 = .ok (.iload_n 3, 1) := by decide +kernel
theorem dX1_translation_114 : decode cX1_translation 114 = .ok (.ireturn, 1) := by decide +kernel
theorem dX1_bringIn_0 : decode cX1_bringIn 0 = .ok (.iload_n 1, 1) := by decide +kernel
theorem dX1_bringIn_1 : decode cX1_bringIn 1 = .ok (.aload_n 0, 1) := by decide +kernel
theorem dX1_bringIn_2 : decode cX1_bringIn 2 = .ok (.getfield 42, 3) := by decide +kernel
theorem dX1_bringIn_5 : decode cX1_bringIn 5 = .ok (.irem, 1) := by decide +kernel
theorem dX1_bringIn_6 : decode cX1_bringIn 6 = .ok (.istore_n 2, 1) := by decide +kernel
theorem dX1_bringIn_7 : decode cX1_bringIn 7 = .ok (.aload_n 0, 1) := by decide +kernel
theorem dX1_bringIn_8 : decode cX1_bringIn 8 = .ok (.iload_n 1, 1) := by decide +kernel
theorem dX1_bringIn_9 : decode cX1_bringIn 9 = .ok (.invokevirtual 74, 3) := by decide +kernel
theorem dX1_bringIn_12 : decode cX1_bringIn 12 = .ok (.istore_n 3, 1) := by decide +kernel
theorem dX1_bringIn_13 : decode cX1_bringIn 13 = .ok (.iload_n 3, 1) := by decide +kernel
theorem dX1_bringIn_14 : decode cX1_bringIn 14 = .ok (.ifCond .ge 70, 3) := by decide +kernel
theorem dX1_bringIn_17 : decode cX1_bringIn 17 = .ok (.aload_n 0, 1) := by decide +kernel
theorem dX1_bringIn_18 : decode cX1_bringIn 18 = .ok (.getfield 39, 3) := by decide +kernel
theorem dX1_bringIn_21 : decode cX1_bringIn 21 = .ok (.iload_n 2, 1) := by decide +kernel
theorem dX1_bringIn_22 : decode cX1_bringIn 22 = .ok (.baload, 1) := by decide +kernel
theorem dX1_bringIn_23 : decode cX1_bringIn 23 = .ok (.ifCond .ne 9, 3) := by decide +kernel
theorem dX1_bringIn_26 : decode cX1_bringIn 26 = .ok (.iconst 4, 1) := by decide +kernel
theorem dX1_bringIn_27 : decode cX1_bringIn 27 = .ok (.iload_n 2, 1) := by decide +kernel
theorem dX1_bringIn_28 : decode cX1_bringIn 28 = .ok (.iadd, 1) := by decide +kernel
theorem dX1_bringIn_29 : decode cX1_bringIn 29 = .ok (.goto 4, 3) := by decide +kernel
theorem dX1_bringIn_32 : decode cX1_bringIn 32 = .ok (.iload_n 2, 1) := by decide +kernel
theorem dX1_bringIn_33 : decode cX1_bringIn 33 = .ok (.istore_n 3, 1) := by decide +kernel
theorem dX1_bringIn_34 : decode cX1_bringIn 34 = .ok (.aload_n 0, 1) := by decide +kernel
theorem dX1_bringIn_35 : decode cX1_bringIn 35 = .ok (.iload_n 3, 1) := by decide +kernel
theorem dX1_bringIn_36 : decode cX1_bringIn 36 = .ok (.invokevirtual 77, 3) := by decide +kernel
theorem dX1_bringIn_39 : decode cX1_bringIn 39 = .ok (.aload_n 0, 1) := by decide +kernel
theorem dX1_bringIn_40 : decode cX1_bringIn 40 = .ok (.getfield 30, 3) := by decide +kernel
theorem dX1_bringIn_43 : decode cX1_bringIn 43 = .ok (.iload_n 3, 1) := by decide +kernel
theorem dX1_bringIn_44 : decode cX1_bringIn 44 = .ok (.iload_n 1, 1) := by decide +kernel
theorem dX1_bringIn_45 : decode cX1_bringIn 45 = .ok (.i2b, 1) := by decide +kernel
theorem dX1_bringIn_46 : decode cX1_bringIn 46 = .ok (.bastore, 1) := by decide +kernel
theorem dX1_bringIn_47 : decode cX1_bringIn 47 = .ok (.iconst 0, 1) := by decide +kernel
theorem dX1_bringIn_48 : decode cX1_bringIn 48 = .ok (.istore 4, 2) := by decide +kernel
theorem dX1_bringIn_50 : decode cX1_bringIn 50 = .ok (.iload 4, 2) := by decide +kernel
theorem dX1_bringIn_52 : decode cX1_bringIn 52 = .ok (.iconst 4, 1) := by decide +kernel
theorem dX1_bringIn_53 : decode cX1_bringIn 53 = .ok (.if_icmp .ge 31, 3) := by decide +kernel
theorem dX1_bringIn_56 : decode cX1_bringIn 56 = .ok (.aload_n 0, 1) := by decide +kernel
theorem dX1_bringIn_57 : decode cX1_bringIn 57 = .ok (.getfield 36, 3) := by decide +kernel
theorem dX1_bringIn_60 : decode cX1_bringIn 60 = .ok (.iconst 4, 1) := by decide +kernel
theorem dX1_bringIn_61 : decode cX1_bringIn 61 = .ok (.iload_n 3, 1) := by decide +kernel
theorem dX1_bringIn_62 : decode cX1_bringIn 62 = .ok (.imul, 1) := by decide +kernel
theorem dX1_bringIn_63 : decode cX1_bringIn 63 = .ok (.iload 4, 2) := by decide +kernel
theorem dX1_bringIn_65 : decode cX1_bringIn 65 = .ok (.iadd, 1) := by decide +kernel
theorem dX1_bringIn_66 : decode cX1_bringIn 66 = .ok (.aload_n 0, 1) := by decide +kernel
theorem dX1_bringIn_67 : decode cX1_bringIn 67 = .ok (.getfield 7, 3) := by decide +kernel
theorem dX1_bringIn_70 : decode cX1_bringIn 70 = .ok (.iconst 4, 1) := by decide +kernel
theorem dX1_bringIn_71 : decode cX1_bringIn 71 = .ok (.iload_n 1, 1) := by decide +kernel
theorem dX1_bringIn_72 : decode cX1_bringIn 72 = .ok (.imul, 1) := by decide +kernel
theorem dX1_bringIn_73 : decode cX1_bringIn 73 = .ok (.iload 4, 2) := by decide +kernel
theorem dX1_bringIn_75 : decode cX1_bringIn 75 = .ok (.iadd, 1) := by decide +kernel
theorem dX1_bringIn_76 : decode cX1_bringIn 76 = .ok (.iaload, 1) := by decide +kernel
theorem dX1_bringIn_77 : decode cX1_bringIn 77 = .ok (.iastore, 1) := by decide +kernel
theorem dX1_bringIn_78 : decode cX1_bringIn 78 = .ok (.iinc 4 1, 3) := by decide +kernel
theorem dX1_bringIn_81 : decode cX1_bringIn 81 = .ok (.goto (-31), 3) := by decide +kernel
theorem dX1_bringIn_84 : decode cX1_bringIn 84 = .ok (.aload_n 0, 1) := by decide +kernel
theorem dX1_bringIn_85 : decode cX1_bringIn 85 = .ok (.getfield 39, 3) := by decide +kernel
theorem dX1_bringIn_88 : decode cX1_bringIn 88 = .ok (.iload_n 2, 1) := by decide +kernel
theorem dX1_bringIn_89 : decode cX1_bringIn 89 = .ok (.iload_n 3, 1) := by decide +kernel
theorem dX1_bringIn_90 : decode cX1_bringIn 90 = .ok (.iconst 2, 1) := by decide +kernel
theorem dX1_bringIn_91 : decode cX1_bringIn 91 = .ok (.ishr, 1) := by decide +kernel
theorem dX1_bringIn_92 : decode cX1_bringIn 92 = .ok (.i2b, 1) := by decide +kernel
theorem dX1_bringIn_93 : decode cX1_bringIn 93 = .ok (.bastore, 1) := by decide +kernel
theorem dX1_bringIn_94 : decode cX1_bringIn 94 = .ok (.iload_n 3, 1) := by decide +kernel
theorem dX1_bringIn_95 : decode cX1_bringIn 95 = .ok (.ireturn, 1) := by decide +kernel
theorem dX1_lineWith_0 : decode cX1_lineWith 0 = .ok (.iload_n 1, 1) := by decide +kernel
theorem dX1_lineWith_1 : decode cX1_lineWith 1 = .ok (.aload_n 0, 1) := by decide +kernel
theorem dX1_lineWith_2 : decode cX1_lineWith 2 = .ok (.getfield 42, 3) := by decide +kernel
theorem dX1_lineWith_5 : decode cX1_lineWith 5 = .ok (.irem, 1) := by decide +kernel
theorem dX1_lineWith_6 : decode cX1_lineWith 6 = .ok (.istore_n 2, 1) := by decide +kernel
theorem dX1_lineWith_7 : decode cX1_lineWith 7 = .ok (.aload_n 0, 1) := by decide +kernel
theorem dX1_lineWith_8 : decode cX1_lineWith 8 = .ok (.getfield 30, 3) := by decide +kernel
theorem dX1_lineWith_11 : decode cX1_lineWith 11 = .ok (.iload_n 2, 1) := by decide +kernel
theorem dX1_lineWith_12 : decode cX1_lineWith 12 = .ok (.baload, 1) := by decide +kernel
theorem dX1_lineWith_13 : decode cX1_lineWith 13 = .ok (.iload_n 1, 1) := by decide +kernel
theorem dX1_lineWith_14 : decode cX1_lineWith 14 = .ok (.if_icmp .ne 5, 3) := by decide +kernel
theorem dX1_lineWith_17 : decode cX1_lineWith 17 = .ok (.iload_n 2, 1) := by decide +kernel
theorem dX1_lineWith_18 : decode cX1_lineWith 18 = .ok (.ireturn, 1) := by decide +kernel
theorem dX1_lineWith_19 : decode cX1_lineWith 19 = .ok (.aload_n 0, 1) := by decide +kernel
theorem dX1_lineWith_20 : decode cX1_lineWith 20 = .ok (.getfield 30, 3) := by decide +kernel
theorem dX1_lineWith_23 : decode cX1_lineWith 23 = .ok (.iconst 4, 1) := by decide +kernel
theorem dX1_lineWith_24 : decode cX1_lineWith 24 = .ok (.iload_n 2, 1) := by decide +kernel
theorem dX1_lineWith_25 : decode cX1_lineWith 25 = .ok (.iadd, 1) := by decide +kernel
theorem dX1_lineWith_26 : decode cX1_lineWith 26 = .ok (.baload, 1) := by decide +kernel
theorem dX1_lineWith_27 : decode cX1_lineWith 27 = .ok (.iload_n 1, 1) := by decide +kernel
theorem dX1_lineWith_28 : decode cX1_lineWith 28 = .ok (.if_icmp .ne 9, 3) := by decide +kernel
theorem dX1_lineWith_31 : decode cX1_lineWith 31 = .ok (.iconst 4, 1) := by decide +kernel
theorem dX1_lineWith_32 : decode cX1_lineWith 32 = .ok (.iload_n 2, 1) := by decide +kernel
theorem dX1_lineWith_33 : decode cX1_lineWith 33 = .ok (.iadd, 1) := by decide +kernel
theorem dX1_lineWith_34 : decode cX1_lineWith 34 = .ok (.goto 4, 3) := by decide +kernel
theorem dX1_lineWith_37 : decode cX1_lineWith 37 = .ok (.iconst (-1), 1) := by decide +kernel
theorem dX1_lineWith_38 : decode cX1_lineWith 38 = .ok (.ireturn, 1) := by decide +kernel
theorem dX1_evict_0 : decode cX1_evict 0 = .ok (.aload_n 0, 1) := by decide +kernel
theorem dX1_evict_1 : decode cX1_evict 1 = .ok (.getfield 30, 3) := by decide +kernel
theorem dX1_evict_4 : decode cX1_evict 4 = .ok (.iload_n 1, 1) := by decide +kernel
theorem dX1_evict_5 : decode cX1_evict 5 = .ok (.baload, 1) := by decide +kernel
theorem dX1_evict_6 : decode cX1_evict 6 = .ok (.ifCond .lt 50, 3) := by decide +kernel
theorem dX1_evict_9 : decode cX1_evict 9 = .ok (.aload_n 0, 1) := by decide +kernel
theorem dX1_evict_10 : decode cX1_evict 10 = .ok (.getfield 33, 3) := by decide +kernel
theorem dX1_evict_13 : decode cX1_evict 13 = .ok (.iload_n 1, 1) := by decide +kernel
theorem dX1_evict_14 : decode cX1_evict 14 = .ok (.baload, 1) := by decide +kernel
theorem dX1_evict_15 : decode cX1_evict 15 = .ok (.ifCond .eq 41, 3) := by decide +kernel
theorem dX1_evict_18 : decode cX1_evict 18 = .ok (.iconst 0, 1) := by decide +kernel
theorem dX1_evict_19 : decode cX1_evict 19 = .ok (.istore_n 2, 1) := by decide +kernel
theorem dX1_evict_20 : decode cX1_evict 20 = .ok (.iload_n 2, 1) := by decide +kernel
theorem dX1_evict_21 : decode cX1_evict 21 = .ok (.iconst 4, 1) := by decide +kernel
theorem dX1_evict_22 : decode cX1_evict 22 = .ok (.if_icmp .ge 34, 3) := by decide +kernel
theorem dX1_evict_25 : decode cX1_evict 25 = .ok (.aload_n 0, 1) := by decide +kernel
theorem dX1_evict_26 : decode cX1_evict 26 = .ok (.getfield 7, 3) := by decide +kernel
theorem dX1_evict_29 : decode cX1_evict 29 = .ok (.iconst 4, 1) := by decide +kernel
theorem dX1_evict_30 : decode cX1_evict 30 = .ok (.aload_n 0, 1) := by decide +kernel
theorem dX1_evict_31 : decode cX1_evict 31 = .ok (.getfield 30, 3) := by decide +kernel
theorem dX1_evict_34 : decode cX1_evict 34 = .ok (.iload_n 1, 1) := by decide +kernel
theorem dX1_evict_35 : decode cX1_evict 35 = .ok (.baload, 1) := by decide +kernel
theorem dX1_evict_36 : decode cX1_evict 36 = .ok (.imul, 1) := by decide +kernel
theorem dX1_evict_37 : decode cX1_evict 37 = .ok (.iload_n 2, 1) := by decide +kernel
theorem dX1_evict_38 : decode cX1_evict 38 = .ok (.iadd, 1) := by decide +kernel
theorem dX1_evict_39 : decode cX1_evict 39 = .ok (.aload_n 0, 1) := by decide +kernel
theorem dX1_evict_40 : decode cX1_evict 40 = .ok (.getfield 36, 3) := by decide +kernel
theorem dX1_evict_43 : decode cX1_evict 43 = .ok (.iconst 4, 1) := by decide +kernel
theorem dX1_evict_44 : decode cX1_evict 44 = .ok (.iload_n 1, 1) := by decide +kernel
theorem dX1_evict_45 : decode cX1_evict 45 = .ok (.imul, 1) := by decide +kernel
theorem dX1_evict_46 : decode cX1_evict 46 = .ok (.iload_n 2, 1) := by decide +kernel
theorem dX1_evict_47 : decode cX1_evict 47 = .ok (.iadd, 1) := by decide +kernel
theorem dX1_evict_48 : decode cX1_evict 48 = .ok (.iaload, 1) := by decide +kernel
theorem dX1_evict_49 : decode cX1_evict 49 = .ok (.iastore, 1) := by decide +kernel
theorem dX1_evict_50 : decode cX1_evict 50 = .ok (.iinc 2 1, 3) := by decide +kernel
theorem dX1_evict_53 : decode cX1_evict 53 = .ok (.goto (-33), 3) := by decide +kernel
theorem dX1_evict_56 : decode cX1_evict 56 = .ok (.aload_n 0, 1) := by decide +kernel
theorem dX1_evict_57 : decode cX1_evict 57 = .ok (.getfield 30, 3) := by decide +kernel
theorem dX1_evict_60 : decode cX1_evict 60 = .ok (.iload_n 1, 1) := by decide +kernel
theorem dX1_evict_61 : decode cX1_evict 61 = .ok (.iconst (-1), 1) := by decide +kernel
theorem dX1_evict_62 : decode cX1_evict 62 = .ok (.bastore, 1) := by decide +kernel
theorem dX1_evict_63 : decode cX1_evict 63 = .ok (.aload_n 0, 1) := by decide +kernel
theorem dX1_evict_64 : decode cX1_evict 64 = .ok (.getfield 33, 3) := by decide +kernel
theorem dX1_evict_67 : decode cX1_evict 67 = .ok (.iload_n 1, 1) := by decide +kernel
theorem dX1_evict_68 : decode cX1_evict 68 = .ok (.iconst 0, 1) := by decide +kernel
theorem dX1_evict_69 : decode cX1_evict 69 = .ok (.bastore, 1) := by decide +kernel
theorem dX1_evict_70 : decode cX1_evict 70 = .ok (.return_, 1) := by decide +kernel
theorem dX1_last_0 : decode cX1_last 0 = .ok (.aload_n 0, 1) := by decide +kernel
theorem dX1_last_1 : decode cX1_last 1 = .ok (.getfield 67, 3) := by decide +kernel
theorem dX1_last_4 : decode cX1_last 4 = .ok (.ireturn, 1) := by decide +kernel
theorem dX1_store_0 : decode cX1_store 0 = .ok (.aload_n 0, 1) := by decide +kernel
theorem dX1_store_1 : decode cX1_store 1 = .ok (.iload_n 1, 1) := by decide +kernel
theorem dX1_store_2 : decode cX1_store 2 = .ok (.iload_n 2, 1) := by decide +kernel
theorem dX1_store_3 : decode cX1_store 3 = .ok (.iconst 0, 1) := by decide +kernel
theorem dX1_store_4 : decode cX1_store 4 = .ok (.invokevirtual 70, 3) := by decide +kernel
theorem dX1_store_7 : decode cX1_store 7 = .ok (.ireturn, 1) := by decide +kernel
theorem dX1_change_0 : decode cX1_change 0 = .ok (.iload_n 1, 1) := by decide +kernel
theorem dX1_change_1 : decode cX1_change 1 = .ok (.ifCond .lt 9, 3) := by decide +kernel
theorem dX1_change_4 : decode cX1_change 4 = .ok (.iload_n 1, 1) := by decide +kernel
theorem dX1_change_5 : decode cX1_change 5 = .ok (.bipush 63, 2) := by decide +kernel
theorem dX1_change_7 : decode cX1_change 7 = .ok (.if_icmp .le 5, 3) := by decide +kernel
theorem dX1_change_10 : decode cX1_change 10 = .ok (.iconst (-1), 1) := by decide +kernel
theorem dX1_change_11 : decode cX1_change 11 = .ok (.ireturn, 1) := by decide +kernel
theorem dX1_change_12 : decode cX1_change 12 = .ok (.aload_n 0, 1) := by decide +kernel
theorem dX1_change_13 : decode cX1_change 13 = .ok (.iload_n 1, 1) := by decide +kernel
theorem dX1_change_14 : decode cX1_change 14 = .ok (.iconst 3, 1) := by decide +kernel
theorem dX1_change_15 : decode cX1_change 15 = .ok (.ishr, 1) := by decide +kernel
theorem dX1_change_16 : decode cX1_change 16 = .ok (.invokevirtual 60, 3) := by decide +kernel
theorem dX1_change_19 : decode cX1_change 19 = .ok (.istore 4, 2) := by decide +kernel
theorem dX1_change_21 : decode cX1_change 21 = .ok (.iload 4, 2) := by decide +kernel
theorem dX1_change_23 : decode cX1_change 23 = .ok (.ifCond .ge 6, 3) := by decide +kernel
theorem dX1_change_26 : decode cX1_change 26 = .ok (.bipush (-2), 2) := by decide +kernel
theorem dX1_change_28 : decode cX1_change 28 = .ok (.ireturn, 1) := by decide +kernel
theorem dX1_change_29 : decode cX1_change 29 = .ok (.aload_n 0, 1) := by decide +kernel
theorem dX1_change_30 : decode cX1_change 30 = .ok (.getfield 27, 3) := by decide +kernel
theorem dX1_change_33 : decode cX1_change 33 = .ok (.iload 4, 2) := by decide +kernel
theorem dX1_change_35 : decode cX1_change 35 = .ok (.baload, 1) := by decide +kernel
theorem dX1_change_36 : decode cX1_change 36 = .ok (.ifCond .ne 6, 3) := by decide +kernel
theorem dX1_change_39 : decode cX1_change 39 = .ok (.bipush (-3), 2) := by decide +kernel
theorem dX1_change_41 : decode cX1_change 41 = .ok (.ireturn, 1) := by decide +kernel
theorem dX1_change_42 : decode cX1_change 42 = .ok (.bipush 8, 2) := by decide +kernel
theorem dX1_change_44 : decode cX1_change 44 = .ok (.aload_n 0, 1) := by decide +kernel
theorem dX1_change_45 : decode cX1_change 45 = .ok (.getfield 24, 3) := by decide +kernel
theorem dX1_change_48 : decode cX1_change 48 = .ok (.iload 4, 2) := by decide +kernel
theorem dX1_change_50 : decode cX1_change 50 = .ok (.baload, 1) := by decide +kernel
theorem dX1_change_51 : decode cX1_change 51 = .ok (.imul, 1) := by decide +kernel
theorem dX1_change_52 : decode cX1_change 52 = .ok (.iload_n 1, 1) := by decide +kernel
theorem dX1_change_53 : decode cX1_change 53 = .ok (.bipush 7, 2) := by decide +kernel
theorem dX1_change_55 : decode cX1_change 55 = .ok (.iand, 1) := by decide +kernel
theorem dX1_change_56 : decode cX1_change 56 = .ok (.iadd, 1) := by decide +kernel
theorem dX1_change_57 : decode cX1_change 57 = .ok (.istore 5, 2) := by decide +kernel
theorem dX1_change_59 : decode cX1_change 59 = .ok (.aload_n 0, 1) := by decide +kernel
theorem dX1_change_60 : decode cX1_change 60 = .ok (.iload 5, 2) := by decide +kernel
theorem dX1_change_62 : decode cX1_change 62 = .ok (.iconst 2, 1) := by decide +kernel
theorem dX1_change_63 : decode cX1_change 63 = .ok (.ishr, 1) := by decide +kernel
theorem dX1_change_64 : decode cX1_change 64 = .ok (.invokevirtual 64, 3) := by decide +kernel
theorem dX1_change_67 : decode cX1_change 67 = .ok (.istore 6, 2) := by decide +kernel
theorem dX1_change_69 : decode cX1_change 69 = .ok (.iconst 4, 1) := by decide +kernel
theorem dX1_change_70 : decode cX1_change 70 = .ok (.iload 6, 2) := by decide +kernel
theorem dX1_change_72 : decode cX1_change 72 = .ok (.imul, 1) := by decide +kernel
theorem dX1_change_73 : decode cX1_change 73 = .ok (.iload 5, 2) := by decide +kernel
theorem dX1_change_75 : decode cX1_change 75 = .ok (.iconst 3, 1) := by decide +kernel
theorem dX1_change_76 : decode cX1_change 76 = .ok (.iand, 1) := by decide +kernel
theorem dX1_change_77 : decode cX1_change 77 = .ok (.iadd, 1) := by decide +kernel
theorem dX1_change_78 : decode cX1_change 78 = .ok (.istore 7, 2) := by decide +kernel
theorem dX1_change_80 : decode cX1_change 80 = .ok (.aload_n 0, 1) := by decide +kernel
theorem dX1_change_81 : decode cX1_change 81 = .ok (.getfield 36, 3) := by decide +kernel
theorem dX1_change_84 : decode cX1_change 84 = .ok (.iload 7, 2) := by decide +kernel
theorem dX1_change_86 : decode cX1_change 86 = .ok (.iload_n 3, 1) := by decide +kernel
theorem dX1_change_87 : decode cX1_change 87 = .ok (.ifCond .eq 15, 3) := by decide +kernel
theorem dX1_change_90 : decode cX1_change 90 = .ok (.aload_n 0, 1) := by decide +kernel
theorem dX1_change_91 : decode cX1_change 91 = .ok (.getfield 36, 3) := by decide +kernel
theorem dX1_change_94 : decode cX1_change 94 = .ok (.iload 7, 2) := by decide +kernel
theorem dX1_change_96 : decode cX1_change 96 = .ok (.iaload, 1) := by decide +kernel
theorem dX1_change_97 : decode cX1_change 97 = .ok (.iload_n 2, 1) := by decide +kernel
theorem dX1_change_98 : decode cX1_change 98 = .ok (.iadd, 1) := by decide +kernel
theorem dX1_change_99 : decode cX1_change 99 = .ok (.goto 4, 3) := by decide +kernel
theorem dX1_change_102 : decode cX1_change 102 = .ok (.iload_n 2, 1) := by decide +kernel
theorem dX1_change_103 : decode cX1_change 103 = .ok (.iastore, 1) := by decide +kernel
theorem dX1_change_104 : decode cX1_change 104 = .ok (.aload_n 0, 1) := by decide +kernel
theorem dX1_change_105 : decode cX1_change 105 = .ok (.getfield 33, 3) := by decide +kernel
theorem dX1_change_108 : decode cX1_change 108 = .ok (.iload 6, 2) := by decide +kernel
theorem dX1_change_110 : decode cX1_change 110 = .ok (.iconst 1, 1) := by decide +kernel
theorem dX1_change_111 : decode cX1_change 111 = .ok (.bastore, 1) := by decide +kernel
theorem dX1_change_112 : decode cX1_change 112 = .ok (.iconst 0, 1) := by decide +kernel
theorem dX1_change_113 : decode cX1_change 113 = .ok (.ireturn, 1) := by decide +kernel
theorem dX1_add_0 : decode cX1_add 0 = .ok (.aload_n 0, 1) := by decide +kernel
theorem dX1_add_1 : decode cX1_add 1 = .ok (.iload_n 1, 1) := by decide +kernel
theorem dX1_add_2 : decode cX1_add 2 = .ok (.iload_n 2, 1) := by decide +kernel
theorem dX1_add_3 : decode cX1_add 3 = .ok (.iconst 1, 1) := by decide +kernel
theorem dX1_add_4 : decode cX1_add 4 = .ok (.invokevirtual 70, 3) := by decide +kernel
theorem dX1_add_7 : decode cX1_add 7 = .ok (.ireturn, 1) := by decide +kernel
theorem dX1_deviceRead_0 : decode cX1_deviceRead 0 = .ok (.iload_n 1, 1) := by decide +kernel
theorem dX1_deviceRead_1 : decode cX1_deviceRead 1 = .ok (.ifCond .lt 9, 3) := by decide +kernel
theorem dX1_deviceRead_4 : decode cX1_deviceRead 4 = .ok (.iload_n 1, 1) := by decide +kernel
theorem dX1_deviceRead_5 : decode cX1_deviceRead 5 = .ok (.bipush 63, 2) := by decide +kernel
theorem dX1_deviceRead_7 : decode cX1_deviceRead 7 = .ok (.if_icmp .le 5, 3) := by decide +kernel
theorem dX1_deviceRead_10 : decode cX1_deviceRead 10 = .ok (.iconst 0, 1) := by decide +kernel
theorem dX1_deviceRead_11 : decode cX1_deviceRead 11 = .ok (.ireturn, 1) := by decide +kernel
theorem dX1_deviceRead_12 : decode cX1_deviceRead 12 = .ok (.aload_n 0, 1) := by decide +kernel
theorem dX1_deviceRead_13 : decode cX1_deviceRead 13 = .ok (.iload_n 1, 1) := by decide +kernel
theorem dX1_deviceRead_14 : decode cX1_deviceRead 14 = .ok (.iconst 2, 1) := by decide +kernel
theorem dX1_deviceRead_15 : decode cX1_deviceRead 15 = .ok (.ishr, 1) := by decide +kernel
theorem dX1_deviceRead_16 : decode cX1_deviceRead 16 = .ok (.invokevirtual 74, 3) := by decide +kernel
theorem dX1_deviceRead_19 : decode cX1_deviceRead 19 = .ok (.istore_n 2, 1) := by decide +kernel
theorem dX1_deviceRead_20 : decode cX1_deviceRead 20 = .ok (.iload_n 2, 1) := by decide +kernel
theorem dX1_deviceRead_21 : decode cX1_deviceRead 21 = .ok (.ifCond .lt 18, 3) := by decide +kernel
theorem dX1_deviceRead_24 : decode cX1_deviceRead 24 = .ok (.aload_n 0, 1) := by decide +kernel
theorem dX1_deviceRead_25 : decode cX1_deviceRead 25 = .ok (.getfield 36, 3) := by decide +kernel
theorem dX1_deviceRead_28 : decode cX1_deviceRead 28 = .ok (.iconst 4, 1) := by decide +kernel
theorem dX1_deviceRead_29 : decode cX1_deviceRead 29 = .ok (.iload_n 2, 1) := by decide +kernel
theorem dX1_deviceRead_30 : decode cX1_deviceRead 30 = .ok (.imul, 1) := by decide +kernel
theorem dX1_deviceRead_31 : decode cX1_deviceRead 31 = .ok (.iload_n 1, 1) := by decide +kernel
theorem dX1_deviceRead_32 : decode cX1_deviceRead 32 = .ok (.iconst 3, 1) := by decide +kernel
theorem dX1_deviceRead_33 : decode cX1_deviceRead 33 = .ok (.iand, 1) := by decide +kernel
theorem dX1_deviceRead_34 : decode cX1_deviceRead 34 = .ok (.iadd, 1) := by decide +kernel
theorem dX1_deviceRead_35 : decode cX1_deviceRead 35 = .ok (.iaload, 1) := by decide +kernel
theorem dX1_deviceRead_36 : decode cX1_deviceRead 36 = .ok (.goto 9, 3) := by decide +kernel
theorem dX1_deviceRead_39 : decode cX1_deviceRead 39 = .ok (.aload_n 0, 1) := by decide +kernel
theorem dX1_deviceRead_40 : decode cX1_deviceRead 40 = .ok (.getfield 7, 3) := by decide +kernel
theorem dX1_deviceRead_43 : decode cX1_deviceRead 43 = .ok (.iload_n 1, 1) := by decide +kernel
theorem dX1_deviceRead_44 : decode cX1_deviceRead 44 = .ok (.iaload, 1) := by decide +kernel
theorem dX1_deviceRead_45 : decode cX1_deviceRead 45 = .ok (.ireturn, 1) := by decide +kernel
theorem dX1_deviceWrite_0 : decode cX1_deviceWrite 0 = .ok (.iload_n 1, 1) := by decide +kernel
theorem dX1_deviceWrite_1 : decode cX1_deviceWrite 1 = .ok (.ifCond .lt 9, 3) := by decide +kernel
theorem dX1_deviceWrite_4 : decode cX1_deviceWrite 4 = .ok (.iload_n 1, 1) := by decide +kernel
theorem dX1_deviceWrite_5 : decode cX1_deviceWrite 5 = .ok (.bipush 63, 2) := by decide +kernel
theorem dX1_deviceWrite_7 : decode cX1_deviceWrite 7 = .ok (.if_icmp .le 5, 3) := by decide +kernel
theorem dX1_deviceWrite_10 : decode cX1_deviceWrite 10 = .ok (.iconst (-1), 1) := by decide +kernel
theorem dX1_deviceWrite_11 : decode cX1_deviceWrite 11 = .ok (.ireturn, 1) := by decide +kernel
theorem dX1_deviceWrite_12 : decode cX1_deviceWrite 12 = .ok (.aload_n 0, 1) := by decide +kernel
theorem dX1_deviceWrite_13 : decode cX1_deviceWrite 13 = .ok (.iload_n 1, 1) := by decide +kernel
theorem dX1_deviceWrite_14 : decode cX1_deviceWrite 14 = .ok (.iconst 2, 1) := by decide +kernel
theorem dX1_deviceWrite_15 : decode cX1_deviceWrite 15 = .ok (.ishr, 1) := by decide +kernel
theorem dX1_deviceWrite_16 : decode cX1_deviceWrite 16 = .ok (.invokevirtual 74, 3) := by decide +kernel
theorem dX1_deviceWrite_19 : decode cX1_deviceWrite 19 = .ok (.istore_n 3, 1) := by decide +kernel
theorem dX1_deviceWrite_20 : decode cX1_deviceWrite 20 = .ok (.iload_n 3, 1) := by decide +kernel
theorem dX1_deviceWrite_21 : decode cX1_deviceWrite 21 = .ok (.ifCond .lt 8, 3) := by decide +kernel
theorem dX1_deviceWrite_24 : decode cX1_deviceWrite 24 = .ok (.aload_n 0, 1) := by decide +kernel
theorem dX1_deviceWrite_25 : decode cX1_deviceWrite 25 = .ok (.iload_n 3, 1) := by decide +kernel
theorem dX1_deviceWrite_26 : decode cX1_deviceWrite 26 = .ok (.invokevirtual 77, 3) := by decide +kernel
theorem dX1_deviceWrite_29 : decode cX1_deviceWrite 29 = .ok (.aload_n 0, 1) := by decide +kernel
theorem dX1_deviceWrite_30 : decode cX1_deviceWrite 30 = .ok (.getfield 7, 3) := by decide +kernel
theorem dX1_deviceWrite_33 : decode cX1_deviceWrite 33 = .ok (.iload_n 1, 1) := by decide +kernel
theorem dX1_deviceWrite_34 : decode cX1_deviceWrite 34 = .ok (.iload_n 2, 1) := by decide +kernel
theorem dX1_deviceWrite_35 : decode cX1_deviceWrite 35 = .ok (.iastore, 1) := by decide +kernel
theorem dX1_deviceWrite_36 : decode cX1_deviceWrite 36 = .ok (.iconst 0, 1) := by decide +kernel
theorem dX1_deviceWrite_37 : decode cX1_deviceWrite 37 = .ok (.ireturn, 1) := by decide +kernel
theorem dX1_deviceCopy_0 : decode cX1_deviceCopy 0 = .ok (.iload_n 1, 1) := by decide +kernel
theorem dX1_deviceCopy_1 : decode cX1_deviceCopy 1 = .ok (.ifCond .lt 11, 3) := by decide +kernel
theorem dX1_deviceCopy_4 : decode cX1_deviceCopy 4 = .ok (.iload_n 2, 1) := by decide +kernel
theorem dX1_deviceCopy_5 : decode cX1_deviceCopy 5 = .ok (.ifCond .lt 7, 3) := by decide +kernel
theorem dX1_deviceCopy_8 : decode cX1_deviceCopy 8 = .ok (.iload_n 3, 1) := by decide +kernel
theorem dX1_deviceCopy_9 : decode cX1_deviceCopy 9 = .ok (.ifCond .ge 5, 3) := by decide +kernel
theorem dX1_deviceCopy_12 : decode cX1_deviceCopy 12 = .ok (.iconst (-1), 1) := by decide +kernel
theorem dX1_deviceCopy_13 : decode cX1_deviceCopy 13 = .ok (.ireturn, 1) := by decide +kernel
theorem dX1_deviceCopy_14 : decode cX1_deviceCopy 14 = .ok (.iload_n 1, 1) := by decide +kernel
theorem dX1_deviceCopy_15 : decode cX1_deviceCopy 15 = .ok (.bipush 64, 2) := by decide +kernel
theorem dX1_deviceCopy_17 : decode cX1_deviceCopy 17 = .ok (.if_icmp .gt 25, 3) := by decide +kernel
theorem dX1_deviceCopy_20 : decode cX1_deviceCopy 20 = .ok (.iload_n 2, 1) := by decide +kernel
theorem dX1_deviceCopy_21 : decode cX1_deviceCopy 21 = .ok (.bipush 64, 2) := by decide +kernel
theorem dX1_deviceCopy_23 : decode cX1_deviceCopy 23 = .ok (.if_icmp .gt 19, 3) := by decide +kernel
theorem dX1_deviceCopy_26 : decode cX1_deviceCopy 26 = .ok (.iload_n 3, 1) := by decide +kernel
theorem dX1_deviceCopy_27 : decode cX1_deviceCopy 27 = .ok (.bipush 64, 2) := by decide +kernel
theorem dX1_deviceCopy_29 : decode cX1_deviceCopy 29 = .ok (.iload_n 1, 1) := by decide +kernel
theorem dX1_deviceCopy_30 : decode cX1_deviceCopy 30 = .ok (.isub, 1) := by decide +kernel
theorem dX1_deviceCopy_31 : decode cX1_deviceCopy 31 = .ok (.if_icmp .gt 11, 3) := by decide +kernel
theorem dX1_deviceCopy_34 : decode cX1_deviceCopy 34 = .ok (.iload_n 3, 1) := by decide +kernel
theorem dX1_deviceCopy_35 : decode cX1_deviceCopy 35 = .ok (.bipush 64, 2) := by decide +kernel
theorem dX1_deviceCopy_37 : decode cX1_deviceCopy 37 = .ok (.iload_n 2, 1) := by decide +kernel
theorem dX1_deviceCopy_38 : decode cX1_deviceCopy 38 = .ok (.isub, 1) := by decide +kernel
theorem dX1_deviceCopy_39 : decode cX1_deviceCopy 39 = .ok (.if_icmp .le 5, 3) := by decide +kernel
theorem dX1_deviceCopy_42 : decode cX1_deviceCopy 42 = .ok (.iconst (-1), 1) := by decide +kernel
theorem dX1_deviceCopy_43 : decode cX1_deviceCopy 43 = .ok (.ireturn, 1) := by decide +kernel
theorem dX1_deviceCopy_44 : decode cX1_deviceCopy 44 = .ok (.iconst 0, 1) := by decide +kernel
theorem dX1_deviceCopy_45 : decode cX1_deviceCopy 45 = .ok (.istore 4, 2) := by decide +kernel
theorem dX1_deviceCopy_47 : decode cX1_deviceCopy 47 = .ok (.iload 4, 2) := by decide +kernel
theorem dX1_deviceCopy_49 : decode cX1_deviceCopy 49 = .ok (.iload_n 3, 1) := by decide +kernel
theorem dX1_deviceCopy_50 : decode cX1_deviceCopy 50 = .ok (.if_icmp .ge 30, 3) := by decide +kernel
theorem dX1_deviceCopy_53 : decode cX1_deviceCopy 53 = .ok (.aload_n 0, 1) := by decide +kernel
theorem dX1_deviceCopy_54 : decode cX1_deviceCopy 54 = .ok (.iload_n 1, 1) := by decide +kernel
theorem dX1_deviceCopy_55 : decode cX1_deviceCopy 55 = .ok (.iload 4, 2) := by decide +kernel
theorem dX1_deviceCopy_57 : decode cX1_deviceCopy 57 = .ok (.iadd, 1) := by decide +kernel
theorem dX1_deviceCopy_58 : decode cX1_deviceCopy 58 = .ok (.invokevirtual 80, 3) := by decide +kernel
theorem dX1_deviceCopy_61 : decode cX1_deviceCopy 61 = .ok (.istore 5, 2) := by decide +kernel
theorem dX1_deviceCopy_63 : decode cX1_deviceCopy 63 = .ok (.aload_n 0, 1) := by decide +kernel
theorem dX1_deviceCopy_64 : decode cX1_deviceCopy 64 = .ok (.iload_n 2, 1) := by decide +kernel
theorem dX1_deviceCopy_65 : decode cX1_deviceCopy 65 = .ok (.iload 4, 2) := by decide +kernel
theorem dX1_deviceCopy_67 : decode cX1_deviceCopy 67 = .ok (.iadd, 1) := by decide +kernel
theorem dX1_deviceCopy_68 : decode cX1_deviceCopy 68 = .ok (.iload 5, 2) := by decide +kernel
theorem dX1_deviceCopy_70 : decode cX1_deviceCopy 70 = .ok (.invokevirtual 83, 3) := by decide +kernel
theorem dX1_deviceCopy_73 : decode cX1_deviceCopy 73 = .ok (.pop, 1) := by decide +kernel
theorem dX1_deviceCopy_74 : decode cX1_deviceCopy 74 = .ok (.iinc 4 1, 3) := by decide +kernel
theorem dX1_deviceCopy_77 : decode cX1_deviceCopy 77 = .ok (.goto (-30), 3) := by decide +kernel
theorem dX1_deviceCopy_80 : decode cX1_deviceCopy 80 = .ok (.iload_n 3, 1) := by decide +kernel
theorem dX1_deviceCopy_81 : decode cX1_deviceCopy 81 = .ok (.ireturn, 1) := by decide +kernel
theorem dX1_translate_0 : decode cX1_translate 0 = .ok (.iload_n 1, 1) := by decide +kernel
theorem dX1_translate_1 : decode cX1_translate 1 = .ok (.ifCond .lt 9, 3) := by decide +kernel
theorem dX1_translate_4 : decode cX1_translate 4 = .ok (.iload_n 1, 1) := by decide +kernel
theorem dX1_translate_5 : decode cX1_translate 5 = .ok (.bipush 63, 2) := by decide +kernel
theorem dX1_translate_7 : decode cX1_translate 7 = .ok (.if_icmp .le 5, 3) := by decide +kernel
theorem dX1_translate_10 : decode cX1_translate 10 = .ok (.iconst (-1), 1) := by decide +kernel
theorem dX1_translate_11 : decode cX1_translate 11 = .ok (.ireturn, 1) := by decide +kernel
theorem dX1_translate_12 : decode cX1_translate 12 = .ok (.aload_n 0, 1) := by decide +kernel
theorem dX1_translate_13 : decode cX1_translate 13 = .ok (.iload_n 1, 1) := by decide +kernel
theorem dX1_translate_14 : decode cX1_translate 14 = .ok (.iconst 3, 1) := by decide +kernel
theorem dX1_translate_15 : decode cX1_translate 15 = .ok (.ishr, 1) := by decide +kernel
theorem dX1_translate_16 : decode cX1_translate 16 = .ok (.invokevirtual 60, 3) := by decide +kernel
theorem dX1_translate_19 : decode cX1_translate 19 = .ok (.istore_n 2, 1) := by decide +kernel
theorem dX1_translate_20 : decode cX1_translate 20 = .ok (.iload_n 2, 1) := by decide +kernel
theorem dX1_translate_21 : decode cX1_translate 21 = .ok (.ifCond .ge 8, 3) := by decide +kernel
theorem dX1_translate_24 : decode cX1_translate 24 = .ok (.bipush (-2), 2) := by decide +kernel
theorem dX1_translate_26 : decode cX1_translate 26 = .ok (.goto 17, 3) := by decide +kernel
theorem dX1_translate_29 : decode cX1_translate 29 = .ok (.bipush 8, 2) := by decide +kernel
theorem dX1_translate_31 : decode cX1_translate 31 = .ok (.aload_n 0, 1) := by decide +kernel
theorem dX1_translate_32 : decode cX1_translate 32 = .ok (.getfield 24, 3) := by decide +kernel
theorem dX1_translate_35 : decode cX1_translate 35 = .ok (.iload_n 2, 1) := by decide +kernel
theorem dX1_translate_36 : decode cX1_translate 36 = .ok (.baload, 1) := by decide +kernel
theorem dX1_translate_37 : decode cX1_translate 37 = .ok (.imul, 1) := by decide +kernel
theorem dX1_translate_38 : decode cX1_translate 38 = .ok (.iload_n 1, 1) := by decide +kernel
theorem dX1_translate_39 : decode cX1_translate 39 = .ok (.bipush 7, 2) := by decide +kernel
theorem dX1_translate_41 : decode cX1_translate 41 = .ok (.iand, 1) := by decide +kernel
theorem dX1_translate_42 : decode cX1_translate 42 = .ok (.iadd, 1) := by decide +kernel
theorem dX1_translate_43 : decode cX1_translate 43 = .ok (.ireturn, 1) := by decide +kernel
end
section
/-! CachedMemoryModel -/
set_option maxRecDepth 100000
def RX2 : String := "CachedMemoryModel"
def TX2 : u_T := fun k => match k with
  | 0 => ("CachedMemoryModel", "words", "[I", false)
  | 1 => ("CachedMemoryModel", "frames", "[I", false)
  | 2 => ("CachedMemoryModel", "open", "[Z", false)
  | 3 => ("CachedMemoryModel", "current", "I", false)
  | _ => ("CachedMemoryModel", "lastValue", "I", false)
def tyX2 : Nat → FieldType := fun k => match k with
  | 0 => .array .int
  | 1 => .array .int
  | 2 => .array .boolean
  | 3 => .int
  | _ => .int
abbrev wsX20 : List Cond := u_ws RX2 TX2 5
theorem nmX2 : ∀ a, a < 5 → ∀ b, b < 5 → a ≠ b → (TX2 a).2.1 ≠ (TX2 b).2.1 := by decide +kernel
theorem tyX2_ok : ∀ k, k < 5 → parseFieldDescriptor (TX2 k).2.2.1 = some (tyX2 k) := by decide +kernel
abbrev cX2_init : ByteArray := prog_3_method_1_code
def yX2_init : MethodName := ⟨RX2, "<init>", "(II)V"⟩
theorem dX2_init_0 : decode cX2_init 0 = .ok (.aload_n 0, 1) := by decide +kernel
theorem dX2_init_1 : decode cX2_init 1 = .ok (.invokespecial 1, 3) := by decide +kernel
theorem dX2_init_4 : decode cX2_init 4 = .ok (.aload_n 0, 1) := by decide +kernel
theorem dX2_init_5 : decode cX2_init 5 = .ok (.bipush 64, 2) := by decide +kernel
theorem dX2_init_7 : decode cX2_init 7 = .ok (.newarray .int, 2) := by decide +kernel
theorem dX2_init_9 : decode cX2_init 9 = .ok (.putfield 7, 3) := by decide +kernel
theorem dX2_init_12 : decode cX2_init 12 = .ok (.aload_n 0, 1) := by decide +kernel
theorem dX2_init_13 : decode cX2_init 13 = .ok (.bipush 32, 2) := by decide +kernel
theorem dX2_init_15 : decode cX2_init 15 = .ok (.newarray .int, 2) := by decide +kernel
theorem dX2_init_17 : decode cX2_init 17 = .ok (.putfield 13, 3) := by decide +kernel
theorem dX2_init_20 : decode cX2_init 20 = .ok (.aload_n 0, 1) := by decide +kernel
theorem dX2_init_21 : decode cX2_init 21 = .ok (.bipush 32, 2) := by decide +kernel
theorem dX2_init_23 : decode cX2_init 23 = .ok (.newarray .boolean, 2) := by decide +kernel
theorem dX2_init_25 : decode cX2_init 25 = .ok (.putfield 16, 3) := by decide +kernel
theorem dX2_init_28 : decode cX2_init 28 = .ok (.aload_n 0, 1) := by decide +kernel
theorem dX2_init_29 : decode cX2_init 29 = .ok (.iconst 0, 1) := by decide +kernel
theorem dX2_init_30 : decode cX2_init 30 = .ok (.putfield 20, 3) := by decide +kernel
theorem dX2_init_33 : decode cX2_init 33 = .ok (.aload_n 0, 1) := by decide +kernel
theorem dX2_init_34 : decode cX2_init 34 = .ok (.iconst 0, 1) := by decide +kernel
theorem dX2_init_35 : decode cX2_init 35 = .ok (.putfield 24, 3) := by decide +kernel
theorem dX2_init_38 : decode cX2_init 38 = .ok (.iconst 0, 1) := by decide +kernel
theorem dX2_init_39 : decode cX2_init 39 = .ok (.istore_n 3, 1) := by decide +kernel
theorem dX2_init_40 : decode cX2_init 40 = .ok (.iload_n 3, 1) := by decide +kernel
theorem dX2_init_41 : decode cX2_init 41 = .ok (.bipush 32, 2) := by decide +kernel
theorem dX2_init_43 : decode cX2_init 43 = .ok (.if_icmp .ge 16, 3) := by decide +kernel
theorem dX2_init_46 : decode cX2_init 46 = .ok (.aload_n 0, 1) := by decide +kernel
theorem dX2_init_47 : decode cX2_init 47 = .ok (.getfield 13, 3) := by decide +kernel
theorem dX2_init_50 : decode cX2_init 50 = .ok (.iload_n 3, 1) := by decide +kernel
theorem dX2_init_51 : decode cX2_init 51 = .ok (.iconst (-1), 1) := by decide +kernel
theorem dX2_init_52 : decode cX2_init 52 = .ok (.iastore, 1) := by decide +kernel
theorem dX2_init_53 : decode cX2_init 53 = .ok (.iinc 3 1, 3) := by decide +kernel
theorem dX2_init_56 : decode cX2_init 56 = .ok (.goto (-16), 3) := by decide +kernel
theorem dX2_init_59 : decode cX2_init 59 = .ok (.return_, 1) := by decide +kernel
abbrev cX2_enter : ByteArray := prog_3_method_5_code
def yX2_enter : MethodName := ⟨RX2, "enter", "(I)I"⟩
theorem dX2_enter_0 : decode cX2_enter 0 = .ok (.aload_n 0, 1) := by decide +kernel
theorem dX2_enter_1 : decode cX2_enter 1 = .ok (.iload_n 1, 1) := by decide +kernel
theorem dX2_enter_2 : decode cX2_enter 2 = .ok (.invokevirtual 27, 3) := by decide +kernel
theorem dX2_enter_5 : decode cX2_enter 5 = .ok (.ifCond .ne 5, 3) := by decide +kernel
theorem dX2_enter_8 : decode cX2_enter 8 = .ok (.iconst (-1), 1) := by decide +kernel
theorem dX2_enter_9 : decode cX2_enter 9 = .ok (.ireturn, 1) := by decide +kernel
theorem dX2_enter_10 : decode cX2_enter 10 = .ok (.aload_n 0, 1) := by decide +kernel
theorem dX2_enter_11 : decode cX2_enter 11 = .ok (.iload_n 1, 1) := by decide +kernel
theorem dX2_enter_12 : decode cX2_enter 12 = .ok (.putfield 20, 3) := by decide +kernel
theorem dX2_enter_15 : decode cX2_enter 15 = .ok (.iconst 0, 1) := by decide +kernel
theorem dX2_enter_16 : decode cX2_enter 16 = .ok (.ireturn, 1) := by decide +kernel
abbrev cX2_isSpace : ByteArray := prog_3_method_3_code
def yX2_isSpace : MethodName := ⟨RX2, "isSpace", "(I)Z"⟩
theorem dX2_isSpace_0 : decode cX2_isSpace 0 = .ok (.iload_n 1, 1) := by decide +kernel
theorem dX2_isSpace_1 : decode cX2_isSpace 1 = .ok (.ifCond .lt 12, 3) := by decide +kernel
theorem dX2_isSpace_4 : decode cX2_isSpace 4 = .ok (.iload_n 1, 1) := by decide +kernel
theorem dX2_isSpace_5 : decode cX2_isSpace 5 = .ok (.iconst 3, 1) := by decide +kernel
theorem dX2_isSpace_6 : decode cX2_isSpace 6 = .ok (.if_icmp .gt 7, 3) := by decide +kernel
theorem dX2_isSpace_9 : decode cX2_isSpace 9 = .ok (.iconst 1, 1) := by decide +kernel
theorem dX2_isSpace_10 : decode cX2_isSpace 10 = .ok (.goto 4, 3) := by decide +kernel
theorem dX2_isSpace_13 : decode cX2_isSpace 13 = .ok (.iconst 0, 1) := by decide +kernel
theorem dX2_isSpace_14 : decode cX2_isSpace 14 = .ok (.ireturn, 1) := by decide +kernel
abbrev cX2_map : ByteArray := prog_3_method_6_code
def yX2_map : MethodName := ⟨RX2, "map", "(IIIZ)I"⟩
theorem dX2_map_0 : decode cX2_map 0 = .ok (.aload_n 0, 1) := by decide +kernel
theorem dX2_map_1 : decode cX2_map 1 = .ok (.iload_n 1, 1) := by decide +kernel
theorem dX2_map_2 : decode cX2_map 2 = .ok (.invokevirtual 27, 3) := by decide +kernel
theorem dX2_map_5 : decode cX2_map 5 = .ok (.ifCond .eq 19, 3) := by decide +kernel
theorem dX2_map_8 : decode cX2_map 8 = .ok (.aload_n 0, 1) := by decide +kernel
theorem dX2_map_9 : decode cX2_map 9 = .ok (.iload_n 2, 1) := by decide +kernel
theorem dX2_map_10 : decode cX2_map 10 = .ok (.invokevirtual 31, 3) := by decide +kernel
theorem dX2_map_13 : decode cX2_map 13 = .ok (.ifCond .eq 11, 3) := by decide +kernel
theorem dX2_map_16 : decode cX2_map 16 = .ok (.aload_n 0, 1) := by decide +kernel
theorem dX2_map_17 : decode cX2_map 17 = .ok (.iload_n 3, 1) := by decide +kernel
theorem dX2_map_18 : decode cX2_map 18 = .ok (.invokevirtual 31, 3) := by decide +kernel
theorem dX2_map_21 : decode cX2_map 21 = .ok (.ifCond .ne 5, 3) := by decide +kernel
theorem dX2_map_24 : decode cX2_map 24 = .ok (.iconst (-1), 1) := by decide +kernel
theorem dX2_map_25 : decode cX2_map 25 = .ok (.ireturn, 1) := by decide +kernel
theorem dX2_map_26 : decode cX2_map 26 = .ok (.aload_n 0, 1) := by decide +kernel
theorem dX2_map_27 : decode cX2_map 27 = .ok (.getfield 13, 3) := by decide +kernel
theorem dX2_map_30 : decode cX2_map 30 = .ok (.bipush 8, 2) := by decide +kernel
theorem dX2_map_32 : decode cX2_map 32 = .ok (.iload_n 1, 1) := by decide +kernel
theorem dX2_map_33 : decode cX2_map 33 = .ok (.imul, 1) := by decide +kernel
theorem dX2_map_34 : decode cX2_map 34 = .ok (.iload_n 2, 1) := by decide +kernel
theorem dX2_map_35 : decode cX2_map 35 = .ok (.iadd, 1) := by decide +kernel
theorem dX2_map_36 : decode cX2_map 36 = .ok (.iaload, 1) := by decide +kernel
theorem dX2_map_37 : decode cX2_map 37 = .ok (.ifCond .ge 7, 3) := by decide +kernel
theorem dX2_map_40 : decode cX2_map 40 = .ok (.iconst 0, 1) := by decide +kernel
theorem dX2_map_41 : decode cX2_map 41 = .ok (.goto 4, 3) := by decide +kernel
theorem dX2_map_44 : decode cX2_map 44 = .ok (.iconst 1, 1) := by decide +kernel
theorem dX2_map_45 : decode cX2_map 45 = .ok (.istore 5, 2) := by decide +kernel
theorem dX2_map_47 : decode cX2_map 47 = .ok (.aload_n 0, 1) := by decide +kernel
theorem dX2_map_48 : decode cX2_map 48 = .ok (.getfield 13, 3) := by decide +kernel
theorem dX2_map_51 : decode cX2_map 51 = .ok (.bipush 8, 2) := by decide +kernel
theorem dX2_map_53 : decode cX2_map 53 = .ok (.iload_n 1, 1) := by decide +kernel
theorem dX2_map_54 : decode cX2_map 54 = .ok (.imul, 1) := by decide +kernel
theorem dX2_map_55 : decode cX2_map 55 = .ok (.iload_n 2, 1) := by decide +kernel
theorem dX2_map_56 : decode cX2_map 56 = .ok (.iadd, 1) := by decide +kernel
theorem dX2_map_57 : decode cX2_map 57 = .ok (.iload_n 3, 1) := by decide +kernel
theorem dX2_map_58 : decode cX2_map 58 = .ok (.iastore, 1) := by decide +kernel
theorem dX2_map_59 : decode cX2_map 59 = .ok (.aload_n 0, 1) := by decide +kernel
theorem dX2_map_60 : decode cX2_map 60 = .ok (.getfield 16, 3) := by decide +kernel
theorem dX2_map_63 : decode cX2_map 63 = .ok (.bipush 8, 2) := by decide +kernel
theorem dX2_map_65 : decode cX2_map 65 = .ok (.iload_n 1, 1) := by decide +kernel
theorem dX2_map_66 : decode cX2_map 66 = .ok (.imul, 1) := by decide +kernel
theorem dX2_map_67 : decode cX2_map 67 = .ok (.iload_n 2, 1) := by decide +kernel
theorem dX2_map_68 : decode cX2_map 68 = .ok (.iadd, 1) := by decide +kernel
theorem dX2_map_69 : decode cX2_map 69 = .ok (.iload 4, 2) := by decide +kernel
theorem dX2_map_71 : decode cX2_map 71 = .ok (.bastore, 1) := by decide +kernel
theorem dX2_map_72 : decode cX2_map 72 = .ok (.iload 5, 2) := by decide +kernel
theorem dX2_map_74 : decode cX2_map 74 = .ok (.ireturn, 1) := by decide +kernel
abbrev cX2_isPage : ByteArray := prog_3_method_2_code
def yX2_isPage : MethodName := ⟨RX2, "isPage", "(I)Z"⟩
theorem dX2_isPage_0 : decode cX2_isPage 0 = .ok (.iload_n 1, 1) := by decide +kernel
theorem dX2_isPage_1 : decode cX2_isPage 1 = .ok (.ifCond .lt 13, 3) := by decide +kernel
theorem dX2_isPage_4 : decode cX2_isPage 4 = .ok (.iload_n 1, 1) := by decide +kernel
theorem dX2_isPage_5 : decode cX2_isPage 5 = .ok (.bipush 7, 2) := by decide +kernel
theorem dX2_isPage_7 : decode cX2_isPage 7 = .ok (.if_icmp .gt 7, 3) := by decide +kernel
theorem dX2_isPage_10 : decode cX2_isPage 10 = .ok (.iconst 1, 1) := by decide +kernel
theorem dX2_isPage_11 : decode cX2_isPage 11 = .ok (.goto 4, 3) := by decide +kernel
theorem dX2_isPage_14 : decode cX2_isPage 14 = .ok (.iconst 0, 1) := by decide +kernel
theorem dX2_isPage_15 : decode cX2_isPage 15 = .ok (.ireturn, 1) := by decide +kernel
abbrev cX2_unmap : ByteArray := prog_3_method_7_code
def yX2_unmap : MethodName := ⟨RX2, "unmap", "(II)I"⟩
theorem dX2_unmap_0 : decode cX2_unmap 0 = .ok (.aload_n 0, 1) := by decide +kernel
theorem dX2_unmap_1 : decode cX2_unmap 1 = .ok (.iload_n 1, 1) := by decide +kernel
theorem dX2_unmap_2 : decode cX2_unmap 2 = .ok (.invokevirtual 27, 3) := by decide +kernel
theorem dX2_unmap_5 : decode cX2_unmap 5 = .ok (.ifCond .eq 11, 3) := by decide +kernel
theorem dX2_unmap_8 : decode cX2_unmap 8 = .ok (.aload_n 0, 1) := by decide +kernel
theorem dX2_unmap_9 : decode cX2_unmap 9 = .ok (.iload_n 2, 1) := by decide +kernel
theorem dX2_unmap_10 : decode cX2_unmap 10 = .ok (.invokevirtual 31, 3) := by decide +kernel
theorem dX2_unmap_13 : decode cX2_unmap 13 = .ok (.ifCond .ne 5, 3) := by decide +kernel
theorem dX2_unmap_16 : decode cX2_unmap 16 = .ok (.iconst (-1), 1) := by decide +kernel
theorem dX2_unmap_17 : decode cX2_unmap 17 = .ok (.ireturn, 1) := by decide +kernel
theorem dX2_unmap_18 : decode cX2_unmap 18 = .ok (.aload_n 0, 1) := by decide +kernel
theorem dX2_unmap_19 : decode cX2_unmap 19 = .ok (.getfield 13, 3) := by decide +kernel
theorem dX2_unmap_22 : decode cX2_unmap 22 = .ok (.bipush 8, 2) := by decide +kernel
theorem dX2_unmap_24 : decode cX2_unmap 24 = .ok (.iload_n 1, 1) := by decide +kernel
theorem dX2_unmap_25 : decode cX2_unmap 25 = .ok (.imul, 1) := by decide +kernel
theorem dX2_unmap_26 : decode cX2_unmap 26 = .ok (.iload_n 2, 1) := by decide +kernel
theorem dX2_unmap_27 : decode cX2_unmap 27 = .ok (.iadd, 1) := by decide +kernel
theorem dX2_unmap_28 : decode cX2_unmap 28 = .ok (.iaload, 1) := by decide +kernel
theorem dX2_unmap_29 : decode cX2_unmap 29 = .ok (.ifCond .ge 6, 3) := by decide +kernel
theorem dX2_unmap_32 : decode cX2_unmap 32 = .ok (.bipush (-2), 2) := by decide +kernel
theorem dX2_unmap_34 : decode cX2_unmap 34 = .ok (.ireturn, 1) := by decide +kernel
theorem dX2_unmap_35 : decode cX2_unmap 35 = .ok (.aload_n 0, 1) := by decide +kernel
theorem dX2_unmap_36 : decode cX2_unmap 36 = .ok (.getfield 13, 3) := by decide +kernel
theorem dX2_unmap_39 : decode cX2_unmap 39 = .ok (.bipush 8, 2) := by decide +kernel
theorem dX2_unmap_41 : decode cX2_unmap 41 = .ok (.iload_n 1, 1) := by decide +kernel
theorem dX2_unmap_42 : decode cX2_unmap 42 = .ok (.imul, 1) := by decide +kernel
theorem dX2_unmap_43 : decode cX2_unmap 43 = .ok (.iload_n 2, 1) := by decide +kernel
theorem dX2_unmap_44 : decode cX2_unmap 44 = .ok (.iadd, 1) := by decide +kernel
theorem dX2_unmap_45 : decode cX2_unmap 45 = .ok (.iconst (-1), 1) := by decide +kernel
theorem dX2_unmap_46 : decode cX2_unmap 46 = .ok (.iastore, 1) := by decide +kernel
theorem dX2_unmap_47 : decode cX2_unmap 47 = .ok (.iconst 0, 1) := by decide +kernel
theorem dX2_unmap_48 : decode cX2_unmap 48 = .ok (.ireturn, 1) := by decide +kernel
abbrev cX2_protect : ByteArray := prog_3_method_8_code
def yX2_protect : MethodName := ⟨RX2, "protect", "(I)I"⟩
theorem dX2_protect_0 : decode cX2_protect 0 = .ok (.aload_n 0, 1) := by decide +kernel
theorem dX2_protect_1 : decode cX2_protect 1 = .ok (.iload_n 1, 1) := by decide +kernel
theorem dX2_protect_2 : decode cX2_protect 2 = .ok (.invokevirtual 31, 3) := by decide +kernel
theorem dX2_protect_5 : decode cX2_protect 5 = .ok (.ifCond .ne 5, 3) := by decide +kernel
theorem dX2_protect_8 : decode cX2_protect 8 = .ok (.iconst (-1), 1) := by decide +kernel
theorem dX2_protect_9 : decode cX2_protect 9 = .ok (.ireturn, 1) := by decide +kernel
theorem dX2_protect_10 : decode cX2_protect 10 = .ok (.iconst 0, 1) := by decide +kernel
theorem dX2_protect_11 : decode cX2_protect 11 = .ok (.istore_n 2, 1) := by decide +kernel
theorem dX2_protect_12 : decode cX2_protect 12 = .ok (.iconst 0, 1) := by decide +kernel
theorem dX2_protect_13 : decode cX2_protect 13 = .ok (.istore_n 3, 1) := by decide +kernel
theorem dX2_protect_14 : decode cX2_protect 14 = .ok (.iload_n 3, 1) := by decide +kernel
theorem dX2_protect_15 : decode cX2_protect 15 = .ok (.bipush 32, 2) := by decide +kernel
theorem dX2_protect_17 : decode cX2_protect 17 = .ok (.if_icmp .ge 38, 3) := by decide +kernel
theorem dX2_protect_20 : decode cX2_protect 20 = .ok (.aload_n 0, 1) := by decide +kernel
theorem dX2_protect_21 : decode cX2_protect 21 = .ok (.getfield 13, 3) := by decide +kernel
theorem dX2_protect_24 : decode cX2_protect 24 = .ok (.iload_n 3, 1) := by decide +kernel
theorem dX2_protect_25 : decode cX2_protect 25 = .ok (.iaload, 1) := by decide +kernel
theorem dX2_protect_26 : decode cX2_protect 26 = .ok (.iload_n 1, 1) := by decide +kernel
theorem dX2_protect_27 : decode cX2_protect 27 = .ok (.if_icmp .ne 22, 3) := by decide +kernel
theorem dX2_protect_30 : decode cX2_protect 30 = .ok (.aload_n 0, 1) := by decide +kernel
theorem dX2_protect_31 : decode cX2_protect 31 = .ok (.getfield 16, 3) := by decide +kernel
theorem dX2_protect_34 : decode cX2_protect 34 = .ok (.iload_n 3, 1) := by decide +kernel
theorem dX2_protect_35 : decode cX2_protect 35 = .ok (.baload, 1) := by decide +kernel
theorem dX2_protect_36 : decode cX2_protect 36 = .ok (.ifCond .eq 6, 3) := by decide +kernel
theorem dX2_protect_39 : decode cX2_protect 39 = .ok (.iinc 2 1, 3) := by decide +kernel
theorem dX2_protect_42 : decode cX2_protect 42 = .ok (.aload_n 0, 1) := by decide +kernel
theorem dX2_protect_43 : decode cX2_protect 43 = .ok (.getfield 16, 3) := by decide +kernel
theorem dX2_protect_46 : decode cX2_protect 46 = .ok (.iload_n 3, 1) := by decide +kernel
theorem dX2_protect_47 : decode cX2_protect 47 = .ok (.iconst 0, 1) := by decide +kernel
theorem dX2_protect_48 : decode cX2_protect 48 = .ok (.bastore, 1) := by decide +kernel
theorem dX2_protect_49 : decode cX2_protect 49 = .ok (.iinc 3 1, 3) := by decide +kernel
theorem dX2_protect_52 : decode cX2_protect 52 = .ok (.goto (-38), 3) := by decide +kernel
theorem dX2_protect_55 : decode cX2_protect 55 = .ok (.iload_n 2, 1) := by decide +kernel
theorem dX2_protect_56 : decode cX2_protect 56 = .ok (.ireturn, 1) := by decide +kernel
abbrev cX2_load : ByteArray := prog_3_method_9_code
def yX2_load : MethodName := ⟨RX2, "load", "(I)I"⟩
theorem dX2_load_0 : decode cX2_load 0 = .ok (.aload_n 0, 1) := by decide +kernel
theorem dX2_load_1 : decode cX2_load 1 = .ok (.iload_n 1, 1) := by decide +kernel
theorem dX2_load_2 : decode cX2_load 2 = .ok (.invokevirtual 34, 3) := by decide +kernel
theorem dX2_load_5 : decode cX2_load 5 = .ok (.istore_n 2, 1) := by decide +kernel
theorem dX2_load_6 : decode cX2_load 6 = .ok (.iload_n 2, 1) := by decide +kernel
theorem dX2_load_7 : decode cX2_load 7 = .ok (.ifCond .ge 5, 3) := by decide +kernel
theorem dX2_load_10 : decode cX2_load 10 = .ok (.iload_n 2, 1) := by decide +kernel
theorem dX2_load_11 : decode cX2_load 11 = .ok (.ireturn, 1) := by decide +kernel
theorem dX2_load_12 : decode cX2_load 12 = .ok (.aload_n 0, 1) := by decide +kernel
theorem dX2_load_13 : decode cX2_load 13 = .ok (.aload_n 0, 1) := by decide +kernel
theorem dX2_load_14 : decode cX2_load 14 = .ok (.getfield 7, 3) := by decide +kernel
theorem dX2_load_17 : decode cX2_load 17 = .ok (.iload_n 2, 1) := by decide +kernel
theorem dX2_load_18 : decode cX2_load 18 = .ok (.iaload, 1) := by decide +kernel
theorem dX2_load_19 : decode cX2_load 19 = .ok (.putfield 24, 3) := by decide +kernel
theorem dX2_load_22 : decode cX2_load 22 = .ok (.iconst 0, 1) := by decide +kernel
theorem dX2_load_23 : decode cX2_load 23 = .ok (.ireturn, 1) := by decide +kernel
abbrev cX2_translate : ByteArray := prog_3_method_16_code
def yX2_translate : MethodName := ⟨RX2, "translate", "(I)I"⟩
theorem dX2_translate_0 : decode cX2_translate 0 = .ok (.aload_n 0, 1) := by decide +kernel
theorem dX2_translate_1 : decode cX2_translate 1 = .ok (.iload_n 1, 1) := by decide +kernel
theorem dX2_translate_2 : decode cX2_translate 2 = .ok (.invokevirtual 42, 3) := by decide +kernel
theorem dX2_translate_5 : decode cX2_translate 5 = .ok (.ifCond .ne 5, 3) := by decide +kernel
theorem dX2_translate_8 : decode cX2_translate 8 = .ok (.iconst (-1), 1) := by decide +kernel
theorem dX2_translate_9 : decode cX2_translate 9 = .ok (.ireturn, 1) := by decide +kernel
theorem dX2_translate_10 : decode cX2_translate 10 = .ok (.aload_n 0, 1) := by decide +kernel
theorem dX2_translate_11 : decode cX2_translate 11 = .ok (.getfield 13, 3) := by decide +kernel
theorem dX2_translate_14 : decode cX2_translate 14 = .ok (.bipush 8, 2) := by decide +kernel
theorem dX2_translate_16 : decode cX2_translate 16 = .ok (.aload_n 0, 1) := by decide +kernel
theorem dX2_translate_17 : decode cX2_translate 17 = .ok (.getfield 20, 3) := by decide +kernel
theorem dX2_translate_20 : decode cX2_translate 20 = .ok (.imul, 1) := by decide +kernel
theorem dX2_translate_21 : decode cX2_translate 21 = .ok (.iload_n 1, 1) := by decide +kernel
theorem dX2_translate_22 : decode cX2_translate 22 = .ok (.iconst 3, 1) := by decide +kernel
theorem dX2_translate_23 : decode cX2_translate 23 = .ok (.ishr, 1) := by decide +kernel
theorem dX2_translate_24 : decode cX2_translate 24 = .ok (.iadd, 1) := by decide +kernel
theorem dX2_translate_25 : decode cX2_translate 25 = .ok (.iaload, 1) := by decide +kernel
theorem dX2_translate_26 : decode cX2_translate 26 = .ok (.istore_n 2, 1) := by decide +kernel
theorem dX2_translate_27 : decode cX2_translate 27 = .ok (.iload_n 2, 1) := by decide +kernel
theorem dX2_translate_28 : decode cX2_translate 28 = .ok (.ifCond .ge 8, 3) := by decide +kernel
theorem dX2_translate_31 : decode cX2_translate 31 = .ok (.bipush (-2), 2) := by decide +kernel
theorem dX2_translate_33 : decode cX2_translate 33 = .ok (.goto 12, 3) := by decide +kernel
theorem dX2_translate_36 : decode cX2_translate 36 = .ok (.bipush 8, 2) := by decide +kernel
theorem dX2_translate_38 : decode cX2_translate 38 = .ok (.iload_n 2, 1) := by decide +kernel
theorem dX2_translate_39 : decode cX2_translate 39 = .ok (.imul, 1) := by decide +kernel
theorem dX2_translate_40 : decode cX2_translate 40 = .ok (.iload_n 1, 1) := by decide +kernel
theorem dX2_translate_41 : decode cX2_translate 41 = .ok (.bipush 7, 2) := by decide +kernel
theorem dX2_translate_43 : decode cX2_translate 43 = .ok (.iand, 1) := by decide +kernel
theorem dX2_translate_44 : decode cX2_translate 44 = .ok (.iadd, 1) := by decide +kernel
theorem dX2_translate_45 : decode cX2_translate 45 = .ok (.ireturn, 1) := by decide +kernel
abbrev cX2_isWord : ByteArray := prog_3_method_4_code
def yX2_isWord : MethodName := ⟨RX2, "isWord", "(I)Z"⟩
theorem dX2_isWord_0 : decode cX2_isWord 0 = .ok (.iload_n 1, 1) := by decide +kernel
theorem dX2_isWord_1 : decode cX2_isWord 1 = .ok (.ifCond .lt 13, 3) := by decide +kernel
theorem dX2_isWord_4 : decode cX2_isWord 4 = .ok (.iload_n 1, 1) := by decide +kernel
theorem dX2_isWord_5 : decode cX2_isWord 5 = .ok (.bipush 63, 2) := by decide +kernel
theorem dX2_isWord_7 : decode cX2_isWord 7 = .ok (.if_icmp .gt 7, 3) := by decide +kernel
theorem dX2_isWord_10 : decode cX2_isWord 10 = .ok (.iconst 1, 1) := by decide +kernel
theorem dX2_isWord_11 : decode cX2_isWord 11 = .ok (.goto 4, 3) := by decide +kernel
theorem dX2_isWord_14 : decode cX2_isWord 14 = .ok (.iconst 0, 1) := by decide +kernel
theorem dX2_isWord_15 : decode cX2_isWord 15 = .ok (.ireturn, 1) := by decide +kernel
abbrev cX2_last : ByteArray := prog_3_method_10_code
def yX2_last : MethodName := ⟨RX2, "last", "()I"⟩
theorem dX2_last_0 : decode cX2_last 0 = .ok (.aload_n 0, 1) := by decide +kernel
theorem dX2_last_1 : decode cX2_last 1 = .ok (.getfield 24, 3) := by decide +kernel
theorem dX2_last_4 : decode cX2_last 4 = .ok (.ireturn, 1) := by decide +kernel
abbrev cX2_store : ByteArray := prog_3_method_11_code
def yX2_store : MethodName := ⟨RX2, "store", "(II)I"⟩
theorem dX2_store_0 : decode cX2_store 0 = .ok (.aload_n 0, 1) := by decide +kernel
theorem dX2_store_1 : decode cX2_store 1 = .ok (.iload_n 1, 1) := by decide +kernel
theorem dX2_store_2 : decode cX2_store 2 = .ok (.invokevirtual 34, 3) := by decide +kernel
theorem dX2_store_5 : decode cX2_store 5 = .ok (.istore_n 3, 1) := by decide +kernel
theorem dX2_store_6 : decode cX2_store 6 = .ok (.iload_n 3, 1) := by decide +kernel
theorem dX2_store_7 : decode cX2_store 7 = .ok (.ifCond .ge 5, 3) := by decide +kernel
theorem dX2_store_10 : decode cX2_store 10 = .ok (.iload_n 3, 1) := by decide +kernel
theorem dX2_store_11 : decode cX2_store 11 = .ok (.ireturn, 1) := by decide +kernel
theorem dX2_store_12 : decode cX2_store 12 = .ok (.aload_n 0, 1) := by decide +kernel
theorem dX2_store_13 : decode cX2_store 13 = .ok (.getfield 16, 3) := by decide +kernel
theorem dX2_store_16 : decode cX2_store 16 = .ok (.bipush 8, 2) := by decide +kernel
theorem dX2_store_18 : decode cX2_store 18 = .ok (.aload_n 0, 1) := by decide +kernel
theorem dX2_store_19 : decode cX2_store 19 = .ok (.getfield 20, 3) := by decide +kernel
theorem dX2_store_22 : decode cX2_store 22 = .ok (.imul, 1) := by decide +kernel
theorem dX2_store_23 : decode cX2_store 23 = .ok (.iload_n 1, 1) := by decide +kernel
theorem dX2_store_24 : decode cX2_store 24 = .ok (.iconst 3, 1) := by decide +kernel
theorem dX2_store_25 : decode cX2_store 25 = .ok (.ishr, 1) := by decide +kernel
theorem dX2_store_26 : decode cX2_store 26 = .ok (.iadd, 1) := by decide +kernel
theorem dX2_store_27 : decode cX2_store 27 = .ok (.baload, 1) := by decide +kernel
theorem dX2_store_28 : decode cX2_store 28 = .ok (.ifCond .ne 6, 3) := by decide +kernel
theorem dX2_store_31 : decode cX2_store 31 = .ok (.bipush (-3), 2) := by decide +kernel
theorem dX2_store_33 : decode cX2_store 33 = .ok (.ireturn, 1) := by decide +kernel
theorem dX2_store_34 : decode cX2_store 34 = .ok (.aload_n 0, 1) := by decide +kernel
theorem dX2_store_35 : decode cX2_store 35 = .ok (.getfield 7, 3) := by decide +kernel
theorem dX2_store_38 : decode cX2_store 38 = .ok (.iload_n 3, 1) := by decide +kernel
theorem dX2_store_39 : decode cX2_store 39 = .ok (.iload_n 2, 1) := by decide +kernel
theorem dX2_store_40 : decode cX2_store 40 = .ok (.iastore, 1) := by decide +kernel
theorem dX2_store_41 : decode cX2_store 41 = .ok (.iconst 0, 1) := by decide +kernel
theorem dX2_store_42 : decode cX2_store 42 = .ok (.ireturn, 1) := by decide +kernel
abbrev cX2_add : ByteArray := prog_3_method_12_code
def yX2_add : MethodName := ⟨RX2, "add", "(II)I"⟩
theorem dX2_add_0 : decode cX2_add 0 = .ok (.aload_n 0, 1) := by decide +kernel
theorem dX2_add_1 : decode cX2_add 1 = .ok (.iload_n 1, 1) := by decide +kernel
theorem dX2_add_2 : decode cX2_add 2 = .ok (.invokevirtual 34, 3) := by decide +kernel
theorem dX2_add_5 : decode cX2_add 5 = .ok (.istore_n 3, 1) := by decide +kernel
theorem dX2_add_6 : decode cX2_add 6 = .ok (.aload_n 0, 1) := by decide +kernel
theorem dX2_add_7 : decode cX2_add 7 = .ok (.iload_n 1, 1) := by decide +kernel
theorem dX2_add_8 : decode cX2_add 8 = .ok (.iload_n 3, 1) := by decide +kernel
theorem dX2_add_9 : decode cX2_add 9 = .ok (.ifCond .ge 7, 3) := by decide +kernel
theorem dX2_add_12 : decode cX2_add 12 = .ok (.iconst 0, 1) := by decide +kernel
theorem dX2_add_13 : decode cX2_add 13 = .ok (.goto 11, 3) := by decide +kernel
theorem dX2_add_16 : decode cX2_add 16 = .ok (.aload_n 0, 1) := by decide +kernel
theorem dX2_add_17 : decode cX2_add 17 = .ok (.getfield 7, 3) := by decide +kernel
theorem dX2_add_20 : decode cX2_add 20 = .ok (.iload_n 3, 1) := by decide +kernel
theorem dX2_add_21 : decode cX2_add 21 = .ok (.iaload, 1) := by decide +kernel
theorem dX2_add_22 : decode cX2_add 22 = .ok (.iload_n 2, 1) := by decide +kernel
theorem dX2_add_23 : decode cX2_add 23 = .ok (.iadd, 1) := by decide +kernel
theorem dX2_add_24 : decode cX2_add 24 = .ok (.invokevirtual 38, 3) := by decide +kernel
theorem dX2_add_27 : decode cX2_add 27 = .ok (.ireturn, 1) := by decide +kernel
abbrev cX2_deviceRead : ByteArray := prog_3_method_13_code
def yX2_deviceRead : MethodName := ⟨RX2, "deviceRead", "(I)I"⟩
theorem dX2_deviceRead_0 : decode cX2_deviceRead 0 = .ok (.aload_n 0, 1) := by decide +kernel
theorem dX2_deviceRead_1 : decode cX2_deviceRead 1 = .ok (.iload_n 1, 1) := by decide +kernel
theorem dX2_deviceRead_2 : decode cX2_deviceRead 2 = .ok (.invokevirtual 42, 3) := by decide +kernel
theorem dX2_deviceRead_5 : decode cX2_deviceRead 5 = .ok (.ifCond .eq 12, 3) := by decide +kernel
theorem dX2_deviceRead_8 : decode cX2_deviceRead 8 = .ok (.aload_n 0, 1) := by decide +kernel
theorem dX2_deviceRead_9 : decode cX2_deviceRead 9 = .ok (.getfield 7, 3) := by decide +kernel
theorem dX2_deviceRead_12 : decode cX2_deviceRead 12 = .ok (.iload_n 1, 1) := by decide +kernel
theorem dX2_deviceRead_13 : decode cX2_deviceRead 13 = .ok (.iaload, 1) := by decide +kernel
theorem dX2_deviceRead_14 : decode cX2_deviceRead 14 = .ok (.goto 4, 3) := by decide +kernel
theorem dX2_deviceRead_17 : decode cX2_deviceRead 17 = .ok (.iconst 0, 1) := by decide +kernel
theorem dX2_deviceRead_18 : decode cX2_deviceRead 18 = .ok (.ireturn, 1) := by decide +kernel
abbrev cX2_deviceWrite : ByteArray := prog_3_method_14_code
def yX2_deviceWrite : MethodName := ⟨RX2, "deviceWrite", "(II)I"⟩
theorem dX2_deviceWrite_0 : decode cX2_deviceWrite 0 = .ok (.aload_n 0, 1) := by decide +kernel
theorem dX2_deviceWrite_1 : decode cX2_deviceWrite 1 = .ok (.iload_n 1, 1) := by decide +kernel
theorem dX2_deviceWrite_2 : decode cX2_deviceWrite 2 = .ok (.invokevirtual 42, 3) := by decide +kernel
theorem dX2_deviceWrite_5 : decode cX2_deviceWrite 5 = .ok (.ifCond .ne 5, 3) := by decide +kernel
theorem dX2_deviceWrite_8 : decode cX2_deviceWrite 8 = .ok (.iconst (-1), 1) := by decide +kernel
theorem dX2_deviceWrite_9 : decode cX2_deviceWrite 9 = .ok (.ireturn, 1) := by decide +kernel
theorem dX2_deviceWrite_10 : decode cX2_deviceWrite 10 = .ok (.aload_n 0, 1) := by decide +kernel
theorem dX2_deviceWrite_11 : decode cX2_deviceWrite 11 = .ok (.getfield 7, 3) := by decide +kernel
theorem dX2_deviceWrite_14 : decode cX2_deviceWrite 14 = .ok (.iload_n 1, 1) := by decide +kernel
theorem dX2_deviceWrite_15 : decode cX2_deviceWrite 15 = .ok (.iload_n 2, 1) := by decide +kernel
theorem dX2_deviceWrite_16 : decode cX2_deviceWrite 16 = .ok (.iastore, 1) := by decide +kernel
theorem dX2_deviceWrite_17 : decode cX2_deviceWrite 17 = .ok (.iconst 0, 1) := by decide +kernel
theorem dX2_deviceWrite_18 : decode cX2_deviceWrite 18 = .ok (.ireturn, 1) := by decide +kernel
abbrev cX2_deviceCopy : ByteArray := prog_3_method_15_code
def yX2_deviceCopy : MethodName := ⟨RX2, "deviceCopy", "(III)I"⟩
theorem dX2_deviceCopy_0 : decode cX2_deviceCopy 0 = .ok (.iload_n 1, 1) := by decide +kernel
theorem dX2_deviceCopy_1 : decode cX2_deviceCopy 1 = .ok (.ifCond .lt 29, 3) := by decide +kernel
theorem dX2_deviceCopy_4 : decode cX2_deviceCopy 4 = .ok (.iload_n 2, 1) := by decide +kernel
theorem dX2_deviceCopy_5 : decode cX2_deviceCopy 5 = .ok (.ifCond .lt 25, 3) := by decide +kernel
theorem dX2_deviceCopy_8 : decode cX2_deviceCopy 8 = .ok (.iload_n 3, 1) := by decide +kernel
theorem dX2_deviceCopy_9 : decode cX2_deviceCopy 9 = .ok (.ifCond .lt 21, 3) := by decide +kernel
theorem dX2_deviceCopy_12 : decode cX2_deviceCopy 12 = .ok (.iload_n 1, 1) := by decide +kernel
theorem dX2_deviceCopy_13 : decode cX2_deviceCopy 13 = .ok (.bipush 64, 2) := by decide +kernel
theorem dX2_deviceCopy_15 : decode cX2_deviceCopy 15 = .ok (.if_icmp .gt 15, 3) := by decide +kernel
theorem dX2_deviceCopy_18 : decode cX2_deviceCopy 18 = .ok (.iload_n 2, 1) := by decide +kernel
theorem dX2_deviceCopy_19 : decode cX2_deviceCopy 19 = .ok (.bipush 64, 2) := by decide +kernel
theorem dX2_deviceCopy_21 : decode cX2_deviceCopy 21 = .ok (.if_icmp .gt 9, 3) := by decide +kernel
theorem dX2_deviceCopy_24 : decode cX2_deviceCopy 24 = .ok (.iload_n 3, 1) := by decide +kernel
theorem dX2_deviceCopy_25 : decode cX2_deviceCopy 25 = .ok (.bipush 64, 2) := by decide +kernel
theorem dX2_deviceCopy_27 : decode cX2_deviceCopy 27 = .ok (.if_icmp .le 5, 3) := by decide +kernel
theorem dX2_deviceCopy_30 : decode cX2_deviceCopy 30 = .ok (.iconst (-1), 1) := by decide +kernel
theorem dX2_deviceCopy_31 : decode cX2_deviceCopy 31 = .ok (.ireturn, 1) := by decide +kernel
theorem dX2_deviceCopy_32 : decode cX2_deviceCopy 32 = .ok (.iload_n 1, 1) := by decide +kernel
theorem dX2_deviceCopy_33 : decode cX2_deviceCopy 33 = .ok (.iload_n 3, 1) := by decide +kernel
theorem dX2_deviceCopy_34 : decode cX2_deviceCopy 34 = .ok (.iadd, 1) := by decide +kernel
theorem dX2_deviceCopy_35 : decode cX2_deviceCopy 35 = .ok (.bipush 64, 2) := by decide +kernel
theorem dX2_deviceCopy_37 : decode cX2_deviceCopy 37 = .ok (.if_icmp .gt 11, 3) := by decide +kernel
theorem dX2_deviceCopy_40 : decode cX2_deviceCopy 40 = .ok (.iload_n 2, 1) := by decide +kernel
theorem dX2_deviceCopy_41 : decode cX2_deviceCopy 41 = .ok (.iload_n 3, 1) := by decide +kernel
theorem dX2_deviceCopy_42 : decode cX2_deviceCopy 42 = .ok (.iadd, 1) := by decide +kernel
theorem dX2_deviceCopy_43 : decode cX2_deviceCopy 43 = .ok (.bipush 64, 2) := by decide +kernel
theorem dX2_deviceCopy_45 : decode cX2_deviceCopy 45 = .ok (.if_icmp .le 5, 3) := by decide +kernel
theorem dX2_deviceCopy_48 : decode cX2_deviceCopy 48 = .ok (.iconst (-1), 1) := by decide +kernel
theorem dX2_deviceCopy_49 : decode cX2_deviceCopy 49 = .ok (.ireturn, 1) := by decide +kernel
theorem dX2_deviceCopy_50 : decode cX2_deviceCopy 50 = .ok (.iconst 0, 1) := by decide +kernel
theorem dX2_deviceCopy_51 : decode cX2_deviceCopy 51 = .ok (.istore 4, 2) := by decide +kernel
theorem dX2_deviceCopy_53 : decode cX2_deviceCopy 53 = .ok (.iload 4, 2) := by decide +kernel
theorem dX2_deviceCopy_55 : decode cX2_deviceCopy 55 = .ok (.iload_n 3, 1) := by decide +kernel
theorem dX2_deviceCopy_56 : decode cX2_deviceCopy 56 = .ok (.if_icmp .ge 27, 3) := by decide +kernel
theorem dX2_deviceCopy_59 : decode cX2_deviceCopy 59 = .ok (.aload_n 0, 1) := by decide +kernel
theorem dX2_deviceCopy_60 : decode cX2_deviceCopy 60 = .ok (.getfield 7, 3) := by decide +kernel
theorem dX2_deviceCopy_63 : decode cX2_deviceCopy 63 = .ok (.iload_n 2, 1) := by decide +kernel
theorem dX2_deviceCopy_64 : decode cX2_deviceCopy 64 = .ok (.iload 4, 2) := by decide +kernel
theorem dX2_deviceCopy_66 : decode cX2_deviceCopy 66 = .ok (.iadd, 1) := by decide +kernel
theorem dX2_deviceCopy_67 : decode cX2_deviceCopy 67 = .ok (.aload_n 0, 1) := by decide +kernel
theorem dX2_deviceCopy_68 : decode cX2_deviceCopy 68 = .ok (.getfield 7, 3) := by decide +kernel
theorem dX2_deviceCopy_71 : decode cX2_deviceCopy 71 = .ok (.iload_n 1, 1) := by decide +kernel
theorem dX2_deviceCopy_72 : decode cX2_deviceCopy 72 = .ok (.iload 4, 2) := by decide +kernel
theorem dX2_deviceCopy_74 : decode cX2_deviceCopy 74 = .ok (.iadd, 1) := by decide +kernel
theorem dX2_deviceCopy_75 : decode cX2_deviceCopy 75 = .ok (.iaload, 1) := by decide +kernel
theorem dX2_deviceCopy_76 : decode cX2_deviceCopy 76 = .ok (.iastore, 1) := by decide +kernel
theorem dX2_deviceCopy_77 : decode cX2_deviceCopy 77 = .ok (.iinc 4 1, 3) := by decide +kernel
theorem dX2_deviceCopy_80 : decode cX2_deviceCopy 80 = .ok (.goto (-27), 3) := by decide +kernel
theorem dX2_deviceCopy_83 : decode cX2_deviceCopy 83 = .ok (.iload_n 3, 1) := by decide +kernel
theorem dX2_deviceCopy_84 : decode cX2_deviceCopy 84 = .ok (.ireturn, 1) := by decide +kernel
theorem q12 : (Jvm.Cond.initialized "CachedMemoryModel") ∈ lw_all := lw_g (lw_at lw_m0 2 rfl) rfl
theorem q152 : (Jvm.Cond.instantiable "CachedMemoryModel" (5 : Nat)) ∈ lw_all := lw_g (lw_at lw_m0 142 rfl) rfl
theorem q154 : (Jvm.Cond.instanceMethod ({ cls := "CachedMemoryModel", name := "<init>", desc := "(II)V" } : Jvm.MethodName)) ∈ lw_all := lw_g (lw_at lw_m0 144 rfl) rfl
theorem q155 : (Jvm.Cond.code ({ cls := "CachedMemoryModel", name := "<init>", desc := "(II)V" } : Jvm.MethodName) prog_3_method_1_code (4 : Nat) (Option.none : Option Jvm.ClassFile.FieldType)) ∈ lw_all := lw_g (lw_at lw_m0 145 rfl) rfl
theorem q156 : (Jvm.Cond.methodLink "CachedMemoryModel" (1 : Nat) ({ cls := "java/lang/Object", name := "<init>", desc := "()V" } : Jvm.MethodName)) ∈ lw_all := lw_g (lw_at lw_m0 146 rfl) rfl
theorem q157 : (Jvm.Cond.fieldLink "CachedMemoryModel" (7 : Nat) "CachedMemoryModel" "words" "[I") ∈ lw_all := lw_g (lw_at lw_m0 147 rfl) rfl
theorem q158 : (Jvm.Cond.fieldLink "CachedMemoryModel" (13 : Nat) "CachedMemoryModel" "frames" "[I") ∈ lw_all := lw_g (lw_at lw_m0 148 rfl) rfl
theorem q159 : (Jvm.Cond.fieldLink "CachedMemoryModel" (16 : Nat) "CachedMemoryModel" "open" "[Z") ∈ lw_all := lw_g (lw_at lw_m0 149 rfl) rfl
theorem q160 : (Jvm.Cond.fieldLink "CachedMemoryModel" (20 : Nat) "CachedMemoryModel" "current" "I") ∈ lw_all := lw_g (lw_at lw_m0 150 rfl) rfl
theorem q161 : (Jvm.Cond.fieldLink "CachedMemoryModel" (24 : Nat) "CachedMemoryModel" "lastValue" "I") ∈ lw_all := lw_g (lw_at lw_m0 151 rfl) rfl
theorem q162 : (Jvm.Cond.lays "CachedMemoryModel" "CachedMemoryModel" "words" "[I") ∈ lw_all := lw_g (lw_at lw_m0 152 rfl) rfl
theorem q163 : (Jvm.Cond.soleField "CachedMemoryModel" "words") ∈ lw_all := lw_g (lw_at lw_m0 153 rfl) rfl
theorem q164 : (Jvm.Cond.lays "CachedMemoryModel" "CachedMemoryModel" "frames" "[I") ∈ lw_all := lw_g (lw_at lw_m0 154 rfl) rfl
theorem q165 : (Jvm.Cond.soleField "CachedMemoryModel" "frames") ∈ lw_all := lw_g (lw_at lw_m0 155 rfl) rfl
theorem q166 : (Jvm.Cond.lays "CachedMemoryModel" "CachedMemoryModel" "open" "[Z") ∈ lw_all := lw_g (lw_at lw_m0 156 rfl) rfl
theorem q167 : (Jvm.Cond.soleField "CachedMemoryModel" "open") ∈ lw_all := lw_g (lw_at lw_m0 157 rfl) rfl
theorem q168 : (Jvm.Cond.lays "CachedMemoryModel" "CachedMemoryModel" "current" "I") ∈ lw_all := lw_g (lw_at lw_m0 158 rfl) rfl
theorem q169 : (Jvm.Cond.soleField "CachedMemoryModel" "current") ∈ lw_all := lw_g (lw_at lw_m0 159 rfl) rfl
theorem q170 : (Jvm.Cond.lays "CachedMemoryModel" "CachedMemoryModel" "lastValue" "I") ∈ lw_all := lw_g (lw_at lw_m0 160 rfl) rfl
theorem q171 : (Jvm.Cond.soleField "CachedMemoryModel" "lastValue") ∈ lw_all := lw_g (lw_at lw_m0 161 rfl) rfl
theorem q172 : (Jvm.Cond.superclass "CachedMemoryModel" "java/lang/Object") ∈ lw_all := lw_g (lw_at lw_m0 162 rfl) rfl
theorem q174 : (Jvm.Cond.instanceMethod ({ cls := "CachedMemoryModel", name := "enter", desc := "(I)I" } : Jvm.MethodName)) ∈ lw_all := lw_g (lw_at lw_m0 164 rfl) rfl
theorem q175 : (Jvm.Cond.selects "CachedMemoryModel" ({ cls := "CachedMemoryModel", name := "enter", desc := "(I)I" } : Jvm.MethodName) ({ cls := "CachedMemoryModel", name := "enter", desc := "(I)I" } : Jvm.MethodName)) ∈ lw_all := lw_g (lw_at lw_m0 165 rfl) rfl
theorem q176 : (Jvm.Cond.code ({ cls := "CachedMemoryModel", name := "enter", desc := "(I)I" } : Jvm.MethodName) prog_3_method_5_code (2 : Nat) (Option.some Jvm.ClassFile.FieldType.int)) ∈ lw_all := lw_g (lw_at lw_m0 166 rfl) rfl
theorem q177 : (Jvm.Cond.methodLink "CachedMemoryModel" (27 : Nat) ({ cls := "CachedMemoryModel", name := "isSpace", desc := "(I)Z" } : Jvm.MethodName)) ∈ lw_all := lw_g (lw_at lw_m0 167 rfl) rfl
theorem q178 : (Jvm.Cond.privateMethod ({ cls := "CachedMemoryModel", name := "isSpace", desc := "(I)Z" } : Jvm.MethodName)) ∈ lw_tbl := lw_at lw_m0 168 rfl
theorem q179 : (Jvm.Cond.instanceMethod ({ cls := "CachedMemoryModel", name := "isSpace", desc := "(I)Z" } : Jvm.MethodName)) ∈ lw_all := lw_g (lw_at lw_m0 169 rfl) rfl
theorem q180 : (Jvm.Cond.code ({ cls := "CachedMemoryModel", name := "isSpace", desc := "(I)Z" } : Jvm.MethodName) prog_3_method_3_code (2 : Nat) (Option.some Jvm.ClassFile.FieldType.boolean)) ∈ lw_all := lw_g (lw_at lw_m0 170 rfl) rfl
theorem q182 : (Jvm.Cond.instanceMethod ({ cls := "CachedMemoryModel", name := "map", desc := "(IIIZ)I" } : Jvm.MethodName)) ∈ lw_all := lw_g (lw_at lw_m0 172 rfl) rfl
theorem q183 : (Jvm.Cond.selects "CachedMemoryModel" ({ cls := "CachedMemoryModel", name := "map", desc := "(IIIZ)I" } : Jvm.MethodName) ({ cls := "CachedMemoryModel", name := "map", desc := "(IIIZ)I" } : Jvm.MethodName)) ∈ lw_all := lw_g (lw_at lw_m0 173 rfl) rfl
theorem q184 : (Jvm.Cond.code ({ cls := "CachedMemoryModel", name := "map", desc := "(IIIZ)I" } : Jvm.MethodName) prog_3_method_6_code (6 : Nat) (Option.some Jvm.ClassFile.FieldType.int)) ∈ lw_all := lw_g (lw_at lw_m0 174 rfl) rfl
theorem q185 : (Jvm.Cond.methodLink "CachedMemoryModel" (31 : Nat) ({ cls := "CachedMemoryModel", name := "isPage", desc := "(I)Z" } : Jvm.MethodName)) ∈ lw_all := lw_g (lw_at lw_m0 175 rfl) rfl
theorem q186 : (Jvm.Cond.privateMethod ({ cls := "CachedMemoryModel", name := "isPage", desc := "(I)Z" } : Jvm.MethodName)) ∈ lw_tbl := lw_at lw_m0 176 rfl
theorem q187 : (Jvm.Cond.instanceMethod ({ cls := "CachedMemoryModel", name := "isPage", desc := "(I)Z" } : Jvm.MethodName)) ∈ lw_all := lw_g (lw_at lw_m0 177 rfl) rfl
theorem q188 : (Jvm.Cond.code ({ cls := "CachedMemoryModel", name := "isPage", desc := "(I)Z" } : Jvm.MethodName) prog_3_method_2_code (2 : Nat) (Option.some Jvm.ClassFile.FieldType.boolean)) ∈ lw_all := lw_g (lw_at lw_m0 178 rfl) rfl
theorem q190 : (Jvm.Cond.instanceMethod ({ cls := "CachedMemoryModel", name := "unmap", desc := "(II)I" } : Jvm.MethodName)) ∈ lw_all := lw_g (lw_at lw_m0 180 rfl) rfl
theorem q191 : (Jvm.Cond.selects "CachedMemoryModel" ({ cls := "CachedMemoryModel", name := "unmap", desc := "(II)I" } : Jvm.MethodName) ({ cls := "CachedMemoryModel", name := "unmap", desc := "(II)I" } : Jvm.MethodName)) ∈ lw_all := lw_g (lw_at lw_m0 181 rfl) rfl
theorem q192 : (Jvm.Cond.code ({ cls := "CachedMemoryModel", name := "unmap", desc := "(II)I" } : Jvm.MethodName) prog_3_method_7_code (3 : Nat) (Option.some Jvm.ClassFile.FieldType.int)) ∈ lw_all := lw_g (lw_at lw_m0 182 rfl) rfl
theorem q194 : (Jvm.Cond.instanceMethod ({ cls := "CachedMemoryModel", name := "protect", desc := "(I)I" } : Jvm.MethodName)) ∈ lw_all := lw_g (lw_at lw_m0 184 rfl) rfl
theorem q195 : (Jvm.Cond.selects "CachedMemoryModel" ({ cls := "CachedMemoryModel", name := "protect", desc := "(I)I" } : Jvm.MethodName) ({ cls := "CachedMemoryModel", name := "protect", desc := "(I)I" } : Jvm.MethodName)) ∈ lw_all := lw_g (lw_at lw_m0 185 rfl) rfl
theorem q196 : (Jvm.Cond.code ({ cls := "CachedMemoryModel", name := "protect", desc := "(I)I" } : Jvm.MethodName) prog_3_method_8_code (4 : Nat) (Option.some Jvm.ClassFile.FieldType.int)) ∈ lw_all := lw_g (lw_at lw_m0 186 rfl) rfl
theorem q198 : (Jvm.Cond.instanceMethod ({ cls := "CachedMemoryModel", name := "load", desc := "(I)I" } : Jvm.MethodName)) ∈ lw_all := lw_g (lw_at lw_m0 188 rfl) rfl
theorem q199 : (Jvm.Cond.selects "CachedMemoryModel" ({ cls := "CachedMemoryModel", name := "load", desc := "(I)I" } : Jvm.MethodName) ({ cls := "CachedMemoryModel", name := "load", desc := "(I)I" } : Jvm.MethodName)) ∈ lw_all := lw_g (lw_at lw_m0 189 rfl) rfl
theorem q200 : (Jvm.Cond.code ({ cls := "CachedMemoryModel", name := "load", desc := "(I)I" } : Jvm.MethodName) prog_3_method_9_code (3 : Nat) (Option.some Jvm.ClassFile.FieldType.int)) ∈ lw_all := lw_g (lw_at lw_m0 190 rfl) rfl
theorem q201 : (Jvm.Cond.methodLink "CachedMemoryModel" (34 : Nat) ({ cls := "CachedMemoryModel", name := "translate", desc := "(I)I" } : Jvm.MethodName)) ∈ lw_all := lw_g (lw_at lw_m0 191 rfl) rfl
theorem q202 : (Jvm.Cond.instanceMethod ({ cls := "CachedMemoryModel", name := "translate", desc := "(I)I" } : Jvm.MethodName)) ∈ lw_all := lw_g (lw_at lw_m0 192 rfl) rfl
theorem q203 : (Jvm.Cond.selects "CachedMemoryModel" ({ cls := "CachedMemoryModel", name := "translate", desc := "(I)I" } : Jvm.MethodName) ({ cls := "CachedMemoryModel", name := "translate", desc := "(I)I" } : Jvm.MethodName)) ∈ lw_all := lw_g (lw_at lw_m0 193 rfl) rfl
theorem q204 : (Jvm.Cond.code ({ cls := "CachedMemoryModel", name := "translate", desc := "(I)I" } : Jvm.MethodName) prog_3_method_16_code (3 : Nat) (Option.some Jvm.ClassFile.FieldType.int)) ∈ lw_all := lw_g (lw_at lw_m0 194 rfl) rfl
theorem q205 : (Jvm.Cond.methodLink "CachedMemoryModel" (42 : Nat) ({ cls := "CachedMemoryModel", name := "isWord", desc := "(I)Z" } : Jvm.MethodName)) ∈ lw_all := lw_g (lw_at lw_m0 195 rfl) rfl
theorem q206 : (Jvm.Cond.privateMethod ({ cls := "CachedMemoryModel", name := "isWord", desc := "(I)Z" } : Jvm.MethodName)) ∈ lw_tbl := lw_at lw_m0 196 rfl
theorem q207 : (Jvm.Cond.instanceMethod ({ cls := "CachedMemoryModel", name := "isWord", desc := "(I)Z" } : Jvm.MethodName)) ∈ lw_all := lw_g (lw_at lw_m0 197 rfl) rfl
theorem q208 : (Jvm.Cond.code ({ cls := "CachedMemoryModel", name := "isWord", desc := "(I)Z" } : Jvm.MethodName) prog_3_method_4_code (2 : Nat) (Option.some Jvm.ClassFile.FieldType.boolean)) ∈ lw_all := lw_g (lw_at lw_m0 198 rfl) rfl
theorem q210 : (Jvm.Cond.instanceMethod ({ cls := "CachedMemoryModel", name := "last", desc := "()I" } : Jvm.MethodName)) ∈ lw_all := lw_g (lw_at lw_m0 200 rfl) rfl
theorem q211 : (Jvm.Cond.selects "CachedMemoryModel" ({ cls := "CachedMemoryModel", name := "last", desc := "()I" } : Jvm.MethodName) ({ cls := "CachedMemoryModel", name := "last", desc := "()I" } : Jvm.MethodName)) ∈ lw_all := lw_g (lw_at lw_m0 201 rfl) rfl
theorem q212 : (Jvm.Cond.code ({ cls := "CachedMemoryModel", name := "last", desc := "()I" } : Jvm.MethodName) prog_3_method_10_code (1 : Nat) (Option.some Jvm.ClassFile.FieldType.int)) ∈ lw_all := lw_g (lw_at lw_m0 202 rfl) rfl
theorem q214 : (Jvm.Cond.instanceMethod ({ cls := "CachedMemoryModel", name := "store", desc := "(II)I" } : Jvm.MethodName)) ∈ lw_all := lw_g (lw_at lw_m0 204 rfl) rfl
theorem q215 : (Jvm.Cond.selects "CachedMemoryModel" ({ cls := "CachedMemoryModel", name := "store", desc := "(II)I" } : Jvm.MethodName) ({ cls := "CachedMemoryModel", name := "store", desc := "(II)I" } : Jvm.MethodName)) ∈ lw_all := lw_g (lw_at lw_m0 205 rfl) rfl
theorem q216 : (Jvm.Cond.code ({ cls := "CachedMemoryModel", name := "store", desc := "(II)I" } : Jvm.MethodName) prog_3_method_11_code (4 : Nat) (Option.some Jvm.ClassFile.FieldType.int)) ∈ lw_all := lw_g (lw_at lw_m0 206 rfl) rfl
theorem q218 : (Jvm.Cond.instanceMethod ({ cls := "CachedMemoryModel", name := "add", desc := "(II)I" } : Jvm.MethodName)) ∈ lw_all := lw_g (lw_at lw_m0 208 rfl) rfl
theorem q219 : (Jvm.Cond.selects "CachedMemoryModel" ({ cls := "CachedMemoryModel", name := "add", desc := "(II)I" } : Jvm.MethodName) ({ cls := "CachedMemoryModel", name := "add", desc := "(II)I" } : Jvm.MethodName)) ∈ lw_all := lw_g (lw_at lw_m0 209 rfl) rfl
theorem q220 : (Jvm.Cond.code ({ cls := "CachedMemoryModel", name := "add", desc := "(II)I" } : Jvm.MethodName) prog_3_method_12_code (4 : Nat) (Option.some Jvm.ClassFile.FieldType.int)) ∈ lw_all := lw_g (lw_at lw_m0 210 rfl) rfl
theorem q221 : (Jvm.Cond.methodLink "CachedMemoryModel" (38 : Nat) ({ cls := "CachedMemoryModel", name := "store", desc := "(II)I" } : Jvm.MethodName)) ∈ lw_all := lw_g (lw_at lw_m0 211 rfl) rfl
theorem q223 : (Jvm.Cond.instanceMethod ({ cls := "CachedMemoryModel", name := "deviceRead", desc := "(I)I" } : Jvm.MethodName)) ∈ lw_all := lw_g (lw_at lw_m0 213 rfl) rfl
theorem q224 : (Jvm.Cond.selects "CachedMemoryModel" ({ cls := "CachedMemoryModel", name := "deviceRead", desc := "(I)I" } : Jvm.MethodName) ({ cls := "CachedMemoryModel", name := "deviceRead", desc := "(I)I" } : Jvm.MethodName)) ∈ lw_all := lw_g (lw_at lw_m0 214 rfl) rfl
theorem q225 : (Jvm.Cond.code ({ cls := "CachedMemoryModel", name := "deviceRead", desc := "(I)I" } : Jvm.MethodName) prog_3_method_13_code (2 : Nat) (Option.some Jvm.ClassFile.FieldType.int)) ∈ lw_all := lw_g (lw_at lw_m0 215 rfl) rfl
theorem q227 : (Jvm.Cond.instanceMethod ({ cls := "CachedMemoryModel", name := "deviceWrite", desc := "(II)I" } : Jvm.MethodName)) ∈ lw_all := lw_g (lw_at lw_m0 217 rfl) rfl
theorem q228 : (Jvm.Cond.selects "CachedMemoryModel" ({ cls := "CachedMemoryModel", name := "deviceWrite", desc := "(II)I" } : Jvm.MethodName) ({ cls := "CachedMemoryModel", name := "deviceWrite", desc := "(II)I" } : Jvm.MethodName)) ∈ lw_all := lw_g (lw_at lw_m0 218 rfl) rfl
theorem q229 : (Jvm.Cond.code ({ cls := "CachedMemoryModel", name := "deviceWrite", desc := "(II)I" } : Jvm.MethodName) prog_3_method_14_code (3 : Nat) (Option.some Jvm.ClassFile.FieldType.int)) ∈ lw_all := lw_g (lw_at lw_m0 219 rfl) rfl
theorem q231 : (Jvm.Cond.instanceMethod ({ cls := "CachedMemoryModel", name := "deviceCopy", desc := "(III)I" } : Jvm.MethodName)) ∈ lw_all := lw_g (lw_at lw_m0 221 rfl) rfl
theorem q232 : (Jvm.Cond.selects "CachedMemoryModel" ({ cls := "CachedMemoryModel", name := "deviceCopy", desc := "(III)I" } : Jvm.MethodName) ({ cls := "CachedMemoryModel", name := "deviceCopy", desc := "(III)I" } : Jvm.MethodName)) ∈ lw_all := lw_g (lw_at lw_m0 222 rfl) rfl
theorem q233 : (Jvm.Cond.code ({ cls := "CachedMemoryModel", name := "deviceCopy", desc := "(III)I" } : Jvm.MethodName) prog_3_method_15_code (5 : Nat) (Option.some Jvm.ClassFile.FieldType.int)) ∈ lw_all := lw_g (lw_at lw_m0 223 rfl) rfl
theorem in_X2 : ∀ w ∈ wsX20, w ∈ lw_all := lw_in wsX20 [162, 164, 166, 168, 170] (by decide +kernel) (by decide +kernel)
end
section
/-! java/lang/Object -/
set_option maxRecDepth 100000
def RJ0 : String := "java/lang/Object"
abbrev cJ0_init : ByteArray := object_method_1_code
def yJ0_init : MethodName := ⟨RJ0, "<init>", "()V"⟩
theorem dJ0_init_0 : decode cJ0_init 0 = .ok (.return_, 1) := by decide +kernel
theorem q19 : (Jvm.Cond.instanceMethod ({ cls := "java/lang/Object", name := "<init>", desc := "()V" } : Jvm.MethodName)) ∈ lw_all := lw_g (lw_at lw_m0 9 rfl) rfl
theorem q20 : (Jvm.Cond.code ({ cls := "java/lang/Object", name := "<init>", desc := "()V" } : Jvm.MethodName) object_method_1_code (1 : Nat) (Option.none : Option Jvm.ClassFile.FieldType)) ∈ lw_all := lw_g (lw_at lw_m0 10 rfl) rfl
theorem q67 : (Jvm.Cond.arrayClass Jvm.ClassFile.FieldType.int) ∈ lw_all := lw_g (lw_at lw_m0 57 rfl) rfl
set_option maxRecDepth 100000
theorem q68 : (Jvm.Cond.arrayClass Jvm.ClassFile.FieldType.byte) ∈ lw_all := lw_g (lw_at lw_m0 58 rfl) rfl
theorem q69 : (Jvm.Cond.arrayClass Jvm.ClassFile.FieldType.boolean) ∈ lw_all := lw_g (lw_at lw_m0 59 rfl) rfl
/-! CachedMemoryLaw -/
set_option maxRecDepth 100000
def RX0 : String := "CachedMemoryLaw"
abbrev cX0_cell : ByteArray := method_2_code
def yX0_cell : MethodName := ⟨RX0, "cell", "([II)I"⟩
theorem dX0_cell_0 : decode cX0_cell 0 = .ok (.iload_n 1, 1) := by decide +kernel
theorem dX0_cell_1 : decode cX0_cell 1 = .ok (.aload_n 0, 1) := by decide +kernel
theorem dX0_cell_2 : decode cX0_cell 2 = .ok (.arraylength, 1) := by decide +kernel
theorem dX0_cell_3 : decode cX0_cell 3 = .ok (.if_icmp .ge 9, 3) := by decide +kernel
theorem dX0_cell_6 : decode cX0_cell 6 = .ok (.aload_n 0, 1) := by decide +kernel
theorem dX0_cell_7 : decode cX0_cell 7 = .ok (.iload_n 1, 1) := by decide +kernel
theorem dX0_cell_8 : decode cX0_cell 8 = .ok (.iaload, 1) := by decide +kernel
theorem dX0_cell_9 : decode cX0_cell 9 = .ok (.goto 4, 3) := by decide +kernel
theorem dX0_cell_12 : decode cX0_cell 12 = .ok (.iconst 0, 1) := by decide +kernel
theorem dX0_cell_13 : decode cX0_cell 13 = .ok (.ireturn, 1) := by decide +kernel
theorem q10 : (Jvm.Cond.initialized "CachedMemoryLaw") ∈ lw_all := lw_g (lw_at lw_m0 0 rfl) rfl
theorem q13 : (Jvm.Cond.classLink "CachedMemoryLaw" (7 : Nat) "CachedMemory") ∈ lw_all := lw_g (lw_at lw_m0 3 rfl) rfl
theorem q15 : (Jvm.Cond.methodLink "CachedMemoryLaw" (15 : Nat) ({ cls := "CachedMemory", name := "<init>", desc := "(II)V" } : Jvm.MethodName)) ∈ lw_all := lw_g (lw_at lw_m0 5 rfl) rfl
theorem q70 : (Jvm.Cond.methodLink "CachedMemoryLaw" (21 : Nat) ({ cls := "CachedMemory", name := "enter", desc := "(I)I" } : Jvm.MethodName)) ∈ lw_all := lw_g (lw_at lw_m0 60 rfl) rfl
theorem q74 : (Jvm.Cond.methodLink "CachedMemoryLaw" (26 : Nat) ({ cls := "CachedMemory", name := "map", desc := "(IIIZ)I" } : Jvm.MethodName)) ∈ lw_all := lw_g (lw_at lw_m0 64 rfl) rfl
theorem q86 : (Jvm.Cond.methodLink "CachedMemoryLaw" (31 : Nat) ({ cls := "CachedMemory", name := "unmap", desc := "(II)I" } : Jvm.MethodName)) ∈ lw_all := lw_g (lw_at lw_m0 76 rfl) rfl
theorem q90 : (Jvm.Cond.methodLink "CachedMemoryLaw" (36 : Nat) ({ cls := "CachedMemory", name := "protect", desc := "(I)I" } : Jvm.MethodName)) ∈ lw_all := lw_g (lw_at lw_m0 80 rfl) rfl
theorem q94 : (Jvm.Cond.methodLink "CachedMemoryLaw" (40 : Nat) ({ cls := "CachedMemory", name := "load", desc := "(I)I" } : Jvm.MethodName)) ∈ lw_all := lw_g (lw_at lw_m0 84 rfl) rfl
theorem q114 : (Jvm.Cond.methodLink "CachedMemoryLaw" (44 : Nat) ({ cls := "CachedMemory", name := "last", desc := "()I" } : Jvm.MethodName)) ∈ lw_all := lw_g (lw_at lw_m0 104 rfl) rfl
theorem q118 : (Jvm.Cond.methodLink "CachedMemoryLaw" (49 : Nat) ({ cls := "CachedMemory", name := "store", desc := "(II)I" } : Jvm.MethodName)) ∈ lw_all := lw_g (lw_at lw_m0 108 rfl) rfl
theorem q126 : (Jvm.Cond.methodLink "CachedMemoryLaw" (53 : Nat) ({ cls := "CachedMemory", name := "add", desc := "(II)I" } : Jvm.MethodName)) ∈ lw_all := lw_g (lw_at lw_m0 116 rfl) rfl
theorem q130 : (Jvm.Cond.methodLink "CachedMemoryLaw" (57 : Nat) ({ cls := "CachedMemory", name := "deviceRead", desc := "(I)I" } : Jvm.MethodName)) ∈ lw_all := lw_g (lw_at lw_m0 120 rfl) rfl
theorem q134 : (Jvm.Cond.methodLink "CachedMemoryLaw" (61 : Nat) ({ cls := "CachedMemory", name := "deviceWrite", desc := "(II)I" } : Jvm.MethodName)) ∈ lw_all := lw_g (lw_at lw_m0 124 rfl) rfl
theorem q138 : (Jvm.Cond.methodLink "CachedMemoryLaw" (65 : Nat) ({ cls := "CachedMemory", name := "deviceCopy", desc := "(III)I" } : Jvm.MethodName)) ∈ lw_all := lw_g (lw_at lw_m0 128 rfl) rfl
theorem q144 : (Jvm.Cond.methodLink "CachedMemoryLaw" (70 : Nat) ({ cls := "CachedMemory", name := "translate", desc := "(I)I" } : Jvm.MethodName)) ∈ lw_all := lw_g (lw_at lw_m0 134 rfl) rfl
theorem q148 : (Jvm.Cond.methodLink "CachedMemoryLaw" (9 : Nat) ({ cls := "CachedMemoryLaw", name := "cell", desc := "([II)I" } : Jvm.MethodName)) ∈ lw_all := lw_g (lw_at lw_m0 138 rfl) rfl
theorem q149 : (Jvm.Cond.static ({ cls := "CachedMemoryLaw", name := "cell", desc := "([II)I" } : Jvm.MethodName)) ∈ lw_all := lw_g (lw_at lw_m0 139 rfl) rfl
theorem q150 : (Jvm.Cond.code ({ cls := "CachedMemoryLaw", name := "cell", desc := "([II)I" } : Jvm.MethodName) method_2_code (2 : Nat) (Option.some Jvm.ClassFile.FieldType.int)) ∈ lw_all := lw_g (lw_at lw_m0 140 rfl) rfl
theorem q151 : (Jvm.Cond.classLink "CachedMemoryLaw" (18 : Nat) "CachedMemoryModel") ∈ lw_all := lw_g (lw_at lw_m0 141 rfl) rfl
theorem q153 : (Jvm.Cond.methodLink "CachedMemoryLaw" (20 : Nat) ({ cls := "CachedMemoryModel", name := "<init>", desc := "(II)V" } : Jvm.MethodName)) ∈ lw_all := lw_g (lw_at lw_m0 143 rfl) rfl
theorem q173 : (Jvm.Cond.methodLink "CachedMemoryLaw" (25 : Nat) ({ cls := "CachedMemoryModel", name := "enter", desc := "(I)I" } : Jvm.MethodName)) ∈ lw_all := lw_g (lw_at lw_m0 163 rfl) rfl
theorem q181 : (Jvm.Cond.methodLink "CachedMemoryLaw" (30 : Nat) ({ cls := "CachedMemoryModel", name := "map", desc := "(IIIZ)I" } : Jvm.MethodName)) ∈ lw_all := lw_g (lw_at lw_m0 171 rfl) rfl
theorem q189 : (Jvm.Cond.methodLink "CachedMemoryLaw" (35 : Nat) ({ cls := "CachedMemoryModel", name := "unmap", desc := "(II)I" } : Jvm.MethodName)) ∈ lw_all := lw_g (lw_at lw_m0 179 rfl) rfl
theorem q193 : (Jvm.Cond.methodLink "CachedMemoryLaw" (39 : Nat) ({ cls := "CachedMemoryModel", name := "protect", desc := "(I)I" } : Jvm.MethodName)) ∈ lw_all := lw_g (lw_at lw_m0 183 rfl) rfl
theorem q197 : (Jvm.Cond.methodLink "CachedMemoryLaw" (43 : Nat) ({ cls := "CachedMemoryModel", name := "load", desc := "(I)I" } : Jvm.MethodName)) ∈ lw_all := lw_g (lw_at lw_m0 187 rfl) rfl
theorem q209 : (Jvm.Cond.methodLink "CachedMemoryLaw" (48 : Nat) ({ cls := "CachedMemoryModel", name := "last", desc := "()I" } : Jvm.MethodName)) ∈ lw_all := lw_g (lw_at lw_m0 199 rfl) rfl
theorem q213 : (Jvm.Cond.methodLink "CachedMemoryLaw" (52 : Nat) ({ cls := "CachedMemoryModel", name := "store", desc := "(II)I" } : Jvm.MethodName)) ∈ lw_all := lw_g (lw_at lw_m0 203 rfl) rfl
theorem q217 : (Jvm.Cond.methodLink "CachedMemoryLaw" (56 : Nat) ({ cls := "CachedMemoryModel", name := "add", desc := "(II)I" } : Jvm.MethodName)) ∈ lw_all := lw_g (lw_at lw_m0 207 rfl) rfl
theorem q222 : (Jvm.Cond.methodLink "CachedMemoryLaw" (60 : Nat) ({ cls := "CachedMemoryModel", name := "deviceRead", desc := "(I)I" } : Jvm.MethodName)) ∈ lw_all := lw_g (lw_at lw_m0 212 rfl) rfl
theorem q226 : (Jvm.Cond.methodLink "CachedMemoryLaw" (64 : Nat) ({ cls := "CachedMemoryModel", name := "deviceWrite", desc := "(II)I" } : Jvm.MethodName)) ∈ lw_all := lw_g (lw_at lw_m0 216 rfl) rfl
theorem q230 : (Jvm.Cond.methodLink "CachedMemoryLaw" (69 : Nat) ({ cls := "CachedMemoryModel", name := "deviceCopy", desc := "(III)I" } : Jvm.MethodName)) ∈ lw_all := lw_g (lw_at lw_m0 220 rfl) rfl
theorem q234 : (Jvm.Cond.methodLink "CachedMemoryLaw" (73 : Nat) ({ cls := "CachedMemoryModel", name := "translate", desc := "(I)I" } : Jvm.MethodName)) ∈ lw_all := lw_g (lw_at lw_m0 224 rfl) rfl
/-! the law's own entry -/
set_option maxRecDepth 100000
abbrev cL_law : ByteArray := code
theorem dL_law_0 : decode cL_law 0 = .ok (.new 7, 3) := by decide +kernel
theorem dL_law_3 : decode cL_law 3 = .ok (.dup, 1) := by decide +kernel
theorem dL_law_4 : decode cL_law 4 = .ok (.aload_n 0, 1) := by decide +kernel
theorem dL_law_5 : decode cL_law 5 = .ok (.iconst 0, 1) := by decide +kernel
theorem dL_law_6 : decode cL_law 6 = .ok (.invokestatic 9, 3) := by decide +kernel
theorem dL_law_9 : decode cL_law 9 = .ok (.aload_n 0, 1) := by decide +kernel
theorem dL_law_10 : decode cL_law 10 = .ok (.iconst 1, 1) := by decide +kernel
theorem dL_law_11 : decode cL_law 11 = .ok (.invokestatic 9, 3) := by decide +kernel
theorem dL_law_14 : decode cL_law 14 = .ok (.invokespecial 15, 3) := by decide +kernel
theorem dL_law_17 : decode cL_law 17 = .ok (.astore_n 1, 1) := by decide +kernel
theorem dL_law_18 : decode cL_law 18 = .ok (.new 18, 3) := by decide +kernel
theorem dL_law_21 : decode cL_law 21 = .ok (.dup, 1) := by decide +kernel
theorem dL_law_22 : decode cL_law 22 = .ok (.aload_n 0, 1) := by decide +kernel
theorem dL_law_23 : decode cL_law 23 = .ok (.iconst 0, 1) := by decide +kernel
theorem dL_law_24 : decode cL_law 24 = .ok (.invokestatic 9, 3) := by decide +kernel
theorem dL_law_27 : decode cL_law 27 = .ok (.aload_n 0, 1) := by decide +kernel
theorem dL_law_28 : decode cL_law 28 = .ok (.iconst 1, 1) := by decide +kernel
theorem dL_law_29 : decode cL_law 29 = .ok (.invokestatic 9, 3) := by decide +kernel
theorem dL_law_32 : decode cL_law 32 = .ok (.invokespecial 20, 3) := by decide +kernel
theorem dL_law_35 : decode cL_law 35 = .ok (.astore_n 2, 1) := by decide +kernel
theorem dL_law_36 : decode cL_law 36 = .ok (.iconst 2, 1) := by decide +kernel
theorem dL_law_37 : decode cL_law 37 = .ok (.istore_n 3, 1) := by decide +kernel
theorem dL_law_38 : decode cL_law 38 = .ok (.iload_n 3, 1) := by decide +kernel
theorem dL_law_39 : decode cL_law 39 = .ok (.aload_n 0, 1) := by decide +kernel
theorem dL_law_40 : decode cL_law 40 = .ok (.arraylength, 1) := by decide +kernel
theorem dL_law_41 : decode cL_law 41 = .ok (.iconst 5, 1) := by decide +kernel
theorem dL_law_42 : decode cL_law 42 = .ok (.isub, 1) := by decide +kernel
theorem dL_law_43 : decode cL_law 43 = .ok (.if_icmp .gt 451, 3) := by decide +kernel
theorem dL_law_46 : decode cL_law 46 = .ok (.aload_n 0, 1) := by decide +kernel
theorem dL_law_47 : decode cL_law 47 = .ok (.iload_n 3, 1) := by decide +kernel
theorem dL_law_48 : decode cL_law 48 = .ok (.iaload, 1) := by decide +kernel
theorem dL_law_49 : decode cL_law 49 = .ok (.bipush 15, 2) := by decide +kernel
theorem dL_law_51 : decode cL_law 51 = .ok (.iand, 1) := by decide +kernel
theorem dL_law_52 : decode cL_law 52 = .ok (.tableswitch 436 0 11 #[64, 87, 156, 189, 212, 235, 248, 281, 314, 337, 370, 413], 64) := by decide +kernel
theorem dL_law_116 : decode cL_law 116 = .ok (.aload_n 1, 1) := by decide +kernel
theorem dL_law_117 : decode cL_law 117 = .ok (.aload_n 0, 1) := by decide +kernel
theorem dL_law_118 : decode cL_law 118 = .ok (.iload_n 3, 1) := by decide +kernel
theorem dL_law_119 : decode cL_law 119 = .ok (.iconst 1, 1) := by decide +kernel
theorem dL_law_120 : decode cL_law 120 = .ok (.iadd, 1) := by decide +kernel
theorem dL_law_121 : decode cL_law 121 = .ok (.iaload, 1) := by decide +kernel
theorem dL_law_122 : decode cL_law 122 = .ok (.invokevirtual 21, 3) := by decide +kernel
theorem dL_law_125 : decode cL_law 125 = .ok (.aload_n 2, 1) := by decide +kernel
theorem dL_law_126 : decode cL_law 126 = .ok (.aload_n 0, 1) := by decide +kernel
theorem dL_law_127 : decode cL_law 127 = .ok (.iload_n 3, 1) := by decide +kernel
theorem dL_law_128 : decode cL_law 128 = .ok (.iconst 1, 1) := by decide +kernel
theorem dL_law_129 : decode cL_law 129 = .ok (.iadd, 1) := by decide +kernel
theorem dL_law_130 : decode cL_law 130 = .ok (.iaload, 1) := by decide +kernel
theorem dL_law_131 : decode cL_law 131 = .ok (.invokevirtual 25, 3) := by decide +kernel
theorem dL_law_134 : decode cL_law 134 = .ok (.if_icmp .eq 354, 3) := by decide +kernel
theorem dL_law_137 : decode cL_law 137 = .ok (.iconst 0, 1) := by decide +kernel
theorem dL_law_138 : decode cL_law 138 = .ok (.ireturn, 1) := by decide +kernel
theorem dL_law_139 : decode cL_law 139 = .ok (.aload_n 1, 1) := by decide +kernel
theorem dL_law_140 : decode cL_law 140 = .ok (.aload_n 0, 1) := by decide +kernel
theorem dL_law_141 : decode cL_law 141 = .ok (.iload_n 3, 1) := by decide +kernel
theorem dL_law_142 : decode cL_law 142 = .ok (.iconst 1, 1) := by decide +kernel
theorem dL_law_143 : decode cL_law 143 = .ok (.iadd, 1) := by decide +kernel
theorem dL_law_144 : decode cL_law 144 = .ok (.iaload, 1) := by decide +kernel
theorem dL_law_145 : decode cL_law 145 = .ok (.aload_n 0, 1) := by decide +kernel
theorem dL_law_146 : decode cL_law 146 = .ok (.iload_n 3, 1) := by decide +kernel
theorem dL_law_147 : decode cL_law 147 = .ok (.iconst 2, 1) := by decide +kernel
theorem dL_law_148 : decode cL_law 148 = .ok (.iadd, 1) := by decide +kernel
theorem dL_law_149 : decode cL_law 149 = .ok (.iaload, 1) := by decide +kernel
theorem dL_law_150 : decode cL_law 150 = .ok (.aload_n 0, 1) := by decide +kernel
theorem dL_law_151 : decode cL_law 151 = .ok (.iload_n 3, 1) := by decide +kernel
theorem dL_law_152 : decode cL_law 152 = .ok (.iconst 3, 1) := by decide +kernel
theorem dL_law_153 : decode cL_law 153 = .ok (.iadd, 1) := by decide +kernel
theorem dL_law_154 : decode cL_law 154 = .ok (.iaload, 1) := by decide +kernel
theorem dL_law_155 : decode cL_law 155 = .ok (.aload_n 0, 1) := by decide +kernel
theorem dL_law_156 : decode cL_law 156 = .ok (.iload_n 3, 1) := by decide +kernel
theorem dL_law_157 : decode cL_law 157 = .ok (.iconst 4, 1) := by decide +kernel
theorem dL_law_158 : decode cL_law 158 = .ok (.iadd, 1) := by decide +kernel
theorem dL_law_159 : decode cL_law 159 = .ok (.iaload, 1) := by decide +kernel
theorem dL_law_160 : decode cL_law 160 = .ok (.ifCond .eq 7, 3) := by decide +kernel
theorem dL_law_163 : decode cL_law 163 = .ok (.iconst 1, 1) := by decide +kernel
theorem dL_law_164 : decode cL_law 164 = .ok (.goto 4, 3) := by decide +kernel
theorem dL_law_167 : decode cL_law 167 = .ok (.iconst 0, 1) := by decide +kernel
theorem dL_law_168 : decode cL_law 168 = .ok (.invokevirtual 26, 3) := by decide +kernel
theorem dL_law_171 : decode cL_law 171 = .ok (.aload_n 2, 1) := by decide +kernel
theorem dL_law_172 : decode cL_law 172 = .ok (.aload_n 0, 1) := by decide +kernel
theorem dL_law_173 : decode cL_law 173 = .ok (.iload_n 3, 1) := by decide +kernel
theorem dL_law_174 : decode cL_law 174 = .ok (.iconst 1, 1) := by decide +kernel
theorem dL_law_175 : decode cL_law 175 = .ok (.iadd, 1) := by decide +kernel
theorem dL_law_176 : decode cL_law 176 = .ok (.iaload, 1) := by decide +kernel
theorem dL_law_177 : decode cL_law 177 = .ok (.aload_n 0, 1) := by decide +kernel
theorem dL_law_178 : decode cL_law 178 = .ok (.iload_n 3, 1) := by decide +kernel
theorem dL_law_179 : decode cL_law 179 = .ok (.iconst 2, 1) := by decide +kernel
theorem dL_law_180 : decode cL_law 180 = .ok (.iadd, 1) := by decide +kernel
theorem dL_law_181 : decode cL_law 181 = .ok (.iaload, 1) := by decide +kernel
theorem dL_law_182 : decode cL_law 182 = .ok (.aload_n 0, 1) := by decide +kernel
theorem dL_law_183 : decode cL_law 183 = .ok (.iload_n 3, 1) := by decide +kernel
theorem dL_law_184 : decode cL_law 184 = .ok (.iconst 3, 1) := by decide +kernel
theorem dL_law_185 : decode cL_law 185 = .ok (.iadd, 1) := by decide +kernel
theorem dL_law_186 : decode cL_law 186 = .ok (.iaload, 1) := by decide +kernel
theorem dL_law_187 : decode cL_law 187 = .ok (.aload_n 0, 1) := by decide +kernel
theorem dL_law_188 : decode cL_law 188 = .ok (.iload_n 3, 1) := by decide +kernel
theorem dL_law_189 : decode cL_law 189 = .ok (.iconst 4, 1) := by decide +kernel
theorem dL_law_190 : decode cL_law 190 = .ok (.iadd, 1) := by decide +kernel
theorem dL_law_191 : decode cL_law 191 = .ok (.iaload, 1) := by decide +kernel
theorem dL_law_192 : decode cL_law 192 = .ok (.ifCond .eq 7, 3) := by decide +kernel
theorem dL_law_195 : decode cL_law 195 = .ok (.iconst 1, 1) := by decide +kernel
theorem dL_law_196 : decode cL_law 196 = .ok (.goto 4, 3) := by decide +kernel
theorem dL_law_199 : decode cL_law 199 = .ok (.iconst 0, 1) := by decide +kernel
theorem dL_law_200 : decode cL_law 200 = .ok (.invokevirtual 30, 3) := by decide +kernel
theorem dL_law_203 : decode cL_law 203 = .ok (.if_icmp .eq 285, 3) := by decide +kernel
theorem dL_law_206 : decode cL_law 206 = .ok (.iconst 0, 1) := by decide +kernel
theorem dL_law_207 : decode cL_law 207 = .ok (.ireturn, 1) := by decide +kernel
theorem dL_law_208 : decode cL_law 208 = .ok (.aload_n 1, 1) := by decide +kernel
theorem dL_law_209 : decode cL_law 209 = .ok (.aload_n 0, 1) := by decide +kernel
theorem dL_law_210 : decode cL_law 210 = .ok (.iload_n 3, 1) := by decide +kernel
theorem dL_law_211 : decode cL_law 211 = .ok (.iconst 1, 1) := by decide +kernel
theorem dL_law_212 : decode cL_law 212 = .ok (.iadd, 1) := by decide +kernel
theorem dL_law_213 : decode cL_law 213 = .ok (.iaload, 1) := by decide +kernel
theorem dL_law_214 : decode cL_law 214 = .ok (.aload_n 0, 1) := by decide +kernel
theorem dL_law_215 : decode cL_law 215 = .ok (.iload_n 3, 1) := by decide +kernel
theorem dL_law_216 : decode cL_law 216 = .ok (.iconst 2, 1) := by decide +kernel
theorem dL_law_217 : decode cL_law 217 = .ok (.iadd, 1) := by decide +kernel
theorem dL_law_218 : decode cL_law 218 = .ok (.iaload, 1) := by decide +kernel
theorem dL_law_219 : decode cL_law 219 = .ok (.invokevirtual 31, 3) := by decide +kernel
theorem dL_law_222 : decode cL_law 222 = .ok (.aload_n 2, 1) := by decide +kernel
theorem dL_law_223 : decode cL_law 223 = .ok (.aload_n 0, 1) := by decide +kernel
theorem dL_law_224 : decode cL_law 224 = .ok (.iload_n 3, 1) := by decide +kernel
theorem dL_law_225 : decode cL_law 225 = .ok (.iconst 1, 1) := by decide +kernel
theorem dL_law_226 : decode cL_law 226 = .ok (.iadd, 1) := by decide +kernel
theorem dL_law_227 : decode cL_law 227 = .ok (.iaload, 1) := by decide +kernel
theorem dL_law_228 : decode cL_law 228 = .ok (.aload_n 0, 1) := by decide +kernel
theorem dL_law_229 : decode cL_law 229 = .ok (.iload_n 3, 1) := by decide +kernel
theorem dL_law_230 : decode cL_law 230 = .ok (.iconst 2, 1) := by decide +kernel
theorem dL_law_231 : decode cL_law 231 = .ok (.iadd, 1) := by decide +kernel
theorem dL_law_232 : decode cL_law 232 = .ok (.iaload, 1) := by decide +kernel
theorem dL_law_233 : decode cL_law 233 = .ok (.invokevirtual 35, 3) := by decide +kernel
theorem dL_law_236 : decode cL_law 236 = .ok (.if_icmp .eq 252, 3) := by decide +kernel
theorem dL_law_239 : decode cL_law 239 = .ok (.iconst 0, 1) := by decide +kernel
theorem dL_law_240 : decode cL_law 240 = .ok (.ireturn, 1) := by decide +kernel
theorem dL_law_241 : decode cL_law 241 = .ok (.aload_n 1, 1) := by decide +kernel
theorem dL_law_242 : decode cL_law 242 = .ok (.aload_n 0, 1) := by decide +kernel
theorem dL_law_243 : decode cL_law 243 = .ok (.iload_n 3, 1) := by decide +kernel
theorem dL_law_244 : decode cL_law 244 = .ok (.iconst 1, 1) := by decide +kernel
theorem dL_law_245 : decode cL_law 245 = .ok (.iadd, 1) := by decide +kernel
theorem dL_law_246 : decode cL_law 246 = .ok (.iaload, 1) := by decide +kernel
theorem dL_law_247 : decode cL_law 247 = .ok (.invokevirtual 36, 3) := by decide +kernel
theorem dL_law_250 : decode cL_law 250 = .ok (.aload_n 2, 1) := by decide +kernel
theorem dL_law_251 : decode cL_law 251 = .ok (.aload_n 0, 1) := by decide +kernel
theorem dL_law_252 : decode cL_law 252 = .ok (.iload_n 3, 1) := by decide +kernel
theorem dL_law_253 : decode cL_law 253 = .ok (.iconst 1, 1) := by decide +kernel
theorem dL_law_254 : decode cL_law 254 = .ok (.iadd, 1) := by decide +kernel
theorem dL_law_255 : decode cL_law 255 = .ok (.iaload, 1) := by decide +kernel
theorem dL_law_256 : decode cL_law 256 = .ok (.invokevirtual 39, 3) := by decide +kernel
theorem dL_law_259 : decode cL_law 259 = .ok (.if_icmp .eq 229, 3) := by decide +kernel
theorem dL_law_262 : decode cL_law 262 = .ok (.iconst 0, 1) := by decide +kernel
theorem dL_law_263 : decode cL_law 263 = .ok (.ireturn, 1) := by decide +kernel
theorem dL_law_264 : decode cL_law 264 = .ok (.aload_n 1, 1) := by decide +kernel
theorem dL_law_265 : decode cL_law 265 = .ok (.aload_n 0, 1) := by decide +kernel
theorem dL_law_266 : decode cL_law 266 = .ok (.iload_n 3, 1) := by decide +kernel
theorem dL_law_267 : decode cL_law 267 = .ok (.iconst 1, 1) := by decide +kernel
theorem dL_law_268 : decode cL_law 268 = .ok (.iadd, 1) := by decide +kernel
theorem dL_law_269 : decode cL_law 269 = .ok (.iaload, 1) := by decide +kernel
theorem dL_law_270 : decode cL_law 270 = .ok (.invokevirtual 40, 3) := by decide +kernel
theorem dL_law_273 : decode cL_law 273 = .ok (.aload_n 2, 1) := by decide +kernel
theorem dL_law_274 : decode cL_law 274 = .ok (.aload_n 0, 1) := by decide +kernel
theorem dL_law_275 : decode cL_law 275 = .ok (.iload_n 3, 1) := by decide +kernel
theorem dL_law_276 : decode cL_law 276 = .ok (.iconst 1, 1) := by decide +kernel
theorem dL_law_277 : decode cL_law 277 = .ok (.iadd, 1) := by decide +kernel
theorem dL_law_278 : decode cL_law 278 = .ok (.iaload, 1) := by decide +kernel
theorem dL_law_279 : decode cL_law 279 = .ok (.invokevirtual 43, 3) := by decide +kernel
theorem dL_law_282 : decode cL_law 282 = .ok (.if_icmp .eq 206, 3) := by decide +kernel
theorem dL_law_285 : decode cL_law 285 = .ok (.iconst 0, 1) := by decide +kernel
theorem dL_law_286 : decode cL_law 286 = .ok (.ireturn, 1) := by decide +kernel
theorem dL_law_287 : decode cL_law 287 = .ok (.aload_n 1, 1) := by decide +kernel
theorem dL_law_288 : decode cL_law 288 = .ok (.invokevirtual 44, 3) := by decide +kernel
theorem dL_law_291 : decode cL_law 291 = .ok (.aload_n 2, 1) := by decide +kernel
theorem dL_law_292 : decode cL_law 292 = .ok (.invokevirtual 48, 3) := by decide +kernel
theorem dL_law_295 : decode cL_law 295 = .ok (.if_icmp .eq 193, 3) := by decide +kernel
theorem dL_law_298 : decode cL_law 298 = .ok (.iconst 0, 1) := by decide +kernel
theorem dL_law_299 : decode cL_law 299 = .ok (.ireturn, 1) := by decide +kernel
theorem dL_law_300 : decode cL_law 300 = .ok (.aload_n 1, 1) := by decide +kernel
theorem dL_law_301 : decode cL_law 301 = .ok (.aload_n 0, 1) := by decide +kernel
theorem dL_law_302 : decode cL_law 302 = .ok (.iload_n 3, 1) := by decide +kernel
theorem dL_law_303 : decode cL_law 303 = .ok (.iconst 1, 1) := by decide +kernel
theorem dL_law_304 : decode cL_law 304 = .ok (.iadd, 1) := by decide +kernel
theorem dL_law_305 : decode cL_law 305 = .ok (.iaload, 1) := by decide +kernel
theorem dL_law_306 : decode cL_law 306 = .ok (.aload_n 0, 1) := by decide +kernel
theorem dL_law_307 : decode cL_law 307 = .ok (.iload_n 3, 1) := by decide +kernel
theorem dL_law_308 : decode cL_law 308 = .ok (.iconst 2, 1) := by decide +kernel
theorem dL_law_309 : decode cL_law 309 = .ok (.iadd, 1) := by decide +kernel
theorem dL_law_310 : decode cL_law 310 = .ok (.iaload, 1) := by decide +kernel
theorem dL_law_311 : decode cL_law 311 = .ok (.invokevirtual 49, 3) := by decide +kernel
theorem dL_law_314 : decode cL_law 314 = .ok (.aload_n 2, 1) := by decide +kernel
theorem dL_law_315 : decode cL_law 315 = .ok (.aload_n 0, 1) := by decide +kernel
theorem dL_law_316 : decode cL_law 316 = .ok (.iload_n 3, 1) := by decide +kernel
theorem dL_law_317 : decode cL_law 317 = .ok (.iconst 1, 1) := by decide +kernel
theorem dL_law_318 : decode cL_law 318 = .ok (.iadd, 1) := by decide +kernel
theorem dL_law_319 : decode cL_law 319 = .ok (.iaload, 1) := by decide +kernel
theorem dL_law_320 : decode cL_law 320 = .ok (.aload_n 0, 1) := by decide +kernel
theorem dL_law_321 : decode cL_law 321 = .ok (.iload_n 3, 1) := by decide +kernel
theorem dL_law_322 : decode cL_law 322 = .ok (.iconst 2, 1) := by decide +kernel
theorem dL_law_323 : decode cL_law 323 = .ok (.iadd, 1) := by decide +kernel
theorem dL_law_324 : decode cL_law 324 = .ok (.iaload, 1) := by decide +kernel
theorem dL_law_325 : decode cL_law 325 = .ok (.invokevirtual 52, 3) := by decide +kernel
theorem dL_law_328 : decode cL_law 328 = .ok (.if_icmp .eq 160, 3) := by decide +kernel
theorem dL_law_331 : decode cL_law 331 = .ok (.iconst 0, 1) := by decide +kernel
theorem dL_law_332 : decode cL_law 332 = .ok (.ireturn, 1) := by decide +kernel
theorem dL_law_333 : decode cL_law 333 = .ok (.aload_n 1, 1) := by decide +kernel
theorem dL_law_334 : decode cL_law 334 = .ok (.aload_n 0, 1) := by decide +kernel
theorem dL_law_335 : decode cL_law 335 = .ok (.iload_n 3, 1) := by decide +kernel
theorem dL_law_336 : decode cL_law 336 = .ok (.iconst 1, 1) := by decide +kernel
theorem dL_law_337 : decode cL_law 337 = .ok (.iadd, 1) := by decide +kernel
theorem dL_law_338 : decode cL_law 338 = .ok (.iaload, 1) := by decide +kernel
theorem dL_law_339 : decode cL_law 339 = .ok (.aload_n 0, 1) := by decide +kernel
theorem dL_law_340 : decode cL_law 340 = .ok (.iload_n 3, 1) := by decide +kernel
theorem dL_law_341 : decode cL_law 341 = .ok (.iconst 2, 1) := by decide +kernel
theorem dL_law_342 : decode cL_law 342 = .ok (.iadd, 1) := by decide +kernel
theorem dL_law_343 : decode cL_law 343 = .ok (.iaload, 1) := by decide +kernel
theorem dL_law_344 : decode cL_law 344 = .ok (.invokevirtual 53, 3) := by decide +kernel
theorem dL_law_347 : decode cL_law 347 = .ok (.aload_n 2, 1) := by decide +kernel
theorem dL_law_348 : decode cL_law 348 = .ok (.aload_n 0, 1) := by decide +kernel
theorem dL_law_349 : decode cL_law 349 = .ok (.iload_n 3, 1) := by decide +kernel
theorem dL_law_350 : decode cL_law 350 = .ok (.iconst 1, 1) := by decide +kernel
theorem dL_law_351 : decode cL_law 351 = .ok (.iadd, 1) := by decide +kernel
theorem dL_law_352 : decode cL_law 352 = .ok (.iaload, 1) := by decide +kernel
theorem dL_law_353 : decode cL_law 353 = .ok (.aload_n 0, 1) := by decide +kernel
theorem dL_law_354 : decode cL_law 354 = .ok (.iload_n 3, 1) := by decide +kernel
theorem dL_law_355 : decode cL_law 355 = .ok (.iconst 2, 1) := by decide +kernel
theorem dL_law_356 : decode cL_law 356 = .ok (.iadd, 1) := by decide +kernel
theorem dL_law_357 : decode cL_law 357 = .ok (.iaload, 1) := by decide +kernel
theorem dL_law_358 : decode cL_law 358 = .ok (.invokevirtual 56, 3) := by decide +kernel
theorem dL_law_361 : decode cL_law 361 = .ok (.if_icmp .eq 127, 3) := by decide +kernel
theorem dL_law_364 : decode cL_law 364 = .ok (.iconst 0, 1) := by decide +kernel
theorem dL_law_365 : decode cL_law 365 = .ok (.ireturn, 1) := by decide +kernel
theorem dL_law_366 : decode cL_law 366 = .ok (.aload_n 1, 1) := by decide +kernel
theorem dL_law_367 : decode cL_law 367 = .ok (.aload_n 0, 1) := by decide +kernel
theorem dL_law_368 : decode cL_law 368 = .ok (.iload_n 3, 1) := by decide +kernel
theorem dL_law_369 : decode cL_law 369 = .ok (.iconst 1, 1) := by decide +kernel
theorem dL_law_370 : decode cL_law 370 = .ok (.iadd, 1) := by decide +kernel
theorem dL_law_371 : decode cL_law 371 = .ok (.iaload, 1) := by decide +kernel
theorem dL_law_372 : decode cL_law 372 = .ok (.invokevirtual 57, 3) := by decide +kernel
theorem dL_law_375 : decode cL_law 375 = .ok (.aload_n 2, 1) := by decide +kernel
theorem dL_law_376 : decode cL_law 376 = .ok (.aload_n 0, 1) := by decide +kernel
theorem dL_law_377 : decode cL_law 377 = .ok (.iload_n 3, 1) := by decide +kernel
theorem dL_law_378 : decode cL_law 378 = .ok (.iconst 1, 1) := by decide +kernel
theorem dL_law_379 : decode cL_law 379 = .ok (.iadd, 1) := by decide +kernel
theorem dL_law_380 : decode cL_law 380 = .ok (.iaload, 1) := by decide +kernel
theorem dL_law_381 : decode cL_law 381 = .ok (.invokevirtual 60, 3) := by decide +kernel
theorem dL_law_384 : decode cL_law 384 = .ok (.if_icmp .eq 104, 3) := by decide +kernel
theorem dL_law_387 : decode cL_law 387 = .ok (.iconst 0, 1) := by decide +kernel
theorem dL_law_388 : decode cL_law 388 = .ok (.ireturn, 1) := by decide +kernel
theorem dL_law_389 : decode cL_law 389 = .ok (.aload_n 1, 1) := by decide +kernel
theorem dL_law_390 : decode cL_law 390 = .ok (.aload_n 0, 1) := by decide +kernel
theorem dL_law_391 : decode cL_law 391 = .ok (.iload_n 3, 1) := by decide +kernel
theorem dL_law_392 : decode cL_law 392 = .ok (.iconst 1, 1) := by decide +kernel
theorem dL_law_393 : decode cL_law 393 = .ok (.iadd, 1) := by decide +kernel
theorem dL_law_394 : decode cL_law 394 = .ok (.iaload, 1) := by decide +kernel
theorem dL_law_395 : decode cL_law 395 = .ok (.aload_n 0, 1) := by decide +kernel
theorem dL_law_396 : decode cL_law 396 = .ok (.iload_n 3, 1) := by decide +kernel
theorem dL_law_397 : decode cL_law 397 = .ok (.iconst 2, 1) := by decide +kernel
theorem dL_law_398 : decode cL_law 398 = .ok (.iadd, 1) := by decide +kernel
theorem dL_law_399 : decode cL_law 399 = .ok (.iaload, 1) := by decide +kernel
theorem dL_law_400 : decode cL_law 400 = .ok (.invokevirtual 61, 3) := by decide +kernel
theorem dL_law_403 : decode cL_law 403 = .ok (.aload_n 2, 1) := by decide +kernel
theorem dL_law_404 : decode cL_law 404 = .ok (.aload_n 0, 1) := by decide +kernel
theorem dL_law_405 : decode cL_law 405 = .ok (.iload_n 3, 1) := by decide +kernel
theorem dL_law_406 : decode cL_law 406 = .ok (.iconst 1, 1) := by decide +kernel
theorem dL_law_407 : decode cL_law 407 = .ok (.iadd, 1) := by decide +kernel
theorem dL_law_408 : decode cL_law 408 = .ok (.iaload, 1) := by decide +kernel
theorem dL_law_409 : decode cL_law 409 = .ok (.aload_n 0, 1) := by decide +kernel
theorem dL_law_410 : decode cL_law 410 = .ok (.iload_n 3, 1) := by decide +kernel
theorem dL_law_411 : decode cL_law 411 = .ok (.iconst 2, 1) := by decide +kernel
theorem dL_law_412 : decode cL_law 412 = .ok (.iadd, 1) := by decide +kernel
theorem dL_law_413 : decode cL_law 413 = .ok (.iaload, 1) := by decide +kernel
theorem dL_law_414 : decode cL_law 414 = .ok (.invokevirtual 64, 3) := by decide +kernel
theorem dL_law_417 : decode cL_law 417 = .ok (.if_icmp .eq 71, 3) := by decide +kernel
theorem dL_law_420 : decode cL_law 420 = .ok (.iconst 0, 1) := by decide +kernel
theorem dL_law_421 : decode cL_law 421 = .ok (.ireturn, 1) := by decide +kernel
theorem dL_law_422 : decode cL_law 422 = .ok (.aload_n 1, 1) := by decide +kernel
theorem dL_law_423 : decode cL_law 423 = .ok (.aload_n 0, 1) := by decide +kernel
theorem dL_law_424 : decode cL_law 424 = .ok (.iload_n 3, 1) := by decide +kernel
theorem dL_law_425 : decode cL_law 425 = .ok (.iconst 1, 1) := by decide +kernel
theorem dL_law_426 : decode cL_law 426 = .ok (.iadd, 1) := by decide +kernel
theorem dL_law_427 : decode cL_law 427 = .ok (.iaload, 1) := by decide +kernel
theorem dL_law_428 : decode cL_law 428 = .ok (.aload_n 0, 1) := by decide +kernel
theorem dL_law_429 : decode cL_law 429 = .ok (.iload_n 3, 1) := by decide +kernel
theorem dL_law_430 : decode cL_law 430 = .ok (.iconst 2, 1) := by decide +kernel
theorem dL_law_431 : decode cL_law 431 = .ok (.iadd, 1) := by decide +kernel
theorem dL_law_432 : decode cL_law 432 = .ok (.iaload, 1) := by decide +kernel
theorem dL_law_433 : decode cL_law 433 = .ok (.aload_n 0, 1) := by decide +kernel
theorem dL_law_434 : decode cL_law 434 = .ok (.iload_n 3, 1) := by decide +kernel
theorem dL_law_435 : decode cL_law 435 = .ok (.iconst 3, 1) := by decide +kernel
theorem dL_law_436 : decode cL_law 436 = .ok (.iadd, 1) := by decide +kernel
theorem dL_law_437 : decode cL_law 437 = .ok (.iaload, 1) := by decide +kernel
theorem dL_law_438 : decode cL_law 438 = .ok (.invokevirtual 65, 3) := by decide +kernel
theorem dL_law_441 : decode cL_law 441 = .ok (.aload_n 2, 1) := by decide +kernel
theorem dL_law_442 : decode cL_law 442 = .ok (.aload_n 0, 1) := by decide +kernel
theorem dL_law_443 : decode cL_law 443 = .ok (.iload_n 3, 1) := by decide +kernel
theorem dL_law_444 : decode cL_law 444 = .ok (.iconst 1, 1) := by decide +kernel
theorem dL_law_445 : decode cL_law 445 = .ok (.iadd, 1) := by decide +kernel
theorem dL_law_446 : decode cL_law 446 = .ok (.iaload, 1) := by decide +kernel
theorem dL_law_447 : decode cL_law 447 = .ok (.aload_n 0, 1) := by decide +kernel
theorem dL_law_448 : decode cL_law 448 = .ok (.iload_n 3, 1) := by decide +kernel
theorem dL_law_449 : decode cL_law 449 = .ok (.iconst 2, 1) := by decide +kernel
theorem dL_law_450 : decode cL_law 450 = .ok (.iadd, 1) := by decide +kernel
theorem dL_law_451 : decode cL_law 451 = .ok (.iaload, 1) := by decide +kernel
theorem dL_law_452 : decode cL_law 452 = .ok (.aload_n 0, 1) := by decide +kernel
theorem dL_law_453 : decode cL_law 453 = .ok (.iload_n 3, 1) := by decide +kernel
theorem dL_law_454 : decode cL_law 454 = .ok (.iconst 3, 1) := by decide +kernel
theorem dL_law_455 : decode cL_law 455 = .ok (.iadd, 1) := by decide +kernel
theorem dL_law_456 : decode cL_law 456 = .ok (.iaload, 1) := by decide +kernel
theorem dL_law_457 : decode cL_law 457 = .ok (.invokevirtual 69, 3) := by decide +kernel
theorem dL_law_460 : decode cL_law 460 = .ok (.if_icmp .eq 28, 3) := by decide +kernel
theorem dL_law_463 : decode cL_law 463 = .ok (.iconst 0, 1) := by decide +kernel
theorem dL_law_464 : decode cL_law 464 = .ok (.ireturn, 1) := by decide +kernel
theorem dL_law_465 : decode cL_law 465 = .ok (.aload_n 1, 1) := by decide +kernel
theorem dL_law_466 : decode cL_law 466 = .ok (.aload_n 0, 1) := by decide +kernel
theorem dL_law_467 : decode cL_law 467 = .ok (.iload_n 3, 1) := by decide +kernel
theorem dL_law_468 : decode cL_law 468 = .ok (.iconst 1, 1) := by decide +kernel
theorem dL_law_469 : decode cL_law 469 = .ok (.iadd, 1) := by decide +kernel
theorem dL_law_470 : decode cL_law 470 = .ok (.iaload, 1) := by decide +kernel
theorem dL_law_471 : decode cL_law 471 = .ok (.invokevirtual 70, 3) := by decide +kernel
theorem dL_law_474 : decode cL_law 474 = .ok (.aload_n 2, 1) := by decide +kernel
theorem dL_law_475 : decode cL_law 475 = .ok (.aload_n 0, 1) := by decide +kernel
theorem dL_law_476 : decode cL_law 476 = .ok (.iload_n 3, 1) := by decide +kernel
theorem dL_law_477 : decode cL_law 477 = .ok (.iconst 1, 1) := by decide +kernel
theorem dL_law_478 : decode cL_law 478 = .ok (.iadd, 1) := by decide +kernel
theorem dL_law_479 : decode cL_law 479 = .ok (.iaload, 1) := by decide +kernel
theorem dL_law_480 : decode cL_law 480 = .ok (.invokevirtual 73, 3) := by decide +kernel
theorem dL_law_483 : decode cL_law 483 = .ok (.if_icmp .eq 5, 3) := by decide +kernel
theorem dL_law_486 : decode cL_law 486 = .ok (.iconst 0, 1) := by decide +kernel
theorem dL_law_487 : decode cL_law 487 = .ok (.ireturn, 1) := by decide +kernel
theorem dL_law_488 : decode cL_law 488 = .ok (.iinc 3 5, 3) := by decide +kernel
theorem dL_law_491 : decode cL_law 491 = .ok (.goto (-453), 3) := by decide +kernel
theorem dL_law_494 : decode cL_law 494 = .ok (.iconst 1, 1) := by decide +kernel
theorem dL_law_495 : decode cL_law 495 = .ok (.ireturn, 1) := by decide +kernel
end
section
/-! own rows: one state function a class, one bundle for the context, one for the heap; loads, stores, loops, contracts and calls over them -/
set_option maxRecDepth 100000
abbrev cm_St : Type := Nat → Nat → Int32
def cm_st (σ : cm_St) (k j : Nat) (v : Int32) : cm_St := fun k' => cond (Nat.beq k' k) (upd (σ k) j v) (σ k')
theorem cm_st_eq (σ : cm_St) (k j : Nat) (v : Int32) : cm_st σ k j v k = upd (σ k) j v := by
  show cond (Nat.beq k k) _ _ = _
  rw [Nat.beq_refl]
  rfl
theorem cm_st_ne {σ : cm_St} {k j k' : Nat} {v : Int32} (h : k' ≠ k) : cm_st σ k j v k' = σ k' := by
  have h2 : Nat.beq k' k = false := by
    cases q : Nat.beq k' k with
    | false => rfl
    | true => exact absurd (Nat.eq_of_beq_eq_true q) h
  show cond (Nat.beq k' k) _ _ = _
  rw [h2]
  rfl
theorem cm_upd (f : Nat → Int32) (k : Nat) (x : Int32) (j : Nat) : upd f k x j = if j = k then x else f j := rfl
theorem cm_st_at (σ : cm_St) (k j : Nat) (v : Int32) (k' j' : Nat) : cm_st σ k j v k' j' = if k' = k ∧ j' = j then v else σ k' j' := by
  by_cases h : k' = k
  · subst h
    rw [cm_st_eq, cm_upd]
    by_cases h2 : j' = j
    · rw [if_pos h2, if_pos ⟨rfl, h2⟩]
    · rw [if_neg h2, if_neg (fun q => h2 q.2)]
  · rw [cm_st_ne h, if_neg (fun q => h q.1)]
abbrev cm_cl : List vw_C := [(RX1, TX1, 15), (RX2, TX2, 5)]
abbrev cm_fX (a : Nat → Nat) (σ : cm_St) : List Value := [.ref (a 0), .int (σ 1 0), .int (σ 2 0), .ref (a 3), .ref (a 4), .int (σ 5 0), .ref (a 6), .ref (a 7), .ref (a 8), .int (σ 9 0), .int (σ 10 0), .ref (a 11), .ref (a 12), .ref (a 13), .ref (a 14)]
abbrev cm_wX (h : Nat) (a : Nat → Nat) (d : Nat → ClassId) (σ : cm_St) : va_W := [(h, .inr (0, cm_fX a σ)), (a 0, .inl (d 0, 64, .inl (σ 0))), (a 3, .inl (d 3, 32, .inl (σ 3))), (a 4, .inl (d 4, 32, .inl (σ 4))), (a 6, .inl (d 6, 4, .inl (σ 6))), (a 7, .inl (d 7, 4, .inl (σ 7))), (a 8, .inl (d 8, 4, .inl (σ 8))), (a 11, .inl (d 11, 8, .inl (σ 11))), (a 12, .inl (d 12, 8, .inl (σ 12))), (a 13, .inl (d 13, 32, .inl (σ 13))), (a 14, .inl (d 14, 4, .inl (σ 14)))]
abbrev cm_tX (d : Nat → ClassId) : List (ClassId × FieldType) := [(d 0, .int), (d 3, .byte), (d 4, .boolean), (d 6, .byte), (d 7, .byte), (d 8, .boolean), (d 11, .byte), (d 12, .boolean), (d 13, .int), (d 14, .byte)]
abbrev cm_fM (a : Nat → Nat) (σ : cm_St) : List Value := [.ref (a 0), .ref (a 1), .ref (a 2), .int (σ 3 0), .int (σ 4 0)]
abbrev cm_wM (h : Nat) (a : Nat → Nat) (d : Nat → ClassId) (σ : cm_St) : va_W := [(h, .inr (1, cm_fM a σ)), (a 0, .inl (d 0, 64, .inl (σ 0))), (a 1, .inl (d 1, 32, .inl (σ 1))), (a 2, .inl (d 2, 32, .inl (σ 2)))]
abbrev cm_tM (d : Nat → ClassId) : List (ClassId × FieldType) := [(d 0, .int), (d 1, .int), (d 2, .boolean)]
/-- what stays all through a method -/
def cm_C (p : Program) (c : Code) (cc : ByteArray) (s : State) (args : Array Value) (m : MethodId) (own : String) (D : va_G) (tys : List (ClassId × FieldType)) : Prop :=
  p.tables.exec = Jvm.exec ∧ c.code = cc ∧ (∀ w ∈ lw_all, w.before args s = true) ∧ s.vm.findClass own = some m.cls ∧ va_K D cm_cl tys s
/-- the heap: it holds the cells, they are apart, nothing else has changed -/
def cm_G (D : va_G) (A : Nat → Prop) (H0 : Heap) (ws : va_W) (H : Heap) (locs : List Loc) : Prop := va_P D cm_cl ws H ∧ va_D A ws ∧ va_S A H0 H locs
section CMR
variable {p : Program} {l : Launch} {e : Env} {R : Room} {s : State} {m : MethodId} {args : Array Value} {below : List Frame} {meth : Method} {c : Code} {H : Heap} {locs : List Loc} {cells slots : Nat} {Q : State → Prop}
variable {cc : ByteArray} {pc : Nat} {ls : Array Slot} {rest : List Value} {D : va_G} {A : Nat → Prop} {H0 : Heap} {tys : List (ClassId × FieldType)} {ws ws' : va_W} {own : String}
theorem cm_top {x y : Int32} (h : x = y) (kk : W p l e R s m args below meth c H locs cells slots Q (F0 m pc ls (.int y :: rest))) : W p l e R s m args below meth c H locs cells slots Q (F0 m pc ls (.int x :: rest)) := by
  rw [h]; exact kk
theorem cm_iald (C : cm_C p c cc s args m own D tys) (G : cm_G D A H0 ws H locs) (q0 t0 : Nat) {a : Nat} {cA : ClassId} {n : Nat} {f : Nat → Int32} (ha : ws[q0]? = some (a, .inl (cA, n, .inl f))) (ht : tys[t0]? = some (cA, .int)) (j : Nat) (hj : j < n) (hn : n < 2 ^ 31) (hdg : decode cc pc = .ok (.iaload, 1))
    (kk : W p l e R s m args below meth c H locs cells slots Q (F0 m (pc + 1) ls (.int (f j) :: rest))) : W p l e R s m args below meth c H locs cells slots Q (F0 m pc ls (.int (nI j) :: .ref a :: rest)) := by
  refine va_iald C.1 C.2.1 C.2.2.2.2 G.1 q0 t0 ha ht (vp_in_nI hj hn) hdg ?_
  rw [nI_clamp (Nat.lt_trans hj hn)]
  exact kk
theorem cm_bald (C : cm_C p c cc s args m own D tys) (G : cm_G D A H0 ws H locs) (q0 t0 : Nat) {a : Nat} {cA : ClassId} {n : Nat} {f : Nat → Int32} (ha : ws[q0]? = some (a, .inl (cA, n, .inl f))) (ht : tys[t0]? = some (cA, .byte)) (j : Nat) (hj : j < n) (hn : n < 2 ^ 31) (hdg : decode cc pc = .ok (.baload, 1))
    (kk : W p l e R s m args below meth c H locs cells slots Q (F0 m (pc + 1) ls (.int (f j) :: rest))) : W p l e R s m args below meth c H locs cells slots Q (F0 m pc ls (.int (nI j) :: .ref a :: rest)) := by
  refine va_bald C.1 C.2.1 C.2.2.2.2 G.1 q0 t0 ha ht (vp_in_nI hj hn) hdg ?_
  rw [nI_clamp (Nat.lt_trans hj hn)]
  exact kk
theorem cm_zald (C : cm_C p c cc s args m own D tys) (G : cm_G D A H0 ws H locs) (q0 t0 : Nat) {a : Nat} {cA : ClassId} {n : Nat} {f : Nat → Int32} (ha : ws[q0]? = some (a, .inl (cA, n, .inl f))) (ht : tys[t0]? = some (cA, .boolean)) (j : Nat) (hj : j < n) (hn : n < 2 ^ 31) (hdg : decode cc pc = .ok (.baload, 1))
    (kk : W p l e R s m args below meth c H locs cells slots Q (F0 m (pc + 1) ls (.int (f j) :: rest))) : W p l e R s m args below meth c H locs cells slots Q (F0 m pc ls (.int (nI j) :: .ref a :: rest)) := by
  refine va_zald C.1 C.2.1 C.2.2.2.2 G.1 q0 t0 ha ht (vp_in_nI hj hn) hdg ?_
  rw [nI_clamp (Nat.lt_trans hj hn)]
  exact kk
theorem cm_iast (C : cm_C p c cc s args m own D tys) (G : cm_G D A H0 ws H locs) (q0 t0 : Nat) {a : Nat} {cA : ClassId} {n : Nat} {f : Nat → Int32} (ha : ws[q0]? = some (a, .inl (cA, n, .inl f))) (ht : tys[t0]? = some (cA, .int)) (j : Nat) (hj : j < n) (hn : n < 2 ^ 31) {x : Int32} (hw : ws.set q0 (a, .inl (cA, n, .inl (upd f j x))) = ws') (hdg : decode cc pc = .ok (.iastore, 1))
    (kk : ∀ (H1 : Heap) (locs1 : List Loc), cm_G D A H0 ws' H1 locs1 → W p l e R s m args below meth c H1 locs1 cells slots Q (F0 m (pc + 1) ls rest)) : W p l e R s m args below meth c H locs cells slots Q (F0 m pc ls (.int x :: .int (nI j) :: .ref a :: rest)) := by
  subst hw
  refine va_iast C.1 C.2.1 C.2.2.2.2 G.1 G.2.1 G.2.2 q0 t0 ha ht (vp_in_nI hj hn) hdg (fun H1 locs1 h1 h2 h3 => ?_)
  rw [nI_clamp (Nat.lt_trans hj hn)] at h1 h2
  exact kk H1 locs1 ⟨h1, h2, h3⟩
theorem cm_bast (C : cm_C p c cc s args m own D tys) (G : cm_G D A H0 ws H locs) (q0 t0 : Nat) {a : Nat} {cA : ClassId} {n : Nat} {f : Nat → Int32} (ha : ws[q0]? = some (a, .inl (cA, n, .inl f))) (ht : tys[t0]? = some (cA, .byte)) (j : Nat) (hj : j < n) (hn : n < 2 ^ 31) {x v : Int32} (hv : vp_nar .byte x = v) (hw : ws.set q0 (a, .inl (cA, n, .inl (upd f j v))) = ws') (hdg : decode cc pc = .ok (.bastore, 1))
    (kk : ∀ (H1 : Heap) (locs1 : List Loc), cm_G D A H0 ws' H1 locs1 → W p l e R s m args below meth c H1 locs1 cells slots Q (F0 m (pc + 1) ls rest)) : W p l e R s m args below meth c H locs cells slots Q (F0 m pc ls (.int x :: .int (nI j) :: .ref a :: rest)) := by
  subst hw
  subst hv
  refine va_bast C.1 C.2.1 C.2.2.2.2 G.1 G.2.1 G.2.2 q0 t0 ha ht (vp_in_nI hj hn) hdg (fun H1 locs1 h1 h2 h3 => ?_)
  rw [nI_clamp (Nat.lt_trans hj hn)] at h1 h2
  exact kk H1 locs1 ⟨h1, h2, h3⟩
theorem cm_zast (C : cm_C p c cc s args m own D tys) (G : cm_G D A H0 ws H locs) (q0 t0 : Nat) {a : Nat} {cA : ClassId} {n : Nat} {f : Nat → Int32} (ha : ws[q0]? = some (a, .inl (cA, n, .inl f))) (ht : tys[t0]? = some (cA, .boolean)) (j : Nat) (hj : j < n) (hn : n < 2 ^ 31) {x v : Int32} (hv : vp_nar .boolean x = v) (hw : ws.set q0 (a, .inl (cA, n, .inl (upd f j v))) = ws') (hdg : decode cc pc = .ok (.bastore, 1))
    (kk : ∀ (H1 : Heap) (locs1 : List Loc), cm_G D A H0 ws' H1 locs1 → W p l e R s m args below meth c H1 locs1 cells slots Q (F0 m (pc + 1) ls rest)) : W p l e R s m args below meth c H locs cells slots Q (F0 m pc ls (.int x :: .int (nI j) :: .ref a :: rest)) := by
  subst hw
  subst hv
  refine va_zast C.1 C.2.1 C.2.2.2.2 G.1 G.2.1 G.2.2 q0 t0 ha ht (vp_in_nI hj hn) hdg (fun H1 locs1 h1 h2 h3 => ?_)
  rw [nI_clamp (Nat.lt_trans hj hn)] at h1 h2
  exact kk H1 locs1 ⟨h1, h2, h3⟩
/-- a field of the class -/
theorem cm_get1 (C : cm_C p c cc s args m RX1 D tys) (G : cm_G D A H0 ws H locs) (q0 : Nat) {a : Nat} {fs : List Value} (he : ws[q0]? = some (a, .inr (0, fs))) (k : Nat) (hk : k < 15) {idx : Nat} (hlink : Cond.fieldLink RX1 idx RX1 (TX1 k).2.1 (TX1 k).2.2.1 ∈ lw_all) (hown : (TX1 k).1 = RX1) {v : Value} (hv : fs[k]? = some v) (hdg : decode cc pc = .ok (.getfield idx, 3))
    (kk : W p l e R s m args below meth c H locs cells slots Q (F0 m (pc + 3) ls (v :: rest))) : W p l e R s m args below meth c H locs cells slots Q (F0 m pc ls (.ref a :: rest)) :=
  va_get (D := D) (ci := 0) (v := v) (C := RX1) (T := TX1) (N := 15) C.1 C.2.1 C.2.2.1 in_X1 C.2.2.2.1 C.2.2.2.2 G.1 q0 he rfl k hk (C.2.2.1 _ hlink) (fun _ h => by rw [hown] at h; exact h) hv hdg kk
theorem cm_get2 (C : cm_C p c cc s args m RX2 D tys) (G : cm_G D A H0 ws H locs) (q0 : Nat) {a : Nat} {fs : List Value} (he : ws[q0]? = some (a, .inr (1, fs))) (k : Nat) (hk : k < 5) {idx : Nat} (hlink : Cond.fieldLink RX2 idx RX2 (TX2 k).2.1 (TX2 k).2.2.1 ∈ lw_all) (hown : (TX2 k).1 = RX2) {v : Value} (hv : fs[k]? = some v) (hdg : decode cc pc = .ok (.getfield idx, 3))
    (kk : W p l e R s m args below meth c H locs cells slots Q (F0 m (pc + 3) ls (v :: rest))) : W p l e R s m args below meth c H locs cells slots Q (F0 m pc ls (.ref a :: rest)) :=
  va_get (D := D) (ci := 1) (v := v) (C := RX2) (T := TX2) (N := 5) C.1 C.2.1 C.2.2.1 in_X2 C.2.2.2.1 C.2.2.2.2 G.1 q0 he rfl k hk (C.2.2.1 _ hlink) (fun _ h => by rw [hown] at h; exact h) hv hdg kk
/-- a field that isn't final is written -/
theorem cm_put1 (C : cm_C p c cc s args m RX1 D tys) (G : cm_G D A H0 ws H locs) (q0 : Nat) {a : Nat} {fs : List Value} (he : ws[q0]? = some (a, .inr (0, fs))) (k : Nat) (hk : k < 15) {idx : Nat} (hlink : Cond.fieldLink RX1 idx RX1 (TX1 k).2.1 (TX1 k).2.2.1 ∈ lw_all) (hown : (TX1 k).1 = RX1) (hfin : (TX1 k).2.2.2 = false) (hd : parseFieldDescriptor (TX1 k).2.2.1 = some .int) {v : Int32} (hl : k < fs.length) (hw : ws.set q0 (a, .inr (0, fs.set k (.int v))) = ws') (hdg : decode cc pc = .ok (.putfield idx, 3))
    (kk : ∀ (H1 : Heap) (locs1 : List Loc), cm_G D A H0 ws' H1 locs1 → W p l e R s m args below meth c H1 locs1 cells slots Q (F0 m (pc + 3) ls rest)) : W p l e R s m args below meth c H locs cells slots Q (F0 m pc ls (.int v :: .ref a :: rest)) := by
  subst hw
  exact va_put (D := D) (ci := 0) (v := .int v) (ty := .int) (C := RX1) (T := TX1) (N := 15) C.1 C.2.1 C.2.2.1 in_X1 tyX1 tyX1_ok nmX1 C.2.2.2.1 C.2.2.2.2 G.1 G.2.1 G.2.2 q0 he rfl k hk (C.2.2.1 _ hlink) (fun _ h => by rw [hown] at h; exact h) hfin hd rfl rfl hl hdg (fun H1 locs1 h1 h2 h3 => kk H1 locs1 ⟨h1, h2, h3⟩)
theorem cm_put2 (C : cm_C p c cc s args m RX2 D tys) (G : cm_G D A H0 ws H locs) (q0 : Nat) {a : Nat} {fs : List Value} (he : ws[q0]? = some (a, .inr (1, fs))) (k : Nat) (hk : k < 5) {idx : Nat} (hlink : Cond.fieldLink RX2 idx RX2 (TX2 k).2.1 (TX2 k).2.2.1 ∈ lw_all) (hown : (TX2 k).1 = RX2) (hfin : (TX2 k).2.2.2 = false) (hd : parseFieldDescriptor (TX2 k).2.2.1 = some .int) {v : Int32} (hl : k < fs.length) (hw : ws.set q0 (a, .inr (1, fs.set k (.int v))) = ws') (hdg : decode cc pc = .ok (.putfield idx, 3))
    (kk : ∀ (H1 : Heap) (locs1 : List Loc), cm_G D A H0 ws' H1 locs1 → W p l e R s m args below meth c H1 locs1 cells slots Q (F0 m (pc + 3) ls rest)) : W p l e R s m args below meth c H locs cells slots Q (F0 m pc ls (.int v :: .ref a :: rest)) := by
  subst hw
  exact va_put (D := D) (ci := 1) (v := .int v) (ty := .int) (C := RX2) (T := TX2) (N := 5) C.1 C.2.1 C.2.2.1 in_X2 tyX2 tyX2_ok nmX2 C.2.2.2.1 C.2.2.2.2 G.1 G.2.1 G.2.2 q0 he rfl k hk (C.2.2.1 _ hlink) (fun _ h => by rw [hown] at h; exact h) hfin hd rfl rfl hl hdg (fun H1 locs1 h1 h2 h3 => kk H1 locs1 ⟨h1, h2, h3⟩)
/-- a loop of N rounds at a head with an empty stack -/
theorem cm_loop {ι : Type} {nL : Nat} (I : Nat → ι → Prop) (wo : ι → va_W) (lv : Nat → ι → List (Nat × Value)) (N : Nat)
    (hx : ∀ (u : ι) (H : Heap) (locs : List Loc) (ls : Array Slot), I N u → cm_G D A H0 (wo u) H locs → lv_has ls nL (lv N u) → W p l e R s m args below meth c H locs cells slots Q (F0 m pc ls []))
    (hs : ∀ (i : Nat) (u : ι) (H : Heap) (locs : List Loc) (ls : Array Slot), i < N → I i u → cm_G D A H0 (wo u) H locs → lv_has ls nL (lv i u) → (∀ (u' : ι) (H : Heap) (locs : List Loc) (ls : Array Slot), I (i + 1) u' → cm_G D A H0 (wo u') H locs → lv_has ls nL (lv (i + 1) u') → W p l e R s m args below meth c H locs cells slots Q (F0 m pc ls [])) → W p l e R s m args below meth c H locs cells slots Q (F0 m pc ls [])) :
    ∀ (i : Nat) (u : ι) (H : Heap) (locs : List Loc) (ls : Array Slot), i ≤ N → I i u → cm_G D A H0 (wo u) H locs → lv_has ls nL (lv i u) → W p l e R s m args below meth c H locs cells slots Q (F0 m pc ls []) := by
  have key : ∀ (n i : Nat) (u : ι) (H : Heap) (locs : List Loc) (ls : Array Slot), i + n = N → I i u → cm_G D A H0 (wo u) H locs → lv_has ls nL (lv i u) → W p l e R s m args below meth c H locs cells slots Q (F0 m pc ls []) := by
    intro n
    induction n with
    | zero =>
      intro i u H locs ls h hI hG hl
      have h2 : i = N := by omega
      subst h2
      exact hx u H locs ls hI hG hl
    | succ n ih =>
      intro i u H locs ls h hI hG hl
      exact hs i u H locs ls (by omega) hI hG hl (fun u' H locs ls a b c => ih (i + 1) u' H locs ls (by omega) a b c)
  intro i u H locs ls h
  exact key (N - i) i u H locs ls (by omega)
/-- the ends -/
theorem cm_iret {wo : cm_St → va_W} {σ : cm_St} {post : Int32 → cm_St → Prop} {v : Int32} (C : cm_C p c cc s args m own D tys) (G : cm_G D A s.heap (wo σ) H locs) (hr : meth.sig.returnType = some .int) (hk : meth.locks = false) (hp : post v σ) (hdg : decode cc pc = .ok (.ireturn, 1)) :
    W p l e R s m args below meth c H locs 0 0 (MQ below (va_Qi post (fun (σ' : cm_St) (t : State) => va_P D cm_cl (wo σ') t.heap ∧ va_D A (wo σ')) A) args s 0 0 A) (F0 m pc ls [.int v]) :=
  W.iret C.1 C.2.1 hr (fun t ht _ => ⟨⟨v, σ, rfl, hp, by rw [ht]; exact G.1, G.2.1⟩, G.2.2.F ht⟩) G.2.2.2.2 hdg hk
theorem cm_zret {wo : cm_St → va_W} {σ : cm_St} {post : Int32 → cm_St → Prop} {v : Int32} (C : cm_C p c cc s args m own D tys) (G : cm_G D A s.heap (wo σ) H locs) (hr : meth.sig.returnType = some .boolean) (hk : meth.locks = false) (hn : narrow .boolean (.int v) = .int v) (hp : post v σ) (hdg : decode cc pc = .ok (.ireturn, 1)) :
    W p l e R s m args below meth c H locs 0 0 (MQ below (va_Qi post (fun (σ' : cm_St) (t : State) => va_P D cm_cl (wo σ') t.heap ∧ va_D A (wo σ')) A) args s 0 0 A) (F0 m pc ls [.int v]) :=
  W.zret C.1 C.2.1 hr hn (fun t ht _ => ⟨⟨v, σ, rfl, hp, by rw [ht]; exact G.1, G.2.1⟩, G.2.2.F ht⟩) G.2.2.2.2 hdg hk
theorem cm_vret {wo : cm_St → va_W} {σ : cm_St} {post : cm_St → Prop} (C : cm_C p c cc s args m own D tys) (G : cm_G D A s.heap (wo σ) H locs) (hr : meth.sig.returnType = none) (hk : meth.locks = false) (hp : post σ) (hdg : decode cc pc = .ok (.return_, 1)) :
    W p l e R s m args below meth c H locs 0 0 (MQ below (va_Qv post (fun (σ' : cm_St) (t : State) => va_P D cm_cl (wo σ') t.heap ∧ va_D A (wo σ')) A) args s 0 0 A) (F0 m pc ls []) :=
  W.vret C.1 C.2.1 hr (fun t ht _ => ⟨⟨σ, rfl, hp, by rw [ht]; exact G.1, G.2.1⟩, G.2.2.F ht⟩) G.2.2.2.2 hdg hk
end CMR
/-- a contract: an int or a boolean is the answer -/
def cm_Mi (l : Launch) (D : va_G) (y : MethodName) (wds : List Cond) (rm : Room) (tys : List (ClassId × FieldType)) (wo : cm_St → va_W) (h0 : Nat) (As : List Value) (σ : cm_St) (post : Int32 → cm_St → Prop) : Prop :=
  ∀ sz : Nat, Met l y wds rm (va_Pc (.ref h0 :: As) (fun U => U.heap.size = sz ∧ va_P D cm_cl (wo σ) U.heap ∧ va_K D cm_cl tys U ∧ va_D (fun _ => True) (wo σ))) (va_Qi post (fun (σ' : cm_St) (t : State) => va_P D cm_cl (wo σ') t.heap ∧ va_D (va_A (wo σ) sz) (wo σ')) (va_A (wo σ) sz)) 0 0 (va_A (wo σ) sz)
def cm_Mv (l : Launch) (D : va_G) (y : MethodName) (wds : List Cond) (rm : Room) (tys : List (ClassId × FieldType)) (wo : cm_St → va_W) (h0 : Nat) (As : List Value) (σ : cm_St) (post : cm_St → Prop) : Prop :=
  ∀ sz : Nat, Met l y wds rm (va_Pc (.ref h0 :: As) (fun U => U.heap.size = sz ∧ va_P D cm_cl (wo σ) U.heap ∧ va_K D cm_cl tys U ∧ va_D (fun _ => True) (wo σ))) (va_Qv post (fun (σ' : cm_St) (t : State) => va_P D cm_cl (wo σ') t.heap ∧ va_D (va_A (wo σ) sz) (wo σ')) (va_A (wo σ) sz)) 0 0 (va_A (wo σ) sz)
theorem cm_startI {l : Launch} {D : va_G} {y : MethodName} {cc : ByteArray} {maxL : Nat} {ret : Option FieldType} {rm : Room} {tys : List (ClassId × FieldType)} {wo : cm_St → va_W} {h0 : Nat} {As : List Value} {σ : cm_St} {post : Int32 → cm_St → Prop} (hy : plainName y.cls = true) (hn : (lg_sl (.ref h0 :: As)).length ≤ maxL)
    (body : ∀ (p : Program) (e : Env) (s : State) (m : MethodId) (below : List Frame) (meth : Method) (c : Code) (A : Nat → Prop) (ls : Array Slot), cm_C p c cc s (Value.ref h0 :: As).toArray m y.cls D tys → meth.sig.returnType = ret → meth.locks = false → c.maxLocals = maxL → (∀ q : Nat, s.heap.size ≤ q → A q) → cm_G D A s.heap (wo σ) s.heap [] → lv_has ls maxL (lv_args 0 (.ref h0 :: As)) →
      W p l e rm s m (Value.ref h0 :: As).toArray below meth c s.heap [] 0 0 (MQ below (va_Qi post (fun (σ' : cm_St) (t : State) => va_P D cm_cl (wo σ') t.heap ∧ va_D A (wo σ')) A) (Value.ref h0 :: As).toArray s 0 0 A) (F0 m 0 ls [])) :
    cm_Mi l D y (ws_ y cc maxL ret) rm tys wo h0 As σ post := by
  intro sz
  refine Met.ofW (cc := cc) (maxL := maxL) (ret := ret) hy rfl ?_
  intro p e s m args below meth c s₁ B hml hv
  obtain ⟨rfl, hsz, hP, hK, hD0⟩ := hv
  have hts := atoms_spec (ws := ws_ y cc maxL ret) B.pre
  have hts : ∀ w ∈ lw_all, w.before _ s = true := fun w h => hts w (List.mem_cons_of_mem _ h)
  have hown : s.vm.findClass y.cls = some m.cls := findClass_of_methodNamed B.named
  subst hsz
  have hl := lv_entry (.ref h0 :: As) (n := maxL) hn
  rw [lg_entry_eq]
  exact body p e s m below meth c (va_A (wo σ) s.heap.size) _ ⟨B.exec, B.bytes, hts, hown, hK⟩ B.returns B.notSynchronized hml (fun q h => Or.inr h) ⟨hP, hD0.self, va_S.rf⟩ hl
theorem cm_startV {l : Launch} {D : va_G} {y : MethodName} {cc : ByteArray} {maxL : Nat} {rm : Room} {tys : List (ClassId × FieldType)} {wo : cm_St → va_W} {h0 : Nat} {As : List Value} {σ : cm_St} {post : cm_St → Prop} (hy : plainName y.cls = true) (hn : (lg_sl (.ref h0 :: As)).length ≤ maxL)
    (body : ∀ (p : Program) (e : Env) (s : State) (m : MethodId) (below : List Frame) (meth : Method) (c : Code) (A : Nat → Prop) (ls : Array Slot), cm_C p c cc s (Value.ref h0 :: As).toArray m y.cls D tys → meth.sig.returnType = none → meth.locks = false → c.maxLocals = maxL → (∀ q : Nat, s.heap.size ≤ q → A q) → cm_G D A s.heap (wo σ) s.heap [] → lv_has ls maxL (lv_args 0 (.ref h0 :: As)) →
      W p l e rm s m (Value.ref h0 :: As).toArray below meth c s.heap [] 0 0 (MQ below (va_Qv post (fun (σ' : cm_St) (t : State) => va_P D cm_cl (wo σ') t.heap ∧ va_D A (wo σ')) A) (Value.ref h0 :: As).toArray s 0 0 A) (F0 m 0 ls [])) :
    cm_Mv l D y (ws_ y cc maxL none) rm tys wo h0 As σ post := by
  intro sz
  refine Met.ofW (cc := cc) (maxL := maxL) (ret := none) hy rfl ?_
  intro p e s m args below meth c s₁ B hml hv
  obtain ⟨rfl, hsz, hP, hK, hD0⟩ := hv
  have hts := atoms_spec (ws := ws_ y cc maxL none) B.pre
  have hts : ∀ w ∈ lw_all, w.before _ s = true := fun w h => hts w (List.mem_cons_of_mem _ h)
  have hown : s.vm.findClass y.cls = some m.cls := findClass_of_methodNamed B.named
  subst hsz
  have hl := lv_entry (.ref h0 :: As) (n := maxL) hn
  rw [lg_entry_eq]
  exact body p e s m below meth c (va_A (wo σ) s.heap.size) _ ⟨B.exec, B.bytes, hts, hown, hK⟩ B.returns B.notSynchronized hml (fun q h => Or.inr h) ⟨hP, hD0.self, va_S.rf⟩ hl
section CMC
variable {p : Program} {l : Launch} {e : Env} {R : Room} {s : State} {m : MethodId} {args : Array Value} {below : List Frame} {meth : Method} {c : Code} {H : Heap} {locs : List Loc} {cells slots : Nat} {Q : State → Prop}
variable {cc : ByteArray} {pc : Nat} {ls : Array Slot} {rest st0 : List Value} {D : va_G} {A : Nat → Prop} {H0 : Heap} {tys : List (ClassId × FieldType)} {ws : va_W} {own : String}
variable {y : MethodName} {bytes : ByteArray} {maxL nL n index ci : Nat} {ret : Option FieldType} {wds : List Cond} {rm : Room} {wo : cm_St → va_W} {h0 : Nat} {As fs : List Value} {σ : cm_St} {q : vw_C}
/-- a call on the object whose cells are the whole world -/
theorem cm_selfi {post : Int32 → cm_St → Prop} (C : cm_C p c cc s args m own D tys) (hml : c.maxLocals = nL) (hA : ∀ q : Nat, H0.size ≤ q → A q) (G : cm_G D A H0 (wo σ) H locs) (hsz : ls.size = nL) (hM : cm_Mi l D y wds rm tys wo h0 As σ post) (hcl : cm_cl[ci]? = some q) (he : (wo σ)[0]? = some (h0, .inr (ci, fs))) (cw : CallW R s args own q.1 index y bytes maxL ret wds rm 0 0 n) (hn : As.length = n) (hst : st0 = As.reverse ++ .ref h0 :: rest) (hroom : (rest.map fun v => v.category).sum ≤ 8) (hdg : decode cc pc = .ok (.invokevirtual index, 3)) (hf : cells ≤ R.cells ∧ slots ≤ R.slots)
    (kk : ∀ (r : Int32) (σ' : cm_St) (H1 : Heap) (locs1 : List Loc), post r σ' → cm_G D A H0 (wo σ') H1 locs1 → W p l e R s m args below meth c H1 locs1 cells slots Q (F0 m (pc + 3) ls (.int r :: rest))) : W p l e R s m args below meth c H locs cells slots Q (F0 m pc ls st0) := by
  obtain ⟨hx, hb, hts, hown, hK⟩ := C
  obtain ⟨hP, hD, hS⟩ := G
  have hF : ∀ q, va_A (wo σ) H.size q → A q := fun q h => by
    rcases h with ⟨k, e, h⟩ | h
    · exact hD.2 k _ h
    · exact hA q (Nat.le_trans hS.1 h)
  refine va_calli (va_runV (As := As) (rest := rest) ⟨hx, hb, hml, hown, hts⟩ (hM H.size) cw ⟨fun a U g mk q => by obtain ⟨q0, q1, qP, qK, qD⟩ := q; exact ⟨q0, q1, qP, va_K.moved (u := U) (U := U.calling g mk a) (Vm.Alike.refl U.vm) qK, qD⟩, va_recv hK hP hcl he, fun U hU hW => ⟨rfl, by rw [hU], by rw [hU]; exact hP, va_K.moved hW.alike hK, hD.weaken (fun _ _ _ _ => trivial)⟩⟩ rfl hn hsz hst (lv_room hroom) hdg hf) hS (fun q _ h => hF q h) hF (fun r u t H1 locs1 ht hvm hw hB hz1 hk1 hS1 => ?_)
  exact kk r u H1 locs1 hw ⟨by rw [← ht]; exact hB.1, hB.2.weaken (fun _ q _ h => hF _ h), hS1⟩
theorem cm_selfv {post : cm_St → Prop} (C : cm_C p c cc s args m own D tys) (hml : c.maxLocals = nL) (hA : ∀ q : Nat, H0.size ≤ q → A q) (G : cm_G D A H0 (wo σ) H locs) (hsz : ls.size = nL) (hM : cm_Mv l D y wds rm tys wo h0 As σ post) (hcl : cm_cl[ci]? = some q) (he : (wo σ)[0]? = some (h0, .inr (ci, fs))) (cw : CallW R s args own q.1 index y bytes maxL ret wds rm 0 0 n) (hn : As.length = n) (hst : st0 = As.reverse ++ .ref h0 :: rest) (hroom : (rest.map fun v => v.category).sum ≤ 8) (hdg : decode cc pc = .ok (.invokevirtual index, 3)) (hf : cells ≤ R.cells ∧ slots ≤ R.slots)
    (kk : ∀ (σ' : cm_St) (H1 : Heap) (locs1 : List Loc), post σ' → cm_G D A H0 (wo σ') H1 locs1 → W p l e R s m args below meth c H1 locs1 cells slots Q (F0 m (pc + 3) ls rest)) : W p l e R s m args below meth c H locs cells slots Q (F0 m pc ls st0) := by
  obtain ⟨hx, hb, hts, hown, hK⟩ := C
  obtain ⟨hP, hD, hS⟩ := G
  have hF : ∀ q, va_A (wo σ) H.size q → A q := fun q h => by
    rcases h with ⟨k, e, h⟩ | h
    · exact hD.2 k _ h
    · exact hA q (Nat.le_trans hS.1 h)
  refine va_callv (va_runV (As := As) (rest := rest) ⟨hx, hb, hml, hown, hts⟩ (hM H.size) cw ⟨fun a U g mk q => by obtain ⟨q0, q1, qP, qK, qD⟩ := q; exact ⟨q0, q1, qP, va_K.moved (u := U) (U := U.calling g mk a) (Vm.Alike.refl U.vm) qK, qD⟩, va_recv hK hP hcl he, fun U hU hW => ⟨rfl, by rw [hU], by rw [hU]; exact hP, va_K.moved hW.alike hK, hD.weaken (fun _ _ _ _ => trivial)⟩⟩ rfl hn hsz hst (lv_room hroom) hdg hf) hS (fun q _ h => hF q h) hF (fun u t H1 locs1 ht hvm hw hB hz1 hk1 hS1 => ?_)
  exact kk u H1 locs1 hw ⟨by rw [← ht]; exact hB.1, hB.2.weaken (fun _ q _ h => hF _ h), hS1⟩
/-- a call on an object whose cells are some of the world's -/
theorem cm_frami {post : Int32 → cm_St → Prop} {tysC : List (ClassId × FieldType)} {wr : va_W} (C : cm_C p c cc s args m own D tys) (hml : c.maxLocals = nL) (hA : ∀ q : Nat, H0.size ≤ q → A q) (G : cm_G D A H0 ws H locs) (hsz : ls.size = nL) (hM : cm_Mi l D y wds rm tysC wo h0 As σ post) (isT isC isR : List Nat) (hT : isT.filterMap (fun i => tys[i]?) = tysC) (hC : isC.map (fun i => ws[i]?) = (wo σ).map some) (hC2 : isC.filterMap (fun i => ws[i]?) = wo σ) (hR : isR.map (fun i => ws[i]?) = wr.map some) (hnC : va_nd isC = true) (hnR : va_nd isR = true) (hdis : ∀ i ∈ isR, i ∉ isC) (hcl : cm_cl[ci]? = some q) (he : (wo σ)[0]? = some (h0, .inr (ci, fs))) (cw : CallW R s args own q.1 index y bytes maxL ret wds rm 0 0 n) (hn : As.length = n) (hst : st0 = As.reverse ++ .ref h0 :: rest) (hroom : (rest.map fun v => v.category).sum ≤ 8) (hdg : decode cc pc = .ok (.invokevirtual index, 3)) (hf : cells ≤ R.cells ∧ slots ≤ R.slots)
    (kk : ∀ (r : Int32) (σ' : cm_St) (H1 : Heap) (locs1 : List Loc), post r σ' → cm_G D A H0 (wr ++ wo σ') H1 locs1 → W p l e R s m args below meth c H1 locs1 cells slots Q (F0 m (pc + 3) ls (.int r :: rest))) : W p l e R s m args below meth c H locs cells slots Q (F0 m pc ls st0) := by
  obtain ⟨hx, hb, hts, hown, hK⟩ := C
  obtain ⟨hP, hD, hS⟩ := G
  have hPc := hP.sub (ws' := wo σ) isC hC2
  have hDc := hD.sub (ws' := wo σ) isC hnC hC
  have hKc := hK.sub (tys' := tysC) isT hT
  have hF := va_free (wc := wo σ) hD hS hA isC hC
  refine va_calli (va_runV (As := As) (rest := rest) ⟨hx, hb, hml, hown, hts⟩ (hM H.size) cw ⟨fun a U g mk q => by obtain ⟨q0, q1, qP, qK, qD⟩ := q; exact ⟨q0, q1, qP, va_K.moved (u := U) (U := U.calling g mk a) (Vm.Alike.refl U.vm) qK, qD⟩, va_recv hKc hPc hcl he, fun U hU hW => ⟨rfl, by rw [hU], by rw [hU]; exact hPc, va_K.moved hW.alike hKc, hDc.weaken (fun _ _ _ _ => trivial)⟩⟩ rfl hn hsz hst (lv_room hroom) hdg hf) hS (fun q _ h => hF q h) hF (fun r u t H1 locs1 ht hvm hw hB hz1 hk1 hS1 => ?_)
  have hB1 := hB.1
  rw [ht] at hB1
  obtain ⟨h1, h2⟩ := va_join (wr := wr) (w1 := wo u) hP hD isC isR hC hR hnR hdis hk1 hF hB1 hB.2
  exact kk r u H1 locs1 hw ⟨h1, h2, hS1⟩
end CMC
end
section
/-! what the reference computes, as functions of its state; the relation between the class's state and the reference's; its laws. No program in sight -/
set_option maxRecDepth 100000
def cm_rg (x : Int32) (n : Nat) : Option Nat := if x < 0 then none else if x.toNatClampNeg < n then some x.toNatClampNeg else none
theorem cm_rg_neg {x : Int32} {n : Nat} (h : x < 0) : cm_rg x n = none := by
  unfold cm_rg
  rw [if_pos h]
theorem cm_rg_lt {j n : Nat} (h : j < n) (hj : j < 2 ^ 31) : cm_rg (nI j) n = some j := by
  unfold cm_rg
  rw [if_neg (nI_pos hj), nI_clamp hj, if_pos h]
theorem cm_rg_ge {j n : Nat} (h : n ≤ j) (hj : j < 2 ^ 31) : cm_rg (nI j) n = none := by
  unfold cm_rg
  rw [if_neg (nI_pos hj), nI_clamp hj, if_neg (by omega)]
theorem cm_m1 {b : Nat} (h : b < 2 ^ 31) : ¬ (-1 : Int32) = nI b := fun q => nI_pos h (by rw [← q]; decide)
theorem cm_m1' {b : Nat} (h : b < 2 ^ 31) : ¬ nI b = (-1 : Int32) := fun q => cm_m1 h q.symm
theorem cm_inj {a b : Nat} (ha : a < 2 ^ 31) (hb : b < 2 ^ 31) (h : nI a = nI b) : a = b := (nI_eq ha hb).mp h
theorem cm_inc (i : Nat) : nI i + Int32.ofInt 1 = nI (i + 1) := nI_1 i
theorem cm_inc5 (i : Nat) : nI i + Int32.ofInt 5 = nI (i + 5) := nI_add i 5
theorem cm_shr2 {n : Nat} (h : n < 2 ^ 31) : nI n >>> (nI 2 &&& 31) = nI (n / 4) := pk_shrN h (nI 2 &&& 31) 2 (by decide)
theorem cm_shr3 {n : Nat} (h : n < 2 ^ 31) : nI n >>> (nI 3 &&& 31) = nI (n / 8) := pk_shrN h (nI 3 &&& 31) 3 (by decide)
theorem cm_and3 {n : Nat} (h : n < 2 ^ 31) : nI n &&& nI 3 = nI (n % 4) := pk_andN (by omega) 2 (by decide)
theorem cm_and7 {n : Nat} (h : n < 2 ^ 31) : nI n &&& nI 7 = nI (n % 8) := pk_andN (by omega) 3 (by decide)
theorem cm_and15 (x : Int32) : ∃ j : Nat, j < 16 ∧ x &&& nI 15 = nI j := pk_andE x 4 (by decide)
theorem cm_byte {n : Nat} (h : n < 32) : (nI n).toInt8.toInt32 = nI n := by
  have key : ∀ k : Fin 32, (nI k.val).toInt8.toInt32 = nI k.val := by decide +kernel
  exact key ⟨n, h⟩
theorem cm_narb {n : Nat} (h : n < 32) : vp_nar .byte (nI n) = nI n := by
  rw [vp_nar_byte]
  exact cm_byte h
theorem cm_narbm : vp_nar .byte (-1) = -1 := by decide +kernel
theorem cm_narz0 : vp_nar .boolean 0 = 0 := by decide +kernel
theorem cm_narz1 : vp_nar .boolean 1 = 1 := by decide +kernel
theorem cm_narz {w : Int32} (h : w = 0 ∨ w = 1) : vp_nar .boolean w = w := by
  rcases h with h | h
  · rw [h]; exact cm_narz0
  · rw [h]; exact cm_narz1
-- ===== what the reference computes =====
def cm_spEnter (τ : cm_St) (x : Int32) : Int32 × cm_St := match cm_rg x 4 with
  | none => (-1, τ)
  | some _ => (0, cm_st τ 3 0 x)
def cm_spMap (τ : cm_St) (x y f w : Int32) : Int32 × cm_St := match cm_rg x 4 with
  | none => (-1, τ)
  | some a => match cm_rg y 8 with
    | none => (-1, τ)
    | some b => match cm_rg f 8 with
      | none => (-1, τ)
      | some _ => (if τ 1 (8 * a + b) < 0 then 0 else 1, cm_st (cm_st τ 1 (8 * a + b) f) 2 (8 * a + b) w)
def cm_spUnmap (τ : cm_St) (x y : Int32) : Int32 × cm_St := match cm_rg x 4 with
  | none => (-1, τ)
  | some a => match cm_rg y 8 with
    | none => (-1, τ)
    | some b => if τ 1 (8 * a + b) < 0 then (-2, τ) else (0, cm_st τ 1 (8 * a + b) (-1))
def cm_prot (τ : cm_St) (f : Int32) : Nat → Int32 × cm_St
  | 0 => (0, τ)
  | k + 1 => if (cm_prot τ f k).2 1 k = f then (if (cm_prot τ f k).2 2 k = 0 then (cm_prot τ f k).1 else (cm_prot τ f k).1 + 1, cm_st (cm_prot τ f k).2 2 k 0) else cm_prot τ f k
def cm_spProtect (τ : cm_St) (f : Int32) : Int32 × cm_St := match cm_rg f 8 with
  | none => (-1, τ)
  | some _ => cm_prot τ f 32
def cm_ix (τ : cm_St) (j : Nat) : Nat := 8 * (τ 3 0).toNatClampNeg + j / 8
def cm_wd (τ : cm_St) (j : Nat) : Nat := 8 * (τ 1 (cm_ix τ j)).toNatClampNeg + j % 8
def cm_spTr (τ : cm_St) (a : Int32) : Int32 × cm_St := match cm_rg a 64 with
  | none => (-1, τ)
  | some j => if τ 1 (cm_ix τ j) < 0 then (-2, τ) else (nI (cm_wd τ j), τ)
def cm_spLoad (τ : cm_St) (a : Int32) : Int32 × cm_St := match cm_rg a 64 with
  | none => (-1, τ)
  | some j => if τ 1 (cm_ix τ j) < 0 then (-2, τ) else (0, cm_st τ 4 0 (τ 0 (cm_wd τ j)))
def cm_spChange (τ : cm_St) (a v more : Int32) : Int32 × cm_St := match cm_rg a 64 with
  | none => (-1, τ)
  | some j => if τ 1 (cm_ix τ j) < 0 then (-2, τ) else if τ 2 (cm_ix τ j) = 0 then (-3, τ) else (0, cm_st τ 0 (cm_wd τ j) (if more = 0 then v else τ 0 (cm_wd τ j) + v))
def cm_spDR (τ : cm_St) (w : Int32) : Int32 × cm_St := match cm_rg w 64 with
  | none => (0, τ)
  | some j => (τ 0 j, τ)
def cm_spDW (τ : cm_St) (w v : Int32) : Int32 × cm_St := match cm_rg w 64 with
  | none => (-1, τ)
  | some j => (0, cm_st τ 0 j v)
def cm_cp (τ : cm_St) (a b : Nat) : Nat → cm_St
  | 0 => τ
  | i + 1 => cm_st (cm_cp τ a b i) 0 (b + i) (cm_cp τ a b i 0 (a + i))
def cm_spDC (τ : cm_St) (x y n : Int32) : Int32 × cm_St := match cm_rg x 65 with
  | none => (-1, τ)
  | some a => match cm_rg y 65 with
    | none => (-1, τ)
    | some b => match cm_rg n 65 with
      | none => (-1, τ)
      | some k => if a + k ≤ 64 ∧ b + k ≤ 64 then (n, cm_cp τ a b k) else (-1, τ)
-- ===== its values =====
theorem cm_ix_at {τ : cm_St} {c j : Nat} (hc : c < 4) (h : τ 3 0 = nI c) : cm_ix τ j = 8 * c + j / 8 := by
  unfold cm_ix
  rw [h, nI_clamp (by omega)]
theorem cm_wd_at {τ : cm_St} {c j f : Nat} (hc : c < 4) (h : τ 3 0 = nI c) (hf : f < 8) (h2 : τ 1 (8 * c + j / 8) = nI f) : cm_wd τ j = 8 * f + j % 8 := by
  unfold cm_wd
  rw [cm_ix_at hc h, h2, nI_clamp (by omega)]
theorem cm_neg1 : (-1 : Int32) < 0 := by decide
theorem cm_spTr_miss {τ : cm_St} {c j : Nat} (hj : j < 64) (hc : c < 4) (h : τ 3 0 = nI c) (h2 : τ 1 (8 * c + j / 8) = -1) : cm_spTr τ (nI j) = (-2, τ) := by
  simp only [cm_spTr, cm_rg_lt hj (by omega), cm_ix_at hc h, h2]
  rw [if_pos cm_neg1]
theorem cm_spTr_hit {τ : cm_St} {c j f : Nat} (hj : j < 64) (hc : c < 4) (h : τ 3 0 = nI c) (hf : f < 8) (h2 : τ 1 (8 * c + j / 8) = nI f) : cm_spTr τ (nI j) = (nI (8 * f + j % 8), τ) := by
  simp only [cm_spTr, cm_rg_lt hj (by omega), cm_wd_at hc h hf h2, cm_ix_at hc h, h2]
  rw [if_neg (nI_pos (by omega))]
theorem cm_spLoad_miss {τ : cm_St} {c j : Nat} (hj : j < 64) (hc : c < 4) (h : τ 3 0 = nI c) (h2 : τ 1 (8 * c + j / 8) = -1) : cm_spLoad τ (nI j) = (-2, τ) := by
  simp only [cm_spLoad, cm_rg_lt hj (by omega), cm_ix_at hc h, h2]
  rw [if_pos cm_neg1]
theorem cm_spLoad_hit {τ : cm_St} {c j f : Nat} (hj : j < 64) (hc : c < 4) (h : τ 3 0 = nI c) (hf : f < 8) (h2 : τ 1 (8 * c + j / 8) = nI f) : cm_spLoad τ (nI j) = (0, cm_st τ 4 0 (τ 0 (8 * f + j % 8))) := by
  simp only [cm_spLoad, cm_rg_lt hj (by omega), cm_wd_at hc h hf h2, cm_ix_at hc h, h2]
  rw [if_neg (nI_pos (by omega))]
theorem cm_spChange_miss {τ : cm_St} {c j : Nat} {v w : Int32} (hj : j < 64) (hc : c < 4) (h : τ 3 0 = nI c) (h2 : τ 1 (8 * c + j / 8) = -1) : cm_spChange τ (nI j) v w = (-2, τ) := by
  simp only [cm_spChange, cm_rg_lt hj (by omega), cm_ix_at hc h, h2]
  rw [if_pos cm_neg1]
theorem cm_spChange_ro {τ : cm_St} {c j f : Nat} {v w : Int32} (hj : j < 64) (hc : c < 4) (h : τ 3 0 = nI c) (hf : f < 8) (h2 : τ 1 (8 * c + j / 8) = nI f) (h3 : τ 2 (8 * c + j / 8) = 0) : cm_spChange τ (nI j) v w = (-3, τ) := by
  simp only [cm_spChange, cm_rg_lt hj (by omega), cm_wd_at hc h hf h2, cm_ix_at hc h, h2]
  rw [if_neg (nI_pos (by omega)), if_pos h3]
theorem cm_spChange_hit {τ : cm_St} {c j f : Nat} {v w : Int32} (hj : j < 64) (hc : c < 4) (h : τ 3 0 = nI c) (hf : f < 8) (h2 : τ 1 (8 * c + j / 8) = nI f) (h3 : ¬ τ 2 (8 * c + j / 8) = 0) : cm_spChange τ (nI j) v w = (0, cm_st τ 0 (8 * f + j % 8) (if w = 0 then v else τ 0 (8 * f + j % 8) + v)) := by
  simp only [cm_spChange, cm_rg_lt hj (by omega), cm_wd_at hc h hf h2, cm_ix_at hc h, h2]
  rw [if_neg (nI_pos (by omega)), if_neg h3]
-- ===== the relation =====
def cm_RT (σ τ : cm_St) : Prop := (∃ c, c < 4 ∧ σ 1 0 = nI c) ∧ τ 3 0 = σ 1 0 ∧ τ 4 0 = σ 2 0 ∧ ∀ e, e < 32 → τ 1 e = σ 3 e ∧ τ 2 e = σ 4 e ∧ (σ 3 e = -1 ∨ ∃ f, f < 8 ∧ σ 3 e = nI f) ∧ (σ 4 e = 0 ∨ σ 4 e = 1)
def cm_KP (σ : cm_St) : Prop := ∃ n, 1 ≤ n ∧ n ≤ 4 ∧ σ 5 0 = nI n ∧ (∃ k, k < n ∧ σ 9 0 = nI k) ∧ ∀ k, k < n → σ 6 k = -1 ∨ ∃ e, e < 32 ∧ σ 6 k = nI e ∧ σ 7 k = σ 3 e ∧ σ 8 k = σ 4 e ∧ ¬ σ 3 e = -1
def cm_B (n : Nat) (σ : cm_St) (μ : Nat → Int32) : Prop :=
  (∀ x, x < 8 → σ 11 x = -1 ∨ ∃ b, b < 16 ∧ σ 11 x = nI b ∧ b % n = x % 4 ∧ (∀ i, i < 4 → μ (4 * b + i) = σ 13 (4 * x + i)) ∧ (σ 12 x = 0 → ∀ i, i < 4 → σ 0 (4 * b + i) = σ 13 (4 * x + i))) ∧
  (∀ x y b, x < 8 → y < 8 → b < 16 → σ 11 x = nI b → σ 11 y = nI b → x = y) ∧
  (∀ w, w < 64 → (∀ x, x < 8 → ¬ σ 11 x = nI (w / 4)) → μ w = σ 0 w)
def cm_RC (σ : cm_St) (μ : Nat → Int32) : Prop := ∃ n, 1 ≤ n ∧ n ≤ 4 ∧ σ 10 0 = nI n ∧ cm_B n σ μ
def cm_R (σ τ : cm_St) : Prop := cm_RT σ τ ∧ cm_KP σ ∧ cm_RC σ (τ 0)
def cm_WM (τ : cm_St) : Prop := (∃ c, c < 4 ∧ τ 3 0 = nI c) ∧ ∀ e, e < 32 → τ 1 e = -1 ∨ ∃ f, f < 8 ∧ τ 1 e = nI f
theorem cm_R.wm {σ τ : cm_St} (h : cm_R σ τ) : cm_WM τ := by
  obtain ⟨⟨⟨c, hc, e⟩, h1, h2, h3⟩, -, -⟩ := h
  refine ⟨⟨c, hc, by rw [h1, e]⟩, fun e he => ?_⟩
  obtain ⟨q1, q2, q3, q4⟩ := h3 e he
  rw [q1]
  exact q3
/-- the cache's part moves along when its cells don't change -/
theorem cm_RC.move {σ σ' : cm_St} {μ : Nat → Int32} (h : cm_RC σ μ) (h0 : σ' 0 = σ 0) (h10 : σ' 10 = σ 10) (h11 : σ' 11 = σ 11) (h12 : σ' 12 = σ 12) (h13 : σ' 13 = σ 13) : cm_RC σ' μ := by
  unfold cm_RC cm_B at h ⊢
  rw [h0, h10, h11, h12, h13]
  exact h
theorem cm_RT.move {σ σ' τ : cm_St} (h : cm_RT σ τ) (h1 : σ' 1 = σ 1) (h2 : σ' 2 = σ 2) (h3 : σ' 3 = σ 3) (h4 : σ' 4 = σ 4) : cm_RT σ' τ := by
  unfold cm_RT at h ⊢
  rw [h1, h2, h3, h4]
  exact h
theorem cm_KP.move {σ σ' : cm_St} (h : cm_KP σ) (h3 : σ' 3 = σ 3) (h4 : σ' 4 = σ 4) (h5 : σ' 5 = σ 5) (h6 : σ' 6 = σ 6) (h7 : σ' 7 = σ 7) (h8 : σ' 8 = σ 8) (h9 : σ' 9 = σ 9) : cm_KP σ' := by
  unfold cm_KP at h ⊢
  rw [h3, h4, h5, h6, h7, h8, h9]
  exact h
theorem cm_RT.tau {σ τ τ' : cm_St} (h : cm_RT σ τ) (h1 : τ' 1 = τ 1) (h2 : τ' 2 = τ 2) (h3 : τ' 3 = τ 3) (h4 : τ' 4 = τ 4) : cm_RT σ τ' := by
  unfold cm_RT at h ⊢
  rw [h1, h2, h3, h4]
  exact h
/-- an entry changes, and is forgotten -/
theorem cm_ent {σ τ σ' τ' : cm_St} {n e : Nat} {x y : Int32} (he : e < 32) (hR : cm_R σ τ) (hn : σ 5 0 = nI n) (hn4 : n ≤ 4) (hx : x = -1 ∨ ∃ f, f < 8 ∧ x = nI f) (hy : y = 0 ∨ y = 1)
    (h : ∀ k, k ≠ 3 → k ≠ 4 → k ≠ 6 → σ' k = σ k) (h3 : ∀ j, σ' 3 j = if j = e then x else σ 3 j) (h4 : ∀ j, σ' 4 j = if j = e then y else σ 4 j) (h6 : ∀ j, σ' 6 j = if j < n ∧ σ 6 j = nI e then -1 else σ 6 j)
    (t : ∀ k, k ≠ 1 → k ≠ 2 → τ' k = τ k) (t1 : ∀ j, τ' 1 j = if j = e then x else τ 1 j) (t2 : ∀ j, τ' 2 j = if j = e then y else τ 2 j) : cm_R σ' τ' := by
  obtain ⟨⟨q1, q2, q3, q4⟩, ⟨n', k1, k2, k3, k4, k5⟩, hC⟩ := hR
  have en : n' = n := cm_inj (by omega) (by omega) (by rw [← k3, ← hn])
  subst en
  refine ⟨⟨?_, ?_, ?_, fun j hj => ?_⟩, ⟨n', k1, k2, ?_, ?_, fun k hk => ?_⟩, ?_⟩
  · rw [h 1 (by decide) (by decide) (by decide)]; exact q1
  · rw [h 1 (by decide) (by decide) (by decide), t 3 (by decide) (by decide)]; exact q2
  · rw [h 2 (by decide) (by decide) (by decide), t 4 (by decide) (by decide)]; exact q3
  · obtain ⟨a1, a2, a3, a4⟩ := q4 j hj
    rw [h3, h4, t1, t2]
    by_cases hje : j = e
    · simp only [if_pos hje]
      exact ⟨trivial, trivial, hx, hy⟩
    · simp only [if_neg hje]
      exact ⟨a1, a2, a3, a4⟩
  · rw [h 5 (by decide) (by decide) (by decide)]; exact k3
  · rw [h 9 (by decide) (by decide) (by decide)]; exact k4
  · rw [h6, h 7 (by decide) (by decide) (by decide), h 8 (by decide) (by decide) (by decide)]
    by_cases hc : k < n' ∧ σ 6 k = nI e
    · rw [if_pos hc]; exact Or.inl rfl
    · rw [if_neg hc]
      rcases k5 k hk with g | ⟨e', g1, g2, g3, g4, g5⟩
      · exact Or.inl g
      · have hne : ¬ e' = e := fun q => hc ⟨hk, by rw [g2, q]⟩
        refine Or.inr ⟨e', g1, g2, ?_, ?_, ?_⟩
        · rw [h3, if_neg hne]; exact g3
        · rw [h4, if_neg hne]; exact g4
        · rw [h3, if_neg hne]; exact g5
  · rw [t 0 (by decide) (by decide)]
    exact hC.move (h 0 (by decide) (by decide) (by decide)) (h 10 (by decide) (by decide) (by decide)) (h 11 (by decide) (by decide) (by decide)) (h 12 (by decide) (by decide) (by decide)) (h 13 (by decide) (by decide) (by decide))
/-- a line gives up what it has -/
theorem cm_B_ev {n x : Nat} {σ σ' : cm_St} {μ : Nat → Int32} (hB : cm_B n σ μ) (hx : x < 8) (h11 : ∀ y, σ' 11 y = if y = x then -1 else σ 11 y) (h12 : ∀ y, σ' 12 y = if y = x then 0 else σ 12 y) (h13 : ∀ y, σ' 13 y = σ 13 y)
    (h0 : ((σ 11 x = -1 ∨ σ 12 x = 0) ∧ ∀ w, σ' 0 w = σ 0 w) ∨ ∃ b, b < 16 ∧ σ 11 x = nI b ∧ ∀ w, σ' 0 w = if 4 * b ≤ w ∧ w < 4 * b + 4 then σ 13 (4 * x + (w - 4 * b)) else σ 0 w) : cm_B n σ' μ := by
  obtain ⟨b1, b2, b3⟩ := hB
  -- words outside the block that the line held stay
  have hout : ∀ b', b' < 16 → (∀ b, b < 16 → σ 11 x = nI b → b' ≠ b) → ∀ i, i < 4 → σ' 0 (4 * b' + i) = σ 0 (4 * b' + i) := by
    intro b' hb' hne i hi
    rcases h0 with ⟨-, g⟩ | ⟨b, hb, hxb, g⟩
    · exact g _
    · rw [g, if_neg]
      have := hne b hb hxb
      omega
  have hin : ∀ b, b < 16 → σ 11 x = nI b → ∀ i, i < 4 → σ' 0 (4 * b + i) = σ 13 (4 * x + i) := by
    intro b hb hxb i hi
    rcases h0 with ⟨g1, g⟩ | ⟨b', hb', hxb', g⟩
    · rw [g]
      rcases b1 x hx with q | ⟨b', hb', e1, -, -, e4⟩
      · exact absurd (q.symm.trans hxb) (cm_m1 (by omega))
      · have eb : b' = b := cm_inj (by omega) (by omega) (by rw [← e1, ← hxb])
        subst eb
        rcases g1 with g1 | g1
        · exact absurd (g1.symm.trans hxb) (cm_m1 (by omega))
        · exact e4 g1 i hi
    · have eb : b' = b := cm_inj (by omega) (by omega) (by rw [← hxb', ← hxb])
      subst eb
      rw [g, if_pos (by omega)]
      exact congrArg (σ 13) (by omega)
  refine ⟨fun y hy => ?_, fun y z b hy hz hb ey ez => ?_, fun w hw hno => ?_⟩
  · rw [h11, h12]
    by_cases hyx : y = x
    · rw [if_pos hyx]; exact Or.inl rfl
    · rw [if_neg hyx, if_neg hyx]
      rcases b1 y hy with q | ⟨b, hb, e1, e2, e3, e4⟩
      · exact Or.inl q
      · refine Or.inr ⟨b, hb, e1, e2, fun i hi => ?_, fun hz i hi => ?_⟩
        · rw [h13]; exact e3 i hi
        · rw [h13, hout b hb (fun b' hb' exb ebb => hyx (b2 y x b' hy hx hb' (by rw [← ebb]; exact e1) exb)) i hi]
          exact e4 hz i hi
  · rw [h11] at ey ez
    by_cases hyx : y = x
    · rw [if_pos hyx] at ey; exact absurd ey (cm_m1 (by omega))
    · by_cases hzx : z = x
      · rw [if_pos hzx] at ez; exact absurd ez (cm_m1 (by omega))
      · rw [if_neg hyx] at ey
        rw [if_neg hzx] at ez
        exact b2 y z b hy hz hb ey ez
  · have hwe : 4 * (w / 4) + w % 4 = w := by omega
    by_cases hxb : σ 11 x = nI (w / 4)
    · have h1 := hin (w / 4) (by omega) hxb (w % 4) (by omega)
      rw [hwe] at h1
      rw [h1]
      rcases b1 x hx with q | ⟨b, hb, e1, -, e3, -⟩
      · exact absurd (q.symm.trans hxb) (cm_m1 (by omega))
      · have eb : b = w / 4 := cm_inj (by omega) (by omega) (by rw [← e1, ← hxb])
        subst eb
        have h2 := e3 (w % 4) (by omega)
        rw [hwe] at h2
        exact h2
    · have h1 := hout (w / 4) (by omega) (fun b hb eb ne => hxb (by rw [ne]; exact eb)) (w % 4) (by omega)
      rw [hwe] at h1
      rw [h1]
      refine b3 w hw (fun y hy q => ?_)
      have h2 := hno y hy
      rw [h11] at h2
      by_cases hyx : y = x
      · exact hxb (by rw [← hyx]; exact q)
      · rw [if_neg hyx] at h2; exact h2 q
/-- an empty line takes a block that no line has -/
theorem cm_B_fill {n x b : Nat} {σ σ' : cm_St} {μ : Nat → Int32} (hB : cm_B n σ μ) (hx : x < 8) (hb : b < 16) (hbx : b % n = x % 4) (hxe : σ 11 x = -1) (hno : ∀ y, y < 8 → ¬ σ 11 y = nI b) (h11 : ∀ y, σ' 11 y = if y = x then nI b else σ 11 y) (h12 : ∀ y, σ' 12 y = σ 12 y)
    (h13 : ∀ j, σ' 13 j = if 4 * x ≤ j ∧ j < 4 * x + 4 then σ 0 (4 * b + (j - 4 * x)) else σ 13 j) (h0 : ∀ w, σ' 0 w = σ 0 w) : cm_B n σ' μ := by
  obtain ⟨b1, b2, b3⟩ := hB
  have h13x : ∀ i, i < 4 → σ' 13 (4 * x + i) = σ 0 (4 * b + i) := by
    intro i hi
    rw [h13, if_pos (by omega)]
    exact congrArg (σ 0) (by omega)
  have h13y : ∀ y, ¬ y = x → ∀ i, i < 4 → σ' 13 (4 * y + i) = σ 13 (4 * y + i) := by
    intro y hy i hi
    rw [h13, if_neg (by omega)]
  refine ⟨fun y hy => ?_, fun y z b' hy hz hb' ey ez => ?_, fun w hw hn => ?_⟩
  · by_cases hyx : y = x
    · subst hyx
      refine Or.inr ⟨b, hb, by rw [h11, if_pos rfl], hbx, fun i hi => ?_, fun _ i hi => ?_⟩
      · rw [h13x i hi]
        refine b3 (4 * b + i) (by omega) (fun z hz => ?_)
        rw [show (4 * b + i) / 4 = b by omega]
        exact hno z hz
      · rw [h13x i hi, h0]
    · rw [h11, if_neg hyx, h12]
      rcases b1 y hy with q | ⟨b', hb', e1, e2, e3, e4⟩
      · exact Or.inl q
      · refine Or.inr ⟨b', hb', e1, e2, fun i hi => ?_, fun hz i hi => ?_⟩
        · rw [h13y y hyx i hi]; exact e3 i hi
        · rw [h13y y hyx i hi, h0]; exact e4 hz i hi
  · rw [h11] at ey ez
    by_cases hyx : y = x
    · by_cases hzx : z = x
      · rw [hyx, hzx]
      · rw [if_pos hyx] at ey
        rw [if_neg hzx] at ez
        exact absurd (ez.trans ey.symm) (hno z hz)
    · rw [if_neg hyx] at ey
      by_cases hzx : z = x
      · rw [if_pos hzx] at ez
        exact absurd (ey.trans ez.symm) (hno y hy)
      · rw [if_neg hzx] at ez
        exact b2 y z b' hy hz hb' ey ez
  · rw [h0]
    refine b3 w hw (fun y hy q => ?_)
    have h2 := hn y hy
    rw [h11] at h2
    by_cases hyx : y = x
    · rw [hyx, hxe] at q
      exact cm_m1 (by omega) q
    · rw [if_neg hyx] at h2
      exact h2 q
/-- a word of a line is written -/
theorem cm_B_put {n x b i : Nat} {v : Int32} {σ σ' : cm_St} {μ μ' : Nat → Int32} (hB : cm_B n σ μ) (hx : x < 8) (hb : b < 16) (hi : i < 4) (hxb : σ 11 x = nI b) (h11 : ∀ y, σ' 11 y = σ 11 y) (h12 : ∀ y, σ' 12 y = if y = x then 1 else σ 12 y)
    (h13 : ∀ j, σ' 13 j = if j = 4 * x + i then v else σ 13 j) (h0 : ∀ w, σ' 0 w = σ 0 w) (hμ : ∀ w, μ' w = if w = 4 * b + i then v else μ w) : cm_B n σ' μ' := by
  obtain ⟨b1, b2, b3⟩ := hB
  refine ⟨fun y hy => ?_, fun y z b' hy hz hb' ey ez => ?_, fun w hw hn => ?_⟩
  · rw [h11, h12]
    rcases b1 y hy with q | ⟨b', hb', e1, e2, e3, e4⟩
    · exact Or.inl q
    · refine Or.inr ⟨b', hb', e1, e2, fun k hk => ?_, fun hz k hk => ?_⟩
      · rw [hμ, h13]
        by_cases hyx : y = x
        · subst hyx
          have eb : b' = b := cm_inj (by omega) (by omega) (by rw [← e1, ← hxb])
          subst eb
          by_cases hki : k = i
          · rw [if_pos (by omega), if_pos (by omega)]
          · rw [if_neg (by omega), if_neg (by omega)]
            exact e3 k hk
        · have hbb : b' ≠ b := fun q => hyx (b2 y x b hy hx hb (by rw [← q]; exact e1) hxb)
          rw [if_neg (by omega), if_neg (by omega)]
          exact e3 k hk
      · by_cases hyx : y = x
        · rw [if_pos hyx] at hz
          exact absurd hz (by decide)
        · rw [if_neg hyx] at hz
          rw [h13, if_neg (by omega), h0]
          exact e4 hz k hk
  · rw [h11] at ey ez
    exact b2 y z b' hy hz hb' ey ez
  · have hne : ¬ w = 4 * b + i := by
      intro q
      refine hn x hx ?_
      rw [h11, hxb]
      exact congrArg nI (by omega)
    rw [hμ, if_neg hne, h0]
    refine b3 w hw (fun y hy q => hn y hy ?_)
    rw [h11]
    exact q
/-- a word that no line has is written in memory -/
theorem cm_B_mem {n u : Nat} {v : Int32} {σ σ' : cm_St} {μ μ' : Nat → Int32} (hB : cm_B n σ μ) (hno : ∀ y, y < 8 → ¬ σ 11 y = nI (u / 4)) (h11 : ∀ y, σ' 11 y = σ 11 y) (h12 : ∀ y, σ' 12 y = σ 12 y) (h13 : ∀ j, σ' 13 j = σ 13 j) (h0 : ∀ w, σ' 0 w = if w = u then v else σ 0 w) (hμ : ∀ w, μ' w = if w = u then v else μ w) : cm_B n σ' μ' := by
  obtain ⟨b1, b2, b3⟩ := hB
  refine ⟨fun y hy => ?_, fun y z b' hy hz hb' ey ez => ?_, fun w hw hn => ?_⟩
  · rw [h11, h12]
    rcases b1 y hy with q | ⟨b', hb', e1, e2, e3, e4⟩
    · exact Or.inl q
    · have hne : ∀ k, k < 4 → ¬ 4 * b' + k = u := by
        intro k hk q
        refine hno y hy ?_
        rw [e1]
        exact congrArg nI (by omega)
      refine Or.inr ⟨b', hb', e1, e2, fun k hk => ?_, fun hz k hk => ?_⟩
      · rw [hμ, if_neg (hne k hk), h13]
        exact e3 k hk
      · rw [h0, if_neg (hne k hk), h13]
        exact e4 hz k hk
  · rw [h11] at ey ez
    exact b2 y z b' hy hz hb' ey ez
  · rw [hμ, h0]
    by_cases hwu : w = u
    · rw [if_pos hwu, if_pos hwu]
    · rw [if_neg hwu, if_neg hwu]
      refine b3 w hw (fun y hy q => hn y hy ?_)
      rw [h11]
      exact q
/-- the word of a line is the reference's word -/
theorem cm_RC.line {σ : cm_St} {μ : Nat → Int32} {x b i : Nat} (h : cm_RC σ μ) (hx : x < 8) (hb : b < 16) (hi : i < 4) (hxb : σ 11 x = nI b) : σ 13 (4 * x + i) = μ (4 * b + i) := by
  obtain ⟨n, -, -, -, b1, -, -⟩ := h
  rcases b1 x hx with q | ⟨b', hb', e1, -, e3, -⟩
  · exact absurd (q.symm.trans hxb) (cm_m1 (by omega))
  · have eb : b' = b := cm_inj (by omega) (by omega) (by rw [← e1, ← hxb])
    subst eb
    exact (e3 i hi).symm
theorem cm_RC.mem {σ : cm_St} {μ : Nat → Int32} {w : Nat} (h : cm_RC σ μ) (hw : w < 64) (hno : ∀ x, x < 8 → ¬ σ 11 x = nI (w / 4)) : σ 0 w = μ w := by
  obtain ⟨n, -, -, -, -, -, b3⟩ := h
  exact (b3 w hw hno).symm
end
section
/-! pure rows for the walks: the steps of the class's loops, and how the relation moves -/
set_option maxRecDepth 100000
theorem cm_fg_hit {f g : Nat → Int32} {i : Nat} {x : Int32} (h : ∀ j, g j = if j < i ∧ f j = x then -1 else f j) (c : g i = x) : ∀ j, upd g i (-1) j = if j < i + 1 ∧ f j = x then -1 else f j := by
  intro j
  have hi : g i = f i := by rw [h i, if_neg (fun q => Nat.lt_irrefl _ q.1)]
  rw [cm_upd]
  by_cases hj : j = i
  · subst hj
    rw [if_pos rfl, if_pos ⟨by omega, by rw [← hi]; exact c⟩]
  · rw [if_neg hj, h j]
    by_cases hq : j < i ∧ f j = x
    · rw [if_pos hq, if_pos ⟨by omega, hq.2⟩]
    · rw [if_neg hq, if_neg (fun q => hq ⟨by omega, q.2⟩)]
theorem cm_fg_miss {f g : Nat → Int32} {i : Nat} {x : Int32} (h : ∀ j, g j = if j < i ∧ f j = x then -1 else f j) (c : ¬ g i = x) : ∀ j, g j = if j < i + 1 ∧ f j = x then -1 else f j := by
  intro j
  have hi : g i = f i := by rw [h i, if_neg (fun q => Nat.lt_irrefl _ q.1)]
  rw [h j]
  by_cases hq : j < i ∧ f j = x
  · rw [if_pos hq, if_pos ⟨by omega, hq.2⟩]
  · rw [if_neg hq, if_neg]
    intro q
    by_cases hj : j = i
    · subst hj
      exact c (by rw [hi]; exact q.2)
    · exact hq ⟨by omega, q.2⟩
theorem cm_lw_no {n k i0 : Nat} {σ : cm_St} {μ : Nat → Int32} (hB : cm_B n σ μ) (hk : k = i0 % n) (hk4 : k < 4) (hi0 : i0 < 16) (c1 : ¬ σ 11 k = nI i0) (c2 : ¬ σ 11 (4 + k) = nI i0) : ∀ x, x < 8 → ¬ σ 11 x = nI i0 := by
  intro x hx q
  rcases hB.1 x hx with g | ⟨b, hb, e1, e2, -, -⟩
  · exact cm_m1 (by omega) (g.symm.trans q)
  · have eb : b = i0 := cm_inj (by omega) (by omega) (by rw [← e1, ← q])
    subst eb
    rw [← hk] at e2
    by_cases h4 : x < 4
    · have : x = k := by omega
      subst this
      exact c1 q
    · have : x = 4 + k := by omega
      subst this
      exact c2 q
theorem cm_tr_old {σ τ : cm_St} {n i e : Nat} (hR : cm_R σ τ) (hn4 : n ≤ 4) (h5 : σ 5 0 = nI n) (hi : i < n) (he : e < 32) (c : σ 6 i = nI e) : ∃ f, f < 8 ∧ σ 3 e = nI f ∧ σ 7 i = nI f ∧ σ 8 i = σ 4 e := by
  obtain ⟨⟨-, -, -, q4⟩, ⟨n', k1, k2, k3, -, k5⟩, -⟩ := hR
  have en : n' = n := cm_inj (by omega) (by omega) (by rw [← k3, ← h5])
  subst en
  rcases k5 i hi with g | ⟨e', g1, g2, g3, g4, g5⟩
  · exact absurd (g.symm.trans c) (cm_m1 (by omega))
  · have ee : e' = e := cm_inj (by omega) (by omega) (by rw [← g2, ← c])
    subst ee
    rcases (q4 e' he).2.2.1 with g | ⟨f, hf, g⟩
    · exact absurd g g5
    · exact ⟨f, hf, g, by rw [g3]; exact g, g4⟩
theorem cm_tr_new {σ : cm_St} {n k0 k1 e f : Nat} (hKP : cm_KP σ) (hn4 : n ≤ 4) (h5 : σ 5 0 = nI n) (hk0 : k0 < n) (hk1 : k1 < n) (he : e < 32) (hf : f < 8) (g : σ 3 e = nI f) :
    cm_st (cm_st (cm_st (cm_st σ 9 0 (nI k1)) 6 k0 (nI e)) 7 k0 (nI f)) 8 k0 (σ 4 e) 7 k0 = nI f ∧ cm_st (cm_st (cm_st (cm_st σ 9 0 (nI k1)) 6 k0 (nI e)) 7 k0 (nI f)) 8 k0 (σ 4 e) 8 k0 = σ 4 e ∧ cm_KP (cm_st (cm_st (cm_st (cm_st σ 9 0 (nI k1)) 6 k0 (nI e)) 7 k0 (nI f)) 8 k0 (σ 4 e)) ∧ ∀ q, (q < 6 ∨ 10 ≤ q) → cm_st (cm_st (cm_st (cm_st σ 9 0 (nI k1)) 6 k0 (nI e)) 7 k0 (nI f)) 8 k0 (σ 4 e) q = σ q := by
  obtain ⟨n', a1, a2, a3, -, a5⟩ := hKP
  have en : n' = n := cm_inj (by omega) (by omega) (by rw [← a3, ← h5])
  subst en
  refine ⟨by simp [cm_st_at], by simp [cm_st_at], ⟨n', a1, a2, by simp [cm_st_at, a3], ⟨k1, hk1, by simp [cm_st_at]⟩, fun k hk => ?_⟩, fun q hq => ?_⟩
  · by_cases hkk : k = k0
    · subst hkk
      refine Or.inr ⟨e, he, by simp [cm_st_at], by simp [cm_st_at, g], by simp [cm_st_at], ?_⟩
      simp only [cm_st_at]
      simp [g, cm_m1' (show f < 2 ^ 31 by omega)]
    · rcases a5 k hk with q | ⟨e', g1, g2, g3, g4, g5⟩
      · exact Or.inl (by simp [cm_st_at, hkk, q])
      · exact Or.inr ⟨e', g1, by simp [cm_st_at, hkk, g2], by simp [cm_st_at, hkk, g3], by simp [cm_st_at, hkk, g4], by simp [cm_st_at, g5]⟩
  · rw [cm_st_ne (by omega), cm_st_ne (by omega), cm_st_ne (by omega), cm_st_ne (by omega)]
theorem cm_wb_step {f g h : Nat → Int32} {b x i : Nat} (hg : ∀ w, g w = if 4 * b ≤ w ∧ w < 4 * b + i then h (4 * x + (w - 4 * b)) else f w) : ∀ w, upd g (4 * b + i) (h (4 * x + i)) w = if 4 * b ≤ w ∧ w < 4 * b + (i + 1) then h (4 * x + (w - 4 * b)) else f w := by
  intro w
  rw [cm_upd]
  by_cases hw : w = 4 * b + i
  · rw [if_pos hw, if_pos (by omega)]
    exact congrArg h (by omega)
  · rw [if_neg hw, hg w]
    by_cases hq : 4 * b ≤ w ∧ w < 4 * b + i
    · rw [if_pos hq, if_pos (by omega)]
    · rw [if_neg hq, if_neg (by omega)]
theorem cm_ev_end {n x : Nat} {σ u : cm_St} {μ : Nat → Int32} (n1 : 1 ≤ n) (n4 : n ≤ 4) (h10 : σ 10 0 = nI n) (hB : cm_B n σ μ) (hx : x < 8) (hu : ∀ k, k ≠ 0 → u k = σ k) (h0 : ((σ 11 x = -1 ∨ σ 12 x = 0) ∧ ∀ w, u 0 w = σ 0 w) ∨ ∃ b, b < 16 ∧ σ 11 x = nI b ∧ ∀ w, u 0 w = if 4 * b ≤ w ∧ w < 4 * b + 4 then σ 13 (4 * x + (w - 4 * b)) else σ 0 w) :
    cm_RC (cm_st (cm_st u 11 x (-1)) 12 x 0) μ ∧ cm_st (cm_st u 11 x (-1)) 12 x 0 11 x = -1 ∧ (∀ y, y ≠ x → cm_st (cm_st u 11 x (-1)) 12 x 0 11 y = σ 11 y) ∧ ∀ q, 1 ≤ q → q ≤ 10 → cm_st (cm_st u 11 x (-1)) 12 x 0 q = σ q := by
  refine ⟨⟨n, n1, n4, by simp [cm_st_at, hu 10 (by decide), h10], ?_⟩, by simp [cm_st_at], fun y hy => by simp [cm_st_at, hy, hu 11 (by decide)], fun q h1 h2 => ?_⟩
  · refine cm_B_ev hB hx (fun y => ?_) (fun y => ?_) (fun y => ?_) ?_
    · simp [cm_st_at, hu 11 (by decide)]
    · simp [cm_st_at, hu 12 (by decide)]
    · simp [cm_st_at, hu 13 (by decide)]
    · simpa [cm_st_at] using h0
  · rw [cm_st_ne (by omega), cm_st_ne (by omega), hu q (by omega)]
theorem cm_R_tr {σ σ' τ : cm_St} (hR : cm_R σ τ) (hKP : cm_KP σ') (hf : ∀ q, (q < 6 ∨ 10 ≤ q) → σ' q = σ q) : cm_R σ' τ :=
  ⟨hR.1.move (hf 1 (by omega)) (hf 2 (by omega)) (hf 3 (by omega)) (hf 4 (by omega)), hKP, hR.2.2.move (hf 0 (by omega)) (hf 10 (by omega)) (hf 11 (by omega)) (hf 12 (by omega)) (hf 13 (by omega))⟩
theorem cm_R_cache {σ σ' τ : cm_St} (hR : cm_R σ τ) (hC : cm_RC σ' (τ 0)) (hf : ∀ q, 1 ≤ q → q ≤ 10 → σ' q = σ q) : cm_R σ' τ :=
  ⟨hR.1.move (hf 1 (by omega) (by omega)) (hf 2 (by omega) (by omega)) (hf 3 (by omega) (by omega)) (hf 4 (by omega) (by omega)), hR.2.1.move (hf 3 (by omega) (by omega)) (hf 4 (by omega) (by omega)) (hf 5 (by omega) (by omega)) (hf 6 (by omega) (by omega)) (hf 7 (by omega) (by omega)) (hf 8 (by omega) (by omega)) (hf 9 (by omega) (by omega)), hC⟩
theorem cm_fi_end {n x b : Nat} {σ u : cm_St} {μ : Nat → Int32} (n1 : 1 ≤ n) (n4 : n ≤ 4) (h10 : σ 10 0 = nI n) (hB : cm_B n σ μ) (hx : x < 8) (hb : b < 16) (hbx : b % n = x % 4) (hxe : σ 11 x = -1) (hno : ∀ y, y < 8 → ¬ σ 11 y = nI b) (hu : ∀ k, k ≠ 13 → u k = cm_st σ 11 x (nI b) k) (h13 : ∀ j, u 13 j = if 4 * x ≤ j ∧ j < 4 * x + 4 then σ 0 (4 * b + (j - 4 * x)) else σ 13 j) (k : Nat) (v : Int32) :
    cm_RC (cm_st u 14 k v) μ ∧ cm_st u 14 k v 11 x = nI b ∧ ∀ q, 1 ≤ q → q ≤ 10 → cm_st u 14 k v q = σ q := by
  refine ⟨⟨n, n1, n4, by simp [cm_st_at, hu 10 (by decide), h10], ?_⟩, by simp [cm_st_at, hu 11 (by decide)], fun q h1 h2 => ?_⟩
  · refine cm_B_fill hB hx hb hbx hxe hno (fun y => ?_) (fun y => ?_) (fun j => ?_) (fun w => ?_)
    · simp [cm_st_at, hu 11 (by decide)]
    · simp [cm_st_at, hu 12 (by decide)]
    · simp only [cm_st_at]
      simpa using h13 j
    · simp [cm_st_at, hu 0 (by decide)]
  · rw [cm_st_ne (by omega), hu q (by omega), cm_st_ne (by omega)]
theorem cm_R_enter {σ τ : cm_St} {i : Nat} (hR : cm_R σ τ) (hi : i < 4) : cm_R (cm_st σ 1 0 (nI i)) (cm_st τ 3 0 (nI i)) := by
  obtain ⟨⟨q1, q2, q3, q4⟩, hK, hC⟩ := hR
  refine ⟨⟨⟨i, hi, by simp [cm_st_at]⟩, by simp [cm_st_at], by simp [cm_st_at, q3], fun e he => ?_⟩, hK.move (cm_st_ne (by decide)) (cm_st_ne (by decide)) (cm_st_ne (by decide)) (cm_st_ne (by decide)) (cm_st_ne (by decide)) (cm_st_ne (by decide)) (cm_st_ne (by decide)), ?_⟩
  · simpa [cm_st_at] using q4 e he
  · rw [cm_st_ne (by decide)]
    exact hC.move (cm_st_ne (by decide)) (cm_st_ne (by decide)) (cm_st_ne (by decide)) (cm_st_ne (by decide)) (cm_st_ne (by decide))
theorem cm_R_load {σ τ : cm_St} {v : Int32} (hR : cm_R σ τ) : cm_R (cm_st σ 2 0 v) (cm_st τ 4 0 v) := by
  obtain ⟨⟨q1, q2, q3, q4⟩, hK, hC⟩ := hR
  refine ⟨⟨by simpa [cm_st_at] using q1, by simp [cm_st_at, q2], by simp [cm_st_at], fun e he => ?_⟩, hK.move (cm_st_ne (by decide)) (cm_st_ne (by decide)) (cm_st_ne (by decide)) (cm_st_ne (by decide)) (cm_st_ne (by decide)) (cm_st_ne (by decide)) (cm_st_ne (by decide)), ?_⟩
  · simpa [cm_st_at] using q4 e he
  · rw [cm_st_ne (by decide)]
    exact hC.move (cm_st_ne (by decide)) (cm_st_ne (by decide)) (cm_st_ne (by decide)) (cm_st_ne (by decide)) (cm_st_ne (by decide))
theorem cm_R_put {σ τ : cm_St} {x w : Nat} {v : Int32} (hR : cm_R σ τ) (hx : x < 8) (hw : w < 64) (hxb : σ 11 x = nI (w / 4)) : cm_R (cm_st (cm_st σ 13 (4 * x + w % 4) v) 12 x 1) (cm_st τ 0 w v) := by
  obtain ⟨hT, hK, ⟨n, n1, n4, h10, hB⟩⟩ := hR
  have ne : ∀ k, k ≠ 12 → k ≠ 13 → cm_st (cm_st σ 13 (4 * x + w % 4) v) 12 x 1 k = σ k := fun k h1 h2 => by rw [cm_st_ne h1, cm_st_ne h2]
  refine ⟨(hT.move (ne 1 (by decide) (by decide)) (ne 2 (by decide) (by decide)) (ne 3 (by decide) (by decide)) (ne 4 (by decide) (by decide))).tau (cm_st_ne (by decide)) (cm_st_ne (by decide)) (cm_st_ne (by decide)) (cm_st_ne (by decide)), hK.move (ne 3 (by decide) (by decide)) (ne 4 (by decide) (by decide)) (ne 5 (by decide) (by decide)) (ne 6 (by decide) (by decide)) (ne 7 (by decide) (by decide)) (ne 8 (by decide) (by decide)) (ne 9 (by decide) (by decide)), ⟨n, n1, n4, by rw [ne 10 (by decide) (by decide)]; exact h10, ?_⟩⟩
  refine cm_B_put (i := w % 4) (v := v) hB hx (show w / 4 < 16 by omega) (by omega) hxb (fun y => ?_) (fun y => ?_) (fun j => ?_) (fun u => ?_) (fun u => ?_)
  · simp [cm_st_at]
  · simp [cm_st_at]
  · simp [cm_st_at]
  · simp [cm_st_at]
  · rw [cm_st_at, show 4 * (w / 4) + w % 4 = w by omega]
    simp
theorem cm_R_dw {σ τ : cm_St} {w : Nat} {v : Int32} (hR : cm_R σ τ) (hno : ∀ y, y < 8 → ¬ σ 11 y = nI (w / 4)) : cm_R (cm_st σ 0 w v) (cm_st τ 0 w v) := by
  obtain ⟨hT, hK, ⟨n, n1, n4, h10, hB⟩⟩ := hR
  have ne : ∀ k, k ≠ 0 → cm_st σ 0 w v k = σ k := fun k h1 => by rw [cm_st_ne h1]
  refine ⟨(hT.move (ne 1 (by decide)) (ne 2 (by decide)) (ne 3 (by decide)) (ne 4 (by decide))).tau (cm_st_ne (by decide)) (cm_st_ne (by decide)) (cm_st_ne (by decide)) (cm_st_ne (by decide)), hK.move (ne 3 (by decide)) (ne 4 (by decide)) (ne 5 (by decide)) (ne 6 (by decide)) (ne 7 (by decide)) (ne 8 (by decide)) (ne 9 (by decide)), ⟨n, n1, n4, by rw [ne 10 (by decide)]; exact h10, ?_⟩⟩
  refine cm_B_mem (u := w) (v := v) hB hno (fun y => ?_) (fun y => ?_) (fun j => ?_) (fun u => ?_) (fun u => ?_)
  · simp [cm_st_at]
  · simp [cm_st_at]
  · simp [cm_st_at]
  · simp [cm_st_at]
  · simp [cm_st_at]
end
section
/-! contracts of the private methods that call nothing (printed by gen1.py) -/
set_option maxRecDepth 100000
set_option maxHeartbeats 4000000 in
/-- X1.isPage -/
theorem cm_X1_isPage (l : Launch) (D : va_G) (h0 : Nat) (a : Nat → Nat) (d : Nat → ClassId) (σ : cm_St) (x y : Int32) : cm_Mi l D yX1_isPage (ws_ yX1_isPage cX1_isPage 3 (some .boolean)) ({ frames := 0, cells := 0, slots := 0, locals := 0 }) (cm_tX d) (cm_wX h0 a d) h0 [.int x, .int y] σ (fun r σ' => σ' = σ ∧ ((r = 0 ∧ cm_rg x 4 = none) ∨ (r = 0 ∧ (∃ i, cm_rg x 4 = some i) ∧ cm_rg y 8 = none) ∨ (r = 1 ∧ ∃ i j, i < 4 ∧ j < 8 ∧ x = nI i ∧ y = nI j))) := by
  refine cm_startI (by decide) (Nat.le_of_ble_eq_true rfl) ?_
  intro p e s m below meth c A ls C hr hlk hml hA G hl
  have hx := C.1
  have hb := C.2.1
  have hl : lv_has ls 3 [(0, .ref h0), (1, .int x), (2, .int y)] := hl
  refine lv_iload_n hx hb dX1_isPage_0 rfl (lv_at hl 1 rfl) ?_
  refine lv_if_lt (tgt := 23) hx hb dX1_isPage_1 (by decide) (fun c1n => ?_) (fun c1n => ?_)
  · skip
    refine lv_iconst (v := 0) hx hb dX1_isPage_23 (by decide) ?_
    exact cm_zret (wo := cm_wX h0 a d) (σ := σ) C G hr hlk rfl (⟨rfl, Or.inl ⟨rfl, cm_rg_neg c1n⟩⟩) dX1_isPage_24
  obtain ⟨i1, hi1, rfl⟩ := nI_of c1n
  refine lv_iload_n hx hb dX1_isPage_4 rfl (lv_at hl 1 rfl) ?_
  refine lv_iconst (v := nI 3) hx hb dX1_isPage_5 (by decide) ?_
  refine lv_icmp_gt (tgt := 23) hx hb dX1_isPage_6 (by decide) (fun c1b => ?_) (fun c1b => ?_)
  · skip
    have c1b : 3 < i1 := (nI_ltI (a := 3) (b := i1) (by omega) (by omega)).mp c1b
    refine lv_iconst (v := 0) hx hb dX1_isPage_23 (by decide) ?_
    exact cm_zret (wo := cm_wX h0 a d) (σ := σ) C G hr hlk rfl (⟨rfl, Or.inl ⟨rfl, cm_rg_ge (n := 4) (by omega) hi1⟩⟩) dX1_isPage_24
  have c1b : ¬ 3 < i1 := fun q => c1b ((nI_ltI (a := 3) (b := i1) (by omega) (by omega)).mpr q)
  refine lv_iload_n hx hb dX1_isPage_9 rfl (lv_at hl 2 rfl) ?_
  refine lv_if_lt (tgt := 23) hx hb dX1_isPage_10 (by decide) (fun c2n => ?_) (fun c2n => ?_)
  · skip
    refine lv_iconst (v := 0) hx hb dX1_isPage_23 (by decide) ?_
    exact cm_zret (wo := cm_wX h0 a d) (σ := σ) C G hr hlk rfl (⟨rfl, Or.inr (Or.inl ⟨rfl, ⟨_, cm_rg_lt (by omega) hi1⟩, cm_rg_neg c2n⟩)⟩) dX1_isPage_24
  obtain ⟨i2, hi2, rfl⟩ := nI_of c2n
  refine lv_iload_n hx hb dX1_isPage_13 rfl (lv_at hl 2 rfl) ?_
  refine lv_bipush (v := nI 7) hx hb dX1_isPage_14 (by decide) ?_
  refine lv_icmp_gt (tgt := 23) hx hb dX1_isPage_16 (by decide) (fun c2b => ?_) (fun c2b => ?_)
  · skip
    have c2b : 7 < i2 := (nI_ltI (a := 7) (b := i2) (by omega) (by omega)).mp c2b
    refine lv_iconst (v := 0) hx hb dX1_isPage_23 (by decide) ?_
    exact cm_zret (wo := cm_wX h0 a d) (σ := σ) C G hr hlk rfl (⟨rfl, Or.inr (Or.inl ⟨rfl, ⟨_, cm_rg_lt (by omega) hi1⟩, cm_rg_ge (n := 8) (by omega) hi2⟩)⟩) dX1_isPage_24
  have c2b : ¬ 7 < i2 := fun q => c2b ((nI_ltI (a := 7) (b := i2) (by omega) (by omega)).mpr q)
  refine lv_iconst (v := 1) hx hb dX1_isPage_19 (by decide) ?_
  refine lv_goto (tgt := 24) hx hb dX1_isPage_20 (by decide) ?_
  exact cm_zret (wo := cm_wX h0 a d) (σ := σ) C G hr hlk rfl (⟨rfl, Or.inr (Or.inr ⟨rfl, i1, i2, by omega, by omega, rfl, rfl⟩)⟩) dX1_isPage_24
set_option maxHeartbeats 4000000 in
/-- X1.forget -/
theorem cm_X1_forget (l : Launch) (D : va_G) (h0 : Nat) (a : Nat → Nat) (d : Nat → ClassId) (σ : cm_St) (i0 n : Nat) (hi0 : i0 < 32) (hn4 : n ≤ 4) (h5 : σ 5 0 = nI n) : cm_Mv l D yX1_forget (ws_ yX1_forget cX1_forget 3 none) ({ frames := 0, cells := 0, slots := 0, locals := 0 }) (cm_tX d) (cm_wX h0 a d) h0 [.int (nI i0)] σ (fun σ' => (∀ k, k ≠ 6 → σ' k = σ k) ∧ ∀ j, σ' 6 j = if j < n ∧ σ 6 j = nI i0 then -1 else σ 6 j) := by
  refine cm_startV (by decide) (Nat.le_of_ble_eq_true rfl) ?_
  intro p e s m below meth c A ls C hr hlk hml hA G hl
  have hx := C.1
  have hb := C.2.1
  have hl : lv_has ls 3 [(0, .ref h0), (1, .int (nI i0))] := hl
  refine lv_iconst (v := nI 0) hx hb dX1_forget_0 (by decide) ?_
  refine lv_istore_n (lv' := [(2, .int (nI 0)), (0, .ref h0), (1, .int (nI i0))]) hx hb dX1_forget_1 rfl hl (by decide) rfl (fun ls hl => ?_)
  refine cm_loop (I := fun i u => (∀ k, k ≠ 6 → u k = σ k) ∧ ∀ j, u 6 j = if j < i ∧ σ 6 j = nI i0 then -1 else σ 6 j) (wo := cm_wX h0 a d) (lv := fun i _ => [(2, .int (nI i)), (0, .ref h0), (1, .int (nI i0))]) (N := n) ?_ ?_ 0 σ _ _ _ (Nat.zero_le _) (⟨fun _ _ => rfl, fun j => by rw [if_neg (fun q => Nat.not_lt_zero _ q.1)]⟩) G hl
  · skip
    intro u H locs ls hI G hl
    refine lv_iload_n hx hb dX1_forget_2 rfl (lv_at hl 0 rfl) ?_
    refine lv_aload_n hx hb dX1_forget_3 rfl (lv_at hl 1 rfl) ?_
    refine cm_get1 C G 0 rfl 5 (by decide) q26 rfl (v := .int (u 5 0)) rfl dX1_forget_4 ?_
    refine cm_top (show u 5 0 = nI n by rw [hI.1 5 (by decide)]; exact h5) ?_
    refine lv_icmp_ge (tgt := 33) hx hb dX1_forget_7 (by decide) (fun c1 => ?_) (fun c1 => by have c1 : ¬ n ≤ n := fun q => c1 ((nI_leI (a := n) (b := n) (by omega) (by omega)).mpr q); omega)
    have c1 : n ≤ n := (nI_leI (a := n) (b := n) (by omega) (by omega)).mp c1
    exact cm_vret (wo := cm_wX h0 a d) (σ := u) C G hr hlk (hI) dX1_forget_33
  · skip
    intro i u H locs ls hi hI G hl ih
    refine lv_iload_n hx hb dX1_forget_2 rfl (lv_at hl 0 rfl) ?_
    refine lv_aload_n hx hb dX1_forget_3 rfl (lv_at hl 1 rfl) ?_
    refine cm_get1 C G 0 rfl 5 (by decide) q26 rfl (v := .int (u 5 0)) rfl dX1_forget_4 ?_
    refine cm_top (show u 5 0 = nI n by rw [hI.1 5 (by decide)]; exact h5) ?_
    refine lv_icmp_ge (tgt := 33) hx hb dX1_forget_7 (by decide) (fun c1 => by have c1 : n ≤ i := (nI_leI (a := n) (b := i) (by omega) (by omega)).mp c1; omega) (fun c1 => ?_)
    have c1 : ¬ n ≤ i := fun q => c1 ((nI_leI (a := n) (b := i) (by omega) (by omega)).mpr q)
    refine lv_aload_n hx hb dX1_forget_10 rfl (lv_at hl 1 rfl) ?_
    refine cm_get1 C G 0 rfl 6 (by decide) q27 rfl (v := .ref (a 6)) rfl dX1_forget_11 ?_
    refine lv_iload_n hx hb dX1_forget_14 rfl (lv_at hl 0 rfl) ?_
    refine cm_bald C G 4 3 rfl rfl i (by omega) (by decide) dX1_forget_15 ?_
    refine lv_iload_n hx hb dX1_forget_16 rfl (lv_at hl 2 rfl) ?_
    refine lv_icmp_ne (tgt := 27) hx hb dX1_forget_17 (by decide) (fun c2 => ?_) (fun c2 => ?_)
    · skip
      refine lv_iinc (v := nI (i + 1)) (lv' := [(2, .int (nI (i + 1))), (0, .ref h0), (1, .int (nI i0))]) hx hb dX1_forget_27 hl (k := 0) rfl (cm_inc i) (by decide) rfl (fun ls hl => ?_)
      refine lv_goto (tgt := 2) hx hb dX1_forget_30 (by decide) ?_
      exact ih u _ _ _ ⟨hI.1, cm_fg_miss hI.2 c2⟩ G hl
    refine lv_aload_n hx hb dX1_forget_20 rfl (lv_at hl 1 rfl) ?_
    refine cm_get1 C G 0 rfl 6 (by decide) q27 rfl (v := .ref (a 6)) rfl dX1_forget_21 ?_
    refine lv_iload_n hx hb dX1_forget_24 rfl (lv_at hl 0 rfl) ?_
    refine lv_iconst (v := -1) hx hb dX1_forget_25 (by decide) ?_
    refine cm_bast C G 4 3 rfl rfl i (by omega) (by decide) (v := -1) cm_narbm (ws' := cm_wX h0 a d (cm_st u 6 i (-1))) rfl dX1_forget_26 (fun H locs G => ?_)
    refine lv_iinc (v := nI (i + 1)) (lv' := [(2, .int (nI (i + 1))), (0, .ref h0), (1, .int (nI i0))]) hx hb dX1_forget_27 hl (k := 0) rfl (cm_inc i) (by decide) rfl (fun ls hl => ?_)
    refine lv_goto (tgt := 2) hx hb dX1_forget_30 (by decide) ?_
    exact ih (cm_st u 6 i (-1)) _ _ _ ⟨fun k hk => (cm_st_ne hk).trans (hI.1 k hk), fun j => by rw [cm_st_eq]; exact cm_fg_hit hI.2 c2 j⟩ G hl
set_option maxHeartbeats 4000000 in
/-- X1.lineWith -/
theorem cm_X1_lineWith (l : Launch) (D : va_G) (h0 : Nat) (a : Nat → Nat) (d : Nat → ClassId) (σ : cm_St) (i0 : Nat) (μ : Nat → Int32) (hi0 : i0 < 16) (hC : cm_RC σ μ) : cm_Mi l D yX1_lineWith (ws_ yX1_lineWith cX1_lineWith 3 (some .int)) ({ frames := 0, cells := 0, slots := 0, locals := 0 }) (cm_tX d) (cm_wX h0 a d) h0 [.int (nI i0)] σ (fun r σ' => σ' = σ ∧ ((∃ x, x < 8 ∧ r = nI x ∧ σ 11 x = nI i0) ∨ (r = -1 ∧ ∀ x, x < 8 → ¬ σ 11 x = nI i0))) := by
  refine cm_startI (by decide) (Nat.le_of_ble_eq_true rfl) ?_
  intro p e s m below meth c A ls C hr hlk hml hA G hl
  have hx := C.1
  have hb := C.2.1
  have hl : lv_has ls 3 [(0, .ref h0), (1, .int (nI i0))] := hl
  obtain ⟨n, n1, n4, h10, hB⟩ := hC
  refine lv_iload_n hx hb dX1_lineWith_0 rfl (lv_at hl 1 rfl) ?_
  refine lv_aload_n hx hb dX1_lineWith_1 rfl (lv_at hl 0 rfl) ?_
  refine cm_get1 C G 0 rfl 10 (by decide) q31 rfl (v := .int (σ 10 0)) rfl dX1_lineWith_2 ?_
  refine cm_top h10 ?_
  refine lv_irem hx hb dX1_lineWith_5 (nI_ne0 (by omega) (by omega)) ?_
  refine cm_top (pk_rem (a := i0) (d := n) (by omega) (by omega) (by omega)) ?_
  obtain ⟨k, hk⟩ : ∃ q, q = i0 % n := ⟨_, rfl⟩
  have hkn : k < n := by rw [hk]; exact Nat.mod_lt _ (by omega)
  rw [← hk]
  refine lv_istore_n (lv' := [(2, .int (nI k)), (0, .ref h0), (1, .int (nI i0))]) hx hb dX1_lineWith_6 rfl hl (by decide) rfl (fun ls hl => ?_)
  refine lv_aload_n hx hb dX1_lineWith_7 rfl (lv_at hl 1 rfl) ?_
  refine cm_get1 C G 0 rfl 11 (by decide) q32 rfl (v := .ref (a 11)) rfl dX1_lineWith_8 ?_
  refine lv_iload_n hx hb dX1_lineWith_11 rfl (lv_at hl 0 rfl) ?_
  refine cm_bald C G 7 6 rfl rfl k (by omega) (by decide) dX1_lineWith_12 ?_
  refine lv_iload_n hx hb dX1_lineWith_13 rfl (lv_at hl 2 rfl) ?_
  refine lv_icmp_ne (tgt := 19) hx hb dX1_lineWith_14 (by decide) (fun c1 => ?_) (fun c1 => ?_)
  rotate_left
  · skip
    refine lv_iload_n hx hb dX1_lineWith_17 rfl (lv_at hl 0 rfl) ?_
    exact cm_iret (wo := cm_wX h0 a d) (σ := σ) C G hr hlk (⟨rfl, Or.inl ⟨k, by omega, rfl, c1⟩⟩) dX1_lineWith_18
  refine lv_aload_n hx hb dX1_lineWith_19 rfl (lv_at hl 1 rfl) ?_
  refine cm_get1 C G 0 rfl 11 (by decide) q32 rfl (v := .ref (a 11)) rfl dX1_lineWith_20 ?_
  refine lv_iconst (v := nI 4) hx hb dX1_lineWith_23 (by decide) ?_
  refine lv_iload_n hx hb dX1_lineWith_24 rfl (lv_at hl 0 rfl) ?_
  refine lv_iadd hx hb dX1_lineWith_25 ?_
  refine cm_top (nI_add 4 k) ?_
  refine cm_bald C G 7 6 rfl rfl (4 + k) (by omega) (by decide) dX1_lineWith_26 ?_
  refine lv_iload_n hx hb dX1_lineWith_27 rfl (lv_at hl 2 rfl) ?_
  refine lv_icmp_ne (tgt := 37) hx hb dX1_lineWith_28 (by decide) (fun c2 => ?_) (fun c2 => ?_)
  rotate_left
  · skip
    refine lv_iconst (v := nI 4) hx hb dX1_lineWith_31 (by decide) ?_
    refine lv_iload_n hx hb dX1_lineWith_32 rfl (lv_at hl 0 rfl) ?_
    refine lv_iadd hx hb dX1_lineWith_33 ?_
    refine cm_top (nI_add 4 k) ?_
    refine lv_goto (tgt := 38) hx hb dX1_lineWith_34 (by decide) ?_
    exact cm_iret (wo := cm_wX h0 a d) (σ := σ) C G hr hlk (⟨rfl, Or.inl ⟨4 + k, by omega, rfl, c2⟩⟩) dX1_lineWith_38
  refine lv_iconst (v := -1) hx hb dX1_lineWith_37 (by decide) ?_
  exact cm_iret (wo := cm_wX h0 a d) (σ := σ) C G hr hlk (⟨rfl, Or.inr ⟨rfl, cm_lw_no hB hk (by omega) hi0 c1 c2⟩⟩) dX1_lineWith_38
set_option maxHeartbeats 4000000 in
/-- X1.evict -/
theorem cm_X1_evict (l : Launch) (D : va_G) (h0 : Nat) (a : Nat → Nat) (d : Nat → ClassId) (σ : cm_St) (i0 : Nat) (μ : Nat → Int32) (hi0 : i0 < 8) (hC : cm_RC σ μ) : cm_Mv l D yX1_evict (ws_ yX1_evict cX1_evict 3 none) ({ frames := 0, cells := 0, slots := 0, locals := 0 }) (cm_tX d) (cm_wX h0 a d) h0 [.int (nI i0)] σ (fun σ' => cm_RC σ' μ ∧ σ' 11 i0 = -1 ∧ (∀ y, y ≠ i0 → σ' 11 y = σ 11 y) ∧ ∀ q, 1 ≤ q → q ≤ 10 → σ' q = σ q) := by
  refine cm_startV (by decide) (Nat.le_of_ble_eq_true rfl) ?_
  intro p e s m below meth c A ls C hr hlk hml hA G hl
  have hx := C.1
  have hb := C.2.1
  have hl : lv_has ls 3 [(0, .ref h0), (1, .int (nI i0))] := hl
  obtain ⟨n, n1, n4, h10, hB⟩ := hC
  refine lv_aload_n hx hb dX1_evict_0 rfl (lv_at hl 0 rfl) ?_
  refine cm_get1 C G 0 rfl 11 (by decide) q32 rfl (v := .ref (a 11)) rfl dX1_evict_1 ?_
  refine lv_iload_n hx hb dX1_evict_4 rfl (lv_at hl 1 rfl) ?_
  refine cm_bald C G 7 6 rfl rfl i0 (by omega) (by decide) dX1_evict_5 ?_
  rcases hB.1 i0 hi0 with g | ⟨b, hb16, g, -, -, -⟩
  · skip
    refine cm_top g ?_
    refine lv_if_lt (tgt := 56) hx hb dX1_evict_6 (by decide) (fun c1 => ?_) (fun c1 => absurd cm_neg1 c1)
    refine lv_aload_n hx hb dX1_evict_56 rfl (lv_at hl 0 rfl) ?_
    refine cm_get1 C G 0 rfl 11 (by decide) q32 rfl (v := .ref (a 11)) rfl dX1_evict_57 ?_
    refine lv_iload_n hx hb dX1_evict_60 rfl (lv_at hl 1 rfl) ?_
    refine lv_iconst (v := -1) hx hb dX1_evict_61 (by decide) ?_
    refine cm_bast C G 7 6 rfl rfl i0 (by omega) (by decide) (v := -1) cm_narbm (ws' := cm_wX h0 a d (cm_st σ 11 i0 (-1))) rfl dX1_evict_62 (fun H locs G => ?_)
    refine lv_aload_n hx hb dX1_evict_63 rfl (lv_at hl 0 rfl) ?_
    refine cm_get1 C G 0 rfl 12 (by decide) q33 rfl (v := .ref (a 12)) rfl dX1_evict_64 ?_
    refine lv_iload_n hx hb dX1_evict_67 rfl (lv_at hl 1 rfl) ?_
    refine lv_iconst (v := 0) hx hb dX1_evict_68 (by decide) ?_
    refine cm_zast C G 8 7 rfl rfl i0 (by omega) (by decide) (v := 0) cm_narz0 (ws' := cm_wX h0 a d (cm_st (cm_st σ 11 i0 (-1)) 12 i0 0)) rfl dX1_evict_69 (fun H locs G => ?_)
    exact cm_vret (wo := cm_wX h0 a d) (σ := (cm_st (cm_st σ 11 i0 (-1)) 12 i0 0)) C G hr hlk (cm_ev_end n1 n4 h10 hB hi0 (fun _ _ => rfl) (Or.inl ⟨Or.inl g, fun _ => rfl⟩)) dX1_evict_70
  refine cm_top g ?_
  refine lv_if_lt (tgt := 56) hx hb dX1_evict_6 (by decide) (fun c1 => absurd c1 (nI_pos (by omega))) (fun c1 => ?_)
  refine lv_aload_n hx hb dX1_evict_9 rfl (lv_at hl 0 rfl) ?_
  refine cm_get1 C G 0 rfl 12 (by decide) q33 rfl (v := .ref (a 12)) rfl dX1_evict_10 ?_
  refine lv_iload_n hx hb dX1_evict_13 rfl (lv_at hl 1 rfl) ?_
  refine cm_zald C G 8 7 rfl rfl i0 (by omega) (by decide) dX1_evict_14 ?_
  refine lv_if_eq (tgt := 56) hx hb dX1_evict_15 (by decide) (fun c2 => ?_) (fun c2 => ?_)
  · skip
    refine lv_aload_n hx hb dX1_evict_56 rfl (lv_at hl 0 rfl) ?_
    refine cm_get1 C G 0 rfl 11 (by decide) q32 rfl (v := .ref (a 11)) rfl dX1_evict_57 ?_
    refine lv_iload_n hx hb dX1_evict_60 rfl (lv_at hl 1 rfl) ?_
    refine lv_iconst (v := -1) hx hb dX1_evict_61 (by decide) ?_
    refine cm_bast C G 7 6 rfl rfl i0 (by omega) (by decide) (v := -1) cm_narbm (ws' := cm_wX h0 a d (cm_st σ 11 i0 (-1))) rfl dX1_evict_62 (fun H locs G => ?_)
    refine lv_aload_n hx hb dX1_evict_63 rfl (lv_at hl 0 rfl) ?_
    refine cm_get1 C G 0 rfl 12 (by decide) q33 rfl (v := .ref (a 12)) rfl dX1_evict_64 ?_
    refine lv_iload_n hx hb dX1_evict_67 rfl (lv_at hl 1 rfl) ?_
    refine lv_iconst (v := 0) hx hb dX1_evict_68 (by decide) ?_
    refine cm_zast C G 8 7 rfl rfl i0 (by omega) (by decide) (v := 0) cm_narz0 (ws' := cm_wX h0 a d (cm_st (cm_st σ 11 i0 (-1)) 12 i0 0)) rfl dX1_evict_69 (fun H locs G => ?_)
    exact cm_vret (wo := cm_wX h0 a d) (σ := (cm_st (cm_st σ 11 i0 (-1)) 12 i0 0)) C G hr hlk (cm_ev_end n1 n4 h10 hB hi0 (fun _ _ => rfl) (Or.inl ⟨Or.inr c2, fun _ => rfl⟩)) dX1_evict_70
  refine lv_iconst (v := nI 0) hx hb dX1_evict_18 (by decide) ?_
  refine lv_istore_n (lv' := [(2, .int (nI 0)), (0, .ref h0), (1, .int (nI i0))]) hx hb dX1_evict_19 rfl hl (by decide) rfl (fun ls hl => ?_)
  refine cm_loop (I := fun i u => (∀ k, k ≠ 0 → u k = σ k) ∧ ∀ w, u 0 w = if 4 * b ≤ w ∧ w < 4 * b + i then σ 13 (4 * i0 + (w - 4 * b)) else σ 0 w) (wo := cm_wX h0 a d) (lv := fun i _ => [(2, .int (nI i)), (0, .ref h0), (1, .int (nI i0))]) (N := 4) ?_ ?_ 0 σ _ _ _ (Nat.zero_le _) (⟨fun _ _ => rfl, fun w => by rw [if_neg (by omega)]⟩) G hl
  · skip
    intro u H locs ls hI G hl
    refine lv_iload_n hx hb dX1_evict_20 rfl (lv_at hl 0 rfl) ?_
    refine lv_iconst (v := nI 4) hx hb dX1_evict_21 (by decide) ?_
    refine lv_icmp_ge (tgt := 56) hx hb dX1_evict_22 (by decide) (fun c3 => ?_) (fun c3 => by have c3 : ¬ 4 ≤ 4 := fun q => c3 ((nI_leI (a := 4) (b := 4) (by omega) (by omega)).mpr q); omega)
    have c3 : 4 ≤ 4 := (nI_leI (a := 4) (b := 4) (by omega) (by omega)).mp c3
    refine lv_aload_n hx hb dX1_evict_56 rfl (lv_at hl 1 rfl) ?_
    refine cm_get1 C G 0 rfl 11 (by decide) q32 rfl (v := .ref (a 11)) rfl dX1_evict_57 ?_
    refine lv_iload_n hx hb dX1_evict_60 rfl (lv_at hl 2 rfl) ?_
    refine lv_iconst (v := -1) hx hb dX1_evict_61 (by decide) ?_
    refine cm_bast C G 7 6 rfl rfl i0 (by omega) (by decide) (v := -1) cm_narbm (ws' := cm_wX h0 a d (cm_st u 11 i0 (-1))) rfl dX1_evict_62 (fun H locs G => ?_)
    refine lv_aload_n hx hb dX1_evict_63 rfl (lv_at hl 1 rfl) ?_
    refine cm_get1 C G 0 rfl 12 (by decide) q33 rfl (v := .ref (a 12)) rfl dX1_evict_64 ?_
    refine lv_iload_n hx hb dX1_evict_67 rfl (lv_at hl 2 rfl) ?_
    refine lv_iconst (v := 0) hx hb dX1_evict_68 (by decide) ?_
    refine cm_zast C G 8 7 rfl rfl i0 (by omega) (by decide) (v := 0) cm_narz0 (ws' := cm_wX h0 a d (cm_st (cm_st u 11 i0 (-1)) 12 i0 0)) rfl dX1_evict_69 (fun H locs G => ?_)
    exact cm_vret (wo := cm_wX h0 a d) (σ := (cm_st (cm_st u 11 i0 (-1)) 12 i0 0)) C G hr hlk (cm_ev_end n1 n4 h10 hB hi0 (hI.1) (Or.inr ⟨b, hb16, g, hI.2⟩)) dX1_evict_70
  · skip
    intro i u H locs ls hi hI G hl ih
    refine lv_iload_n hx hb dX1_evict_20 rfl (lv_at hl 0 rfl) ?_
    refine lv_iconst (v := nI 4) hx hb dX1_evict_21 (by decide) ?_
    refine lv_icmp_ge (tgt := 56) hx hb dX1_evict_22 (by decide) (fun c3 => by have c3 : 4 ≤ i := (nI_leI (a := 4) (b := i) (by omega) (by omega)).mp c3; omega) (fun c3 => ?_)
    have c3 : ¬ 4 ≤ i := fun q => c3 ((nI_leI (a := 4) (b := i) (by omega) (by omega)).mpr q)
    refine lv_aload_n hx hb dX1_evict_25 rfl (lv_at hl 1 rfl) ?_
    refine cm_get1 C G 0 rfl 0 (by decide) q21 rfl (v := .ref (a 0)) rfl dX1_evict_26 ?_
    refine lv_iconst (v := nI 4) hx hb dX1_evict_29 (by decide) ?_
    refine lv_aload_n hx hb dX1_evict_30 rfl (lv_at hl 1 rfl) ?_
    refine cm_get1 C G 0 rfl 11 (by decide) q32 rfl (v := .ref (a 11)) rfl dX1_evict_31 ?_
    refine lv_iload_n hx hb dX1_evict_34 rfl (lv_at hl 2 rfl) ?_
    refine cm_bald C G 7 6 rfl rfl i0 (by omega) (by decide) dX1_evict_35 ?_
    refine cm_top (show u 11 i0 = nI b by rw [hI.1 11 (by decide)]; exact g) ?_
    refine lv_imul hx hb dX1_evict_36 ?_
    refine cm_top (pk_mul 4 b) ?_
    refine lv_iload_n hx hb dX1_evict_37 rfl (lv_at hl 0 rfl) ?_
    refine lv_iadd hx hb dX1_evict_38 ?_
    refine cm_top (nI_add (4 * b) i) ?_
    refine lv_aload_n hx hb dX1_evict_39 rfl (lv_at hl 1 rfl) ?_
    refine cm_get1 C G 0 rfl 13 (by decide) q34 rfl (v := .ref (a 13)) rfl dX1_evict_40 ?_
    refine lv_iconst (v := nI 4) hx hb dX1_evict_43 (by decide) ?_
    refine lv_iload_n hx hb dX1_evict_44 rfl (lv_at hl 2 rfl) ?_
    refine lv_imul hx hb dX1_evict_45 ?_
    refine cm_top (pk_mul 4 i0) ?_
    refine lv_iload_n hx hb dX1_evict_46 rfl (lv_at hl 0 rfl) ?_
    refine lv_iadd hx hb dX1_evict_47 ?_
    refine cm_top (nI_add (4 * i0) i) ?_
    refine cm_iald C G 9 8 rfl rfl (4 * i0 + i) (by omega) (by decide) dX1_evict_48 ?_
    refine cm_top (show u 13 (4 * i0 + i) = σ 13 (4 * i0 + i) by rw [hI.1 13 (by decide)]) ?_
    refine cm_iast C G 1 0 rfl rfl (4 * b + i) (by omega) (by decide) (ws' := cm_wX h0 a d (cm_st u 0 (4 * b + i) (σ 13 (4 * i0 + i)))) rfl dX1_evict_49 (fun H locs G => ?_)
    refine lv_iinc (v := nI (i + 1)) (lv' := [(2, .int (nI (i + 1))), (0, .ref h0), (1, .int (nI i0))]) hx hb dX1_evict_50 hl (k := 0) rfl (cm_inc i) (by decide) rfl (fun ls hl => ?_)
    refine lv_goto (tgt := 20) hx hb dX1_evict_53 (by decide) ?_
    exact ih (cm_st u 0 (4 * b + i) (σ 13 (4 * i0 + i))) _ _ _ ⟨fun k hk => (cm_st_ne hk).trans (hI.1 k hk), fun w => by rw [cm_st_eq]; exact cm_wb_step hI.2 w⟩ G hl
set_option maxHeartbeats 4000000 in
/-- X1.translation -/
theorem cm_X1_translation (l : Launch) (D : va_G) (h0 : Nat) (a : Nat → Nat) (d : Nat → ClassId) (σ : cm_St) (i0 c0 : Nat) (τ : cm_St) (hi0 : i0 < 8) (hc0 : c0 < 4) (h1 : σ 1 0 = nI c0) (hR : cm_R σ τ) : cm_Mi l D yX1_translation (ws_ yX1_translation cX1_translation 4 (some .int)) ({ frames := 0, cells := 0, slots := 0, locals := 0 }) (cm_tX d) (cm_wX h0 a d) h0 [.int (nI i0)] σ (fun r σ' => (r = -1 ∧ σ' = σ ∧ σ 3 (8 * c0 + i0) = -1) ∨ ∃ k f, k < 4 ∧ f < 8 ∧ r = nI k ∧ σ 3 (8 * c0 + i0) = nI f ∧ σ' 7 k = nI f ∧ σ' 8 k = σ 4 (8 * c0 + i0) ∧ cm_KP σ' ∧ ∀ q, (q < 6 ∨ 10 ≤ q) → σ' q = σ q) := by
  refine cm_startI (by decide) (Nat.le_of_ble_eq_true rfl) ?_
  intro p e s m below meth c A ls C hr hlk hml hA G hl
  have hx := C.1
  have hb := C.2.1
  have hl : lv_has ls 4 [(0, .ref h0), (1, .int (nI i0))] := hl
  obtain ⟨n, n1, n4, h5, ⟨k0, hk0, h9⟩, -⟩ := hR.2.1
  refine lv_bipush (v := nI 8) hx hb dX1_translation_0 (by decide) ?_
  refine lv_aload_n hx hb dX1_translation_2 rfl (lv_at hl 0 rfl) ?_
  refine cm_get1 C G 0 rfl 1 (by decide) q22 rfl (v := .int (σ 1 0)) rfl dX1_translation_3 ?_
  refine cm_top h1 ?_
  refine lv_imul hx hb dX1_translation_6 ?_
  refine cm_top (pk_mul 8 c0) ?_
  refine lv_iload_n hx hb dX1_translation_7 rfl (lv_at hl 1 rfl) ?_
  refine lv_iadd hx hb dX1_translation_8 ?_
  refine cm_top (nI_add (8 * c0) i0) ?_
  refine lv_istore_n (lv' := [(2, .int (nI (8 * c0 + i0))), (0, .ref h0), (1, .int (nI i0))]) hx hb dX1_translation_9 rfl hl (by decide) rfl (fun ls hl => ?_)
  refine lv_iconst (v := nI 0) hx hb dX1_translation_10 (by decide) ?_
  refine lv_istore_n (lv' := [(3, .int (nI 0)), (2, .int (nI (8 * c0 + i0))), (0, .ref h0), (1, .int (nI i0))]) hx hb dX1_translation_11 rfl hl (by decide) rfl (fun ls hl => ?_)
  refine cm_loop (I := fun i u => u = σ ∧ ∀ j, j < i → ¬ σ 6 j = nI (8 * c0 + i0)) (wo := cm_wX h0 a d) (lv := fun i _ => [(3, .int (nI i)), (2, .int (nI (8 * c0 + i0))), (0, .ref h0), (1, .int (nI i0))]) (N := n) ?_ ?_ 0 σ _ _ _ (Nat.zero_le _) (⟨rfl, fun j hj => absurd hj (Nat.not_lt_zero _)⟩) G hl
  · skip
    intro u H locs ls hI G hl
    obtain ⟨hu, hI⟩ := hI
    rw [hu] at G
    refine lv_iload_n hx hb dX1_translation_12 rfl (lv_at hl 0 rfl) ?_
    refine lv_aload_n hx hb dX1_translation_13 rfl (lv_at hl 2 rfl) ?_
    refine cm_get1 C G 0 rfl 5 (by decide) q26 rfl (v := .int (σ 5 0)) rfl dX1_translation_14 ?_
    refine cm_top h5 ?_
    refine lv_icmp_ge (tgt := 38) hx hb dX1_translation_17 (by decide) (fun c1 => ?_) (fun c1 => by have c1 : ¬ n ≤ n := fun q => c1 ((nI_leI (a := n) (b := n) (by omega) (by omega)).mpr q); omega)
    have c1 : n ≤ n := (nI_leI (a := n) (b := n) (by omega) (by omega)).mp c1
    refine lv_aload_n hx hb dX1_translation_38 rfl (lv_at hl 2 rfl) ?_
    refine cm_get1 C G 0 rfl 3 (by decide) q24 rfl (v := .ref (a 3)) rfl dX1_translation_39 ?_
    refine lv_iload_n hx hb dX1_translation_42 rfl (lv_at hl 1 rfl) ?_
    refine cm_bald C G 2 1 rfl rfl (8 * c0 + i0) (by omega) (by decide) dX1_translation_43 ?_
    rcases (hR.1.2.2.2 (8 * c0 + i0) (by omega)).2.2.1 with g | ⟨f, hf, g⟩
    · skip
      refine cm_top g ?_
      refine lv_if_ge (tgt := 49) hx hb dX1_translation_44 (by decide) (fun c2 => absurd c2 (by decide)) (fun c2 => ?_)
      refine lv_iconst (v := -1) hx hb dX1_translation_47 (by decide) ?_
      exact cm_iret (wo := cm_wX h0 a d) (σ := σ) C G hr hlk (Or.inl ⟨rfl, rfl, g⟩) dX1_translation_48
    refine cm_top g ?_
    refine lv_if_ge (tgt := 49) hx hb dX1_translation_44 (by decide) (fun c2 => ?_) (fun c2 => absurd (nI_pos' (by omega)) c2)
    refine lv_aload_n hx hb dX1_translation_49 rfl (lv_at hl 2 rfl) ?_
    refine cm_get1 C G 0 rfl 9 (by decide) q30 rfl (v := .int (σ 9 0)) rfl dX1_translation_50 ?_
    refine cm_top h9 ?_
    refine lv_istore_n (lv' := [(3, .int (nI k0)), (2, .int (nI (8 * c0 + i0))), (0, .ref h0), (1, .int (nI i0))]) hx hb dX1_translation_53 rfl hl (by decide) rfl (fun ls hl => ?_)
    refine lv_aload_n hx hb dX1_translation_54 rfl (lv_at hl 2 rfl) ?_
    refine lv_aload_n hx hb dX1_translation_55 rfl (lv_at hl 2 rfl) ?_
    refine cm_get1 C G 0 rfl 9 (by decide) q30 rfl (v := .int (σ 9 0)) rfl dX1_translation_56 ?_
    refine cm_top h9 ?_
    refine lv_iconst (v := nI 1) hx hb dX1_translation_59 (by decide) ?_
    refine lv_iadd hx hb dX1_translation_60 ?_
    refine cm_top (nI_add k0 1) ?_
    refine lv_aload_n hx hb dX1_translation_61 rfl (lv_at hl 2 rfl) ?_
    refine cm_get1 C G 0 rfl 5 (by decide) q26 rfl (v := .int (σ 5 0)) rfl dX1_translation_62 ?_
    refine cm_top h5 ?_
    refine lv_icmp_ge (tgt := 77) hx hb dX1_translation_65 (by decide) (fun c3 => ?_) (fun c3 => ?_)
    · skip
      have c3 : n ≤ k0 + 1 := (nI_leI (a := n) (b := k0 + 1) (by omega) (by omega)).mp c3
      refine lv_iconst (v := nI 0) hx hb dX1_translation_77 (by decide) ?_
      refine cm_put1 C G 0 rfl 9 (by decide) q30 rfl rfl (by decide +kernel) (Nat.le_of_ble_eq_true rfl) (ws' := cm_wX h0 a d (cm_st σ 9 0 (nI 0))) rfl dX1_translation_78 (fun H locs G => ?_)
      refine lv_aload_n hx hb dX1_translation_81 rfl (lv_at hl 2 rfl) ?_
      refine cm_get1 C G 0 rfl 6 (by decide) q27 rfl (v := .ref (a 6)) rfl dX1_translation_82 ?_
      refine lv_iload_n hx hb dX1_translation_85 rfl (lv_at hl 0 rfl) ?_
      refine lv_iload_n hx hb dX1_translation_86 rfl (lv_at hl 1 rfl) ?_
      refine lv_i2b (v := nI (8 * c0 + i0)) hx hb dX1_translation_87 (cm_byte (by omega)) ?_
      refine cm_bast C G 4 3 rfl rfl k0 (by omega) (by decide) (v := nI (8 * c0 + i0)) (cm_narb (by omega)) (ws' := cm_wX h0 a d (cm_st (cm_st σ 9 0 (nI 0)) 6 k0 (nI (8 * c0 + i0)))) rfl dX1_translation_88 (fun H locs G => ?_)
      refine lv_aload_n hx hb dX1_translation_89 rfl (lv_at hl 2 rfl) ?_
      refine cm_get1 C G 0 rfl 7 (by decide) q28 rfl (v := .ref (a 7)) rfl dX1_translation_90 ?_
      refine lv_iload_n hx hb dX1_translation_93 rfl (lv_at hl 0 rfl) ?_
      refine lv_aload_n hx hb dX1_translation_94 rfl (lv_at hl 2 rfl) ?_
      refine cm_get1 C G 0 rfl 3 (by decide) q24 rfl (v := .ref (a 3)) rfl dX1_translation_95 ?_
      refine lv_iload_n hx hb dX1_translation_98 rfl (lv_at hl 1 rfl) ?_
      refine cm_bald C G 2 1 rfl rfl (8 * c0 + i0) (by omega) (by decide) dX1_translation_99 ?_
      refine cm_top (show _ = nI f from g) ?_
      refine cm_bast C G 5 4 rfl rfl k0 (by omega) (by decide) (v := nI f) (cm_narb (by omega)) (ws' := cm_wX h0 a d (cm_st (cm_st (cm_st σ 9 0 (nI 0)) 6 k0 (nI (8 * c0 + i0))) 7 k0 (nI f))) rfl dX1_translation_100 (fun H locs G => ?_)
      refine lv_aload_n hx hb dX1_translation_101 rfl (lv_at hl 2 rfl) ?_
      refine cm_get1 C G 0 rfl 8 (by decide) q29 rfl (v := .ref (a 8)) rfl dX1_translation_102 ?_
      refine lv_iload_n hx hb dX1_translation_105 rfl (lv_at hl 0 rfl) ?_
      refine lv_aload_n hx hb dX1_translation_106 rfl (lv_at hl 2 rfl) ?_
      refine cm_get1 C G 0 rfl 4 (by decide) q25 rfl (v := .ref (a 4)) rfl dX1_translation_107 ?_
      refine lv_iload_n hx hb dX1_translation_110 rfl (lv_at hl 1 rfl) ?_
      refine cm_zald C G 3 2 rfl rfl (8 * c0 + i0) (by omega) (by decide) dX1_translation_111 ?_
      refine cm_top (show _ = σ 4 (8 * c0 + i0) from rfl) ?_
      refine cm_zast C G 6 5 rfl rfl k0 (by omega) (by decide) (v := σ 4 (8 * c0 + i0)) (cm_narz (hR.1.2.2.2 (8 * c0 + i0) (by omega)).2.2.2) (ws' := cm_wX h0 a d (cm_st (cm_st (cm_st (cm_st σ 9 0 (nI 0)) 6 k0 (nI (8 * c0 + i0))) 7 k0 (nI f)) 8 k0 (σ 4 (8 * c0 + i0)))) rfl dX1_translation_112 (fun H locs G => ?_)
      refine lv_iload_n hx hb dX1_translation_113 rfl (lv_at hl 0 rfl) ?_
      exact cm_iret (wo := cm_wX h0 a d) (σ := (cm_st (cm_st (cm_st (cm_st σ 9 0 (nI 0)) 6 k0 (nI (8 * c0 + i0))) 7 k0 (nI f)) 8 k0 (σ 4 (8 * c0 + i0)))) C G hr hlk (Or.inr ⟨k0, f, by omega, hf, rfl, g, cm_tr_new (k1 := 0) hR.2.1 n4 h5 hk0 (by omega) (by omega) hf g⟩) dX1_translation_114
    have c3 : ¬ n ≤ k0 + 1 := fun q => c3 ((nI_leI (a := n) (b := k0 + 1) (by omega) (by omega)).mpr q)
    refine lv_aload_n hx hb dX1_translation_68 rfl (lv_at hl 2 rfl) ?_
    refine cm_get1 C G 0 rfl 9 (by decide) q30 rfl (v := .int (σ 9 0)) rfl dX1_translation_69 ?_
    refine cm_top h9 ?_
    refine lv_iconst (v := nI 1) hx hb dX1_translation_72 (by decide) ?_
    refine lv_iadd hx hb dX1_translation_73 ?_
    refine cm_top (nI_add k0 1) ?_
    refine lv_goto (tgt := 78) hx hb dX1_translation_74 (by decide) ?_
    refine cm_put1 C G 0 rfl 9 (by decide) q30 rfl rfl (by decide +kernel) (Nat.le_of_ble_eq_true rfl) (ws' := cm_wX h0 a d (cm_st σ 9 0 (nI (k0 + 1)))) rfl dX1_translation_78 (fun H locs G => ?_)
    refine lv_aload_n hx hb dX1_translation_81 rfl (lv_at hl 2 rfl) ?_
    refine cm_get1 C G 0 rfl 6 (by decide) q27 rfl (v := .ref (a 6)) rfl dX1_translation_82 ?_
    refine lv_iload_n hx hb dX1_translation_85 rfl (lv_at hl 0 rfl) ?_
    refine lv_iload_n hx hb dX1_translation_86 rfl (lv_at hl 1 rfl) ?_
    refine lv_i2b (v := nI (8 * c0 + i0)) hx hb dX1_translation_87 (cm_byte (by omega)) ?_
    refine cm_bast C G 4 3 rfl rfl k0 (by omega) (by decide) (v := nI (8 * c0 + i0)) (cm_narb (by omega)) (ws' := cm_wX h0 a d (cm_st (cm_st σ 9 0 (nI (k0 + 1))) 6 k0 (nI (8 * c0 + i0)))) rfl dX1_translation_88 (fun H locs G => ?_)
    refine lv_aload_n hx hb dX1_translation_89 rfl (lv_at hl 2 rfl) ?_
    refine cm_get1 C G 0 rfl 7 (by decide) q28 rfl (v := .ref (a 7)) rfl dX1_translation_90 ?_
    refine lv_iload_n hx hb dX1_translation_93 rfl (lv_at hl 0 rfl) ?_
    refine lv_aload_n hx hb dX1_translation_94 rfl (lv_at hl 2 rfl) ?_
    refine cm_get1 C G 0 rfl 3 (by decide) q24 rfl (v := .ref (a 3)) rfl dX1_translation_95 ?_
    refine lv_iload_n hx hb dX1_translation_98 rfl (lv_at hl 1 rfl) ?_
    refine cm_bald C G 2 1 rfl rfl (8 * c0 + i0) (by omega) (by decide) dX1_translation_99 ?_
    refine cm_top (show _ = nI f from g) ?_
    refine cm_bast C G 5 4 rfl rfl k0 (by omega) (by decide) (v := nI f) (cm_narb (by omega)) (ws' := cm_wX h0 a d (cm_st (cm_st (cm_st σ 9 0 (nI (k0 + 1))) 6 k0 (nI (8 * c0 + i0))) 7 k0 (nI f))) rfl dX1_translation_100 (fun H locs G => ?_)
    refine lv_aload_n hx hb dX1_translation_101 rfl (lv_at hl 2 rfl) ?_
    refine cm_get1 C G 0 rfl 8 (by decide) q29 rfl (v := .ref (a 8)) rfl dX1_translation_102 ?_
    refine lv_iload_n hx hb dX1_translation_105 rfl (lv_at hl 0 rfl) ?_
    refine lv_aload_n hx hb dX1_translation_106 rfl (lv_at hl 2 rfl) ?_
    refine cm_get1 C G 0 rfl 4 (by decide) q25 rfl (v := .ref (a 4)) rfl dX1_translation_107 ?_
    refine lv_iload_n hx hb dX1_translation_110 rfl (lv_at hl 1 rfl) ?_
    refine cm_zald C G 3 2 rfl rfl (8 * c0 + i0) (by omega) (by decide) dX1_translation_111 ?_
    refine cm_top (show _ = σ 4 (8 * c0 + i0) from rfl) ?_
    refine cm_zast C G 6 5 rfl rfl k0 (by omega) (by decide) (v := σ 4 (8 * c0 + i0)) (cm_narz (hR.1.2.2.2 (8 * c0 + i0) (by omega)).2.2.2) (ws' := cm_wX h0 a d (cm_st (cm_st (cm_st (cm_st σ 9 0 (nI (k0 + 1))) 6 k0 (nI (8 * c0 + i0))) 7 k0 (nI f)) 8 k0 (σ 4 (8 * c0 + i0)))) rfl dX1_translation_112 (fun H locs G => ?_)
    refine lv_iload_n hx hb dX1_translation_113 rfl (lv_at hl 0 rfl) ?_
    exact cm_iret (wo := cm_wX h0 a d) (σ := (cm_st (cm_st (cm_st (cm_st σ 9 0 (nI (k0 + 1))) 6 k0 (nI (8 * c0 + i0))) 7 k0 (nI f)) 8 k0 (σ 4 (8 * c0 + i0)))) C G hr hlk (Or.inr ⟨k0, f, by omega, hf, rfl, g, cm_tr_new (k1 := (k0 + 1)) hR.2.1 n4 h5 hk0 (by omega) (by omega) hf g⟩) dX1_translation_114
  · skip
    intro i u H locs ls hi hI G hl ih
    obtain ⟨hu, hI⟩ := hI
    rw [hu] at G
    refine lv_iload_n hx hb dX1_translation_12 rfl (lv_at hl 0 rfl) ?_
    refine lv_aload_n hx hb dX1_translation_13 rfl (lv_at hl 2 rfl) ?_
    refine cm_get1 C G 0 rfl 5 (by decide) q26 rfl (v := .int (σ 5 0)) rfl dX1_translation_14 ?_
    refine cm_top h5 ?_
    refine lv_icmp_ge (tgt := 38) hx hb dX1_translation_17 (by decide) (fun c1 => by have c1 : n ≤ i := (nI_leI (a := n) (b := i) (by omega) (by omega)).mp c1; omega) (fun c1 => ?_)
    have c1 : ¬ n ≤ i := fun q => c1 ((nI_leI (a := n) (b := i) (by omega) (by omega)).mpr q)
    refine lv_aload_n hx hb dX1_translation_20 rfl (lv_at hl 2 rfl) ?_
    refine cm_get1 C G 0 rfl 6 (by decide) q27 rfl (v := .ref (a 6)) rfl dX1_translation_21 ?_
    refine lv_iload_n hx hb dX1_translation_24 rfl (lv_at hl 0 rfl) ?_
    refine cm_bald C G 4 3 rfl rfl i (by omega) (by decide) dX1_translation_25 ?_
    refine lv_iload_n hx hb dX1_translation_26 rfl (lv_at hl 1 rfl) ?_
    refine lv_icmp_ne (tgt := 32) hx hb dX1_translation_27 (by decide) (fun c2 => ?_) (fun c2 => ?_)
    · skip
      refine lv_iinc (v := nI (i + 1)) (lv' := [(3, .int (nI (i + 1))), (2, .int (nI (8 * c0 + i0))), (0, .ref h0), (1, .int (nI i0))]) hx hb dX1_translation_32 hl (k := 0) rfl (cm_inc i) (by decide) rfl (fun ls hl => ?_)
      refine lv_goto (tgt := 12) hx hb dX1_translation_35 (by decide) ?_
      refine ih σ _ _ _ ⟨rfl, fun j hj => ?_⟩ G hl
      by_cases hji : j = i
      · rw [hji]; exact c2
      · exact hI j (by omega)
    refine lv_iload_n hx hb dX1_translation_30 rfl (lv_at hl 0 rfl) ?_
    obtain ⟨f, hf, g1, g2, g3⟩ := cm_tr_old hR n4 h5 hi (show 8 * c0 + i0 < 32 by omega) c2
    exact cm_iret (wo := cm_wX h0 a d) (σ := σ) C G hr hlk (Or.inr ⟨i, f, by omega, hf, rfl, g1, g2, g3, hR.2.1, fun _ _ => rfl⟩) dX1_translation_31
end
section
/-! more pure rows: the reference's copy and protect, step by step -/
set_option maxRecDepth 100000
theorem cm_nlt {x : Int32} (h : 0 ≤ x) : ¬ x < 0 := by
  rw [Int32.le_iff_toInt_le] at h
  rw [Int32.lt_iff_toInt_lt]
  omega
theorem cm_ltz {x : Int32} (h : ¬ 0 ≤ x) : x < 0 := by
  rw [Int32.le_iff_toInt_le] at h
  rw [Int32.lt_iff_toInt_lt]
  omega
theorem cm_prot_skip {τ : cm_St} {f : Int32} {i : Nat} (h : ¬ (cm_prot τ f i).2 1 i = f) : cm_prot τ f (i + 1) = cm_prot τ f i := by
  rw [cm_prot, if_neg h]
theorem cm_prot_zero {τ : cm_St} {f : Int32} {i : Nat} (h : (cm_prot τ f i).2 1 i = f) (h2 : (cm_prot τ f i).2 2 i = 0) : cm_prot τ f (i + 1) = ((cm_prot τ f i).1, cm_st (cm_prot τ f i).2 2 i 0) := by
  rw [cm_prot, if_pos h, if_pos h2]
theorem cm_prot_one {τ : cm_St} {f : Int32} {i : Nat} (h : (cm_prot τ f i).2 1 i = f) (h2 : ¬ (cm_prot τ f i).2 2 i = 0) : cm_prot τ f (i + 1) = ((cm_prot τ f i).1 + 1, cm_st (cm_prot τ f i).2 2 i 0) := by
  rw [cm_prot, if_pos h, if_neg h2]
theorem cm_R_noop {σ τ : cm_St} {i : Nat} (hR : cm_R σ τ) (h : τ 2 i = 0) : cm_R σ (cm_st τ 2 i 0) := by
  obtain ⟨⟨q1, q2, q3, q4⟩, hK, hC⟩ := hR
  refine ⟨⟨q1, by simpa [cm_st_at] using q2, by simpa [cm_st_at] using q3, fun e he => ?_⟩, hK, hC⟩
  obtain ⟨a1, a2, a3, a4⟩ := q4 e he
  refine ⟨by simpa [cm_st_at] using a1, ?_, a3, a4⟩
  rw [cm_st_at]
  by_cases hei : e = i
  · rw [if_pos ⟨rfl, hei⟩, ← a2, hei, h]
  · rw [if_neg (fun q => hei q.2)]
    exact a2
theorem cm_spDC_y {τ : cm_St} {x y n : Int32} (h : cm_rg y 65 = none) : cm_spDC τ x y n = (-1, τ) := by
  unfold cm_spDC
  cases cm_rg x 65 with
  | none => rfl
  | some i => simp only [h]
theorem cm_spDC_n {τ : cm_St} {x y n : Int32} (h : cm_rg n 65 = none) : cm_spDC τ x y n = (-1, τ) := by
  unfold cm_spDC
  cases cm_rg x 65 with
  | none => rfl
  | some i =>
    cases cm_rg y 65 with
    | none => rfl
    | some j => simp only [h]
theorem cm_spDC_no {τ : cm_St} {i j k : Nat} (hi : i < 2 ^ 31) (hj : j < 2 ^ 31) (hk : k < 2 ^ 31) (h : ¬ (i + k ≤ 64 ∧ j + k ≤ 64)) : cm_spDC τ (nI i) (nI j) (nI k) = (-1, τ) := by
  by_cases h3 : k < 65
  · by_cases h2 : j < 65
    · by_cases h1 : i < 65
      · simp only [cm_spDC, cm_rg_lt h1 hi, cm_rg_lt h2 hj, cm_rg_lt h3 hk]
        rw [if_neg h]
      · simp only [cm_spDC, cm_rg_ge (show 65 ≤ i by omega) hi]
    · exact cm_spDC_y (cm_rg_ge (by omega) hj)
  · exact cm_spDC_n (cm_rg_ge (by omega) hk)
theorem cm_spDC_ok {τ : cm_St} {i j k : Nat} (h : i + k ≤ 64 ∧ j + k ≤ 64) : cm_spDC τ (nI i) (nI j) (nI k) = (nI k, cm_cp τ i j k) := by
  simp only [cm_spDC, cm_rg_lt (show i < 65 by omega) (by omega), cm_rg_lt (show j < 65 by omega) (by omega), cm_rg_lt (show k < 65 by omega) (by omega)]
  rw [if_pos h]
theorem cm_spDR_at {τ : cm_St} {j : Nat} (h : j < 64) : cm_spDR τ (nI j) = (τ 0 j, τ) := by
  simp only [cm_spDR, cm_rg_lt h (by omega)]
theorem cm_spDW_at {τ : cm_St} {j : Nat} {v : Int32} (h : j < 64) : cm_spDW τ (nI j) v = (0, cm_st τ 0 j v) := by
  simp only [cm_spDW, cm_rg_lt h (by omega)]
theorem cm_spMap_at {τ : cm_St} {i j k : Nat} {w : Int32} (hi : i < 4) (hj : j < 8) (hk : k < 8) : cm_spMap τ (nI i) (nI j) (nI k) w = (if τ 1 (8 * i + j) < 0 then 0 else 1, cm_st (cm_st τ 1 (8 * i + j) (nI k)) 2 (8 * i + j) w) := by
  simp only [cm_spMap, cm_rg_lt hi (by omega), cm_rg_lt hj (by omega), cm_rg_lt hk (by omega)]
theorem cm_spUnmap_at {τ : cm_St} {i j : Nat} (hi : i < 4) (hj : j < 8) : cm_spUnmap τ (nI i) (nI j) = if τ 1 (8 * i + j) < 0 then (-2, τ) else (0, cm_st τ 1 (8 * i + j) (-1)) := by
  simp only [cm_spUnmap, cm_rg_lt hi (by omega), cm_rg_lt hj (by omega)]
theorem cm_spEnter_at {τ : cm_St} {i : Nat} (hi : i < 4) : cm_spEnter τ (nI i) = (0, cm_st τ 3 0 (nI i)) := by
  simp only [cm_spEnter, cm_rg_lt hi (by omega)]
theorem cm_spProtect_at {τ : cm_St} {i : Nat} (hi : i < 8) : cm_spProtect τ (nI i) = cm_prot τ (nI i) 32 := by
  simp only [cm_spProtect, cm_rg_lt hi (by omega)]
/-- behind an eviction no line has the block -/
theorem cm_ev_no {σ σ1 : cm_St} {μ : Nat → Int32} {x b : Nat} (hC : cm_RC σ μ) (hx : x < 8) (hb : b < 16) (hxb : σ 11 x = nI b) (h1 : σ1 11 x = -1) (h2 : ∀ y, y ≠ x → σ1 11 y = σ 11 y) : ∀ y, y < 8 → ¬ σ1 11 y = nI b := by
  obtain ⟨n, -, -, -, -, b2, -⟩ := hC
  intro y hy q
  by_cases hyx : y = x
  · rw [hyx, h1] at q
    exact cm_m1 (by omega) q
  · rw [h2 y hyx] at q
    exact hyx (b2 y x b hy hx hb q hxb)
end
section
/-! contracts of the class's other methods (printed by gen2.py) -/
set_option maxRecDepth 100000
theorem cm_self {f : Nat → Int32} {e : Nat} {y : Int32} (h : f e = y) (j : Nat) : f j = if j = e then y else f j := by
  by_cases hj : j = e
  · rw [if_pos hj, hj]; exact h
  · rw [if_neg hj]
set_option maxHeartbeats 4000000 in
/-- X1.bringIn -/
theorem cm_X1_bringIn (l : Launch) (D : va_G) (h0 : Nat) (a : Nat → Nat) (d : Nat → ClassId) (σ : cm_St) (i0 : Nat) (μ : Nat → Int32) (hi0 : i0 < 16) (hC : cm_RC σ μ) : cm_Mi l D yX1_bringIn (ws_ yX1_bringIn cX1_bringIn 5 (some .int)) ({ frames := 1, cells := 0, slots := 0, locals := 22 }) (cm_tX d) (cm_wX h0 a d) h0 [.int (nI i0)] σ (fun r σ' => ∃ x, x < 8 ∧ r = nI x ∧ σ' 11 x = nI i0 ∧ cm_RC σ' μ ∧ ∀ q, 1 ≤ q → q ≤ 10 → σ' q = σ q) := by
  refine cm_startI (by decide) (Nat.le_of_ble_eq_true rfl) ?_
  intro p e s m below meth c A ls C hr hlk hml hA G hl
  have hx := C.1
  have hb := C.2.1
  have hl : lv_has ls 5 [(0, .ref h0), (1, .int (nI i0))] := hl
  obtain ⟨n, n1, n4, h10, hB⟩ := id hC
  refine lv_iload_n hx hb dX1_bringIn_0 rfl (lv_at hl 1 rfl) ?_
  refine lv_aload_n hx hb dX1_bringIn_1 rfl (lv_at hl 0 rfl) ?_
  refine cm_get1 C G 0 rfl 10 (by decide) q31 rfl (v := .int (σ 10 0)) rfl dX1_bringIn_2 ?_
  refine cm_top h10 ?_
  refine lv_irem hx hb dX1_bringIn_5 (nI_ne0 (by omega) (by omega)) ?_
  refine cm_top (pk_rem (a := i0) (d := n) (by omega) (by omega) (by omega)) ?_
  obtain ⟨k, hk⟩ : ∃ q, q = i0 % n := ⟨_, rfl⟩
  have hkn : k < n := by rw [hk]; exact Nat.mod_lt _ (by omega)
  rw [← hk]
  refine lv_istore_n (lv' := [(2, .int (nI k)), (0, .ref h0), (1, .int (nI i0))]) hx hb dX1_bringIn_6 rfl hl (by decide) rfl (fun ls hl => ?_)
  refine lv_aload_n hx hb dX1_bringIn_7 rfl (lv_at hl 1 rfl) ?_
  refine lv_iload_n hx hb dX1_bringIn_8 rfl (lv_at hl 2 rfl) ?_
  refine cm_selfi (q := (RX1, TX1, 15)) (ci := 0) (rest := []) C hml hA G hl.1 (cm_X1_lineWith l D h0 a d σ i0 μ hi0 hC) rfl rfl (cwV 1 C.2.2.1 (lw_V q106 q108 qs4 q11 q109) rfl rfl rfl (by decide +kernel) ⟨Nat.le_of_ble_eq_true rfl, Nat.le_of_ble_eq_true rfl⟩) rfl rfl (Nat.le_of_ble_eq_true rfl) dX1_bringIn_9 ⟨Nat.zero_le _, Nat.zero_le _⟩ (fun r σ1 H locs hp G => ?_)
  obtain ⟨hs, hp⟩ := hp
  rw [hs] at G
  rcases hp with ⟨x, hx8, rfl, hxb⟩ | ⟨rfl, hno⟩
  · skip
    refine lv_istore_n (lv' := [(3, .int (nI x)), (2, .int (nI k)), (0, .ref h0), (1, .int (nI i0))]) hx hb dX1_bringIn_12 rfl hl (by decide) rfl (fun ls hl => ?_)
    refine lv_iload_n hx hb dX1_bringIn_13 rfl (lv_at hl 0 rfl) ?_
    refine lv_if_ge (tgt := 84) hx hb dX1_bringIn_14 (by decide) (fun c1 => ?_) (fun c1 => absurd (nI_pos' (by omega)) c1)
    refine lv_aload_n hx hb dX1_bringIn_84 rfl (lv_at hl 2 rfl) ?_
    refine cm_get1 C G 0 rfl 14 (by decide) q35 rfl (v := .ref (a 14)) rfl dX1_bringIn_85 ?_
    refine lv_iload_n hx hb dX1_bringIn_88 rfl (lv_at hl 1 rfl) ?_
    refine lv_iload_n hx hb dX1_bringIn_89 rfl (lv_at hl 0 rfl) ?_
    refine lv_iconst (v := nI 2) hx hb dX1_bringIn_90 (by decide) ?_
    refine lv_ishr hx hb dX1_bringIn_91 ?_
    refine cm_top (cm_shr2 (n := x) (by omega)) ?_
    refine lv_i2b (v := nI (x / 4)) hx hb dX1_bringIn_92 (cm_byte (by omega)) ?_
    refine cm_bast C G 10 9 rfl rfl k (by omega) (by decide) (v := nI (x / 4)) (cm_narb (by omega)) (ws' := cm_wX h0 a d (cm_st σ 14 k (nI (x / 4)))) rfl dX1_bringIn_93 (fun H locs G => ?_)
    refine lv_iload_n hx hb dX1_bringIn_94 rfl (lv_at hl 0 rfl) ?_
    exact cm_iret (wo := cm_wX h0 a d) (σ := (cm_st σ 14 k (nI (x / 4)))) C G hr hlk (⟨x, hx8, rfl, hxb, hC.move (cm_st_ne (by decide)) (cm_st_ne (by decide)) (cm_st_ne (by decide)) (cm_st_ne (by decide)) (cm_st_ne (by decide)), fun q h1 h2 => cm_st_ne (by omega)⟩) dX1_bringIn_95
  refine lv_istore_n (lv' := [(3, .int (-1)), (2, .int (nI k)), (0, .ref h0), (1, .int (nI i0))]) hx hb dX1_bringIn_12 rfl hl (by decide) rfl (fun ls hl => ?_)
  refine lv_iload_n hx hb dX1_bringIn_13 rfl (lv_at hl 0 rfl) ?_
  refine lv_if_ge (tgt := 84) hx hb dX1_bringIn_14 (by decide) (fun c1 => absurd c1 (by decide)) (fun c1 => ?_)
  refine lv_aload_n hx hb dX1_bringIn_17 rfl (lv_at hl 2 rfl) ?_
  refine cm_get1 C G 0 rfl 14 (by decide) q35 rfl (v := .ref (a 14)) rfl dX1_bringIn_18 ?_
  refine lv_iload_n hx hb dX1_bringIn_21 rfl (lv_at hl 1 rfl) ?_
  refine cm_bald C G 10 9 rfl rfl k (by omega) (by decide) dX1_bringIn_22 ?_
  refine lv_if_ne (tgt := 32) hx hb dX1_bringIn_23 (by decide) (fun c2 => ?_) (fun c2 => ?_)
  · skip
    refine lv_iload_n hx hb dX1_bringIn_32 rfl (lv_at hl 1 rfl) ?_
    obtain ⟨x, hxe⟩ : ∃ q, q = k := ⟨_, rfl⟩
    have hx8 : x < 8 := by omega
    have hbx : i0 % n = x % 4 := by rw [← hk]; omega
    refine cm_top (show nI (k) = nI x by rw [hxe]) ?_
    refine lv_istore_n (lv' := [(3, .int (nI x)), (2, .int (nI k)), (0, .ref h0), (1, .int (nI i0))]) hx hb dX1_bringIn_33 rfl hl (by decide) rfl (fun ls hl => ?_)
    refine lv_aload_n hx hb dX1_bringIn_34 rfl (lv_at hl 2 rfl) ?_
    refine lv_iload_n hx hb dX1_bringIn_35 rfl (lv_at hl 0 rfl) ?_
    refine cm_selfv (q := (RX1, TX1, 15)) (ci := 0) (rest := []) C hml hA G hl.1 (cm_X1_evict l D h0 a d σ x μ hx8 hC) rfl rfl (cwV 1 C.2.2.1 (lw_V q110 q112 qs5 q11 q113) rfl rfl rfl (by decide +kernel) ⟨Nat.le_of_ble_eq_true rfl, Nat.le_of_ble_eq_true rfl⟩) rfl rfl (Nat.le_of_ble_eq_true rfl) dX1_bringIn_36 ⟨Nat.zero_le _, Nat.zero_le _⟩ (fun σ1 H locs hp G => ?_)
    obtain ⟨hC1, hx1, hy1, hf1⟩ := hp
    obtain ⟨n', m1, m4, m10, hB1⟩ := hC1
    have en : n' = n := cm_inj (by omega) (by omega) (by rw [← m10, ← h10, hf1 10 (by decide) (by decide)])
    subst en
    have hno1 : ∀ y, y < 8 → ¬ σ1 11 y = nI i0 := fun y hy q => by
      by_cases hyx : y = x
      · rw [hyx, hx1] at q; exact cm_m1 (by omega) q
      · rw [hy1 y hyx] at q; exact hno y hy q
    refine lv_aload_n hx hb dX1_bringIn_39 rfl (lv_at hl 2 rfl) ?_
    refine cm_get1 C G 0 rfl 11 (by decide) q32 rfl (v := .ref (a 11)) rfl dX1_bringIn_40 ?_
    refine lv_iload_n hx hb dX1_bringIn_43 rfl (lv_at hl 0 rfl) ?_
    refine lv_iload_n hx hb dX1_bringIn_44 rfl (lv_at hl 3 rfl) ?_
    refine lv_i2b (v := nI i0) hx hb dX1_bringIn_45 (cm_byte (by omega)) ?_
    refine cm_bast C G 7 6 rfl rfl x (by omega) (by decide) (v := nI i0) (cm_narb (by omega)) (ws' := cm_wX h0 a d (cm_st σ1 11 x (nI i0))) rfl dX1_bringIn_46 (fun H locs G => ?_)
    refine lv_iconst (v := nI 0) hx hb dX1_bringIn_47 (by decide) ?_
    refine lv_istore (lv' := [(4, .int (nI 0)), (3, .int (nI x)), (2, .int (nI k)), (0, .ref h0), (1, .int (nI i0))]) hx hb dX1_bringIn_48 hl (by decide) rfl (fun ls hl => ?_)
    refine cm_loop (I := fun i u => (∀ q, q ≠ 13 → u q = cm_st σ1 11 x (nI i0) q) ∧ ∀ j, u 13 j = if 4 * x ≤ j ∧ j < 4 * x + i then σ1 0 (4 * i0 + (j - 4 * x)) else σ1 13 j) (wo := cm_wX h0 a d) (lv := fun i _ => [(4, .int (nI i)), (3, .int (nI x)), (2, .int (nI k)), (0, .ref h0), (1, .int (nI i0))]) (N := 4) ?_ ?_ 0 (cm_st σ1 11 x (nI i0)) _ _ _ (Nat.zero_le _) (⟨fun _ _ => rfl, fun w => by rw [if_neg (by omega)]; rfl⟩) G hl
    · skip
      intro u H locs ls hI G hl
      refine lv_iload hx hb dX1_bringIn_50 (lv_at hl 0 rfl) ?_
      refine lv_iconst (v := nI 4) hx hb dX1_bringIn_52 (by decide) ?_
      refine lv_icmp_ge (tgt := 84) hx hb dX1_bringIn_53 (by decide) (fun c3 => ?_) (fun c3 => by have c3 : ¬ 4 ≤ 4 := fun q => c3 ((nI_leI (a := 4) (b := 4) (by omega) (by omega)).mpr q); omega)
      have c3 : 4 ≤ 4 := (nI_leI (a := 4) (b := 4) (by omega) (by omega)).mp c3
      refine lv_aload_n hx hb dX1_bringIn_84 rfl (lv_at hl 3 rfl) ?_
      refine cm_get1 C G 0 rfl 14 (by decide) q35 rfl (v := .ref (a 14)) rfl dX1_bringIn_85 ?_
      refine lv_iload_n hx hb dX1_bringIn_88 rfl (lv_at hl 2 rfl) ?_
      refine lv_iload_n hx hb dX1_bringIn_89 rfl (lv_at hl 1 rfl) ?_
      refine lv_iconst (v := nI 2) hx hb dX1_bringIn_90 (by decide) ?_
      refine lv_ishr hx hb dX1_bringIn_91 ?_
      refine cm_top (cm_shr2 (n := x) (by omega)) ?_
      refine lv_i2b (v := nI (x / 4)) hx hb dX1_bringIn_92 (cm_byte (by omega)) ?_
      refine cm_bast C G 10 9 rfl rfl k (by omega) (by decide) (v := nI (x / 4)) (cm_narb (by omega)) (ws' := cm_wX h0 a d (cm_st u 14 k (nI (x / 4)))) rfl dX1_bringIn_93 (fun H locs G => ?_)
      refine lv_iload_n hx hb dX1_bringIn_94 rfl (lv_at hl 1 rfl) ?_
      obtain ⟨z1, z2, z3⟩ := cm_fi_end m1 m4 m10 hB1 hx8 hi0 hbx hx1 hno1 hI.1 hI.2 k (nI (x / 4))
      exact cm_iret (wo := cm_wX h0 a d) (σ := (cm_st u 14 k (nI (x / 4)))) C G hr hlk (⟨x, hx8, rfl, z2, z1, fun q h1 h2 => (z3 q h1 h2).trans (hf1 q h1 h2)⟩) dX1_bringIn_95
    · skip
      intro i u H locs ls hi hI G hl ih
      refine lv_iload hx hb dX1_bringIn_50 (lv_at hl 0 rfl) ?_
      refine lv_iconst (v := nI 4) hx hb dX1_bringIn_52 (by decide) ?_
      refine lv_icmp_ge (tgt := 84) hx hb dX1_bringIn_53 (by decide) (fun c3 => by have c3 : 4 ≤ i := (nI_leI (a := 4) (b := i) (by omega) (by omega)).mp c3; omega) (fun c3 => ?_)
      have c3 : ¬ 4 ≤ i := fun q => c3 ((nI_leI (a := 4) (b := i) (by omega) (by omega)).mpr q)
      refine lv_aload_n hx hb dX1_bringIn_56 rfl (lv_at hl 3 rfl) ?_
      refine cm_get1 C G 0 rfl 13 (by decide) q34 rfl (v := .ref (a 13)) rfl dX1_bringIn_57 ?_
      refine lv_iconst (v := nI 4) hx hb dX1_bringIn_60 (by decide) ?_
      refine lv_iload_n hx hb dX1_bringIn_61 rfl (lv_at hl 1 rfl) ?_
      refine lv_imul hx hb dX1_bringIn_62 ?_
      refine cm_top (pk_mul 4 x) ?_
      refine lv_iload hx hb dX1_bringIn_63 (lv_at hl 0 rfl) ?_
      refine lv_iadd hx hb dX1_bringIn_65 ?_
      refine cm_top (nI_add (4 * x) i) ?_
      refine lv_aload_n hx hb dX1_bringIn_66 rfl (lv_at hl 3 rfl) ?_
      refine cm_get1 C G 0 rfl 0 (by decide) q21 rfl (v := .ref (a 0)) rfl dX1_bringIn_67 ?_
      refine lv_iconst (v := nI 4) hx hb dX1_bringIn_70 (by decide) ?_
      refine lv_iload_n hx hb dX1_bringIn_71 rfl (lv_at hl 4 rfl) ?_
      refine lv_imul hx hb dX1_bringIn_72 ?_
      refine cm_top (pk_mul 4 i0) ?_
      refine lv_iload hx hb dX1_bringIn_73 (lv_at hl 0 rfl) ?_
      refine lv_iadd hx hb dX1_bringIn_75 ?_
      refine cm_top (nI_add (4 * i0) i) ?_
      refine cm_iald C G 1 0 rfl rfl (4 * i0 + i) (by omega) (by decide) dX1_bringIn_76 ?_
      refine cm_top (show u 0 (4 * i0 + i) = σ1 0 (4 * i0 + i) by rw [hI.1 0 (by decide)]; rfl) ?_
      refine cm_iast C G 9 8 rfl rfl (4 * x + i) (by omega) (by decide) (ws' := cm_wX h0 a d (cm_st u 13 (4 * x + i) (σ1 0 (4 * i0 + i)))) rfl dX1_bringIn_77 (fun H locs G => ?_)
      refine lv_iinc (v := nI (i + 1)) (lv' := [(4, .int (nI (i + 1))), (3, .int (nI x)), (2, .int (nI k)), (0, .ref h0), (1, .int (nI i0))]) hx hb dX1_bringIn_78 hl (k := 0) rfl (cm_inc i) (by decide) rfl (fun ls hl => ?_)
      refine lv_goto (tgt := 50) hx hb dX1_bringIn_81 (by decide) ?_
      exact ih (cm_st u 13 (4 * x + i) (σ1 0 (4 * i0 + i))) _ _ _ ⟨fun q hq => (cm_st_ne hq).trans (hI.1 q hq), fun w => by rw [cm_st_eq]; exact cm_wb_step hI.2 w⟩ G hl
  refine lv_iconst (v := nI 4) hx hb dX1_bringIn_26 (by decide) ?_
  refine lv_iload_n hx hb dX1_bringIn_27 rfl (lv_at hl 1 rfl) ?_
  refine lv_iadd hx hb dX1_bringIn_28 ?_
  refine cm_top (nI_add 4 k) ?_
  refine lv_goto (tgt := 33) hx hb dX1_bringIn_29 (by decide) ?_
  obtain ⟨x, hxe⟩ : ∃ q, q = 4 + k := ⟨_, rfl⟩
  have hx8 : x < 8 := by omega
  have hbx : i0 % n = x % 4 := by rw [← hk]; omega
  refine cm_top (show nI (4 + k) = nI x by rw [hxe]) ?_
  refine lv_istore_n (lv' := [(3, .int (nI x)), (2, .int (nI k)), (0, .ref h0), (1, .int (nI i0))]) hx hb dX1_bringIn_33 rfl hl (by decide) rfl (fun ls hl => ?_)
  refine lv_aload_n hx hb dX1_bringIn_34 rfl (lv_at hl 2 rfl) ?_
  refine lv_iload_n hx hb dX1_bringIn_35 rfl (lv_at hl 0 rfl) ?_
  refine cm_selfv (q := (RX1, TX1, 15)) (ci := 0) (rest := []) C hml hA G hl.1 (cm_X1_evict l D h0 a d σ x μ hx8 hC) rfl rfl (cwV 1 C.2.2.1 (lw_V q110 q112 qs5 q11 q113) rfl rfl rfl (by decide +kernel) ⟨Nat.le_of_ble_eq_true rfl, Nat.le_of_ble_eq_true rfl⟩) rfl rfl (Nat.le_of_ble_eq_true rfl) dX1_bringIn_36 ⟨Nat.zero_le _, Nat.zero_le _⟩ (fun σ1 H locs hp G => ?_)
  obtain ⟨hC1, hx1, hy1, hf1⟩ := hp
  obtain ⟨n', m1, m4, m10, hB1⟩ := hC1
  have en : n' = n := cm_inj (by omega) (by omega) (by rw [← m10, ← h10, hf1 10 (by decide) (by decide)])
  subst en
  have hno1 : ∀ y, y < 8 → ¬ σ1 11 y = nI i0 := fun y hy q => by
    by_cases hyx : y = x
    · rw [hyx, hx1] at q; exact cm_m1 (by omega) q
    · rw [hy1 y hyx] at q; exact hno y hy q
  refine lv_aload_n hx hb dX1_bringIn_39 rfl (lv_at hl 2 rfl) ?_
  refine cm_get1 C G 0 rfl 11 (by decide) q32 rfl (v := .ref (a 11)) rfl dX1_bringIn_40 ?_
  refine lv_iload_n hx hb dX1_bringIn_43 rfl (lv_at hl 0 rfl) ?_
  refine lv_iload_n hx hb dX1_bringIn_44 rfl (lv_at hl 3 rfl) ?_
  refine lv_i2b (v := nI i0) hx hb dX1_bringIn_45 (cm_byte (by omega)) ?_
  refine cm_bast C G 7 6 rfl rfl x (by omega) (by decide) (v := nI i0) (cm_narb (by omega)) (ws' := cm_wX h0 a d (cm_st σ1 11 x (nI i0))) rfl dX1_bringIn_46 (fun H locs G => ?_)
  refine lv_iconst (v := nI 0) hx hb dX1_bringIn_47 (by decide) ?_
  refine lv_istore (lv' := [(4, .int (nI 0)), (3, .int (nI x)), (2, .int (nI k)), (0, .ref h0), (1, .int (nI i0))]) hx hb dX1_bringIn_48 hl (by decide) rfl (fun ls hl => ?_)
  refine cm_loop (I := fun i u => (∀ q, q ≠ 13 → u q = cm_st σ1 11 x (nI i0) q) ∧ ∀ j, u 13 j = if 4 * x ≤ j ∧ j < 4 * x + i then σ1 0 (4 * i0 + (j - 4 * x)) else σ1 13 j) (wo := cm_wX h0 a d) (lv := fun i _ => [(4, .int (nI i)), (3, .int (nI x)), (2, .int (nI k)), (0, .ref h0), (1, .int (nI i0))]) (N := 4) ?_ ?_ 0 (cm_st σ1 11 x (nI i0)) _ _ _ (Nat.zero_le _) (⟨fun _ _ => rfl, fun w => by rw [if_neg (by omega)]; rfl⟩) G hl
  · skip
    intro u H locs ls hI G hl
    refine lv_iload hx hb dX1_bringIn_50 (lv_at hl 0 rfl) ?_
    refine lv_iconst (v := nI 4) hx hb dX1_bringIn_52 (by decide) ?_
    refine lv_icmp_ge (tgt := 84) hx hb dX1_bringIn_53 (by decide) (fun c3 => ?_) (fun c3 => by have c3 : ¬ 4 ≤ 4 := fun q => c3 ((nI_leI (a := 4) (b := 4) (by omega) (by omega)).mpr q); omega)
    have c3 : 4 ≤ 4 := (nI_leI (a := 4) (b := 4) (by omega) (by omega)).mp c3
    refine lv_aload_n hx hb dX1_bringIn_84 rfl (lv_at hl 3 rfl) ?_
    refine cm_get1 C G 0 rfl 14 (by decide) q35 rfl (v := .ref (a 14)) rfl dX1_bringIn_85 ?_
    refine lv_iload_n hx hb dX1_bringIn_88 rfl (lv_at hl 2 rfl) ?_
    refine lv_iload_n hx hb dX1_bringIn_89 rfl (lv_at hl 1 rfl) ?_
    refine lv_iconst (v := nI 2) hx hb dX1_bringIn_90 (by decide) ?_
    refine lv_ishr hx hb dX1_bringIn_91 ?_
    refine cm_top (cm_shr2 (n := x) (by omega)) ?_
    refine lv_i2b (v := nI (x / 4)) hx hb dX1_bringIn_92 (cm_byte (by omega)) ?_
    refine cm_bast C G 10 9 rfl rfl k (by omega) (by decide) (v := nI (x / 4)) (cm_narb (by omega)) (ws' := cm_wX h0 a d (cm_st u 14 k (nI (x / 4)))) rfl dX1_bringIn_93 (fun H locs G => ?_)
    refine lv_iload_n hx hb dX1_bringIn_94 rfl (lv_at hl 1 rfl) ?_
    obtain ⟨z1, z2, z3⟩ := cm_fi_end m1 m4 m10 hB1 hx8 hi0 hbx hx1 hno1 hI.1 hI.2 k (nI (x / 4))
    exact cm_iret (wo := cm_wX h0 a d) (σ := (cm_st u 14 k (nI (x / 4)))) C G hr hlk (⟨x, hx8, rfl, z2, z1, fun q h1 h2 => (z3 q h1 h2).trans (hf1 q h1 h2)⟩) dX1_bringIn_95
  · skip
    intro i u H locs ls hi hI G hl ih
    refine lv_iload hx hb dX1_bringIn_50 (lv_at hl 0 rfl) ?_
    refine lv_iconst (v := nI 4) hx hb dX1_bringIn_52 (by decide) ?_
    refine lv_icmp_ge (tgt := 84) hx hb dX1_bringIn_53 (by decide) (fun c3 => by have c3 : 4 ≤ i := (nI_leI (a := 4) (b := i) (by omega) (by omega)).mp c3; omega) (fun c3 => ?_)
    have c3 : ¬ 4 ≤ i := fun q => c3 ((nI_leI (a := 4) (b := i) (by omega) (by omega)).mpr q)
    refine lv_aload_n hx hb dX1_bringIn_56 rfl (lv_at hl 3 rfl) ?_
    refine cm_get1 C G 0 rfl 13 (by decide) q34 rfl (v := .ref (a 13)) rfl dX1_bringIn_57 ?_
    refine lv_iconst (v := nI 4) hx hb dX1_bringIn_60 (by decide) ?_
    refine lv_iload_n hx hb dX1_bringIn_61 rfl (lv_at hl 1 rfl) ?_
    refine lv_imul hx hb dX1_bringIn_62 ?_
    refine cm_top (pk_mul 4 x) ?_
    refine lv_iload hx hb dX1_bringIn_63 (lv_at hl 0 rfl) ?_
    refine lv_iadd hx hb dX1_bringIn_65 ?_
    refine cm_top (nI_add (4 * x) i) ?_
    refine lv_aload_n hx hb dX1_bringIn_66 rfl (lv_at hl 3 rfl) ?_
    refine cm_get1 C G 0 rfl 0 (by decide) q21 rfl (v := .ref (a 0)) rfl dX1_bringIn_67 ?_
    refine lv_iconst (v := nI 4) hx hb dX1_bringIn_70 (by decide) ?_
    refine lv_iload_n hx hb dX1_bringIn_71 rfl (lv_at hl 4 rfl) ?_
    refine lv_imul hx hb dX1_bringIn_72 ?_
    refine cm_top (pk_mul 4 i0) ?_
    refine lv_iload hx hb dX1_bringIn_73 (lv_at hl 0 rfl) ?_
    refine lv_iadd hx hb dX1_bringIn_75 ?_
    refine cm_top (nI_add (4 * i0) i) ?_
    refine cm_iald C G 1 0 rfl rfl (4 * i0 + i) (by omega) (by decide) dX1_bringIn_76 ?_
    refine cm_top (show u 0 (4 * i0 + i) = σ1 0 (4 * i0 + i) by rw [hI.1 0 (by decide)]; rfl) ?_
    refine cm_iast C G 9 8 rfl rfl (4 * x + i) (by omega) (by decide) (ws' := cm_wX h0 a d (cm_st u 13 (4 * x + i) (σ1 0 (4 * i0 + i)))) rfl dX1_bringIn_77 (fun H locs G => ?_)
    refine lv_iinc (v := nI (i + 1)) (lv' := [(4, .int (nI (i + 1))), (3, .int (nI x)), (2, .int (nI k)), (0, .ref h0), (1, .int (nI i0))]) hx hb dX1_bringIn_78 hl (k := 0) rfl (cm_inc i) (by decide) rfl (fun ls hl => ?_)
    refine lv_goto (tgt := 50) hx hb dX1_bringIn_81 (by decide) ?_
    exact ih (cm_st u 13 (4 * x + i) (σ1 0 (4 * i0 + i))) _ _ _ ⟨fun q hq => (cm_st_ne hq).trans (hI.1 q hq), fun w => by rw [cm_st_eq]; exact cm_wb_step hI.2 w⟩ G hl
set_option maxHeartbeats 4000000 in
/-- X1.load -/
theorem cm_X1_load (l : Launch) (D : va_G) (h0 : Nat) (a : Nat → Nat) (d : Nat → ClassId) (σ : cm_St) (x : Int32) (τ : cm_St) (hR : cm_R σ τ) : cm_Mi l D yX1_load (ws_ yX1_load cX1_load 5 (some .int)) ({ frames := 2, cells := 0, slots := 0, locals := 46 }) (cm_tX d) (cm_wX h0 a d) h0 [.int x] σ (fun r σ' => r = (cm_spLoad τ x).1 ∧ cm_R σ' (cm_spLoad τ x).2) := by
  refine cm_startI (by decide) (Nat.le_of_ble_eq_true rfl) ?_
  intro p e s m below meth c A ls C hr hlk hml hA G hl
  have hx := C.1
  have hb := C.2.1
  have hl : lv_has ls 5 [(0, .ref h0), (1, .int x)] := hl
  refine lv_iload_n hx hb dX1_load_0 rfl (lv_at hl 1 rfl) ?_
  refine lv_if_lt (tgt := 10) hx hb dX1_load_1 (by decide) (fun c1n => ?_) (fun c1n => ?_)
  · skip
    refine lv_iconst (v := -1) hx hb dX1_load_10 (by decide) ?_
    exact cm_iret (wo := cm_wX h0 a d) (σ := σ) C G hr hlk (by rw [show cm_spLoad τ x = (-1, τ) by simp only [cm_spLoad, cm_rg_neg c1n]]; exact ⟨rfl, hR⟩) dX1_load_11
  obtain ⟨i1, hi1, rfl⟩ := nI_of c1n
  refine lv_iload_n hx hb dX1_load_4 rfl (lv_at hl 1 rfl) ?_
  refine lv_bipush (v := nI 63) hx hb dX1_load_5 (by decide) ?_
  refine lv_icmp_le (tgt := 12) hx hb dX1_load_7 (by decide) (fun c1b => ?_) (fun c1b => ?_)
  rotate_left
  · skip
    have c1b : ¬ i1 ≤ 63 := fun q => c1b ((nI_leI (a := i1) (b := 63) (by omega) (by omega)).mpr q)
    refine lv_iconst (v := -1) hx hb dX1_load_10 (by decide) ?_
    exact cm_iret (wo := cm_wX h0 a d) (σ := σ) C G hr hlk (by rw [show cm_spLoad τ (nI i1) = (-1, τ) by simp only [cm_spLoad, cm_rg_ge (n := 64) (by omega) hi1]]; exact ⟨rfl, hR⟩) dX1_load_11
  have c1b : i1 ≤ 63 := (nI_leI (a := i1) (b := 63) (by omega) (by omega)).mp c1b
  obtain ⟨c0, hc0, h1⟩ := hR.1.1
  have ht3 : τ 3 0 = nI c0 := hR.1.2.1.trans h1
  have hE := hR.1.2.2.2 (8 * c0 + i1 / 8) (by omega)
  refine lv_aload_n hx hb dX1_load_12 rfl (lv_at hl 0 rfl) ?_
  refine lv_iload_n hx hb dX1_load_13 rfl (lv_at hl 1 rfl) ?_
  refine lv_iconst (v := nI 3) hx hb dX1_load_14 (by decide) ?_
  refine lv_ishr hx hb dX1_load_15 ?_
  refine cm_top (cm_shr3 (n := i1) (by omega)) ?_
  refine cm_selfi (q := (RX1, TX1, 15)) (ci := 0) (rest := []) C hml hA G hl.1 (cm_X1_translation l D h0 a d σ (i1 / 8) c0 τ (by omega) hc0 h1 hR) rfl rfl (cwV 1 C.2.2.1 (lw_V q98 q100 qs2 q11 q101) rfl rfl rfl (by decide +kernel) ⟨Nat.le_of_ble_eq_true rfl, Nat.le_of_ble_eq_true rfl⟩) rfl rfl (Nat.le_of_ble_eq_true rfl) dX1_load_16 ⟨Nat.zero_le _, Nat.zero_le _⟩ (fun r σ1 H locs hp G => ?_)
  rcases hp with ⟨rfl, hs, g⟩ | ⟨k, f, hk, hf, rfl, g, g7, g8, hKP, hfr⟩
  · skip
    rw [hs] at G
    refine lv_istore_n (lv' := [(2, .int (-1)), (0, .ref h0), (1, .int (nI i1))]) hx hb dX1_load_19 rfl hl (by decide) rfl (fun ls hl => ?_)
    refine lv_iload_n hx hb dX1_load_20 rfl (lv_at hl 0 rfl) ?_
    refine lv_if_ge (tgt := 27) hx hb dX1_load_21 (by decide) (fun c2 => absurd c2 (by decide)) (fun c2 => ?_)
    refine lv_bipush (v := -2) hx hb dX1_load_24 (by decide) ?_
    exact cm_iret (wo := cm_wX h0 a d) (σ := σ) C G hr hlk (by rw [cm_spLoad_miss (by omega) hc0 ht3 (hE.1.trans g)]; exact ⟨rfl, hR⟩) dX1_load_26
  have hR1 := cm_R_tr hR hKP hfr
  refine lv_istore_n (lv' := [(2, .int (nI k)), (0, .ref h0), (1, .int (nI i1))]) hx hb dX1_load_19 rfl hl (by decide) rfl (fun ls hl => ?_)
  refine lv_iload_n hx hb dX1_load_20 rfl (lv_at hl 0 rfl) ?_
  refine lv_if_ge (tgt := 27) hx hb dX1_load_21 (by decide) (fun c2 => ?_) (fun c2 => absurd (nI_pos' (by omega)) c2)
  refine lv_bipush (v := nI 8) hx hb dX1_load_27 (by decide) ?_
  refine lv_aload_n hx hb dX1_load_29 rfl (lv_at hl 1 rfl) ?_
  refine cm_get1 C G 0 rfl 7 (by decide) q28 rfl (v := .ref (a 7)) rfl dX1_load_30 ?_
  refine lv_iload_n hx hb dX1_load_33 rfl (lv_at hl 0 rfl) ?_
  refine cm_bald C G 5 4 rfl rfl k (by omega) (by decide) dX1_load_34 ?_
  refine cm_top g7 ?_
  refine lv_imul hx hb dX1_load_35 ?_
  refine cm_top (pk_mul 8 f) ?_
  refine lv_iload_n hx hb dX1_load_36 rfl (lv_at hl 2 rfl) ?_
  refine lv_bipush (v := nI 7) hx hb dX1_load_37 (by decide) ?_
  refine lv_iand hx hb dX1_load_39 ?_
  refine cm_top (cm_and7 (n := i1) (by omega)) ?_
  refine lv_iadd hx hb dX1_load_40 ?_
  refine cm_top (nI_add (8 * f) (i1 % 8)) ?_
  refine lv_istore_n (lv' := [(3, .int (nI (8 * f + i1 % 8))), (2, .int (nI k)), (0, .ref h0), (1, .int (nI i1))]) hx hb dX1_load_41 rfl hl (by decide) rfl (fun ls hl => ?_)
  refine lv_aload_n hx hb dX1_load_42 rfl (lv_at hl 2 rfl) ?_
  refine lv_iload_n hx hb dX1_load_43 rfl (lv_at hl 0 rfl) ?_
  refine lv_iconst (v := nI 2) hx hb dX1_load_44 (by decide) ?_
  refine lv_ishr hx hb dX1_load_45 ?_
  refine cm_top (cm_shr2 (n := 8 * f + i1 % 8) (by omega)) ?_
  refine cm_selfi (q := (RX1, TX1, 15)) (ci := 0) (rest := []) C hml hA G hl.1 (cm_X1_bringIn l D h0 a d σ1 ((8 * f + i1 % 8) / 4) (τ 0) (by omega) hR1.2.2) rfl rfl (cwV 1 C.2.2.1 (lw_V q102 q104 qs3 q11 q105) rfl rfl rfl (by decide +kernel) ⟨Nat.le_of_ble_eq_true rfl, Nat.le_of_ble_eq_true rfl⟩) rfl rfl (Nat.le_of_ble_eq_true rfl) dX1_load_46 ⟨Nat.zero_le _, Nat.zero_le _⟩ (fun r σ2 H locs hp G => ?_)
  obtain ⟨x, hx8, rfl, hxb, hC2, hf2⟩ := hp
  have hR2 := cm_R_cache hR1 hC2 hf2
  have hv : σ2 13 (4 * x + (8 * f + i1 % 8) % 4) = τ 0 (8 * f + i1 % 8) := by
    rw [hC2.line hx8 (show (8 * f + i1 % 8) / 4 < 16 by omega) (by omega) hxb]
    exact congrArg (τ 0) (by omega)
  refine lv_istore (lv' := [(4, .int (nI x)), (3, .int (nI (8 * f + i1 % 8))), (2, .int (nI k)), (0, .ref h0), (1, .int (nI i1))]) hx hb dX1_load_49 hl (by decide) rfl (fun ls hl => ?_)
  refine lv_aload_n hx hb dX1_load_51 rfl (lv_at hl 3 rfl) ?_
  refine lv_aload_n hx hb dX1_load_52 rfl (lv_at hl 3 rfl) ?_
  refine cm_get1 C G 0 rfl 13 (by decide) q34 rfl (v := .ref (a 13)) rfl dX1_load_53 ?_
  refine lv_iconst (v := nI 4) hx hb dX1_load_56 (by decide) ?_
  refine lv_iload hx hb dX1_load_57 (lv_at hl 0 rfl) ?_
  refine lv_imul hx hb dX1_load_59 ?_
  refine cm_top (pk_mul 4 x) ?_
  refine lv_iload_n hx hb dX1_load_60 rfl (lv_at hl 1 rfl) ?_
  refine lv_iconst (v := nI 3) hx hb dX1_load_61 (by decide) ?_
  refine lv_iand hx hb dX1_load_62 ?_
  refine cm_top (cm_and3 (n := 8 * f + i1 % 8) (by omega)) ?_
  refine lv_iadd hx hb dX1_load_63 ?_
  refine cm_top (nI_add (4 * x) ((8 * f + i1 % 8) % 4)) ?_
  refine cm_iald C G 9 8 rfl rfl (4 * x + ((8 * f + i1 % 8) % 4)) (by omega) (by decide) dX1_load_64 ?_
  refine cm_top hv ?_
  refine cm_put1 C G 0 rfl 2 (by decide) q23 rfl rfl (by decide +kernel) (Nat.le_of_ble_eq_true rfl) (ws' := cm_wX h0 a d (cm_st σ2 2 0 (τ 0 (8 * f + i1 % 8)))) rfl dX1_load_65 (fun H locs G => ?_)
  refine lv_iconst (v := 0) hx hb dX1_load_68 (by decide) ?_
  exact cm_iret (wo := cm_wX h0 a d) (σ := (cm_st σ2 2 0 (τ 0 (8 * f + i1 % 8)))) C G hr hlk (by rw [cm_spLoad_hit (by omega) hc0 ht3 hf (hE.1.trans g)]; exact ⟨rfl, cm_R_load hR2⟩) dX1_load_69
set_option maxHeartbeats 4000000 in
/-- X1.translate -/
theorem cm_X1_translate (l : Launch) (D : va_G) (h0 : Nat) (a : Nat → Nat) (d : Nat → ClassId) (σ : cm_St) (x : Int32) (τ : cm_St) (hR : cm_R σ τ) : cm_Mi l D yX1_translate (ws_ yX1_translate cX1_translate 3 (some .int)) ({ frames := 1, cells := 0, slots := 0, locals := 23 }) (cm_tX d) (cm_wX h0 a d) h0 [.int x] σ (fun r σ' => r = (cm_spTr τ x).1 ∧ cm_R σ' (cm_spTr τ x).2) := by
  refine cm_startI (by decide) (Nat.le_of_ble_eq_true rfl) ?_
  intro p e s m below meth c A ls C hr hlk hml hA G hl
  have hx := C.1
  have hb := C.2.1
  have hl : lv_has ls 3 [(0, .ref h0), (1, .int x)] := hl
  refine lv_iload_n hx hb dX1_translate_0 rfl (lv_at hl 1 rfl) ?_
  refine lv_if_lt (tgt := 10) hx hb dX1_translate_1 (by decide) (fun c1n => ?_) (fun c1n => ?_)
  · skip
    refine lv_iconst (v := -1) hx hb dX1_translate_10 (by decide) ?_
    exact cm_iret (wo := cm_wX h0 a d) (σ := σ) C G hr hlk (by rw [show cm_spTr τ x = (-1, τ) by simp only [cm_spTr, cm_rg_neg c1n]]; exact ⟨rfl, hR⟩) dX1_translate_11
  obtain ⟨i1, hi1, rfl⟩ := nI_of c1n
  refine lv_iload_n hx hb dX1_translate_4 rfl (lv_at hl 1 rfl) ?_
  refine lv_bipush (v := nI 63) hx hb dX1_translate_5 (by decide) ?_
  refine lv_icmp_le (tgt := 12) hx hb dX1_translate_7 (by decide) (fun c1b => ?_) (fun c1b => ?_)
  rotate_left
  · skip
    have c1b : ¬ i1 ≤ 63 := fun q => c1b ((nI_leI (a := i1) (b := 63) (by omega) (by omega)).mpr q)
    refine lv_iconst (v := -1) hx hb dX1_translate_10 (by decide) ?_
    exact cm_iret (wo := cm_wX h0 a d) (σ := σ) C G hr hlk (by rw [show cm_spTr τ (nI i1) = (-1, τ) by simp only [cm_spTr, cm_rg_ge (n := 64) (by omega) hi1]]; exact ⟨rfl, hR⟩) dX1_translate_11
  have c1b : i1 ≤ 63 := (nI_leI (a := i1) (b := 63) (by omega) (by omega)).mp c1b
  obtain ⟨c0, hc0, h1⟩ := hR.1.1
  have ht3 : τ 3 0 = nI c0 := hR.1.2.1.trans h1
  have hE := hR.1.2.2.2 (8 * c0 + i1 / 8) (by omega)
  refine lv_aload_n hx hb dX1_translate_12 rfl (lv_at hl 0 rfl) ?_
  refine lv_iload_n hx hb dX1_translate_13 rfl (lv_at hl 1 rfl) ?_
  refine lv_iconst (v := nI 3) hx hb dX1_translate_14 (by decide) ?_
  refine lv_ishr hx hb dX1_translate_15 ?_
  refine cm_top (cm_shr3 (n := i1) (by omega)) ?_
  refine cm_selfi (q := (RX1, TX1, 15)) (ci := 0) (rest := []) C hml hA G hl.1 (cm_X1_translation l D h0 a d σ (i1 / 8) c0 τ (by omega) hc0 h1 hR) rfl rfl (cwV 1 C.2.2.1 (lw_V q98 q100 qs2 q11 q101) rfl rfl rfl (by decide +kernel) ⟨Nat.le_of_ble_eq_true rfl, Nat.le_of_ble_eq_true rfl⟩) rfl rfl (Nat.le_of_ble_eq_true rfl) dX1_translate_16 ⟨Nat.zero_le _, Nat.zero_le _⟩ (fun r σ1 H locs hp G => ?_)
  rcases hp with ⟨rfl, hs, g⟩ | ⟨k, f, hk, hf, rfl, g, g7, g8, hKP, hfr⟩
  · skip
    rw [hs] at G
    refine lv_istore_n (lv' := [(2, .int (-1)), (0, .ref h0), (1, .int (nI i1))]) hx hb dX1_translate_19 rfl hl (by decide) rfl (fun ls hl => ?_)
    refine lv_iload_n hx hb dX1_translate_20 rfl (lv_at hl 0 rfl) ?_
    refine lv_if_ge (tgt := 29) hx hb dX1_translate_21 (by decide) (fun c2 => absurd c2 (by decide)) (fun c2 => ?_)
    refine lv_bipush (v := -2) hx hb dX1_translate_24 (by decide) ?_
    refine lv_goto (tgt := 43) hx hb dX1_translate_26 (by decide) ?_
    exact cm_iret (wo := cm_wX h0 a d) (σ := σ) C G hr hlk (by rw [cm_spTr_miss (by omega) hc0 ht3 (hE.1.trans g)]; exact ⟨rfl, hR⟩) dX1_translate_43
  have hR1 := cm_R_tr hR hKP hfr
  refine lv_istore_n (lv' := [(2, .int (nI k)), (0, .ref h0), (1, .int (nI i1))]) hx hb dX1_translate_19 rfl hl (by decide) rfl (fun ls hl => ?_)
  refine lv_iload_n hx hb dX1_translate_20 rfl (lv_at hl 0 rfl) ?_
  refine lv_if_ge (tgt := 29) hx hb dX1_translate_21 (by decide) (fun c2 => ?_) (fun c2 => absurd (nI_pos' (by omega)) c2)
  refine lv_bipush (v := nI 8) hx hb dX1_translate_29 (by decide) ?_
  refine lv_aload_n hx hb dX1_translate_31 rfl (lv_at hl 1 rfl) ?_
  refine cm_get1 C G 0 rfl 7 (by decide) q28 rfl (v := .ref (a 7)) rfl dX1_translate_32 ?_
  refine lv_iload_n hx hb dX1_translate_35 rfl (lv_at hl 0 rfl) ?_
  refine cm_bald C G 5 4 rfl rfl k (by omega) (by decide) dX1_translate_36 ?_
  refine cm_top g7 ?_
  refine lv_imul hx hb dX1_translate_37 ?_
  refine cm_top (pk_mul 8 f) ?_
  refine lv_iload_n hx hb dX1_translate_38 rfl (lv_at hl 2 rfl) ?_
  refine lv_bipush (v := nI 7) hx hb dX1_translate_39 (by decide) ?_
  refine lv_iand hx hb dX1_translate_41 ?_
  refine cm_top (cm_and7 (n := i1) (by omega)) ?_
  refine lv_iadd hx hb dX1_translate_42 ?_
  refine cm_top (nI_add (8 * f) (i1 % 8)) ?_
  exact cm_iret (wo := cm_wX h0 a d) (σ := σ1) C G hr hlk (by rw [cm_spTr_hit (by omega) hc0 ht3 hf (hE.1.trans g)]; exact ⟨rfl, hR1⟩) dX1_translate_43
set_option maxHeartbeats 4000000 in
/-- X1.change -/
theorem cm_X1_change (l : Launch) (D : va_G) (h0 : Nat) (a : Nat → Nat) (d : Nat → ClassId) (σ : cm_St) (x v w : Int32) (τ : cm_St) (hR : cm_R σ τ) : cm_Mi l D yX1_change (ws_ yX1_change cX1_change 8 (some .int)) ({ frames := 2, cells := 0, slots := 0, locals := 46 }) (cm_tX d) (cm_wX h0 a d) h0 [.int x, .int v, .int w] σ (fun r σ' => r = (cm_spChange τ x v w).1 ∧ cm_R σ' (cm_spChange τ x v w).2) := by
  refine cm_startI (by decide) (Nat.le_of_ble_eq_true rfl) ?_
  intro p e s m below meth c A ls C hr hlk hml hA G hl
  have hx := C.1
  have hb := C.2.1
  have hl : lv_has ls 8 [(0, .ref h0), (1, .int x), (2, .int v), (3, .int w)] := hl
  refine lv_iload_n hx hb dX1_change_0 rfl (lv_at hl 1 rfl) ?_
  refine lv_if_lt (tgt := 10) hx hb dX1_change_1 (by decide) (fun c1n => ?_) (fun c1n => ?_)
  · skip
    refine lv_iconst (v := -1) hx hb dX1_change_10 (by decide) ?_
    exact cm_iret (wo := cm_wX h0 a d) (σ := σ) C G hr hlk (by rw [show cm_spChange τ x v w = (-1, τ) by simp only [cm_spChange, cm_rg_neg c1n]]; exact ⟨rfl, hR⟩) dX1_change_11
  obtain ⟨i1, hi1, rfl⟩ := nI_of c1n
  refine lv_iload_n hx hb dX1_change_4 rfl (lv_at hl 1 rfl) ?_
  refine lv_bipush (v := nI 63) hx hb dX1_change_5 (by decide) ?_
  refine lv_icmp_le (tgt := 12) hx hb dX1_change_7 (by decide) (fun c1b => ?_) (fun c1b => ?_)
  rotate_left
  · skip
    have c1b : ¬ i1 ≤ 63 := fun q => c1b ((nI_leI (a := i1) (b := 63) (by omega) (by omega)).mpr q)
    refine lv_iconst (v := -1) hx hb dX1_change_10 (by decide) ?_
    exact cm_iret (wo := cm_wX h0 a d) (σ := σ) C G hr hlk (by rw [show cm_spChange τ (nI i1) v w = (-1, τ) by simp only [cm_spChange, cm_rg_ge (n := 64) (by omega) hi1]]; exact ⟨rfl, hR⟩) dX1_change_11
  have c1b : i1 ≤ 63 := (nI_leI (a := i1) (b := 63) (by omega) (by omega)).mp c1b
  obtain ⟨c0, hc0, h1⟩ := hR.1.1
  have ht3 : τ 3 0 = nI c0 := hR.1.2.1.trans h1
  have hE := hR.1.2.2.2 (8 * c0 + i1 / 8) (by omega)
  refine lv_aload_n hx hb dX1_change_12 rfl (lv_at hl 0 rfl) ?_
  refine lv_iload_n hx hb dX1_change_13 rfl (lv_at hl 1 rfl) ?_
  refine lv_iconst (v := nI 3) hx hb dX1_change_14 (by decide) ?_
  refine lv_ishr hx hb dX1_change_15 ?_
  refine cm_top (cm_shr3 (n := i1) (by omega)) ?_
  refine cm_selfi (q := (RX1, TX1, 15)) (ci := 0) (rest := []) C hml hA G hl.1 (cm_X1_translation l D h0 a d σ (i1 / 8) c0 τ (by omega) hc0 h1 hR) rfl rfl (cwV 1 C.2.2.1 (lw_V q98 q100 qs2 q11 q101) rfl rfl rfl (by decide +kernel) ⟨Nat.le_of_ble_eq_true rfl, Nat.le_of_ble_eq_true rfl⟩) rfl rfl (Nat.le_of_ble_eq_true rfl) dX1_change_16 ⟨Nat.zero_le _, Nat.zero_le _⟩ (fun r σ1 H locs hp G => ?_)
  rcases hp with ⟨rfl, hs, g⟩ | ⟨k, f, hk, hf, rfl, g, g7, g8, hKP, hfr⟩
  · skip
    rw [hs] at G
    refine lv_istore (lv' := [(4, .int (-1)), (0, .ref h0), (1, .int (nI i1)), (2, .int v), (3, .int w)]) hx hb dX1_change_19 hl (by decide) rfl (fun ls hl => ?_)
    refine lv_iload hx hb dX1_change_21 (lv_at hl 0 rfl) ?_
    refine lv_if_ge (tgt := 29) hx hb dX1_change_23 (by decide) (fun c2 => absurd c2 (by decide)) (fun c2 => ?_)
    refine lv_bipush (v := -2) hx hb dX1_change_26 (by decide) ?_
    exact cm_iret (wo := cm_wX h0 a d) (σ := σ) C G hr hlk (by rw [cm_spChange_miss (by omega) hc0 ht3 (hE.1.trans g)]; exact ⟨rfl, hR⟩) dX1_change_28
  have hR1 := cm_R_tr hR hKP hfr
  refine lv_istore (lv' := [(4, .int (nI k)), (0, .ref h0), (1, .int (nI i1)), (2, .int v), (3, .int w)]) hx hb dX1_change_19 hl (by decide) rfl (fun ls hl => ?_)
  refine lv_iload hx hb dX1_change_21 (lv_at hl 0 rfl) ?_
  refine lv_if_ge (tgt := 29) hx hb dX1_change_23 (by decide) (fun c2 => ?_) (fun c2 => absurd (nI_pos' (by omega)) c2)
  refine lv_aload_n hx hb dX1_change_29 rfl (lv_at hl 1 rfl) ?_
  refine cm_get1 C G 0 rfl 8 (by decide) q29 rfl (v := .ref (a 8)) rfl dX1_change_30 ?_
  refine lv_iload hx hb dX1_change_33 (lv_at hl 0 rfl) ?_
  refine cm_zald C G 6 5 rfl rfl k (by omega) (by decide) dX1_change_35 ?_
  refine cm_top (g8.trans hE.2.1.symm) ?_
  refine lv_if_ne (tgt := 42) hx hb dX1_change_36 (by decide) (fun c3 => ?_) (fun c3 => ?_)
  rotate_left
  · skip
    refine lv_bipush (v := -3) hx hb dX1_change_39 (by decide) ?_
    exact cm_iret (wo := cm_wX h0 a d) (σ := σ1) C G hr hlk (by rw [cm_spChange_ro (by omega) hc0 ht3 hf (hE.1.trans g) c3]; exact ⟨rfl, hR1⟩) dX1_change_41
  refine lv_bipush (v := nI 8) hx hb dX1_change_42 (by decide) ?_
  refine lv_aload_n hx hb dX1_change_44 rfl (lv_at hl 1 rfl) ?_
  refine cm_get1 C G 0 rfl 7 (by decide) q28 rfl (v := .ref (a 7)) rfl dX1_change_45 ?_
  refine lv_iload hx hb dX1_change_48 (lv_at hl 0 rfl) ?_
  refine cm_bald C G 5 4 rfl rfl k (by omega) (by decide) dX1_change_50 ?_
  refine cm_top g7 ?_
  refine lv_imul hx hb dX1_change_51 ?_
  refine cm_top (pk_mul 8 f) ?_
  refine lv_iload_n hx hb dX1_change_52 rfl (lv_at hl 2 rfl) ?_
  refine lv_bipush (v := nI 7) hx hb dX1_change_53 (by decide) ?_
  refine lv_iand hx hb dX1_change_55 ?_
  refine cm_top (cm_and7 (n := i1) (by omega)) ?_
  refine lv_iadd hx hb dX1_change_56 ?_
  refine cm_top (nI_add (8 * f) (i1 % 8)) ?_
  refine lv_istore (lv' := [(5, .int (nI (8 * f + i1 % 8))), (4, .int (nI k)), (0, .ref h0), (1, .int (nI i1)), (2, .int v), (3, .int w)]) hx hb dX1_change_57 hl (by decide) rfl (fun ls hl => ?_)
  refine lv_aload_n hx hb dX1_change_59 rfl (lv_at hl 2 rfl) ?_
  refine lv_iload hx hb dX1_change_60 (lv_at hl 0 rfl) ?_
  refine lv_iconst (v := nI 2) hx hb dX1_change_62 (by decide) ?_
  refine lv_ishr hx hb dX1_change_63 ?_
  refine cm_top (cm_shr2 (n := 8 * f + i1 % 8) (by omega)) ?_
  refine cm_selfi (q := (RX1, TX1, 15)) (ci := 0) (rest := []) C hml hA G hl.1 (cm_X1_bringIn l D h0 a d σ1 ((8 * f + i1 % 8) / 4) (τ 0) (by omega) hR1.2.2) rfl rfl (cwV 1 C.2.2.1 (lw_V q102 q104 qs3 q11 q105) rfl rfl rfl (by decide +kernel) ⟨Nat.le_of_ble_eq_true rfl, Nat.le_of_ble_eq_true rfl⟩) rfl rfl (Nat.le_of_ble_eq_true rfl) dX1_change_64 ⟨Nat.zero_le _, Nat.zero_le _⟩ (fun r σ2 H locs hp G => ?_)
  obtain ⟨x, hx8, rfl, hxb, hC2, hf2⟩ := hp
  have hR2 := cm_R_cache hR1 hC2 hf2
  have hv : σ2 13 (4 * x + (8 * f + i1 % 8) % 4) = τ 0 (8 * f + i1 % 8) := by
    rw [hC2.line hx8 (show (8 * f + i1 % 8) / 4 < 16 by omega) (by omega) hxb]
    exact congrArg (τ 0) (by omega)
  refine lv_istore (lv' := [(6, .int (nI x)), (5, .int (nI (8 * f + i1 % 8))), (4, .int (nI k)), (0, .ref h0), (1, .int (nI i1)), (2, .int v), (3, .int w)]) hx hb dX1_change_67 hl (by decide) rfl (fun ls hl => ?_)
  refine lv_iconst (v := nI 4) hx hb dX1_change_69 (by decide) ?_
  refine lv_iload hx hb dX1_change_70 (lv_at hl 0 rfl) ?_
  refine lv_imul hx hb dX1_change_72 ?_
  refine cm_top (pk_mul 4 x) ?_
  refine lv_iload hx hb dX1_change_73 (lv_at hl 1 rfl) ?_
  refine lv_iconst (v := nI 3) hx hb dX1_change_75 (by decide) ?_
  refine lv_iand hx hb dX1_change_76 ?_
  refine cm_top (cm_and3 (n := 8 * f + i1 % 8) (by omega)) ?_
  refine lv_iadd hx hb dX1_change_77 ?_
  refine cm_top (nI_add (4 * x) ((8 * f + i1 % 8) % 4)) ?_
  refine lv_istore (lv' := [(7, .int (nI (4 * x + ((8 * f + i1 % 8) % 4)))), (6, .int (nI x)), (5, .int (nI (8 * f + i1 % 8))), (4, .int (nI k)), (0, .ref h0), (1, .int (nI i1)), (2, .int v), (3, .int w)]) hx hb dX1_change_78 hl (by decide) rfl (fun ls hl => ?_)
  refine lv_aload_n hx hb dX1_change_80 rfl (lv_at hl 4 rfl) ?_
  refine cm_get1 C G 0 rfl 13 (by decide) q34 rfl (v := .ref (a 13)) rfl dX1_change_81 ?_
  refine lv_iload hx hb dX1_change_84 (lv_at hl 0 rfl) ?_
  refine lv_iload_n hx hb dX1_change_86 rfl (lv_at hl 7 rfl) ?_
  refine lv_if_eq (tgt := 102) hx hb dX1_change_87 (by decide) (fun c4 => ?_) (fun c4 => ?_)
  · skip
    refine lv_iload_n hx hb dX1_change_102 rfl (lv_at hl 6 rfl) ?_
    refine cm_iast C G 9 8 rfl rfl (4 * x + ((8 * f + i1 % 8) % 4)) (by omega) (by decide) (ws' := cm_wX h0 a d (cm_st σ2 13 (4 * x + ((8 * f + i1 % 8) % 4)) v)) rfl dX1_change_103 (fun H locs G => ?_)
    refine lv_aload_n hx hb dX1_change_104 rfl (lv_at hl 4 rfl) ?_
    refine cm_get1 C G 0 rfl 12 (by decide) q33 rfl (v := .ref (a 12)) rfl dX1_change_105 ?_
    refine lv_iload hx hb dX1_change_108 (lv_at hl 1 rfl) ?_
    refine lv_iconst (v := 1) hx hb dX1_change_110 (by decide) ?_
    refine cm_zast C G 8 7 rfl rfl x (by omega) (by decide) (v := 1) cm_narz1 (ws' := cm_wX h0 a d (cm_st (cm_st σ2 13 (4 * x + ((8 * f + i1 % 8) % 4)) v) 12 x 1)) rfl dX1_change_111 (fun H locs G => ?_)
    refine lv_iconst (v := 0) hx hb dX1_change_112 (by decide) ?_
    exact cm_iret (wo := cm_wX h0 a d) (σ := (cm_st (cm_st σ2 13 (4 * x + ((8 * f + i1 % 8) % 4)) v) 12 x 1)) C G hr hlk (by rw [cm_spChange_hit (by omega) hc0 ht3 hf (hE.1.trans g) c3, if_pos c4]; exact ⟨rfl, cm_R_put hR2 hx8 (by omega) hxb⟩) dX1_change_113
  refine lv_aload_n hx hb dX1_change_90 rfl (lv_at hl 4 rfl) ?_
  refine cm_get1 C G 0 rfl 13 (by decide) q34 rfl (v := .ref (a 13)) rfl dX1_change_91 ?_
  refine lv_iload hx hb dX1_change_94 (lv_at hl 0 rfl) ?_
  refine cm_iald C G 9 8 rfl rfl (4 * x + ((8 * f + i1 % 8) % 4)) (by omega) (by decide) dX1_change_96 ?_
  refine cm_top hv ?_
  refine lv_iload_n hx hb dX1_change_97 rfl (lv_at hl 6 rfl) ?_
  refine lv_iadd hx hb dX1_change_98 ?_
  refine lv_goto (tgt := 103) hx hb dX1_change_99 (by decide) ?_
  refine cm_iast C G 9 8 rfl rfl (4 * x + ((8 * f + i1 % 8) % 4)) (by omega) (by decide) (ws' := cm_wX h0 a d (cm_st σ2 13 (4 * x + ((8 * f + i1 % 8) % 4)) ((τ 0 (8 * f + i1 % 8)) + v))) rfl dX1_change_103 (fun H locs G => ?_)
  refine lv_aload_n hx hb dX1_change_104 rfl (lv_at hl 4 rfl) ?_
  refine cm_get1 C G 0 rfl 12 (by decide) q33 rfl (v := .ref (a 12)) rfl dX1_change_105 ?_
  refine lv_iload hx hb dX1_change_108 (lv_at hl 1 rfl) ?_
  refine lv_iconst (v := 1) hx hb dX1_change_110 (by decide) ?_
  refine cm_zast C G 8 7 rfl rfl x (by omega) (by decide) (v := 1) cm_narz1 (ws' := cm_wX h0 a d (cm_st (cm_st σ2 13 (4 * x + ((8 * f + i1 % 8) % 4)) ((τ 0 (8 * f + i1 % 8)) + v)) 12 x 1)) rfl dX1_change_111 (fun H locs G => ?_)
  refine lv_iconst (v := 0) hx hb dX1_change_112 (by decide) ?_
  exact cm_iret (wo := cm_wX h0 a d) (σ := (cm_st (cm_st σ2 13 (4 * x + ((8 * f + i1 % 8) % 4)) ((τ 0 (8 * f + i1 % 8)) + v)) 12 x 1)) C G hr hlk (by rw [cm_spChange_hit (by omega) hc0 ht3 hf (hE.1.trans g) c3, if_neg c4]; exact ⟨rfl, cm_R_put hR2 hx8 (by omega) hxb⟩) dX1_change_113
set_option maxHeartbeats 4000000 in
/-- X1.store -/
theorem cm_X1_store (l : Launch) (D : va_G) (h0 : Nat) (a : Nat → Nat) (d : Nat → ClassId) (σ : cm_St) (x v : Int32) (τ : cm_St) (hR : cm_R σ τ) : cm_Mi l D yX1_store (ws_ yX1_store cX1_store 3 (some .int)) ({ frames := 3, cells := 0, slots := 0, locals := 73 }) (cm_tX d) (cm_wX h0 a d) h0 [.int x, .int v] σ (fun r σ' => r = (cm_spChange τ x v 0).1 ∧ cm_R σ' (cm_spChange τ x v 0).2) := by
  refine cm_startI (by decide) (Nat.le_of_ble_eq_true rfl) ?_
  intro p e s m below meth c A ls C hr hlk hml hA G hl
  have hx := C.1
  have hb := C.2.1
  have hl : lv_has ls 3 [(0, .ref h0), (1, .int x), (2, .int v)] := hl
  refine lv_aload_n hx hb dX1_store_0 rfl (lv_at hl 0 rfl) ?_
  refine lv_iload_n hx hb dX1_store_1 rfl (lv_at hl 1 rfl) ?_
  refine lv_iload_n hx hb dX1_store_2 rfl (lv_at hl 2 rfl) ?_
  refine lv_iconst (v := 0) hx hb dX1_store_3 (by decide) ?_
  refine cm_selfi (q := (RX1, TX1, 15)) (ci := 0) (rest := []) C hml hA G hl.1 (cm_X1_change l D h0 a d σ x v 0 τ hR) rfl rfl (cwV 3 C.2.2.1 (lw_V q122 q124 qs6 q11 q125) rfl rfl rfl (by decide +kernel) ⟨Nat.le_of_ble_eq_true rfl, Nat.le_of_ble_eq_true rfl⟩) rfl rfl (Nat.le_of_ble_eq_true rfl) dX1_store_4 ⟨Nat.zero_le _, Nat.zero_le _⟩ (fun r σ1 H locs hp G => ?_)
  exact cm_iret (wo := cm_wX h0 a d) (σ := σ1) C G hr hlk (hp) dX1_store_7
set_option maxHeartbeats 4000000 in
/-- X1.add -/
theorem cm_X1_add (l : Launch) (D : va_G) (h0 : Nat) (a : Nat → Nat) (d : Nat → ClassId) (σ : cm_St) (x v : Int32) (τ : cm_St) (hR : cm_R σ τ) : cm_Mi l D yX1_add (ws_ yX1_add cX1_add 3 (some .int)) ({ frames := 3, cells := 0, slots := 0, locals := 73 }) (cm_tX d) (cm_wX h0 a d) h0 [.int x, .int v] σ (fun r σ' => r = (cm_spChange τ x v 1).1 ∧ cm_R σ' (cm_spChange τ x v 1).2) := by
  refine cm_startI (by decide) (Nat.le_of_ble_eq_true rfl) ?_
  intro p e s m below meth c A ls C hr hlk hml hA G hl
  have hx := C.1
  have hb := C.2.1
  have hl : lv_has ls 3 [(0, .ref h0), (1, .int x), (2, .int v)] := hl
  refine lv_aload_n hx hb dX1_add_0 rfl (lv_at hl 0 rfl) ?_
  refine lv_iload_n hx hb dX1_add_1 rfl (lv_at hl 1 rfl) ?_
  refine lv_iload_n hx hb dX1_add_2 rfl (lv_at hl 2 rfl) ?_
  refine lv_iconst (v := 1) hx hb dX1_add_3 (by decide) ?_
  refine cm_selfi (q := (RX1, TX1, 15)) (ci := 0) (rest := []) C hml hA G hl.1 (cm_X1_change l D h0 a d σ x v 1 τ hR) rfl rfl (cwV 3 C.2.2.1 (lw_V q122 q124 qs6 q11 q125) rfl rfl rfl (by decide +kernel) ⟨Nat.le_of_ble_eq_true rfl, Nat.le_of_ble_eq_true rfl⟩) rfl rfl (Nat.le_of_ble_eq_true rfl) dX1_add_4 ⟨Nat.zero_le _, Nat.zero_le _⟩ (fun r σ1 H locs hp G => ?_)
  exact cm_iret (wo := cm_wX h0 a d) (σ := σ1) C G hr hlk (hp) dX1_add_7
end
section
/-! contracts of the class, the rest (printed by gen2.py) -/
set_option maxRecDepth 100000
set_option maxHeartbeats 4000000 in
/-- X1.deviceRead -/
theorem cm_X1_deviceRead (l : Launch) (D : va_G) (h0 : Nat) (a : Nat → Nat) (d : Nat → ClassId) (σ : cm_St) (x : Int32) (τ : cm_St) (hR : cm_R σ τ) : cm_Mi l D yX1_deviceRead (ws_ yX1_deviceRead cX1_deviceRead 3 (some .int)) ({ frames := 1, cells := 0, slots := 0, locals := 22 }) (cm_tX d) (cm_wX h0 a d) h0 [.int x] σ (fun r σ' => r = (cm_spDR τ x).1 ∧ cm_R σ' (cm_spDR τ x).2) := by
  refine cm_startI (by decide) (Nat.le_of_ble_eq_true rfl) ?_
  intro p e s m below meth c A ls C hr hlk hml hA G hl
  have hx := C.1
  have hb := C.2.1
  have hl : lv_has ls 3 [(0, .ref h0), (1, .int x)] := hl
  refine lv_iload_n hx hb dX1_deviceRead_0 rfl (lv_at hl 1 rfl) ?_
  refine lv_if_lt (tgt := 10) hx hb dX1_deviceRead_1 (by decide) (fun c1n => ?_) (fun c1n => ?_)
  · skip
    refine lv_iconst (v := 0) hx hb dX1_deviceRead_10 (by decide) ?_
    exact cm_iret (wo := cm_wX h0 a d) (σ := σ) C G hr hlk (by rw [show cm_spDR τ x = (0, τ) by simp only [cm_spDR, cm_rg_neg c1n]]; exact ⟨rfl, hR⟩) dX1_deviceRead_11
  obtain ⟨i1, hi1, rfl⟩ := nI_of c1n
  refine lv_iload_n hx hb dX1_deviceRead_4 rfl (lv_at hl 1 rfl) ?_
  refine lv_bipush (v := nI 63) hx hb dX1_deviceRead_5 (by decide) ?_
  refine lv_icmp_le (tgt := 12) hx hb dX1_deviceRead_7 (by decide) (fun c1b => ?_) (fun c1b => ?_)
  rotate_left
  · skip
    have c1b : ¬ i1 ≤ 63 := fun q => c1b ((nI_leI (a := i1) (b := 63) (by omega) (by omega)).mpr q)
    refine lv_iconst (v := 0) hx hb dX1_deviceRead_10 (by decide) ?_
    exact cm_iret (wo := cm_wX h0 a d) (σ := σ) C G hr hlk (by rw [show cm_spDR τ (nI i1) = (0, τ) by simp only [cm_spDR, cm_rg_ge (n := 64) (by omega) hi1]]; exact ⟨rfl, hR⟩) dX1_deviceRead_11
  have c1b : i1 ≤ 63 := (nI_leI (a := i1) (b := 63) (by omega) (by omega)).mp c1b
  refine lv_aload_n hx hb dX1_deviceRead_12 rfl (lv_at hl 0 rfl) ?_
  refine lv_iload_n hx hb dX1_deviceRead_13 rfl (lv_at hl 1 rfl) ?_
  refine lv_iconst (v := nI 2) hx hb dX1_deviceRead_14 (by decide) ?_
  refine lv_ishr hx hb dX1_deviceRead_15 ?_
  refine cm_top (cm_shr2 (n := i1) (by omega)) ?_
  refine cm_selfi (q := (RX1, TX1, 15)) (ci := 0) (rest := []) C hml hA G hl.1 (cm_X1_lineWith l D h0 a d σ (i1 / 4) (τ 0) (by omega) hR.2.2) rfl rfl (cwV 1 C.2.2.1 (lw_V q106 q108 qs4 q11 q109) rfl rfl rfl (by decide +kernel) ⟨Nat.le_of_ble_eq_true rfl, Nat.le_of_ble_eq_true rfl⟩) rfl rfl (Nat.le_of_ble_eq_true rfl) dX1_deviceRead_16 ⟨Nat.zero_le _, Nat.zero_le _⟩ (fun r σ1 H locs hp G => ?_)
  obtain ⟨hs, hp⟩ := hp
  rw [hs] at G
  rcases hp with ⟨x, hx8, rfl, hxb⟩ | ⟨rfl, hno⟩
  · skip
    refine lv_istore_n (lv' := [(2, .int (nI x)), (0, .ref h0), (1, .int (nI i1))]) hx hb dX1_deviceRead_19 rfl hl (by decide) rfl (fun ls hl => ?_)
    refine lv_iload_n hx hb dX1_deviceRead_20 rfl (lv_at hl 0 rfl) ?_
    refine lv_if_lt (tgt := 39) hx hb dX1_deviceRead_21 (by decide) (fun c2 => absurd c2 (nI_pos (by omega))) (fun c2 => ?_)
    refine lv_aload_n hx hb dX1_deviceRead_24 rfl (lv_at hl 1 rfl) ?_
    refine cm_get1 C G 0 rfl 13 (by decide) q34 rfl (v := .ref (a 13)) rfl dX1_deviceRead_25 ?_
    refine lv_iconst (v := nI 4) hx hb dX1_deviceRead_28 (by decide) ?_
    refine lv_iload_n hx hb dX1_deviceRead_29 rfl (lv_at hl 0 rfl) ?_
    refine lv_imul hx hb dX1_deviceRead_30 ?_
    refine cm_top (pk_mul 4 x) ?_
    refine lv_iload_n hx hb dX1_deviceRead_31 rfl (lv_at hl 2 rfl) ?_
    refine lv_iconst (v := nI 3) hx hb dX1_deviceRead_32 (by decide) ?_
    refine lv_iand hx hb dX1_deviceRead_33 ?_
    refine cm_top (cm_and3 (n := i1) (by omega)) ?_
    refine lv_iadd hx hb dX1_deviceRead_34 ?_
    refine cm_top (nI_add (4 * x) (i1 % 4)) ?_
    refine cm_iald C G 9 8 rfl rfl (4 * x + i1 % 4) (by omega) (by decide) dX1_deviceRead_35 ?_
    have hv : σ 13 (4 * x + i1 % 4) = τ 0 i1 := by
      rw [hR.2.2.line hx8 (show i1 / 4 < 16 by omega) (by omega) hxb]
      exact congrArg (τ 0) (by omega)
    refine cm_top hv ?_
    refine lv_goto (tgt := 45) hx hb dX1_deviceRead_36 (by decide) ?_
    exact cm_iret (wo := cm_wX h0 a d) (σ := σ) C G hr hlk (by rw [cm_spDR_at (by omega)]; exact ⟨rfl, hR⟩) dX1_deviceRead_45
  refine lv_istore_n (lv' := [(2, .int (-1)), (0, .ref h0), (1, .int (nI i1))]) hx hb dX1_deviceRead_19 rfl hl (by decide) rfl (fun ls hl => ?_)
  refine lv_iload_n hx hb dX1_deviceRead_20 rfl (lv_at hl 0 rfl) ?_
  refine lv_if_lt (tgt := 39) hx hb dX1_deviceRead_21 (by decide) (fun c2 => ?_) (fun c2 => absurd cm_neg1 c2)
  refine lv_aload_n hx hb dX1_deviceRead_39 rfl (lv_at hl 1 rfl) ?_
  refine cm_get1 C G 0 rfl 0 (by decide) q21 rfl (v := .ref (a 0)) rfl dX1_deviceRead_40 ?_
  refine lv_iload_n hx hb dX1_deviceRead_43 rfl (lv_at hl 2 rfl) ?_
  refine cm_iald C G 1 0 rfl rfl i1 (by omega) (by decide) dX1_deviceRead_44 ?_
  refine cm_top (hR.2.2.mem (by omega) hno) ?_
  exact cm_iret (wo := cm_wX h0 a d) (σ := σ) C G hr hlk (by rw [cm_spDR_at (by omega)]; exact ⟨rfl, hR⟩) dX1_deviceRead_45
set_option maxHeartbeats 4000000 in
/-- X1.deviceWrite -/
theorem cm_X1_deviceWrite (l : Launch) (D : va_G) (h0 : Nat) (a : Nat → Nat) (d : Nat → ClassId) (σ : cm_St) (x v : Int32) (τ : cm_St) (hR : cm_R σ τ) : cm_Mi l D yX1_deviceWrite (ws_ yX1_deviceWrite cX1_deviceWrite 4 (some .int)) ({ frames := 1, cells := 0, slots := 0, locals := 22 }) (cm_tX d) (cm_wX h0 a d) h0 [.int x, .int v] σ (fun r σ' => r = (cm_spDW τ x v).1 ∧ cm_R σ' (cm_spDW τ x v).2) := by
  refine cm_startI (by decide) (Nat.le_of_ble_eq_true rfl) ?_
  intro p e s m below meth c A ls C hr hlk hml hA G hl
  have hx := C.1
  have hb := C.2.1
  have hl : lv_has ls 4 [(0, .ref h0), (1, .int x), (2, .int v)] := hl
  refine lv_iload_n hx hb dX1_deviceWrite_0 rfl (lv_at hl 1 rfl) ?_
  refine lv_if_lt (tgt := 10) hx hb dX1_deviceWrite_1 (by decide) (fun c1n => ?_) (fun c1n => ?_)
  · skip
    refine lv_iconst (v := -1) hx hb dX1_deviceWrite_10 (by decide) ?_
    exact cm_iret (wo := cm_wX h0 a d) (σ := σ) C G hr hlk (by rw [show cm_spDW τ x v = (-1, τ) by simp only [cm_spDW, cm_rg_neg c1n]]; exact ⟨rfl, hR⟩) dX1_deviceWrite_11
  obtain ⟨i1, hi1, rfl⟩ := nI_of c1n
  refine lv_iload_n hx hb dX1_deviceWrite_4 rfl (lv_at hl 1 rfl) ?_
  refine lv_bipush (v := nI 63) hx hb dX1_deviceWrite_5 (by decide) ?_
  refine lv_icmp_le (tgt := 12) hx hb dX1_deviceWrite_7 (by decide) (fun c1b => ?_) (fun c1b => ?_)
  rotate_left
  · skip
    have c1b : ¬ i1 ≤ 63 := fun q => c1b ((nI_leI (a := i1) (b := 63) (by omega) (by omega)).mpr q)
    refine lv_iconst (v := -1) hx hb dX1_deviceWrite_10 (by decide) ?_
    exact cm_iret (wo := cm_wX h0 a d) (σ := σ) C G hr hlk (by rw [show cm_spDW τ (nI i1) v = (-1, τ) by simp only [cm_spDW, cm_rg_ge (n := 64) (by omega) hi1]]; exact ⟨rfl, hR⟩) dX1_deviceWrite_11
  have c1b : i1 ≤ 63 := (nI_leI (a := i1) (b := 63) (by omega) (by omega)).mp c1b
  refine lv_aload_n hx hb dX1_deviceWrite_12 rfl (lv_at hl 0 rfl) ?_
  refine lv_iload_n hx hb dX1_deviceWrite_13 rfl (lv_at hl 1 rfl) ?_
  refine lv_iconst (v := nI 2) hx hb dX1_deviceWrite_14 (by decide) ?_
  refine lv_ishr hx hb dX1_deviceWrite_15 ?_
  refine cm_top (cm_shr2 (n := i1) (by omega)) ?_
  refine cm_selfi (q := (RX1, TX1, 15)) (ci := 0) (rest := []) C hml hA G hl.1 (cm_X1_lineWith l D h0 a d σ (i1 / 4) (τ 0) (by omega) hR.2.2) rfl rfl (cwV 1 C.2.2.1 (lw_V q106 q108 qs4 q11 q109) rfl rfl rfl (by decide +kernel) ⟨Nat.le_of_ble_eq_true rfl, Nat.le_of_ble_eq_true rfl⟩) rfl rfl (Nat.le_of_ble_eq_true rfl) dX1_deviceWrite_16 ⟨Nat.zero_le _, Nat.zero_le _⟩ (fun r σ1 H locs hp G => ?_)
  obtain ⟨hs, hp⟩ := hp
  rw [hs] at G
  rcases hp with ⟨x, hx8, rfl, hxb⟩ | ⟨rfl, hno⟩
  · skip
    refine lv_istore_n (lv' := [(3, .int (nI x)), (0, .ref h0), (1, .int (nI i1)), (2, .int v)]) hx hb dX1_deviceWrite_19 rfl hl (by decide) rfl (fun ls hl => ?_)
    refine lv_iload_n hx hb dX1_deviceWrite_20 rfl (lv_at hl 0 rfl) ?_
    refine lv_if_lt (tgt := 29) hx hb dX1_deviceWrite_21 (by decide) (fun c2 => absurd c2 (nI_pos (by omega))) (fun c2 => ?_)
    refine lv_aload_n hx hb dX1_deviceWrite_24 rfl (lv_at hl 1 rfl) ?_
    refine lv_iload_n hx hb dX1_deviceWrite_25 rfl (lv_at hl 0 rfl) ?_
    refine cm_selfv (q := (RX1, TX1, 15)) (ci := 0) (rest := []) C hml hA G hl.1 (cm_X1_evict l D h0 a d σ x (τ 0) hx8 hR.2.2) rfl rfl (cwV 1 C.2.2.1 (lw_V q110 q112 qs5 q11 q113) rfl rfl rfl (by decide +kernel) ⟨Nat.le_of_ble_eq_true rfl, Nat.le_of_ble_eq_true rfl⟩) rfl rfl (Nat.le_of_ble_eq_true rfl) dX1_deviceWrite_26 ⟨Nat.zero_le _, Nat.zero_le _⟩ (fun σ1 H locs hp G => ?_)
    obtain ⟨hC1, hx1, hy1, hf1⟩ := hp
    refine lv_aload_n hx hb dX1_deviceWrite_29 rfl (lv_at hl 1 rfl) ?_
    refine cm_get1 C G 0 rfl 0 (by decide) q21 rfl (v := .ref (a 0)) rfl dX1_deviceWrite_30 ?_
    refine lv_iload_n hx hb dX1_deviceWrite_33 rfl (lv_at hl 2 rfl) ?_
    refine lv_iload_n hx hb dX1_deviceWrite_34 rfl (lv_at hl 3 rfl) ?_
    refine cm_iast C G 1 0 rfl rfl i1 (by omega) (by decide) (ws' := cm_wX h0 a d (cm_st σ1 0 i1 v)) rfl dX1_deviceWrite_35 (fun H locs G => ?_)
    refine lv_iconst (v := 0) hx hb dX1_deviceWrite_36 (by decide) ?_
    exact cm_iret (wo := cm_wX h0 a d) (σ := (cm_st σ1 0 i1 v)) C G hr hlk (by rw [cm_spDW_at (by omega)]; exact ⟨rfl, cm_R_dw (cm_R_cache hR hC1 hf1) (cm_ev_no hR.2.2 hx8 (by omega) hxb hx1 hy1)⟩) dX1_deviceWrite_37
  refine lv_istore_n (lv' := [(3, .int (-1)), (0, .ref h0), (1, .int (nI i1)), (2, .int v)]) hx hb dX1_deviceWrite_19 rfl hl (by decide) rfl (fun ls hl => ?_)
  refine lv_iload_n hx hb dX1_deviceWrite_20 rfl (lv_at hl 0 rfl) ?_
  refine lv_if_lt (tgt := 29) hx hb dX1_deviceWrite_21 (by decide) (fun c2 => ?_) (fun c2 => absurd cm_neg1 c2)
  refine lv_aload_n hx hb dX1_deviceWrite_29 rfl (lv_at hl 1 rfl) ?_
  refine cm_get1 C G 0 rfl 0 (by decide) q21 rfl (v := .ref (a 0)) rfl dX1_deviceWrite_30 ?_
  refine lv_iload_n hx hb dX1_deviceWrite_33 rfl (lv_at hl 2 rfl) ?_
  refine lv_iload_n hx hb dX1_deviceWrite_34 rfl (lv_at hl 3 rfl) ?_
  refine cm_iast C G 1 0 rfl rfl i1 (by omega) (by decide) (ws' := cm_wX h0 a d (cm_st σ 0 i1 v)) rfl dX1_deviceWrite_35 (fun H locs G => ?_)
  refine lv_iconst (v := 0) hx hb dX1_deviceWrite_36 (by decide) ?_
  exact cm_iret (wo := cm_wX h0 a d) (σ := (cm_st σ 0 i1 v)) C G hr hlk (by rw [cm_spDW_at (by omega)]; exact ⟨rfl, cm_R_dw hR hno⟩) dX1_deviceWrite_37
set_option maxHeartbeats 4000000 in
/-- X1.deviceCopy -/
theorem cm_X1_deviceCopy (l : Launch) (D : va_G) (h0 : Nat) (a : Nat → Nat) (d : Nat → ClassId) (σ : cm_St) (x y n : Int32) (τ : cm_St) (hR : cm_R σ τ) : cm_Mi l D yX1_deviceCopy (ws_ yX1_deviceCopy cX1_deviceCopy 6 (some .int)) ({ frames := 2, cells := 0, slots := 0, locals := 45 }) (cm_tX d) (cm_wX h0 a d) h0 [.int x, .int y, .int n] σ (fun r σ' => r = (cm_spDC τ x y n).1 ∧ cm_R σ' (cm_spDC τ x y n).2) := by
  refine cm_startI (by decide) (Nat.le_of_ble_eq_true rfl) ?_
  intro p e s m below meth c A ls C hr hlk hml hA G hl
  have hx := C.1
  have hb := C.2.1
  have hl : lv_has ls 6 [(0, .ref h0), (1, .int x), (2, .int y), (3, .int n)] := hl
  refine lv_iload_n hx hb dX1_deviceCopy_0 rfl (lv_at hl 1 rfl) ?_
  refine lv_if_lt (tgt := 12) hx hb dX1_deviceCopy_1 (by decide) (fun c1 => ?_) (fun c1 => ?_)
  · skip
    refine lv_iconst (v := -1) hx hb dX1_deviceCopy_12 (by decide) ?_
    exact cm_iret (wo := cm_wX h0 a d) (σ := σ) C G hr hlk (by rw [show cm_spDC τ x y n = (-1, τ) by simp only [cm_spDC, cm_rg_neg c1]]; exact ⟨rfl, hR⟩) dX1_deviceCopy_13
  obtain ⟨i1, hi1, rfl⟩ := nI_of c1
  refine lv_iload_n hx hb dX1_deviceCopy_4 rfl (lv_at hl 2 rfl) ?_
  refine lv_if_lt (tgt := 12) hx hb dX1_deviceCopy_5 (by decide) (fun c2 => ?_) (fun c2 => ?_)
  · skip
    refine lv_iconst (v := -1) hx hb dX1_deviceCopy_12 (by decide) ?_
    exact cm_iret (wo := cm_wX h0 a d) (σ := σ) C G hr hlk (by rw [cm_spDC_y (cm_rg_neg c2)]; exact ⟨rfl, hR⟩) dX1_deviceCopy_13
  obtain ⟨i2, hi2, rfl⟩ := nI_of c2
  refine lv_iload_n hx hb dX1_deviceCopy_8 rfl (lv_at hl 3 rfl) ?_
  refine lv_if_ge (tgt := 14) hx hb dX1_deviceCopy_9 (by decide) (fun c3 => ?_) (fun c3 => ?_)
  rotate_left
  · skip
    refine lv_iconst (v := -1) hx hb dX1_deviceCopy_12 (by decide) ?_
    exact cm_iret (wo := cm_wX h0 a d) (σ := σ) C G hr hlk (by rw [cm_spDC_n (cm_rg_neg (cm_ltz c3))]; exact ⟨rfl, hR⟩) dX1_deviceCopy_13
  obtain ⟨i3, hi3, rfl⟩ := nI_of (cm_nlt c3)
  refine lv_iload_n hx hb dX1_deviceCopy_14 rfl (lv_at hl 1 rfl) ?_
  refine lv_bipush (v := nI 64) hx hb dX1_deviceCopy_15 (by decide) ?_
  refine lv_icmp_gt (tgt := 42) hx hb dX1_deviceCopy_17 (by decide) (fun c4 => ?_) (fun c4 => ?_)
  · skip
    have c4 : 64 < i1 := (nI_ltI (a := 64) (b := i1) (by omega) (by omega)).mp c4
    refine lv_iconst (v := -1) hx hb dX1_deviceCopy_42 (by decide) ?_
    exact cm_iret (wo := cm_wX h0 a d) (σ := σ) C G hr hlk (by rw [cm_spDC_no hi1 hi2 hi3 (by omega)]; exact ⟨rfl, hR⟩) dX1_deviceCopy_43
  have c4 : ¬ 64 < i1 := fun q => c4 ((nI_ltI (a := 64) (b := i1) (by omega) (by omega)).mpr q)
  refine lv_iload_n hx hb dX1_deviceCopy_20 rfl (lv_at hl 2 rfl) ?_
  refine lv_bipush (v := nI 64) hx hb dX1_deviceCopy_21 (by decide) ?_
  refine lv_icmp_gt (tgt := 42) hx hb dX1_deviceCopy_23 (by decide) (fun c5 => ?_) (fun c5 => ?_)
  · skip
    have c5 : 64 < i2 := (nI_ltI (a := 64) (b := i2) (by omega) (by omega)).mp c5
    refine lv_iconst (v := -1) hx hb dX1_deviceCopy_42 (by decide) ?_
    exact cm_iret (wo := cm_wX h0 a d) (σ := σ) C G hr hlk (by rw [cm_spDC_no hi1 hi2 hi3 (by omega)]; exact ⟨rfl, hR⟩) dX1_deviceCopy_43
  have c5 : ¬ 64 < i2 := fun q => c5 ((nI_ltI (a := 64) (b := i2) (by omega) (by omega)).mpr q)
  refine lv_iload_n hx hb dX1_deviceCopy_26 rfl (lv_at hl 3 rfl) ?_
  refine lv_bipush (v := nI 64) hx hb dX1_deviceCopy_27 (by decide) ?_
  refine lv_iload_n hx hb dX1_deviceCopy_29 rfl (lv_at hl 1 rfl) ?_
  refine lv_isub hx hb dX1_deviceCopy_30 ?_
  refine cm_top (pk_sub (a := 64) (b := i1) (by omega)) ?_
  refine lv_icmp_gt (tgt := 42) hx hb dX1_deviceCopy_31 (by decide) (fun c6 => ?_) (fun c6 => ?_)
  · skip
    have c6 : 64 - i1 < i3 := (nI_ltI (a := 64 - i1) (b := i3) (by omega) (by omega)).mp c6
    refine lv_iconst (v := -1) hx hb dX1_deviceCopy_42 (by decide) ?_
    exact cm_iret (wo := cm_wX h0 a d) (σ := σ) C G hr hlk (by rw [cm_spDC_no hi1 hi2 hi3 (by omega)]; exact ⟨rfl, hR⟩) dX1_deviceCopy_43
  have c6 : ¬ 64 - i1 < i3 := fun q => c6 ((nI_ltI (a := 64 - i1) (b := i3) (by omega) (by omega)).mpr q)
  refine lv_iload_n hx hb dX1_deviceCopy_34 rfl (lv_at hl 3 rfl) ?_
  refine lv_bipush (v := nI 64) hx hb dX1_deviceCopy_35 (by decide) ?_
  refine lv_iload_n hx hb dX1_deviceCopy_37 rfl (lv_at hl 2 rfl) ?_
  refine lv_isub hx hb dX1_deviceCopy_38 ?_
  refine cm_top (pk_sub (a := 64) (b := i2) (by omega)) ?_
  refine lv_icmp_le (tgt := 44) hx hb dX1_deviceCopy_39 (by decide) (fun c7 => ?_) (fun c7 => ?_)
  rotate_left
  · skip
    have c7 : ¬ i3 ≤ 64 - i2 := fun q => c7 ((nI_leI (a := i3) (b := 64 - i2) (by omega) (by omega)).mpr q)
    refine lv_iconst (v := -1) hx hb dX1_deviceCopy_42 (by decide) ?_
    exact cm_iret (wo := cm_wX h0 a d) (σ := σ) C G hr hlk (by rw [cm_spDC_no hi1 hi2 hi3 (by omega)]; exact ⟨rfl, hR⟩) dX1_deviceCopy_43
  have c7 : i3 ≤ 64 - i2 := (nI_leI (a := i3) (b := 64 - i2) (by omega) (by omega)).mp c7
  refine lv_iconst (v := nI 0) hx hb dX1_deviceCopy_44 (by decide) ?_
  refine lv_istore (lv' := [(4, .int (nI 0)), (0, .ref h0), (1, .int (nI i1)), (2, .int (nI i2)), (3, .int (nI i3))]) hx hb dX1_deviceCopy_45 hl (by decide) rfl (fun ls hl => ?_)
  refine cm_loop (I := fun i u => cm_R u (cm_cp τ i1 i2 i)) (wo := cm_wX h0 a d) (lv := fun i _ => [(4, .int (nI i)), (0, .ref h0), (1, .int (nI i1)), (2, .int (nI i2)), (3, .int (nI i3))]) (N := i3) ?_ ?_ 0 σ _ _ _ (Nat.zero_le _) hR G hl
  · skip
    intro u H locs ls hI G hl
    refine lv_iload hx hb dX1_deviceCopy_47 (lv_at hl 0 rfl) ?_
    refine lv_iload_n hx hb dX1_deviceCopy_49 rfl (lv_at hl 4 rfl) ?_
    refine lv_icmp_ge (tgt := 80) hx hb dX1_deviceCopy_50 (by decide) (fun c8 => ?_) (fun c8 => by have c8 : ¬ i3 ≤ i3 := fun q => c8 ((nI_leI (a := i3) (b := i3) (by omega) (by omega)).mpr q); omega)
    have c8 : i3 ≤ i3 := (nI_leI (a := i3) (b := i3) (by omega) (by omega)).mp c8
    refine lv_iload_n hx hb dX1_deviceCopy_80 rfl (lv_at hl 4 rfl) ?_
    exact cm_iret (wo := cm_wX h0 a d) (σ := u) C G hr hlk (by rw [cm_spDC_ok (by omega)]; exact ⟨rfl, hI⟩) dX1_deviceCopy_81
  · skip
    intro i u H locs ls hi hI G hl ih
    refine lv_iload hx hb dX1_deviceCopy_47 (lv_at hl 0 rfl) ?_
    refine lv_iload_n hx hb dX1_deviceCopy_49 rfl (lv_at hl 4 rfl) ?_
    refine lv_icmp_ge (tgt := 80) hx hb dX1_deviceCopy_50 (by decide) (fun c8 => by have c8 : i3 ≤ i := (nI_leI (a := i3) (b := i) (by omega) (by omega)).mp c8; omega) (fun c8 => ?_)
    have c8 : ¬ i3 ≤ i := fun q => c8 ((nI_leI (a := i3) (b := i) (by omega) (by omega)).mpr q)
    refine lv_aload_n hx hb dX1_deviceCopy_53 rfl (lv_at hl 1 rfl) ?_
    refine lv_iload_n hx hb dX1_deviceCopy_54 rfl (lv_at hl 2 rfl) ?_
    refine lv_iload hx hb dX1_deviceCopy_55 (lv_at hl 0 rfl) ?_
    refine lv_iadd hx hb dX1_deviceCopy_57 ?_
    refine cm_top (nI_add i1 i) ?_
    refine cm_selfi (q := (RX1, TX1, 15)) (ci := 0) (rest := []) C hml hA G hl.1 (cm_X1_deviceRead l D h0 a d u (nI (i1 + i)) (cm_cp τ i1 i2 i) hI) rfl rfl (cwV 1 C.2.2.1 (lw_V q142 q131 q132 q11 q133) rfl rfl rfl (by decide +kernel) ⟨Nat.le_of_ble_eq_true rfl, Nat.le_of_ble_eq_true rfl⟩) rfl rfl (Nat.le_of_ble_eq_true rfl) dX1_deviceCopy_58 ⟨Nat.zero_le _, Nat.zero_le _⟩ (fun r1 σ1 H locs hp G => ?_)
    rw [cm_spDR_at (by omega)] at hp
    obtain ⟨hv, hR1⟩ := hp
    refine lv_istore (lv' := [(5, .int r1), (4, .int (nI i)), (0, .ref h0), (1, .int (nI i1)), (2, .int (nI i2)), (3, .int (nI i3))]) hx hb dX1_deviceCopy_61 hl (by decide) rfl (fun ls hl => ?_)
    refine lv_aload_n hx hb dX1_deviceCopy_63 rfl (lv_at hl 2 rfl) ?_
    refine lv_iload_n hx hb dX1_deviceCopy_64 rfl (lv_at hl 4 rfl) ?_
    refine lv_iload hx hb dX1_deviceCopy_65 (lv_at hl 1 rfl) ?_
    refine lv_iadd hx hb dX1_deviceCopy_67 ?_
    refine cm_top (nI_add i2 i) ?_
    refine lv_iload hx hb dX1_deviceCopy_68 (lv_at hl 0 rfl) ?_
    refine cm_selfi (q := (RX1, TX1, 15)) (ci := 0) (rest := []) C hml hA G hl.1 (cm_X1_deviceWrite l D h0 a d σ1 (nI (i2 + i)) r1 (cm_cp τ i1 i2 i) hR1) rfl rfl (cwV 2 C.2.2.1 (lw_V q143 q135 q136 q11 q137) rfl rfl rfl (by decide +kernel) ⟨Nat.le_of_ble_eq_true rfl, Nat.le_of_ble_eq_true rfl⟩) rfl rfl (Nat.le_of_ble_eq_true rfl) dX1_deviceCopy_70 ⟨Nat.zero_le _, Nat.zero_le _⟩ (fun r2 σ2 H locs hp G => ?_)
    rw [cm_spDW_at (by omega), hv] at hp
    refine lv_pop hx hb dX1_deviceCopy_73 rfl ?_
    refine lv_iinc (v := nI (i + 1)) (lv' := [(4, .int (nI (i + 1))), (5, .int r1), (0, .ref h0), (1, .int (nI i1)), (2, .int (nI i2)), (3, .int (nI i3))]) hx hb dX1_deviceCopy_74 hl (k := 1) rfl (cm_inc i) (by decide) rfl (fun ls hl => ?_)
    refine lv_goto (tgt := 47) hx hb dX1_deviceCopy_77 (by decide) ?_
    exact ih σ2 _ _ _ hp.2 G (lv_sub hl [0, 2, 3, 4, 5] rfl)
set_option maxHeartbeats 4000000 in
/-- X1.enter -/
theorem cm_X1_enter (l : Launch) (D : va_G) (h0 : Nat) (a : Nat → Nat) (d : Nat → ClassId) (σ : cm_St) (x : Int32) (τ : cm_St) (hR : cm_R σ τ) : cm_Mi l D yX1_enter (ws_ yX1_enter cX1_enter 2 (some .int)) ({ frames := 0, cells := 0, slots := 0, locals := 0 }) (cm_tX d) (cm_wX h0 a d) h0 [.int x] σ (fun r σ' => r = (cm_spEnter τ x).1 ∧ cm_R σ' (cm_spEnter τ x).2) := by
  refine cm_startI (by decide) (Nat.le_of_ble_eq_true rfl) ?_
  intro p e s m below meth c A ls C hr hlk hml hA G hl
  have hx := C.1
  have hb := C.2.1
  have hl : lv_has ls 2 [(0, .ref h0), (1, .int x)] := hl
  refine lv_iload_n hx hb dX1_enter_0 rfl (lv_at hl 1 rfl) ?_
  refine lv_if_lt (tgt := 9) hx hb dX1_enter_1 (by decide) (fun c1n => ?_) (fun c1n => ?_)
  · skip
    refine lv_iconst (v := -1) hx hb dX1_enter_9 (by decide) ?_
    exact cm_iret (wo := cm_wX h0 a d) (σ := σ) C G hr hlk (by rw [show cm_spEnter τ x = (-1, τ) by simp only [cm_spEnter, cm_rg_neg c1n]]; exact ⟨rfl, hR⟩) dX1_enter_10
  obtain ⟨i1, hi1, rfl⟩ := nI_of c1n
  refine lv_iload_n hx hb dX1_enter_4 rfl (lv_at hl 1 rfl) ?_
  refine lv_iconst (v := nI 3) hx hb dX1_enter_5 (by decide) ?_
  refine lv_icmp_le (tgt := 11) hx hb dX1_enter_6 (by decide) (fun c1b => ?_) (fun c1b => ?_)
  rotate_left
  · skip
    have c1b : ¬ i1 ≤ 3 := fun q => c1b ((nI_leI (a := i1) (b := 3) (by omega) (by omega)).mpr q)
    refine lv_iconst (v := -1) hx hb dX1_enter_9 (by decide) ?_
    exact cm_iret (wo := cm_wX h0 a d) (σ := σ) C G hr hlk (by rw [show cm_spEnter τ (nI i1) = (-1, τ) by simp only [cm_spEnter, cm_rg_ge (n := 4) (by omega) hi1]]; exact ⟨rfl, hR⟩) dX1_enter_10
  have c1b : i1 ≤ 3 := (nI_leI (a := i1) (b := 3) (by omega) (by omega)).mp c1b
  refine lv_aload_n hx hb dX1_enter_11 rfl (lv_at hl 0 rfl) ?_
  refine lv_iload_n hx hb dX1_enter_12 rfl (lv_at hl 1 rfl) ?_
  refine cm_put1 C G 0 rfl 1 (by decide) q22 rfl rfl (by decide +kernel) (Nat.le_of_ble_eq_true rfl) (ws' := cm_wX h0 a d (cm_st σ 1 0 (nI i1))) rfl dX1_enter_13 (fun H locs G => ?_)
  refine lv_iconst (v := 0) hx hb dX1_enter_16 (by decide) ?_
  exact cm_iret (wo := cm_wX h0 a d) (σ := (cm_st σ 1 0 (nI i1))) C G hr hlk (by rw [cm_spEnter_at (by omega)]; exact ⟨rfl, cm_R_enter hR (by omega)⟩) dX1_enter_17
set_option maxHeartbeats 4000000 in
/-- X1.last -/
theorem cm_X1_last (l : Launch) (D : va_G) (h0 : Nat) (a : Nat → Nat) (d : Nat → ClassId) (σ : cm_St) (τ : cm_St) (hR : cm_R σ τ) : cm_Mi l D yX1_last (ws_ yX1_last cX1_last 1 (some .int)) ({ frames := 0, cells := 0, slots := 0, locals := 0 }) (cm_tX d) (cm_wX h0 a d) h0 [] σ (fun r σ' => r = τ 4 0 ∧ cm_R σ' τ) := by
  refine cm_startI (by decide) (Nat.le_of_ble_eq_true rfl) ?_
  intro p e s m below meth c A ls C hr hlk hml hA G hl
  have hx := C.1
  have hb := C.2.1
  have hl : lv_has ls 1 [(0, .ref h0)] := hl
  refine lv_aload_n hx hb dX1_last_0 rfl (lv_at hl 0 rfl) ?_
  refine cm_get1 C G 0 rfl 2 (by decide) q23 rfl (v := .int (σ 2 0)) rfl dX1_last_1 ?_
  exact cm_iret (wo := cm_wX h0 a d) (σ := σ) C G hr hlk (⟨hR.1.2.2.1.symm, hR⟩) dX1_last_4
set_option maxHeartbeats 4000000 in
/-- X1.map -/
theorem cm_X1_map (l : Launch) (D : va_G) (h0 : Nat) (a : Nat → Nat) (d : Nat → ClassId) (σ : cm_St) (x y f w : Int32) (τ : cm_St) (hw : w = 0 ∨ w = 1) (hR : cm_R σ τ) : cm_Mi l D yX1_map (ws_ yX1_map cX1_map 7 (some .int)) ({ frames := 1, cells := 0, slots := 0, locals := 22 }) (cm_tX d) (cm_wX h0 a d) h0 [.int x, .int y, .int f, .int w] σ (fun r σ' => r = (cm_spMap τ x y f w).1 ∧ cm_R σ' (cm_spMap τ x y f w).2) := by
  refine cm_startI (by decide) (Nat.le_of_ble_eq_true rfl) ?_
  intro p e s m below meth c A ls C hr hlk hml hA G hl
  have hx := C.1
  have hb := C.2.1
  have hl : lv_has ls 7 [(0, .ref h0), (1, .int x), (2, .int y), (3, .int f), (4, .int w)] := hl
  refine lv_aload_n hx hb dX1_map_0 rfl (lv_at hl 0 rfl) ?_
  refine lv_iload_n hx hb dX1_map_1 rfl (lv_at hl 1 rfl) ?_
  refine lv_iload_n hx hb dX1_map_2 rfl (lv_at hl 2 rfl) ?_
  refine cm_selfi (q := (RX1, TX1, 15)) (ci := 0) (rest := []) C hml hA G hl.1 (cm_X1_isPage l D h0 a d σ x y) rfl rfl (cwV 2 C.2.2.1 (lw_V q78 q80 qs0 q11 q81) rfl rfl rfl (by decide +kernel) ⟨Nat.le_of_ble_eq_true rfl, Nat.le_of_ble_eq_true rfl⟩) rfl rfl (Nat.le_of_ble_eq_true rfl) dX1_map_3 ⟨Nat.zero_le _, Nat.zero_le _⟩ (fun r σ1 H locs hp G => ?_)
  obtain ⟨hs, hp⟩ := hp
  rw [hs] at G
  rcases hp with ⟨rfl, g⟩ | ⟨rfl, ⟨i, g1⟩, g2⟩ | ⟨rfl, i1, i2, hi1, hi2, rfl, rfl⟩
  · skip
    refine lv_if_eq (tgt := 19) hx hb dX1_map_6 (by decide) (fun c1 => ?_) (fun c1 => absurd rfl c1)
    refine lv_iconst (v := -1) hx hb dX1_map_19 (by decide) ?_
    exact cm_iret (wo := cm_wX h0 a d) (σ := σ) C G hr hlk (by rw [show cm_spMap τ x y f w = (-1, τ) by simp only [cm_spMap, g]]; exact ⟨rfl, hR⟩) dX1_map_20
  · skip
    refine lv_if_eq (tgt := 19) hx hb dX1_map_6 (by decide) (fun c1 => ?_) (fun c1 => absurd rfl c1)
    refine lv_iconst (v := -1) hx hb dX1_map_19 (by decide) ?_
    exact cm_iret (wo := cm_wX h0 a d) (σ := σ) C G hr hlk (by rw [show cm_spMap τ x y f w = (-1, τ) by simp only [cm_spMap, g1, g2]]; exact ⟨rfl, hR⟩) dX1_map_20
  refine lv_if_eq (tgt := 19) hx hb dX1_map_6 (by decide) (fun c1 => absurd c1 (by decide)) (fun c1 => ?_)
  refine lv_iload_n hx hb dX1_map_9 rfl (lv_at hl 3 rfl) ?_
  refine lv_if_lt (tgt := 19) hx hb dX1_map_10 (by decide) (fun c3n => ?_) (fun c3n => ?_)
  · skip
    refine lv_iconst (v := -1) hx hb dX1_map_19 (by decide) ?_
    exact cm_iret (wo := cm_wX h0 a d) (σ := σ) C G hr hlk (by rw [show cm_spMap τ (nI i1) (nI i2) f w = (-1, τ) by simp only [cm_spMap, cm_rg_lt hi1 (by omega), cm_rg_lt hi2 (by omega), cm_rg_neg c3n]]; exact ⟨rfl, hR⟩) dX1_map_20
  obtain ⟨i3, hi3, rfl⟩ := nI_of c3n
  refine lv_iload_n hx hb dX1_map_13 rfl (lv_at hl 3 rfl) ?_
  refine lv_bipush (v := nI 7) hx hb dX1_map_14 (by decide) ?_
  refine lv_icmp_le (tgt := 21) hx hb dX1_map_16 (by decide) (fun c3b => ?_) (fun c3b => ?_)
  rotate_left
  · skip
    have c3b : ¬ i3 ≤ 7 := fun q => c3b ((nI_leI (a := i3) (b := 7) (by omega) (by omega)).mpr q)
    refine lv_iconst (v := -1) hx hb dX1_map_19 (by decide) ?_
    exact cm_iret (wo := cm_wX h0 a d) (σ := σ) C G hr hlk (by rw [show cm_spMap τ (nI i1) (nI i2) (nI i3) w = (-1, τ) by simp only [cm_spMap, cm_rg_lt hi1 (by omega), cm_rg_lt hi2 (by omega), cm_rg_ge (n := 8) (by omega) hi3]]; exact ⟨rfl, hR⟩) dX1_map_20
  have c3b : i3 ≤ 7 := (nI_leI (a := i3) (b := 7) (by omega) (by omega)).mp c3b
  obtain ⟨n, n1, n4, h5, -⟩ := hR.2.1
  have hE := hR.1.2.2.2 (8 * i1 + i2) (by omega)
  refine lv_bipush (v := nI 8) hx hb dX1_map_21 (by decide) ?_
  refine lv_iload_n hx hb dX1_map_23 rfl (lv_at hl 1 rfl) ?_
  refine lv_imul hx hb dX1_map_24 ?_
  refine cm_top (pk_mul 8 i1) ?_
  refine lv_iload_n hx hb dX1_map_25 rfl (lv_at hl 2 rfl) ?_
  refine lv_iadd hx hb dX1_map_26 ?_
  refine cm_top (nI_add (8 * i1) i2) ?_
  refine lv_istore (lv' := [(5, .int (nI (8 * i1 + i2))), (0, .ref h0), (1, .int (nI i1)), (2, .int (nI i2)), (3, .int (nI i3)), (4, .int w)]) hx hb dX1_map_27 hl (by decide) rfl (fun ls hl => ?_)
  refine lv_aload_n hx hb dX1_map_29 rfl (lv_at hl 1 rfl) ?_
  refine cm_get1 C G 0 rfl 3 (by decide) q24 rfl (v := .ref (a 3)) rfl dX1_map_30 ?_
  refine lv_iload hx hb dX1_map_33 (lv_at hl 0 rfl) ?_
  refine cm_bald C G 2 1 rfl rfl (8 * i1 + i2) (by omega) (by decide) dX1_map_35 ?_
  refine lv_if_ge (tgt := 43) hx hb dX1_map_36 (by decide) (fun c4 => ?_) (fun c4 => ?_)
  · skip
    refine lv_iconst (v := 1) hx hb dX1_map_43 (by decide) ?_
    refine lv_istore (lv' := [(6, .int 1), (5, .int (nI (8 * i1 + i2))), (0, .ref h0), (1, .int (nI i1)), (2, .int (nI i2)), (3, .int (nI i3)), (4, .int w)]) hx hb dX1_map_44 hl (by decide) rfl (fun ls hl => ?_)
    refine lv_aload_n hx hb dX1_map_46 rfl (lv_at hl 2 rfl) ?_
    refine cm_get1 C G 0 rfl 3 (by decide) q24 rfl (v := .ref (a 3)) rfl dX1_map_47 ?_
    refine lv_iload hx hb dX1_map_50 (lv_at hl 1 rfl) ?_
    refine lv_iload_n hx hb dX1_map_52 rfl (lv_at hl 5 rfl) ?_
    refine lv_i2b (v := nI i3) hx hb dX1_map_53 (cm_byte (by omega)) ?_
    refine cm_bast C G 2 1 rfl rfl (8 * i1 + i2) (by omega) (by decide) (v := nI i3) (cm_narb (by omega)) (ws' := cm_wX h0 a d (cm_st σ 3 (8 * i1 + i2) (nI i3))) rfl dX1_map_54 (fun H locs G => ?_)
    refine lv_aload_n hx hb dX1_map_55 rfl (lv_at hl 2 rfl) ?_
    refine cm_get1 C G 0 rfl 4 (by decide) q25 rfl (v := .ref (a 4)) rfl dX1_map_56 ?_
    refine lv_iload hx hb dX1_map_59 (lv_at hl 1 rfl) ?_
    refine lv_iload hx hb dX1_map_61 (lv_at hl 6 rfl) ?_
    refine cm_zast C G 3 2 rfl rfl (8 * i1 + i2) (by omega) (by decide) (v := w) (cm_narz hw) (ws' := cm_wX h0 a d (cm_st (cm_st σ 3 (8 * i1 + i2) (nI i3)) 4 (8 * i1 + i2) w)) rfl dX1_map_63 (fun H locs G => ?_)
    refine lv_aload_n hx hb dX1_map_64 rfl (lv_at hl 2 rfl) ?_
    refine lv_iload hx hb dX1_map_65 (lv_at hl 1 rfl) ?_
    refine cm_selfv (q := (RX1, TX1, 15)) (ci := 0) (rest := []) C hml hA G hl.1 (cm_X1_forget l D h0 a d (cm_st (cm_st σ 3 (8 * i1 + i2) (nI i3)) 4 (8 * i1 + i2) w) (8 * i1 + i2) n (by omega) n4 h5) rfl rfl (cwV 1 C.2.2.1 (lw_V q82 q84 qs1 q11 q85) rfl rfl rfl (by decide +kernel) ⟨Nat.le_of_ble_eq_true rfl, Nat.le_of_ble_eq_true rfl⟩) rfl rfl (Nat.le_of_ble_eq_true rfl) dX1_map_67 ⟨Nat.zero_le _, Nat.zero_le _⟩ (fun σ1 H locs hp G => ?_)
    refine lv_iload hx hb dX1_map_70 (lv_at hl 0 rfl) ?_
    exact cm_iret (wo := cm_wX h0 a d) (σ := σ1) C G hr hlk (by rw [cm_spMap_at hi1 hi2 (by omega)]; exact ⟨((if_neg (by rw [hE.1]; exact cm_nlt c4)).symm), cm_ent (σ' := σ1) (e := 8 * i1 + i2) (x := nI i3) (y := w) (by omega) hR h5 n4 (Or.inr ⟨i3, by omega, rfl⟩) hw (h := fun k a1 a2 a3 => (hp.1 k a3).trans ((cm_st_ne a2).trans (cm_st_ne a1))) (h3 := fun j => by rw [hp.1 3 (by decide)]; rfl) (h4 := fun j => by rw [hp.1 4 (by decide)]; rfl) (h6 := fun j => hp.2 j) (t := fun k a1 a2 => (cm_st_ne a2).trans (cm_st_ne a1)) (t1 := fun _ => rfl) (t2 := fun _ => rfl)⟩) dX1_map_72
  refine lv_iconst (v := 0) hx hb dX1_map_39 (by decide) ?_
  refine lv_goto (tgt := 44) hx hb dX1_map_40 (by decide) ?_
  refine lv_istore (lv' := [(6, .int 0), (5, .int (nI (8 * i1 + i2))), (0, .ref h0), (1, .int (nI i1)), (2, .int (nI i2)), (3, .int (nI i3)), (4, .int w)]) hx hb dX1_map_44 hl (by decide) rfl (fun ls hl => ?_)
  refine lv_aload_n hx hb dX1_map_46 rfl (lv_at hl 2 rfl) ?_
  refine cm_get1 C G 0 rfl 3 (by decide) q24 rfl (v := .ref (a 3)) rfl dX1_map_47 ?_
  refine lv_iload hx hb dX1_map_50 (lv_at hl 1 rfl) ?_
  refine lv_iload_n hx hb dX1_map_52 rfl (lv_at hl 5 rfl) ?_
  refine lv_i2b (v := nI i3) hx hb dX1_map_53 (cm_byte (by omega)) ?_
  refine cm_bast C G 2 1 rfl rfl (8 * i1 + i2) (by omega) (by decide) (v := nI i3) (cm_narb (by omega)) (ws' := cm_wX h0 a d (cm_st σ 3 (8 * i1 + i2) (nI i3))) rfl dX1_map_54 (fun H locs G => ?_)
  refine lv_aload_n hx hb dX1_map_55 rfl (lv_at hl 2 rfl) ?_
  refine cm_get1 C G 0 rfl 4 (by decide) q25 rfl (v := .ref (a 4)) rfl dX1_map_56 ?_
  refine lv_iload hx hb dX1_map_59 (lv_at hl 1 rfl) ?_
  refine lv_iload hx hb dX1_map_61 (lv_at hl 6 rfl) ?_
  refine cm_zast C G 3 2 rfl rfl (8 * i1 + i2) (by omega) (by decide) (v := w) (cm_narz hw) (ws' := cm_wX h0 a d (cm_st (cm_st σ 3 (8 * i1 + i2) (nI i3)) 4 (8 * i1 + i2) w)) rfl dX1_map_63 (fun H locs G => ?_)
  refine lv_aload_n hx hb dX1_map_64 rfl (lv_at hl 2 rfl) ?_
  refine lv_iload hx hb dX1_map_65 (lv_at hl 1 rfl) ?_
  refine cm_selfv (q := (RX1, TX1, 15)) (ci := 0) (rest := []) C hml hA G hl.1 (cm_X1_forget l D h0 a d (cm_st (cm_st σ 3 (8 * i1 + i2) (nI i3)) 4 (8 * i1 + i2) w) (8 * i1 + i2) n (by omega) n4 h5) rfl rfl (cwV 1 C.2.2.1 (lw_V q82 q84 qs1 q11 q85) rfl rfl rfl (by decide +kernel) ⟨Nat.le_of_ble_eq_true rfl, Nat.le_of_ble_eq_true rfl⟩) rfl rfl (Nat.le_of_ble_eq_true rfl) dX1_map_67 ⟨Nat.zero_le _, Nat.zero_le _⟩ (fun σ1 H locs hp G => ?_)
  refine lv_iload hx hb dX1_map_70 (lv_at hl 0 rfl) ?_
  exact cm_iret (wo := cm_wX h0 a d) (σ := σ1) C G hr hlk (by rw [cm_spMap_at hi1 hi2 (by omega)]; exact ⟨((if_pos (by rw [hE.1]; exact cm_ltz c4)).symm), cm_ent (σ' := σ1) (e := 8 * i1 + i2) (x := nI i3) (y := w) (by omega) hR h5 n4 (Or.inr ⟨i3, by omega, rfl⟩) hw (h := fun k a1 a2 a3 => (hp.1 k a3).trans ((cm_st_ne a2).trans (cm_st_ne a1))) (h3 := fun j => by rw [hp.1 3 (by decide)]; rfl) (h4 := fun j => by rw [hp.1 4 (by decide)]; rfl) (h6 := fun j => hp.2 j) (t := fun k a1 a2 => (cm_st_ne a2).trans (cm_st_ne a1)) (t1 := fun _ => rfl) (t2 := fun _ => rfl)⟩) dX1_map_72
set_option maxHeartbeats 4000000 in
/-- X1.unmap -/
theorem cm_X1_unmap (l : Launch) (D : va_G) (h0 : Nat) (a : Nat → Nat) (d : Nat → ClassId) (σ : cm_St) (x y : Int32) (τ : cm_St) (hR : cm_R σ τ) : cm_Mi l D yX1_unmap (ws_ yX1_unmap cX1_unmap 4 (some .int)) ({ frames := 1, cells := 0, slots := 0, locals := 22 }) (cm_tX d) (cm_wX h0 a d) h0 [.int x, .int y] σ (fun r σ' => r = (cm_spUnmap τ x y).1 ∧ cm_R σ' (cm_spUnmap τ x y).2) := by
  refine cm_startI (by decide) (Nat.le_of_ble_eq_true rfl) ?_
  intro p e s m below meth c A ls C hr hlk hml hA G hl
  have hx := C.1
  have hb := C.2.1
  have hl : lv_has ls 4 [(0, .ref h0), (1, .int x), (2, .int y)] := hl
  refine lv_aload_n hx hb dX1_unmap_0 rfl (lv_at hl 0 rfl) ?_
  refine lv_iload_n hx hb dX1_unmap_1 rfl (lv_at hl 1 rfl) ?_
  refine lv_iload_n hx hb dX1_unmap_2 rfl (lv_at hl 2 rfl) ?_
  refine cm_selfi (q := (RX1, TX1, 15)) (ci := 0) (rest := []) C hml hA G hl.1 (cm_X1_isPage l D h0 a d σ x y) rfl rfl (cwV 2 C.2.2.1 (lw_V q78 q80 qs0 q11 q81) rfl rfl rfl (by decide +kernel) ⟨Nat.le_of_ble_eq_true rfl, Nat.le_of_ble_eq_true rfl⟩) rfl rfl (Nat.le_of_ble_eq_true rfl) dX1_unmap_3 ⟨Nat.zero_le _, Nat.zero_le _⟩ (fun r σ1 H locs hp G => ?_)
  obtain ⟨hs, hp⟩ := hp
  rw [hs] at G
  rcases hp with ⟨rfl, g⟩ | ⟨rfl, ⟨i, g1⟩, g2⟩ | ⟨rfl, i1, i2, hi1, hi2, rfl, rfl⟩
  · skip
    refine lv_if_ne (tgt := 11) hx hb dX1_unmap_6 (by decide) (fun c1 => absurd rfl c1) (fun c1 => ?_)
    refine lv_iconst (v := -1) hx hb dX1_unmap_9 (by decide) ?_
    exact cm_iret (wo := cm_wX h0 a d) (σ := σ) C G hr hlk (by rw [show cm_spUnmap τ x y = (-1, τ) by simp only [cm_spUnmap, g]]; exact ⟨rfl, hR⟩) dX1_unmap_10
  · skip
    refine lv_if_ne (tgt := 11) hx hb dX1_unmap_6 (by decide) (fun c1 => absurd rfl c1) (fun c1 => ?_)
    refine lv_iconst (v := -1) hx hb dX1_unmap_9 (by decide) ?_
    exact cm_iret (wo := cm_wX h0 a d) (σ := σ) C G hr hlk (by rw [show cm_spUnmap τ x y = (-1, τ) by simp only [cm_spUnmap, g1, g2]]; exact ⟨rfl, hR⟩) dX1_unmap_10
  refine lv_if_ne (tgt := 11) hx hb dX1_unmap_6 (by decide) (fun c1 => ?_) (fun c1 => absurd c1 (by decide))
  obtain ⟨n, n1, n4, h5, -⟩ := hR.2.1
  have hE := hR.1.2.2.2 (8 * i1 + i2) (by omega)
  refine lv_bipush (v := nI 8) hx hb dX1_unmap_11 (by decide) ?_
  refine lv_iload_n hx hb dX1_unmap_13 rfl (lv_at hl 1 rfl) ?_
  refine lv_imul hx hb dX1_unmap_14 ?_
  refine cm_top (pk_mul 8 i1) ?_
  refine lv_iload_n hx hb dX1_unmap_15 rfl (lv_at hl 2 rfl) ?_
  refine lv_iadd hx hb dX1_unmap_16 ?_
  refine cm_top (nI_add (8 * i1) i2) ?_
  refine lv_istore_n (lv' := [(3, .int (nI (8 * i1 + i2))), (0, .ref h0), (1, .int (nI i1)), (2, .int (nI i2))]) hx hb dX1_unmap_17 rfl hl (by decide) rfl (fun ls hl => ?_)
  refine lv_aload_n hx hb dX1_unmap_18 rfl (lv_at hl 1 rfl) ?_
  refine cm_get1 C G 0 rfl 3 (by decide) q24 rfl (v := .ref (a 3)) rfl dX1_unmap_19 ?_
  refine lv_iload_n hx hb dX1_unmap_22 rfl (lv_at hl 0 rfl) ?_
  refine cm_bald C G 2 1 rfl rfl (8 * i1 + i2) (by omega) (by decide) dX1_unmap_23 ?_
  refine lv_if_ge (tgt := 30) hx hb dX1_unmap_24 (by decide) (fun c4 => ?_) (fun c4 => ?_)
  rotate_left
  · skip
    refine lv_bipush (v := -2) hx hb dX1_unmap_27 (by decide) ?_
    exact cm_iret (wo := cm_wX h0 a d) (σ := σ) C G hr hlk (by rw [cm_spUnmap_at hi1 hi2, if_pos (by rw [hE.1]; exact cm_ltz c4)]; exact ⟨rfl, hR⟩) dX1_unmap_29
  refine lv_aload_n hx hb dX1_unmap_30 rfl (lv_at hl 1 rfl) ?_
  refine cm_get1 C G 0 rfl 3 (by decide) q24 rfl (v := .ref (a 3)) rfl dX1_unmap_31 ?_
  refine lv_iload_n hx hb dX1_unmap_34 rfl (lv_at hl 0 rfl) ?_
  refine lv_iconst (v := -1) hx hb dX1_unmap_35 (by decide) ?_
  refine cm_bast C G 2 1 rfl rfl (8 * i1 + i2) (by omega) (by decide) (v := -1) cm_narbm (ws' := cm_wX h0 a d (cm_st σ 3 (8 * i1 + i2) (-1))) rfl dX1_unmap_36 (fun H locs G => ?_)
  refine lv_aload_n hx hb dX1_unmap_37 rfl (lv_at hl 1 rfl) ?_
  refine lv_iload_n hx hb dX1_unmap_38 rfl (lv_at hl 0 rfl) ?_
  refine cm_selfv (q := (RX1, TX1, 15)) (ci := 0) (rest := []) C hml hA G hl.1 (cm_X1_forget l D h0 a d (cm_st σ 3 (8 * i1 + i2) (-1)) (8 * i1 + i2) n (by omega) n4 h5) rfl rfl (cwV 1 C.2.2.1 (lw_V q82 q84 qs1 q11 q85) rfl rfl rfl (by decide +kernel) ⟨Nat.le_of_ble_eq_true rfl, Nat.le_of_ble_eq_true rfl⟩) rfl rfl (Nat.le_of_ble_eq_true rfl) dX1_unmap_39 ⟨Nat.zero_le _, Nat.zero_le _⟩ (fun σ1 H locs hp G => ?_)
  refine lv_iconst (v := 0) hx hb dX1_unmap_42 (by decide) ?_
  exact cm_iret (wo := cm_wX h0 a d) (σ := σ1) C G hr hlk (by rw [cm_spUnmap_at hi1 hi2, if_neg (by rw [hE.1]; exact cm_nlt c4)]; exact ⟨rfl, cm_ent (σ' := σ1) (e := 8 * i1 + i2) (x := -1) (y := σ 4 (8 * i1 + i2)) (by omega) hR h5 n4 (Or.inl rfl) hE.2.2.2 (h := fun k a1 a2 a3 => (hp.1 k a3).trans (cm_st_ne a1)) (h3 := fun j => by rw [hp.1 3 (by decide)]; rfl) (h4 := fun j => by rw [hp.1 4 (by decide)]; exact cm_self rfl j) (h6 := fun j => hp.2 j) (t := fun k a1 a2 => cm_st_ne a1) (t1 := fun _ => rfl) (t2 := fun j => (cm_self hE.2.1 j))⟩) dX1_unmap_43
set_option maxHeartbeats 4000000 in
/-- X1.protect -/
theorem cm_X1_protect (l : Launch) (D : va_G) (h0 : Nat) (a : Nat → Nat) (d : Nat → ClassId) (σ : cm_St) (x : Int32) (τ : cm_St) (hR : cm_R σ τ) : cm_Mi l D yX1_protect (ws_ yX1_protect cX1_protect 4 (some .int)) ({ frames := 1, cells := 0, slots := 0, locals := 22 }) (cm_tX d) (cm_wX h0 a d) h0 [.int x] σ (fun r σ' => r = (cm_spProtect τ x).1 ∧ cm_R σ' (cm_spProtect τ x).2) := by
  refine cm_startI (by decide) (Nat.le_of_ble_eq_true rfl) ?_
  intro p e s m below meth c A ls C hr hlk hml hA G hl
  have hx := C.1
  have hb := C.2.1
  have hl : lv_has ls 4 [(0, .ref h0), (1, .int x)] := hl
  refine lv_iload_n hx hb dX1_protect_0 rfl (lv_at hl 1 rfl) ?_
  refine lv_if_lt (tgt := 10) hx hb dX1_protect_1 (by decide) (fun c1n => ?_) (fun c1n => ?_)
  · skip
    refine lv_iconst (v := -1) hx hb dX1_protect_10 (by decide) ?_
    exact cm_iret (wo := cm_wX h0 a d) (σ := σ) C G hr hlk (by rw [show cm_spProtect τ x = (-1, τ) by simp only [cm_spProtect, cm_rg_neg c1n]]; exact ⟨rfl, hR⟩) dX1_protect_11
  obtain ⟨i1, hi1, rfl⟩ := nI_of c1n
  refine lv_iload_n hx hb dX1_protect_4 rfl (lv_at hl 1 rfl) ?_
  refine lv_bipush (v := nI 7) hx hb dX1_protect_5 (by decide) ?_
  refine lv_icmp_le (tgt := 12) hx hb dX1_protect_7 (by decide) (fun c1b => ?_) (fun c1b => ?_)
  rotate_left
  · skip
    have c1b : ¬ i1 ≤ 7 := fun q => c1b ((nI_leI (a := i1) (b := 7) (by omega) (by omega)).mpr q)
    refine lv_iconst (v := -1) hx hb dX1_protect_10 (by decide) ?_
    exact cm_iret (wo := cm_wX h0 a d) (σ := σ) C G hr hlk (by rw [show cm_spProtect τ (nI i1) = (-1, τ) by simp only [cm_spProtect, cm_rg_ge (n := 8) (by omega) hi1]]; exact ⟨rfl, hR⟩) dX1_protect_11
  have c1b : i1 ≤ 7 := (nI_leI (a := i1) (b := 7) (by omega) (by omega)).mp c1b
  refine lv_iconst (v := nI 0) hx hb dX1_protect_12 (by decide) ?_
  refine lv_istore_n (lv' := [(2, .int (nI 0)), (0, .ref h0), (1, .int (nI i1))]) hx hb dX1_protect_13 rfl hl (by decide) rfl (fun ls hl => ?_)
  refine lv_iconst (v := nI 0) hx hb dX1_protect_14 (by decide) ?_
  refine lv_istore_n (lv' := [(3, .int (nI 0)), (2, .int (nI 0)), (0, .ref h0), (1, .int (nI i1))]) hx hb dX1_protect_15 rfl hl (by decide) rfl (fun ls hl => ?_)
  refine cm_loop (I := fun i u => u.1 = (cm_prot τ (nI i1) i).1 ∧ cm_R u.2 (cm_prot τ (nI i1) i).2) (wo := fun u : Int32 × cm_St => cm_wX h0 a d u.2) (lv := fun i u => [(3, .int (nI i)), (2, .int u.1), (0, .ref h0), (1, .int (nI i1))]) (N := 32) ?_ ?_ 0 (nI 0, σ) _ _ _ (Nat.zero_le _) (⟨rfl, hR⟩) G hl
  · skip
    intro u H locs ls hI G hl
    obtain ⟨q, u⟩ := u
    have hq : q = (cm_prot τ (nI i1) 32).1 := hI.1
    have hRi : cm_R u (cm_prot τ (nI i1) 32).2 := hI.2
    have G : cm_G D A s.heap (cm_wX h0 a d u) H locs := G
    have hl : lv_has ls 4 [(3, .int (nI 32)), (2, .int q), (0, .ref h0), (1, .int (nI i1))] := hl
    refine lv_iload_n hx hb dX1_protect_16 rfl (lv_at hl 0 rfl) ?_
    refine lv_bipush (v := nI 32) hx hb dX1_protect_17 (by decide) ?_
    refine lv_icmp_ge (tgt := 65) hx hb dX1_protect_19 (by decide) (fun c2 => ?_) (fun c2 => by have c2 : ¬ 32 ≤ 32 := fun q => c2 ((nI_leI (a := 32) (b := 32) (by omega) (by omega)).mpr q); omega)
    have c2 : 32 ≤ 32 := (nI_leI (a := 32) (b := 32) (by omega) (by omega)).mp c2
    refine lv_iload_n hx hb dX1_protect_65 rfl (lv_at hl 1 rfl) ?_
    exact cm_iret (wo := cm_wX h0 a d) (σ := u) C G hr hlk (by rw [cm_spProtect_at (by omega)]; exact ⟨hq, hRi⟩) dX1_protect_66
  · skip
    intro i u H locs ls hi hI G hl ih
    obtain ⟨q, u⟩ := u
    have hq : q = (cm_prot τ (nI i1) i).1 := hI.1
    have hRi : cm_R u (cm_prot τ (nI i1) i).2 := hI.2
    have G : cm_G D A s.heap (cm_wX h0 a d u) H locs := G
    have hl : lv_has ls 4 [(3, .int (nI i)), (2, .int q), (0, .ref h0), (1, .int (nI i1))] := hl
    obtain ⟨n, n1, n4, h5, -⟩ := hRi.2.1
    have hE := hRi.1.2.2.2 i hi
    refine lv_iload_n hx hb dX1_protect_16 rfl (lv_at hl 0 rfl) ?_
    refine lv_bipush (v := nI 32) hx hb dX1_protect_17 (by decide) ?_
    refine lv_icmp_ge (tgt := 65) hx hb dX1_protect_19 (by decide) (fun c2 => by have c2 : 32 ≤ i := (nI_leI (a := 32) (b := i) (by omega) (by omega)).mp c2; omega) (fun c2 => ?_)
    have c2 : ¬ 32 ≤ i := fun q => c2 ((nI_leI (a := 32) (b := i) (by omega) (by omega)).mpr q)
    refine lv_aload_n hx hb dX1_protect_22 rfl (lv_at hl 2 rfl) ?_
    refine cm_get1 C G 0 rfl 3 (by decide) q24 rfl (v := .ref (a 3)) rfl dX1_protect_23 ?_
    refine lv_iload_n hx hb dX1_protect_26 rfl (lv_at hl 0 rfl) ?_
    refine cm_bald C G 2 1 rfl rfl i (by omega) (by decide) dX1_protect_27 ?_
    refine lv_iload_n hx hb dX1_protect_28 rfl (lv_at hl 3 rfl) ?_
    refine lv_icmp_ne (tgt := 59) hx hb dX1_protect_29 (by decide) (fun c3 => ?_) (fun c3 => ?_)
    · skip
      refine lv_iinc (v := nI (i + 1)) (lv' := [(3, .int (nI (i + 1))), (2, .int q), (0, .ref h0), (1, .int (nI i1))]) hx hb dX1_protect_59 hl (k := 0) rfl (cm_inc i) (by decide) rfl (fun ls hl => ?_)
      refine lv_goto (tgt := 16) hx hb dX1_protect_62 (by decide) ?_
      exact ih (q, u) _ _ _ (by rw [cm_prot_skip (by rw [hE.1]; exact c3)]; exact ⟨hq, hRi⟩) G hl
    refine lv_aload_n hx hb dX1_protect_32 rfl (lv_at hl 2 rfl) ?_
    refine cm_get1 C G 0 rfl 4 (by decide) q25 rfl (v := .ref (a 4)) rfl dX1_protect_33 ?_
    refine lv_iload_n hx hb dX1_protect_36 rfl (lv_at hl 0 rfl) ?_
    refine cm_zald C G 3 2 rfl rfl i (by omega) (by decide) dX1_protect_37 ?_
    refine lv_if_ne (tgt := 44) hx hb dX1_protect_38 (by decide) (fun c4 => ?_) (fun c4 => ?_)
    rotate_left
    · skip
      refine lv_goto (tgt := 59) hx hb dX1_protect_41 (by decide) ?_
      refine lv_iinc (v := nI (i + 1)) (lv' := [(3, .int (nI (i + 1))), (2, .int q), (0, .ref h0), (1, .int (nI i1))]) hx hb dX1_protect_59 hl (k := 0) rfl (cm_inc i) (by decide) rfl (fun ls hl => ?_)
      refine lv_goto (tgt := 16) hx hb dX1_protect_62 (by decide) ?_
      exact ih (q, u) _ _ _ (by rw [cm_prot_zero (by rw [hE.1]; exact c3) (by rw [hE.2.1]; exact c4)]; exact ⟨hq, cm_R_noop hRi (by rw [hE.2.1]; exact c4)⟩) G hl
    refine lv_aload_n hx hb dX1_protect_44 rfl (lv_at hl 2 rfl) ?_
    refine cm_get1 C G 0 rfl 4 (by decide) q25 rfl (v := .ref (a 4)) rfl dX1_protect_45 ?_
    refine lv_iload_n hx hb dX1_protect_48 rfl (lv_at hl 0 rfl) ?_
    refine lv_iconst (v := 0) hx hb dX1_protect_49 (by decide) ?_
    refine cm_zast C G 3 2 rfl rfl i (by omega) (by decide) (v := 0) cm_narz0 (ws' := cm_wX h0 a d (cm_st u 4 i 0)) rfl dX1_protect_50 (fun H locs G => ?_)
    refine lv_aload_n hx hb dX1_protect_51 rfl (lv_at hl 2 rfl) ?_
    refine lv_iload_n hx hb dX1_protect_52 rfl (lv_at hl 0 rfl) ?_
    refine cm_selfv (q := (RX1, TX1, 15)) (ci := 0) (rest := []) C hml hA G hl.1 (cm_X1_forget l D h0 a d (cm_st u 4 i 0) i n hi n4 h5) rfl rfl (cwV 1 C.2.2.1 (lw_V q82 q84 qs1 q11 q85) rfl rfl rfl (by decide +kernel) ⟨Nat.le_of_ble_eq_true rfl, Nat.le_of_ble_eq_true rfl⟩) rfl rfl (Nat.le_of_ble_eq_true rfl) dX1_protect_53 ⟨Nat.zero_le _, Nat.zero_le _⟩ (fun σ1 H locs hp G => ?_)
    refine lv_iinc (v := q + 1) (lv' := [(2, .int (q + 1)), (3, .int (nI i)), (0, .ref h0), (1, .int (nI i1))]) hx hb dX1_protect_56 hl (k := 1) rfl rfl (by decide) rfl (fun ls hl => ?_)
    refine lv_iinc (v := nI (i + 1)) (lv' := [(3, .int (nI (i + 1))), (2, .int (q + 1)), (0, .ref h0), (1, .int (nI i1))]) hx hb dX1_protect_59 hl (k := 1) rfl (cm_inc i) (by decide) rfl (fun ls hl => ?_)
    refine lv_goto (tgt := 16) hx hb dX1_protect_62 (by decide) ?_
    refine ih (q + 1, σ1) _ _ _ ?_ G hl
    rw [cm_prot_one (by rw [hE.1]; exact c3) (by rw [hE.2.1]; exact c4)]
    show q + 1 = _ ∧ cm_R σ1 _
    exact ⟨by rw [hq], cm_ent (σ' := σ1) (e := i) (x := u 3 i) (y := 0) hi hRi h5 n4 hE.2.2.1 (Or.inl rfl) (h := fun k a1 a2 a3 => (hp.1 k a3).trans (cm_st_ne a2)) (h3 := fun j => by rw [hp.1 3 (by decide)]; exact cm_self rfl j) (h4 := fun j => by rw [hp.1 4 (by decide)]; rfl) (h6 := fun j => hp.2 j) (t := fun k a1 a2 => cm_st_ne a2) (t1 := fun j => cm_self hE.1 j) (t2 := fun _ => rfl)⟩
end
section
/-! contracts of the reference (printed by gen3.py) -/
set_option maxRecDepth 100000
theorem cm_rg_cases (x : Int32) (n : Nat) : cm_rg x n = none ∨ ∃ j, j < n ∧ x = nI j := by
  by_cases h : x < 0
  · exact Or.inl (cm_rg_neg h)
  · obtain ⟨j, hj, rfl⟩ := nI_of h
    by_cases hn : j < n
    · exact Or.inr ⟨j, hn, rfl⟩
    · exact Or.inl (cm_rg_ge (by omega) hj)
theorem cm_tr_cases {τ : cm_St} (hM : cm_WM τ) (x : Int32) : cm_rg x 64 = none ∨ ∃ j c, j < 64 ∧ c < 4 ∧ x = nI j ∧ τ 3 0 = nI c ∧ (τ 1 (8 * c + j / 8) = -1 ∨ ∃ f, f < 8 ∧ τ 1 (8 * c + j / 8) = nI f) := by
  obtain ⟨⟨c, hc, h3⟩, hF⟩ := hM
  rcases cm_rg_cases x 64 with h | ⟨j, hj, e⟩
  · exact Or.inl h
  · exact Or.inr ⟨j, c, hj, hc, e, h3, hF _ (by omega)⟩
theorem cm_add_eq {τ : cm_St} {c j f : Nat} {v : Int32} (hj : j < 64) (hc : c < 4) (h : τ 3 0 = nI c) (hf : f < 8) (h2 : τ 1 (8 * c + j / 8) = nI f) : cm_spChange τ (nI j) (τ 0 (8 * f + j % 8) + v) 0 = cm_spChange τ (nI j) v 1 := by
  by_cases h3 : τ 2 (8 * c + j / 8) = 0
  · rw [cm_spChange_ro hj hc h hf h2 h3, cm_spChange_ro hj hc h hf h2 h3]
  · rw [cm_spChange_hit hj hc h hf h2 h3, cm_spChange_hit hj hc h hf h2 h3, if_pos rfl, if_neg (by decide)]
set_option maxHeartbeats 4000000 in
/-- X2.isSpace -/
theorem cm_X2_isSpace (l : Launch) (D : va_G) (h0 : Nat) (a : Nat → Nat) (d : Nat → ClassId) (τ : cm_St) (x : Int32) : cm_Mi l D yX2_isSpace (ws_ yX2_isSpace cX2_isSpace 2 (some .boolean)) ({ frames := 0, cells := 0, slots := 0, locals := 0 }) (cm_tM d) (cm_wM h0 a d) h0 [.int x] τ (fun r τ' => τ' = τ ∧ ((r = 0 ∧ cm_rg x 4 = none) ∨ (r = 1 ∧ ∃ i, i < 4 ∧ x = nI i))) := by
  refine cm_startI (by decide) (Nat.le_of_ble_eq_true rfl) ?_
  intro p e s m below meth c A ls C hr hlk hml hA G hl
  have hx := C.1
  have hb := C.2.1
  have hl : lv_has ls 2 [(0, .ref h0), (1, .int x)] := hl
  refine lv_iload_n hx hb dX2_isSpace_0 rfl (lv_at hl 1 rfl) ?_
  refine lv_if_lt (tgt := 13) hx hb dX2_isSpace_1 (by decide) (fun c1n => ?_) (fun c1n => ?_)
  · skip
    refine lv_iconst (v := 0) hx hb dX2_isSpace_13 (by decide) ?_
    exact cm_zret (wo := cm_wM h0 a d) (σ := τ) C G hr hlk rfl (⟨rfl, Or.inl ⟨rfl, cm_rg_neg c1n⟩⟩) dX2_isSpace_14
  obtain ⟨i1, hi1, rfl⟩ := nI_of c1n
  refine lv_iload_n hx hb dX2_isSpace_4 rfl (lv_at hl 1 rfl) ?_
  refine lv_iconst (v := nI 3) hx hb dX2_isSpace_5 (by decide) ?_
  refine lv_icmp_gt (tgt := 13) hx hb dX2_isSpace_6 (by decide) (fun c1b => ?_) (fun c1b => ?_)
  · skip
    have c1b : 3 < i1 := (nI_ltI (a := 3) (b := i1) (by omega) (by omega)).mp c1b
    refine lv_iconst (v := 0) hx hb dX2_isSpace_13 (by decide) ?_
    exact cm_zret (wo := cm_wM h0 a d) (σ := τ) C G hr hlk rfl (⟨rfl, Or.inl ⟨rfl, cm_rg_ge (n := 4) (by omega) hi1⟩⟩) dX2_isSpace_14
  have c1b : ¬ 3 < i1 := fun q => c1b ((nI_ltI (a := 3) (b := i1) (by omega) (by omega)).mpr q)
  refine lv_iconst (v := 1) hx hb dX2_isSpace_9 (by decide) ?_
  refine lv_goto (tgt := 14) hx hb dX2_isSpace_10 (by decide) ?_
  exact cm_zret (wo := cm_wM h0 a d) (σ := τ) C G hr hlk rfl (⟨rfl, Or.inr ⟨rfl, i1, by omega, rfl⟩⟩) dX2_isSpace_14
set_option maxHeartbeats 4000000 in
/-- X2.isPage -/
theorem cm_X2_isPage (l : Launch) (D : va_G) (h0 : Nat) (a : Nat → Nat) (d : Nat → ClassId) (τ : cm_St) (x : Int32) : cm_Mi l D yX2_isPage (ws_ yX2_isPage cX2_isPage 2 (some .boolean)) ({ frames := 0, cells := 0, slots := 0, locals := 0 }) (cm_tM d) (cm_wM h0 a d) h0 [.int x] τ (fun r τ' => τ' = τ ∧ ((r = 0 ∧ cm_rg x 8 = none) ∨ (r = 1 ∧ ∃ i, i < 8 ∧ x = nI i))) := by
  refine cm_startI (by decide) (Nat.le_of_ble_eq_true rfl) ?_
  intro p e s m below meth c A ls C hr hlk hml hA G hl
  have hx := C.1
  have hb := C.2.1
  have hl : lv_has ls 2 [(0, .ref h0), (1, .int x)] := hl
  refine lv_iload_n hx hb dX2_isPage_0 rfl (lv_at hl 1 rfl) ?_
  refine lv_if_lt (tgt := 14) hx hb dX2_isPage_1 (by decide) (fun c1n => ?_) (fun c1n => ?_)
  · skip
    refine lv_iconst (v := 0) hx hb dX2_isPage_14 (by decide) ?_
    exact cm_zret (wo := cm_wM h0 a d) (σ := τ) C G hr hlk rfl (⟨rfl, Or.inl ⟨rfl, cm_rg_neg c1n⟩⟩) dX2_isPage_15
  obtain ⟨i1, hi1, rfl⟩ := nI_of c1n
  refine lv_iload_n hx hb dX2_isPage_4 rfl (lv_at hl 1 rfl) ?_
  refine lv_bipush (v := nI 7) hx hb dX2_isPage_5 (by decide) ?_
  refine lv_icmp_gt (tgt := 14) hx hb dX2_isPage_7 (by decide) (fun c1b => ?_) (fun c1b => ?_)
  · skip
    have c1b : 7 < i1 := (nI_ltI (a := 7) (b := i1) (by omega) (by omega)).mp c1b
    refine lv_iconst (v := 0) hx hb dX2_isPage_14 (by decide) ?_
    exact cm_zret (wo := cm_wM h0 a d) (σ := τ) C G hr hlk rfl (⟨rfl, Or.inl ⟨rfl, cm_rg_ge (n := 8) (by omega) hi1⟩⟩) dX2_isPage_15
  have c1b : ¬ 7 < i1 := fun q => c1b ((nI_ltI (a := 7) (b := i1) (by omega) (by omega)).mpr q)
  refine lv_iconst (v := 1) hx hb dX2_isPage_10 (by decide) ?_
  refine lv_goto (tgt := 15) hx hb dX2_isPage_11 (by decide) ?_
  exact cm_zret (wo := cm_wM h0 a d) (σ := τ) C G hr hlk rfl (⟨rfl, Or.inr ⟨rfl, i1, by omega, rfl⟩⟩) dX2_isPage_15
set_option maxHeartbeats 4000000 in
/-- X2.isWord -/
theorem cm_X2_isWord (l : Launch) (D : va_G) (h0 : Nat) (a : Nat → Nat) (d : Nat → ClassId) (τ : cm_St) (x : Int32) : cm_Mi l D yX2_isWord (ws_ yX2_isWord cX2_isWord 2 (some .boolean)) ({ frames := 0, cells := 0, slots := 0, locals := 0 }) (cm_tM d) (cm_wM h0 a d) h0 [.int x] τ (fun r τ' => τ' = τ ∧ ((r = 0 ∧ cm_rg x 64 = none) ∨ (r = 1 ∧ ∃ i, i < 64 ∧ x = nI i))) := by
  refine cm_startI (by decide) (Nat.le_of_ble_eq_true rfl) ?_
  intro p e s m below meth c A ls C hr hlk hml hA G hl
  have hx := C.1
  have hb := C.2.1
  have hl : lv_has ls 2 [(0, .ref h0), (1, .int x)] := hl
  refine lv_iload_n hx hb dX2_isWord_0 rfl (lv_at hl 1 rfl) ?_
  refine lv_if_lt (tgt := 14) hx hb dX2_isWord_1 (by decide) (fun c1n => ?_) (fun c1n => ?_)
  · skip
    refine lv_iconst (v := 0) hx hb dX2_isWord_14 (by decide) ?_
    exact cm_zret (wo := cm_wM h0 a d) (σ := τ) C G hr hlk rfl (⟨rfl, Or.inl ⟨rfl, cm_rg_neg c1n⟩⟩) dX2_isWord_15
  obtain ⟨i1, hi1, rfl⟩ := nI_of c1n
  refine lv_iload_n hx hb dX2_isWord_4 rfl (lv_at hl 1 rfl) ?_
  refine lv_bipush (v := nI 63) hx hb dX2_isWord_5 (by decide) ?_
  refine lv_icmp_gt (tgt := 14) hx hb dX2_isWord_7 (by decide) (fun c1b => ?_) (fun c1b => ?_)
  · skip
    have c1b : 63 < i1 := (nI_ltI (a := 63) (b := i1) (by omega) (by omega)).mp c1b
    refine lv_iconst (v := 0) hx hb dX2_isWord_14 (by decide) ?_
    exact cm_zret (wo := cm_wM h0 a d) (σ := τ) C G hr hlk rfl (⟨rfl, Or.inl ⟨rfl, cm_rg_ge (n := 64) (by omega) hi1⟩⟩) dX2_isWord_15
  have c1b : ¬ 63 < i1 := fun q => c1b ((nI_ltI (a := 63) (b := i1) (by omega) (by omega)).mpr q)
  refine lv_iconst (v := 1) hx hb dX2_isWord_10 (by decide) ?_
  refine lv_goto (tgt := 15) hx hb dX2_isWord_11 (by decide) ?_
  exact cm_zret (wo := cm_wM h0 a d) (σ := τ) C G hr hlk rfl (⟨rfl, Or.inr ⟨rfl, i1, by omega, rfl⟩⟩) dX2_isWord_15
set_option maxHeartbeats 4000000 in
/-- X2.enter -/
theorem cm_X2_enter (l : Launch) (D : va_G) (h0 : Nat) (a : Nat → Nat) (d : Nat → ClassId) (τ : cm_St) (x : Int32) : cm_Mi l D yX2_enter (ws_ yX2_enter cX2_enter 2 (some .int)) ({ frames := 1, cells := 0, slots := 0, locals := 21 }) (cm_tM d) (cm_wM h0 a d) h0 [.int x] τ (fun r τ' => r = (cm_spEnter τ x).1 ∧ τ' = (cm_spEnter τ x).2) := by
  refine cm_startI (by decide) (Nat.le_of_ble_eq_true rfl) ?_
  intro p e s m below meth c A ls C hr hlk hml hA G hl
  have hx := C.1
  have hb := C.2.1
  have hl : lv_has ls 2 [(0, .ref h0), (1, .int x)] := hl
  refine lv_aload_n hx hb dX2_enter_0 rfl (lv_at hl 0 rfl) ?_
  refine lv_iload_n hx hb dX2_enter_1 rfl (lv_at hl 1 rfl) ?_
  refine cm_selfi (q := (RX2, TX2, 5)) (ci := 1) (rest := []) C hml hA G hl.1 (cm_X2_isSpace l D h0 a d τ x) rfl rfl (cwV 1 C.2.2.1 (lw_V q177 q179 qs7 q12 q180) rfl rfl rfl (by decide +kernel) ⟨Nat.le_of_ble_eq_true rfl, Nat.le_of_ble_eq_true rfl⟩) rfl rfl (Nat.le_of_ble_eq_true rfl) dX2_enter_2 ⟨Nat.zero_le _, Nat.zero_le _⟩ (fun r τ1 H locs hp G => ?_)
  obtain ⟨hs, hp⟩ := hp
  rw [hs] at G
  rcases hp with ⟨rfl, gi1⟩ | ⟨rfl, i1, hi1, rfl⟩
  · skip
    refine lv_if_ne (tgt := 10) hx hb dX2_enter_5 (by decide) (fun ci1 => absurd rfl ci1) (fun ci1 => ?_)
    refine lv_iconst (v := -1) hx hb dX2_enter_8 (by decide) ?_
    exact cm_iret (wo := cm_wM h0 a d) (σ := τ) C G hr hlk (by rw [show cm_spEnter τ x = (-1, τ) by simp only [cm_spEnter, gi1]]; exact ⟨rfl, rfl⟩) dX2_enter_9
  refine lv_if_ne (tgt := 10) hx hb dX2_enter_5 (by decide) (fun ci1 => ?_) (fun ci1 => absurd ci1 (by decide))
  refine lv_aload_n hx hb dX2_enter_10 rfl (lv_at hl 0 rfl) ?_
  refine lv_iload_n hx hb dX2_enter_11 rfl (lv_at hl 1 rfl) ?_
  refine cm_put2 C G 0 rfl 3 (by decide) q160 rfl rfl (by decide +kernel) (Nat.le_of_ble_eq_true rfl) (ws' := cm_wM h0 a d (cm_st τ 3 0 (nI i1))) rfl dX2_enter_12 (fun H locs G => ?_)
  refine lv_iconst (v := 0) hx hb dX2_enter_15 (by decide) ?_
  exact cm_iret (wo := cm_wM h0 a d) (σ := (cm_st τ 3 0 (nI i1))) C G hr hlk (by rw [cm_spEnter_at hi1]; exact ⟨rfl, rfl⟩) dX2_enter_16
set_option maxHeartbeats 4000000 in
/-- X2.last -/
theorem cm_X2_last (l : Launch) (D : va_G) (h0 : Nat) (a : Nat → Nat) (d : Nat → ClassId) (τ : cm_St)  : cm_Mi l D yX2_last (ws_ yX2_last cX2_last 1 (some .int)) ({ frames := 0, cells := 0, slots := 0, locals := 0 }) (cm_tM d) (cm_wM h0 a d) h0 [] τ (fun r τ' => r = τ 4 0 ∧ τ' = τ) := by
  refine cm_startI (by decide) (Nat.le_of_ble_eq_true rfl) ?_
  intro p e s m below meth c A ls C hr hlk hml hA G hl
  have hx := C.1
  have hb := C.2.1
  have hl : lv_has ls 1 [(0, .ref h0)] := hl
  refine lv_aload_n hx hb dX2_last_0 rfl (lv_at hl 0 rfl) ?_
  refine cm_get2 C G 0 rfl 4 (by decide) q161 rfl (v := .int (τ 4 0)) rfl dX2_last_1 ?_
  exact cm_iret (wo := cm_wM h0 a d) (σ := τ) C G hr hlk (⟨rfl, rfl⟩) dX2_last_4
set_option maxHeartbeats 4000000 in
/-- X2.map -/
theorem cm_X2_map (l : Launch) (D : va_G) (h0 : Nat) (a : Nat → Nat) (d : Nat → ClassId) (τ : cm_St) (x y f w : Int32) (hw : w = 0 ∨ w = 1) : cm_Mi l D yX2_map (ws_ yX2_map cX2_map 6 (some .int)) ({ frames := 1, cells := 0, slots := 0, locals := 21 }) (cm_tM d) (cm_wM h0 a d) h0 [.int x, .int y, .int f, .int w] τ (fun r τ' => r = (cm_spMap τ x y f w).1 ∧ τ' = (cm_spMap τ x y f w).2) := by
  refine cm_startI (by decide) (Nat.le_of_ble_eq_true rfl) ?_
  intro p e s m below meth c A ls C hr hlk hml hA G hl
  have hx := C.1
  have hb := C.2.1
  have hl : lv_has ls 6 [(0, .ref h0), (1, .int x), (2, .int y), (3, .int f), (4, .int w)] := hl
  refine lv_aload_n hx hb dX2_map_0 rfl (lv_at hl 0 rfl) ?_
  refine lv_iload_n hx hb dX2_map_1 rfl (lv_at hl 1 rfl) ?_
  refine cm_selfi (q := (RX2, TX2, 5)) (ci := 1) (rest := []) C hml hA G hl.1 (cm_X2_isSpace l D h0 a d τ x) rfl rfl (cwV 1 C.2.2.1 (lw_V q177 q179 qs7 q12 q180) rfl rfl rfl (by decide +kernel) ⟨Nat.le_of_ble_eq_true rfl, Nat.le_of_ble_eq_true rfl⟩) rfl rfl (Nat.le_of_ble_eq_true rfl) dX2_map_2 ⟨Nat.zero_le _, Nat.zero_le _⟩ (fun r τ1 H locs hp G => ?_)
  obtain ⟨hs, hp⟩ := hp
  rw [hs] at G
  rcases hp with ⟨rfl, gi1⟩ | ⟨rfl, i1, hi1, rfl⟩
  · skip
    refine lv_if_eq (tgt := 24) hx hb dX2_map_5 (by decide) (fun ci1 => ?_) (fun ci1 => absurd rfl ci1)
    refine lv_iconst (v := -1) hx hb dX2_map_24 (by decide) ?_
    exact cm_iret (wo := cm_wM h0 a d) (σ := τ) C G hr hlk (by rw [show cm_spMap τ x y f w = (-1, τ) by simp only [cm_spMap, gi1]]; exact ⟨rfl, rfl⟩) dX2_map_25
  refine lv_if_eq (tgt := 24) hx hb dX2_map_5 (by decide) (fun ci1 => absurd ci1 (by decide)) (fun ci1 => ?_)
  refine lv_aload_n hx hb dX2_map_8 rfl (lv_at hl 0 rfl) ?_
  refine lv_iload_n hx hb dX2_map_9 rfl (lv_at hl 2 rfl) ?_
  refine cm_selfi (q := (RX2, TX2, 5)) (ci := 1) (rest := []) C hml hA G hl.1 (cm_X2_isPage l D h0 a d τ y) rfl rfl (cwV 1 C.2.2.1 (lw_V q185 q187 qs8 q12 q188) rfl rfl rfl (by decide +kernel) ⟨Nat.le_of_ble_eq_true rfl, Nat.le_of_ble_eq_true rfl⟩) rfl rfl (Nat.le_of_ble_eq_true rfl) dX2_map_10 ⟨Nat.zero_le _, Nat.zero_le _⟩ (fun r τ1 H locs hp G => ?_)
  obtain ⟨hs, hp⟩ := hp
  rw [hs] at G
  rcases hp with ⟨rfl, gi2⟩ | ⟨rfl, i2, hi2, rfl⟩
  · skip
    refine lv_if_eq (tgt := 24) hx hb dX2_map_13 (by decide) (fun ci2 => ?_) (fun ci2 => absurd rfl ci2)
    refine lv_iconst (v := -1) hx hb dX2_map_24 (by decide) ?_
    exact cm_iret (wo := cm_wM h0 a d) (σ := τ) C G hr hlk (by rw [show cm_spMap τ (nI i1) y f w = (-1, τ) by simp only [cm_spMap, cm_rg_lt hi1 (by omega), gi2]]; exact ⟨rfl, rfl⟩) dX2_map_25
  refine lv_if_eq (tgt := 24) hx hb dX2_map_13 (by decide) (fun ci2 => absurd ci2 (by decide)) (fun ci2 => ?_)
  refine lv_aload_n hx hb dX2_map_16 rfl (lv_at hl 0 rfl) ?_
  refine lv_iload_n hx hb dX2_map_17 rfl (lv_at hl 3 rfl) ?_
  refine cm_selfi (q := (RX2, TX2, 5)) (ci := 1) (rest := []) C hml hA G hl.1 (cm_X2_isPage l D h0 a d τ f) rfl rfl (cwV 1 C.2.2.1 (lw_V q185 q187 qs8 q12 q188) rfl rfl rfl (by decide +kernel) ⟨Nat.le_of_ble_eq_true rfl, Nat.le_of_ble_eq_true rfl⟩) rfl rfl (Nat.le_of_ble_eq_true rfl) dX2_map_18 ⟨Nat.zero_le _, Nat.zero_le _⟩ (fun r τ1 H locs hp G => ?_)
  obtain ⟨hs, hp⟩ := hp
  rw [hs] at G
  rcases hp with ⟨rfl, gi3⟩ | ⟨rfl, i3, hi3, rfl⟩
  · skip
    refine lv_if_ne (tgt := 26) hx hb dX2_map_21 (by decide) (fun ci3 => absurd rfl ci3) (fun ci3 => ?_)
    refine lv_iconst (v := -1) hx hb dX2_map_24 (by decide) ?_
    exact cm_iret (wo := cm_wM h0 a d) (σ := τ) C G hr hlk (by rw [show cm_spMap τ (nI i1) (nI i2) f w = (-1, τ) by simp only [cm_spMap, cm_rg_lt hi1 (by omega), cm_rg_lt hi2 (by omega), gi3]]; exact ⟨rfl, rfl⟩) dX2_map_25
  refine lv_if_ne (tgt := 26) hx hb dX2_map_21 (by decide) (fun ci3 => ?_) (fun ci3 => absurd ci3 (by decide))
  refine lv_aload_n hx hb dX2_map_26 rfl (lv_at hl 0 rfl) ?_
  refine cm_get2 C G 0 rfl 1 (by decide) q158 rfl (v := .ref (a 1)) rfl dX2_map_27 ?_
  refine lv_bipush (v := nI 8) hx hb dX2_map_30 (by decide) ?_
  refine lv_iload_n hx hb dX2_map_32 rfl (lv_at hl 1 rfl) ?_
  refine lv_imul hx hb dX2_map_33 ?_
  refine cm_top (pk_mul 8 i1) ?_
  refine lv_iload_n hx hb dX2_map_34 rfl (lv_at hl 2 rfl) ?_
  refine lv_iadd hx hb dX2_map_35 ?_
  refine cm_top (nI_add (8 * i1) i2) ?_
  refine cm_iald C G 2 1 rfl rfl (8 * i1 + i2) (by omega) (by decide) dX2_map_36 ?_
  refine lv_if_ge (tgt := 44) hx hb dX2_map_37 (by decide) (fun c4 => ?_) (fun c4 => ?_)
  · skip
    refine lv_iconst (v := 1) hx hb dX2_map_44 (by decide) ?_
    refine lv_istore (lv' := [(5, .int 1), (0, .ref h0), (1, .int (nI i1)), (2, .int (nI i2)), (3, .int (nI i3)), (4, .int w)]) hx hb dX2_map_45 hl (by decide) rfl (fun ls hl => ?_)
    refine lv_aload_n hx hb dX2_map_47 rfl (lv_at hl 1 rfl) ?_
    refine cm_get2 C G 0 rfl 1 (by decide) q158 rfl (v := .ref (a 1)) rfl dX2_map_48 ?_
    refine lv_bipush (v := nI 8) hx hb dX2_map_51 (by decide) ?_
    refine lv_iload_n hx hb dX2_map_53 rfl (lv_at hl 2 rfl) ?_
    refine lv_imul hx hb dX2_map_54 ?_
    refine cm_top (pk_mul 8 i1) ?_
    refine lv_iload_n hx hb dX2_map_55 rfl (lv_at hl 3 rfl) ?_
    refine lv_iadd hx hb dX2_map_56 ?_
    refine cm_top (nI_add (8 * i1) i2) ?_
    refine lv_iload_n hx hb dX2_map_57 rfl (lv_at hl 4 rfl) ?_
    refine cm_iast C G 2 1 rfl rfl (8 * i1 + i2) (by omega) (by decide) (ws' := cm_wM h0 a d (cm_st τ 1 (8 * i1 + i2) (nI i3))) rfl dX2_map_58 (fun H locs G => ?_)
    refine lv_aload_n hx hb dX2_map_59 rfl (lv_at hl 1 rfl) ?_
    refine cm_get2 C G 0 rfl 2 (by decide) q159 rfl (v := .ref (a 2)) rfl dX2_map_60 ?_
    refine lv_bipush (v := nI 8) hx hb dX2_map_63 (by decide) ?_
    refine lv_iload_n hx hb dX2_map_65 rfl (lv_at hl 2 rfl) ?_
    refine lv_imul hx hb dX2_map_66 ?_
    refine cm_top (pk_mul 8 i1) ?_
    refine lv_iload_n hx hb dX2_map_67 rfl (lv_at hl 3 rfl) ?_
    refine lv_iadd hx hb dX2_map_68 ?_
    refine cm_top (nI_add (8 * i1) i2) ?_
    refine lv_iload hx hb dX2_map_69 (lv_at hl 5 rfl) ?_
    refine cm_zast C G 3 2 rfl rfl (8 * i1 + i2) (by omega) (by decide) (v := w) (cm_narz hw) (ws' := cm_wM h0 a d (cm_st (cm_st τ 1 (8 * i1 + i2) (nI i3)) 2 (8 * i1 + i2) w)) rfl dX2_map_71 (fun H locs G => ?_)
    refine lv_iload hx hb dX2_map_72 (lv_at hl 0 rfl) ?_
    exact cm_iret (wo := cm_wM h0 a d) (σ := (cm_st (cm_st τ 1 (8 * i1 + i2) (nI i3)) 2 (8 * i1 + i2) w)) C G hr hlk (by rw [cm_spMap_at hi1 hi2 hi3]; exact ⟨(if_neg (cm_nlt c4)).symm, rfl⟩) dX2_map_74
  refine lv_iconst (v := 0) hx hb dX2_map_40 (by decide) ?_
  refine lv_goto (tgt := 45) hx hb dX2_map_41 (by decide) ?_
  refine lv_istore (lv' := [(5, .int 0), (0, .ref h0), (1, .int (nI i1)), (2, .int (nI i2)), (3, .int (nI i3)), (4, .int w)]) hx hb dX2_map_45 hl (by decide) rfl (fun ls hl => ?_)
  refine lv_aload_n hx hb dX2_map_47 rfl (lv_at hl 1 rfl) ?_
  refine cm_get2 C G 0 rfl 1 (by decide) q158 rfl (v := .ref (a 1)) rfl dX2_map_48 ?_
  refine lv_bipush (v := nI 8) hx hb dX2_map_51 (by decide) ?_
  refine lv_iload_n hx hb dX2_map_53 rfl (lv_at hl 2 rfl) ?_
  refine lv_imul hx hb dX2_map_54 ?_
  refine cm_top (pk_mul 8 i1) ?_
  refine lv_iload_n hx hb dX2_map_55 rfl (lv_at hl 3 rfl) ?_
  refine lv_iadd hx hb dX2_map_56 ?_
  refine cm_top (nI_add (8 * i1) i2) ?_
  refine lv_iload_n hx hb dX2_map_57 rfl (lv_at hl 4 rfl) ?_
  refine cm_iast C G 2 1 rfl rfl (8 * i1 + i2) (by omega) (by decide) (ws' := cm_wM h0 a d (cm_st τ 1 (8 * i1 + i2) (nI i3))) rfl dX2_map_58 (fun H locs G => ?_)
  refine lv_aload_n hx hb dX2_map_59 rfl (lv_at hl 1 rfl) ?_
  refine cm_get2 C G 0 rfl 2 (by decide) q159 rfl (v := .ref (a 2)) rfl dX2_map_60 ?_
  refine lv_bipush (v := nI 8) hx hb dX2_map_63 (by decide) ?_
  refine lv_iload_n hx hb dX2_map_65 rfl (lv_at hl 2 rfl) ?_
  refine lv_imul hx hb dX2_map_66 ?_
  refine cm_top (pk_mul 8 i1) ?_
  refine lv_iload_n hx hb dX2_map_67 rfl (lv_at hl 3 rfl) ?_
  refine lv_iadd hx hb dX2_map_68 ?_
  refine cm_top (nI_add (8 * i1) i2) ?_
  refine lv_iload hx hb dX2_map_69 (lv_at hl 5 rfl) ?_
  refine cm_zast C G 3 2 rfl rfl (8 * i1 + i2) (by omega) (by decide) (v := w) (cm_narz hw) (ws' := cm_wM h0 a d (cm_st (cm_st τ 1 (8 * i1 + i2) (nI i3)) 2 (8 * i1 + i2) w)) rfl dX2_map_71 (fun H locs G => ?_)
  refine lv_iload hx hb dX2_map_72 (lv_at hl 0 rfl) ?_
  exact cm_iret (wo := cm_wM h0 a d) (σ := (cm_st (cm_st τ 1 (8 * i1 + i2) (nI i3)) 2 (8 * i1 + i2) w)) C G hr hlk (by rw [cm_spMap_at hi1 hi2 hi3]; exact ⟨(if_pos (cm_ltz c4)).symm, rfl⟩) dX2_map_74
set_option maxHeartbeats 4000000 in
/-- X2.unmap -/
theorem cm_X2_unmap (l : Launch) (D : va_G) (h0 : Nat) (a : Nat → Nat) (d : Nat → ClassId) (τ : cm_St) (x y : Int32) : cm_Mi l D yX2_unmap (ws_ yX2_unmap cX2_unmap 3 (some .int)) ({ frames := 1, cells := 0, slots := 0, locals := 21 }) (cm_tM d) (cm_wM h0 a d) h0 [.int x, .int y] τ (fun r τ' => r = (cm_spUnmap τ x y).1 ∧ τ' = (cm_spUnmap τ x y).2) := by
  refine cm_startI (by decide) (Nat.le_of_ble_eq_true rfl) ?_
  intro p e s m below meth c A ls C hr hlk hml hA G hl
  have hx := C.1
  have hb := C.2.1
  have hl : lv_has ls 3 [(0, .ref h0), (1, .int x), (2, .int y)] := hl
  refine lv_aload_n hx hb dX2_unmap_0 rfl (lv_at hl 0 rfl) ?_
  refine lv_iload_n hx hb dX2_unmap_1 rfl (lv_at hl 1 rfl) ?_
  refine cm_selfi (q := (RX2, TX2, 5)) (ci := 1) (rest := []) C hml hA G hl.1 (cm_X2_isSpace l D h0 a d τ x) rfl rfl (cwV 1 C.2.2.1 (lw_V q177 q179 qs7 q12 q180) rfl rfl rfl (by decide +kernel) ⟨Nat.le_of_ble_eq_true rfl, Nat.le_of_ble_eq_true rfl⟩) rfl rfl (Nat.le_of_ble_eq_true rfl) dX2_unmap_2 ⟨Nat.zero_le _, Nat.zero_le _⟩ (fun r τ1 H locs hp G => ?_)
  obtain ⟨hs, hp⟩ := hp
  rw [hs] at G
  rcases hp with ⟨rfl, gi1⟩ | ⟨rfl, i1, hi1, rfl⟩
  · skip
    refine lv_if_eq (tgt := 16) hx hb dX2_unmap_5 (by decide) (fun ci1 => ?_) (fun ci1 => absurd rfl ci1)
    refine lv_iconst (v := -1) hx hb dX2_unmap_16 (by decide) ?_
    exact cm_iret (wo := cm_wM h0 a d) (σ := τ) C G hr hlk (by rw [show cm_spUnmap τ x y = (-1, τ) by simp only [cm_spUnmap, gi1]]; exact ⟨rfl, rfl⟩) dX2_unmap_17
  refine lv_if_eq (tgt := 16) hx hb dX2_unmap_5 (by decide) (fun ci1 => absurd ci1 (by decide)) (fun ci1 => ?_)
  refine lv_aload_n hx hb dX2_unmap_8 rfl (lv_at hl 0 rfl) ?_
  refine lv_iload_n hx hb dX2_unmap_9 rfl (lv_at hl 2 rfl) ?_
  refine cm_selfi (q := (RX2, TX2, 5)) (ci := 1) (rest := []) C hml hA G hl.1 (cm_X2_isPage l D h0 a d τ y) rfl rfl (cwV 1 C.2.2.1 (lw_V q185 q187 qs8 q12 q188) rfl rfl rfl (by decide +kernel) ⟨Nat.le_of_ble_eq_true rfl, Nat.le_of_ble_eq_true rfl⟩) rfl rfl (Nat.le_of_ble_eq_true rfl) dX2_unmap_10 ⟨Nat.zero_le _, Nat.zero_le _⟩ (fun r τ1 H locs hp G => ?_)
  obtain ⟨hs, hp⟩ := hp
  rw [hs] at G
  rcases hp with ⟨rfl, gi2⟩ | ⟨rfl, i2, hi2, rfl⟩
  · skip
    refine lv_if_ne (tgt := 18) hx hb dX2_unmap_13 (by decide) (fun ci2 => absurd rfl ci2) (fun ci2 => ?_)
    refine lv_iconst (v := -1) hx hb dX2_unmap_16 (by decide) ?_
    exact cm_iret (wo := cm_wM h0 a d) (σ := τ) C G hr hlk (by rw [show cm_spUnmap τ (nI i1) y = (-1, τ) by simp only [cm_spUnmap, cm_rg_lt hi1 (by omega), gi2]]; exact ⟨rfl, rfl⟩) dX2_unmap_17
  refine lv_if_ne (tgt := 18) hx hb dX2_unmap_13 (by decide) (fun ci2 => ?_) (fun ci2 => absurd ci2 (by decide))
  refine lv_aload_n hx hb dX2_unmap_18 rfl (lv_at hl 0 rfl) ?_
  refine cm_get2 C G 0 rfl 1 (by decide) q158 rfl (v := .ref (a 1)) rfl dX2_unmap_19 ?_
  refine lv_bipush (v := nI 8) hx hb dX2_unmap_22 (by decide) ?_
  refine lv_iload_n hx hb dX2_unmap_24 rfl (lv_at hl 1 rfl) ?_
  refine lv_imul hx hb dX2_unmap_25 ?_
  refine cm_top (pk_mul 8 i1) ?_
  refine lv_iload_n hx hb dX2_unmap_26 rfl (lv_at hl 2 rfl) ?_
  refine lv_iadd hx hb dX2_unmap_27 ?_
  refine cm_top (nI_add (8 * i1) i2) ?_
  refine cm_iald C G 2 1 rfl rfl (8 * i1 + i2) (by omega) (by decide) dX2_unmap_28 ?_
  refine lv_if_ge (tgt := 35) hx hb dX2_unmap_29 (by decide) (fun c4 => ?_) (fun c4 => ?_)
  rotate_left
  · skip
    refine lv_bipush (v := -2) hx hb dX2_unmap_32 (by decide) ?_
    exact cm_iret (wo := cm_wM h0 a d) (σ := τ) C G hr hlk (by rw [cm_spUnmap_at hi1 hi2, if_pos (cm_ltz c4)]; exact ⟨rfl, rfl⟩) dX2_unmap_34
  refine lv_aload_n hx hb dX2_unmap_35 rfl (lv_at hl 0 rfl) ?_
  refine cm_get2 C G 0 rfl 1 (by decide) q158 rfl (v := .ref (a 1)) rfl dX2_unmap_36 ?_
  refine lv_bipush (v := nI 8) hx hb dX2_unmap_39 (by decide) ?_
  refine lv_iload_n hx hb dX2_unmap_41 rfl (lv_at hl 1 rfl) ?_
  refine lv_imul hx hb dX2_unmap_42 ?_
  refine cm_top (pk_mul 8 i1) ?_
  refine lv_iload_n hx hb dX2_unmap_43 rfl (lv_at hl 2 rfl) ?_
  refine lv_iadd hx hb dX2_unmap_44 ?_
  refine cm_top (nI_add (8 * i1) i2) ?_
  refine lv_iconst (v := -1) hx hb dX2_unmap_45 (by decide) ?_
  refine cm_iast C G 2 1 rfl rfl (8 * i1 + i2) (by omega) (by decide) (ws' := cm_wM h0 a d (cm_st τ 1 (8 * i1 + i2) (-1))) rfl dX2_unmap_46 (fun H locs G => ?_)
  refine lv_iconst (v := 0) hx hb dX2_unmap_47 (by decide) ?_
  exact cm_iret (wo := cm_wM h0 a d) (σ := (cm_st τ 1 (8 * i1 + i2) (-1))) C G hr hlk (by rw [cm_spUnmap_at hi1 hi2, if_neg (cm_nlt c4)]; exact ⟨rfl, rfl⟩) dX2_unmap_48
set_option maxHeartbeats 4000000 in
/-- X2.protect -/
theorem cm_X2_protect (l : Launch) (D : va_G) (h0 : Nat) (a : Nat → Nat) (d : Nat → ClassId) (τ : cm_St) (x : Int32) : cm_Mi l D yX2_protect (ws_ yX2_protect cX2_protect 4 (some .int)) ({ frames := 1, cells := 0, slots := 0, locals := 21 }) (cm_tM d) (cm_wM h0 a d) h0 [.int x] τ (fun r τ' => r = (cm_spProtect τ x).1 ∧ τ' = (cm_spProtect τ x).2) := by
  refine cm_startI (by decide) (Nat.le_of_ble_eq_true rfl) ?_
  intro p e s m below meth c A ls C hr hlk hml hA G hl
  have hx := C.1
  have hb := C.2.1
  have hl : lv_has ls 4 [(0, .ref h0), (1, .int x)] := hl
  refine lv_aload_n hx hb dX2_protect_0 rfl (lv_at hl 0 rfl) ?_
  refine lv_iload_n hx hb dX2_protect_1 rfl (lv_at hl 1 rfl) ?_
  refine cm_selfi (q := (RX2, TX2, 5)) (ci := 1) (rest := []) C hml hA G hl.1 (cm_X2_isPage l D h0 a d τ x) rfl rfl (cwV 1 C.2.2.1 (lw_V q185 q187 qs8 q12 q188) rfl rfl rfl (by decide +kernel) ⟨Nat.le_of_ble_eq_true rfl, Nat.le_of_ble_eq_true rfl⟩) rfl rfl (Nat.le_of_ble_eq_true rfl) dX2_protect_2 ⟨Nat.zero_le _, Nat.zero_le _⟩ (fun r τ1 H locs hp G => ?_)
  obtain ⟨hs, hp⟩ := hp
  rw [hs] at G
  rcases hp with ⟨rfl, gi1⟩ | ⟨rfl, i1, hi1, rfl⟩
  · skip
    refine lv_if_ne (tgt := 10) hx hb dX2_protect_5 (by decide) (fun ci1 => absurd rfl ci1) (fun ci1 => ?_)
    refine lv_iconst (v := -1) hx hb dX2_protect_8 (by decide) ?_
    exact cm_iret (wo := cm_wM h0 a d) (σ := τ) C G hr hlk (by rw [show cm_spProtect τ x = (-1, τ) by simp only [cm_spProtect, gi1]]; exact ⟨rfl, rfl⟩) dX2_protect_9
  refine lv_if_ne (tgt := 10) hx hb dX2_protect_5 (by decide) (fun ci1 => ?_) (fun ci1 => absurd ci1 (by decide))
  refine lv_iconst (v := nI 0) hx hb dX2_protect_10 (by decide) ?_
  refine lv_istore_n (lv' := [(2, .int (nI 0)), (0, .ref h0), (1, .int (nI i1))]) hx hb dX2_protect_11 rfl hl (by decide) rfl (fun ls hl => ?_)
  refine lv_iconst (v := nI 0) hx hb dX2_protect_12 (by decide) ?_
  refine lv_istore_n (lv' := [(3, .int (nI 0)), (2, .int (nI 0)), (0, .ref h0), (1, .int (nI i1))]) hx hb dX2_protect_13 rfl hl (by decide) rfl (fun ls hl => ?_)
  refine cm_loop (I := fun i u => u = cm_prot τ (nI i1) i) (wo := fun u : Int32 × cm_St => cm_wM h0 a d u.2) (lv := fun i u => [(3, .int (nI i)), (2, .int u.1), (0, .ref h0), (1, .int (nI i1))]) (N := 32) ?_ ?_ 0 (nI 0, τ) _ _ _ (Nat.zero_le _) rfl G hl
  · skip
    intro u H locs ls hI G hl
    obtain ⟨q, u⟩ := u
    have G : cm_G D A s.heap (cm_wM h0 a d u) H locs := G
    have hl : lv_has ls 4 [(3, .int (nI 32)), (2, .int q), (0, .ref h0), (1, .int (nI i1))] := hl
    refine lv_iload_n hx hb dX2_protect_14 rfl (lv_at hl 0 rfl) ?_
    refine lv_bipush (v := nI 32) hx hb dX2_protect_15 (by decide) ?_
    refine lv_icmp_ge (tgt := 55) hx hb dX2_protect_17 (by decide) (fun c2 => ?_) (fun c2 => by have c2 : ¬ 32 ≤ 32 := fun q => c2 ((nI_leI (a := 32) (b := 32) (by omega) (by omega)).mpr q); omega)
    have c2 : 32 ≤ 32 := (nI_leI (a := 32) (b := 32) (by omega) (by omega)).mp c2
    refine lv_iload_n hx hb dX2_protect_55 rfl (lv_at hl 1 rfl) ?_
    exact cm_iret (wo := cm_wM h0 a d) (σ := u) C G hr hlk (by rw [cm_spProtect_at (by omega), ← hI]; exact ⟨rfl, rfl⟩) dX2_protect_56
  · skip
    intro i u H locs ls hi hI G hl ih
    obtain ⟨q, u⟩ := u
    have G : cm_G D A s.heap (cm_wM h0 a d u) H locs := G
    have hl : lv_has ls 4 [(3, .int (nI i)), (2, .int q), (0, .ref h0), (1, .int (nI i1))] := hl
    refine lv_iload_n hx hb dX2_protect_14 rfl (lv_at hl 0 rfl) ?_
    refine lv_bipush (v := nI 32) hx hb dX2_protect_15 (by decide) ?_
    refine lv_icmp_ge (tgt := 55) hx hb dX2_protect_17 (by decide) (fun c2 => by have c2 : 32 ≤ i := (nI_leI (a := 32) (b := i) (by omega) (by omega)).mp c2; omega) (fun c2 => ?_)
    have c2 : ¬ 32 ≤ i := fun q => c2 ((nI_leI (a := 32) (b := i) (by omega) (by omega)).mpr q)
    refine lv_aload_n hx hb dX2_protect_20 rfl (lv_at hl 2 rfl) ?_
    refine cm_get2 C G 0 rfl 1 (by decide) q158 rfl (v := .ref (a 1)) rfl dX2_protect_21 ?_
    refine lv_iload_n hx hb dX2_protect_24 rfl (lv_at hl 0 rfl) ?_
    refine cm_iald C G 2 1 rfl rfl i (by omega) (by decide) dX2_protect_25 ?_
    refine lv_iload_n hx hb dX2_protect_26 rfl (lv_at hl 3 rfl) ?_
    refine lv_icmp_ne (tgt := 49) hx hb dX2_protect_27 (by decide) (fun c3 => ?_) (fun c3 => ?_)
    · skip
      refine lv_iinc (v := nI (i + 1)) (lv' := [(3, .int (nI (i + 1))), (2, .int q), (0, .ref h0), (1, .int (nI i1))]) hx hb dX2_protect_49 hl (k := 0) rfl (cm_inc i) (by decide) rfl (fun ls hl => ?_)
      refine lv_goto (tgt := 14) hx hb dX2_protect_52 (by decide) ?_
      exact ih (q, u) _ _ _ (by rw [cm_prot_skip (by rw [← hI]; exact c3)]; exact hI) G hl
    refine lv_aload_n hx hb dX2_protect_30 rfl (lv_at hl 2 rfl) ?_
    refine cm_get2 C G 0 rfl 2 (by decide) q159 rfl (v := .ref (a 2)) rfl dX2_protect_31 ?_
    refine lv_iload_n hx hb dX2_protect_34 rfl (lv_at hl 0 rfl) ?_
    refine cm_zald C G 3 2 rfl rfl i (by omega) (by decide) dX2_protect_35 ?_
    refine lv_if_eq (tgt := 42) hx hb dX2_protect_36 (by decide) (fun c4 => ?_) (fun c4 => ?_)
    · skip
      refine lv_aload_n hx hb dX2_protect_42 rfl (lv_at hl 2 rfl) ?_
      refine cm_get2 C G 0 rfl 2 (by decide) q159 rfl (v := .ref (a 2)) rfl dX2_protect_43 ?_
      refine lv_iload_n hx hb dX2_protect_46 rfl (lv_at hl 0 rfl) ?_
      refine lv_iconst (v := 0) hx hb dX2_protect_47 (by decide) ?_
      refine cm_zast C G 3 2 rfl rfl i (by omega) (by decide) (v := 0) cm_narz0 (ws' := cm_wM h0 a d (cm_st u 2 i 0)) rfl dX2_protect_48 (fun H locs G => ?_)
      refine lv_iinc (v := nI (i + 1)) (lv' := [(3, .int (nI (i + 1))), (2, .int q), (0, .ref h0), (1, .int (nI i1))]) hx hb dX2_protect_49 hl (k := 0) rfl (cm_inc i) (by decide) rfl (fun ls hl => ?_)
      refine lv_goto (tgt := 14) hx hb dX2_protect_52 (by decide) ?_
      exact ih (q, cm_st u 2 i 0) _ _ _ (by rw [cm_prot_zero (by rw [← hI]; exact c3) (by rw [← hI]; exact c4), ← hI]) G hl
    refine lv_iinc (v := q + 1) (lv' := [(2, .int (q + 1)), (3, .int (nI i)), (0, .ref h0), (1, .int (nI i1))]) hx hb dX2_protect_39 hl (k := 1) rfl rfl (by decide) rfl (fun ls hl => ?_)
    refine lv_aload_n hx hb dX2_protect_42 rfl (lv_at hl 2 rfl) ?_
    refine cm_get2 C G 0 rfl 2 (by decide) q159 rfl (v := .ref (a 2)) rfl dX2_protect_43 ?_
    refine lv_iload_n hx hb dX2_protect_46 rfl (lv_at hl 1 rfl) ?_
    refine lv_iconst (v := 0) hx hb dX2_protect_47 (by decide) ?_
    refine cm_zast C G 3 2 rfl rfl i (by omega) (by decide) (v := 0) cm_narz0 (ws' := cm_wM h0 a d (cm_st u 2 i 0)) rfl dX2_protect_48 (fun H locs G => ?_)
    refine lv_iinc (v := nI (i + 1)) (lv' := [(3, .int (nI (i + 1))), (2, .int (q + 1)), (0, .ref h0), (1, .int (nI i1))]) hx hb dX2_protect_49 hl (k := 1) rfl (cm_inc i) (by decide) rfl (fun ls hl => ?_)
    refine lv_goto (tgt := 14) hx hb dX2_protect_52 (by decide) ?_
    exact ih (q + 1, cm_st u 2 i 0) _ _ _ (by rw [cm_prot_one (by rw [← hI]; exact c3) (by rw [← hI]; exact c4), ← hI]) G (lv_sub hl [0, 1, 2, 3] rfl)
set_option maxHeartbeats 4000000 in
/-- X2.translate -/
theorem cm_X2_translate (l : Launch) (D : va_G) (h0 : Nat) (a : Nat → Nat) (d : Nat → ClassId) (τ : cm_St) (x : Int32) (hM : cm_WM τ) : cm_Mi l D yX2_translate (ws_ yX2_translate cX2_translate 3 (some .int)) ({ frames := 1, cells := 0, slots := 0, locals := 21 }) (cm_tM d) (cm_wM h0 a d) h0 [.int x] τ (fun r τ' => τ' = τ ∧ r = (cm_spTr τ x).1) := by
  refine cm_startI (by decide) (Nat.le_of_ble_eq_true rfl) ?_
  intro p e s m below meth c A ls C hr hlk hml hA G hl
  have hx := C.1
  have hb := C.2.1
  have hl : lv_has ls 3 [(0, .ref h0), (1, .int x)] := hl
  refine lv_aload_n hx hb dX2_translate_0 rfl (lv_at hl 0 rfl) ?_
  refine lv_iload_n hx hb dX2_translate_1 rfl (lv_at hl 1 rfl) ?_
  refine cm_selfi (q := (RX2, TX2, 5)) (ci := 1) (rest := []) C hml hA G hl.1 (cm_X2_isWord l D h0 a d τ x) rfl rfl (cwV 1 C.2.2.1 (lw_V q205 q207 qs9 q12 q208) rfl rfl rfl (by decide +kernel) ⟨Nat.le_of_ble_eq_true rfl, Nat.le_of_ble_eq_true rfl⟩) rfl rfl (Nat.le_of_ble_eq_true rfl) dX2_translate_2 ⟨Nat.zero_le _, Nat.zero_le _⟩ (fun r τ1 H locs hp G => ?_)
  obtain ⟨hs, hp⟩ := hp
  rw [hs] at G
  rcases hp with ⟨rfl, gi1⟩ | ⟨rfl, i1, hi1, rfl⟩
  · skip
    refine lv_if_ne (tgt := 10) hx hb dX2_translate_5 (by decide) (fun ci1 => absurd rfl ci1) (fun ci1 => ?_)
    refine lv_iconst (v := -1) hx hb dX2_translate_8 (by decide) ?_
    exact cm_iret (wo := cm_wM h0 a d) (σ := τ) C G hr hlk (⟨rfl, by rw [show cm_spTr τ x = (-1, τ) by simp only [cm_spTr, gi1]]⟩) dX2_translate_9
  refine lv_if_ne (tgt := 10) hx hb dX2_translate_5 (by decide) (fun ci1 => ?_) (fun ci1 => absurd ci1 (by decide))
  obtain ⟨⟨c0, hc0, h3⟩, hF⟩ := hM
  refine lv_aload_n hx hb dX2_translate_10 rfl (lv_at hl 0 rfl) ?_
  refine cm_get2 C G 0 rfl 1 (by decide) q158 rfl (v := .ref (a 1)) rfl dX2_translate_11 ?_
  refine lv_bipush (v := nI 8) hx hb dX2_translate_14 (by decide) ?_
  refine lv_aload_n hx hb dX2_translate_16 rfl (lv_at hl 0 rfl) ?_
  refine cm_get2 C G 0 rfl 3 (by decide) q160 rfl (v := .int (τ 3 0)) rfl dX2_translate_17 ?_
  refine cm_top h3 ?_
  refine lv_imul hx hb dX2_translate_20 ?_
  refine cm_top (pk_mul 8 c0) ?_
  refine lv_iload_n hx hb dX2_translate_21 rfl (lv_at hl 1 rfl) ?_
  refine lv_iconst (v := nI 3) hx hb dX2_translate_22 (by decide) ?_
  refine lv_ishr hx hb dX2_translate_23 ?_
  refine cm_top (cm_shr3 (n := i1) (by omega)) ?_
  refine lv_iadd hx hb dX2_translate_24 ?_
  refine cm_top (nI_add (8 * c0) (i1 / 8)) ?_
  refine cm_iald C G 2 1 rfl rfl (8 * c0 + i1 / 8) (by omega) (by decide) dX2_translate_25 ?_
  rcases hF (8 * c0 + i1 / 8) (by omega) with g | ⟨f, hf, g⟩
  · skip
    refine cm_top g ?_
    refine lv_istore_n (lv' := [(2, .int (-1)), (0, .ref h0), (1, .int (nI i1))]) hx hb dX2_translate_26 rfl hl (by decide) rfl (fun ls hl => ?_)
    refine lv_iload_n hx hb dX2_translate_27 rfl (lv_at hl 0 rfl) ?_
    refine lv_if_ge (tgt := 36) hx hb dX2_translate_28 (by decide) (fun c2 => absurd c2 (by decide)) (fun c2 => ?_)
    refine lv_bipush (v := -2) hx hb dX2_translate_31 (by decide) ?_
    refine lv_goto (tgt := 45) hx hb dX2_translate_33 (by decide) ?_
    exact cm_iret (wo := cm_wM h0 a d) (σ := τ) C G hr hlk (⟨rfl, by rw [cm_spTr_miss hi1 hc0 h3 g]⟩) dX2_translate_45
  refine cm_top g ?_
  refine lv_istore_n (lv' := [(2, .int (nI f)), (0, .ref h0), (1, .int (nI i1))]) hx hb dX2_translate_26 rfl hl (by decide) rfl (fun ls hl => ?_)
  refine lv_iload_n hx hb dX2_translate_27 rfl (lv_at hl 0 rfl) ?_
  refine lv_if_ge (tgt := 36) hx hb dX2_translate_28 (by decide) (fun c2 => ?_) (fun c2 => absurd (nI_pos' (by omega)) c2)
  refine lv_bipush (v := nI 8) hx hb dX2_translate_36 (by decide) ?_
  refine lv_iload_n hx hb dX2_translate_38 rfl (lv_at hl 0 rfl) ?_
  refine lv_imul hx hb dX2_translate_39 ?_
  refine cm_top (pk_mul 8 f) ?_
  refine lv_iload_n hx hb dX2_translate_40 rfl (lv_at hl 2 rfl) ?_
  refine lv_bipush (v := nI 7) hx hb dX2_translate_41 (by decide) ?_
  refine lv_iand hx hb dX2_translate_43 ?_
  refine cm_top (cm_and7 (n := i1) (by omega)) ?_
  refine lv_iadd hx hb dX2_translate_44 ?_
  refine cm_top (nI_add (8 * f) (i1 % 8)) ?_
  exact cm_iret (wo := cm_wM h0 a d) (σ := τ) C G hr hlk (⟨rfl, by rw [cm_spTr_hit hi1 hc0 h3 hf g]⟩) dX2_translate_45
set_option maxHeartbeats 4000000 in
/-- X2.load -/
theorem cm_X2_load (l : Launch) (D : va_G) (h0 : Nat) (a : Nat → Nat) (d : Nat → ClassId) (τ : cm_St) (x : Int32) (hM : cm_WM τ) : cm_Mi l D yX2_load (ws_ yX2_load cX2_load 3 (some .int)) ({ frames := 2, cells := 0, slots := 0, locals := 43 }) (cm_tM d) (cm_wM h0 a d) h0 [.int x] τ (fun r τ' => r = (cm_spLoad τ x).1 ∧ τ' = (cm_spLoad τ x).2) := by
  refine cm_startI (by decide) (Nat.le_of_ble_eq_true rfl) ?_
  intro p e s m below meth c A ls C hr hlk hml hA G hl
  have hx := C.1
  have hb := C.2.1
  have hl : lv_has ls 3 [(0, .ref h0), (1, .int x)] := hl
  rcases cm_tr_cases hM x with g | ⟨i1, c0, hi1, hc0, rfl, h3, g | ⟨f, hf, g⟩⟩
  · skip
    refine lv_aload_n hx hb dX2_load_0 rfl (lv_at hl 0 rfl) ?_
    refine lv_iload_n hx hb dX2_load_1 rfl (lv_at hl 1 rfl) ?_
    refine cm_selfi (q := (RX2, TX2, 5)) (ci := 1) (rest := []) C hml hA G hl.1 (cm_X2_translate l D h0 a d τ x hM) rfl rfl (cwV 1 C.2.2.1 (lw_V q201 q202 q203 q12 q204) rfl rfl rfl (by decide +kernel) ⟨Nat.le_of_ble_eq_true rfl, Nat.le_of_ble_eq_true rfl⟩) rfl rfl (Nat.le_of_ble_eq_true rfl) dX2_load_2 ⟨Nat.zero_le _, Nat.zero_le _⟩ (fun r τ1 H locs hp G => ?_)
    obtain ⟨hs, hp⟩ := hp
    rw [hs] at G
    rw [show cm_spTr τ x = (-1, τ) by simp only [cm_spTr, g]] at hp
    have hp : r = -1 := hp
    subst hp
    refine lv_istore_n (lv' := [(2, .int (-1)), (0, .ref h0), (1, .int x)]) hx hb dX2_load_5 rfl hl (by decide) rfl (fun ls hl => ?_)
    refine lv_iload_n hx hb dX2_load_6 rfl (lv_at hl 0 rfl) ?_
    refine lv_if_ge (tgt := 12) hx hb dX2_load_7 (by decide) (fun c2 => absurd c2 (by decide)) (fun c2 => ?_)
    refine lv_iload_n hx hb dX2_load_10 rfl (lv_at hl 0 rfl) ?_
    exact cm_iret (wo := cm_wM h0 a d) (σ := τ) C G hr hlk (by rw [show cm_spLoad τ x = (-1, τ) by simp only [cm_spLoad, g]]; exact ⟨rfl, rfl⟩) dX2_load_11
  · skip
    refine lv_aload_n hx hb dX2_load_0 rfl (lv_at hl 0 rfl) ?_
    refine lv_iload_n hx hb dX2_load_1 rfl (lv_at hl 1 rfl) ?_
    refine cm_selfi (q := (RX2, TX2, 5)) (ci := 1) (rest := []) C hml hA G hl.1 (cm_X2_translate l D h0 a d τ (nI i1) hM) rfl rfl (cwV 1 C.2.2.1 (lw_V q201 q202 q203 q12 q204) rfl rfl rfl (by decide +kernel) ⟨Nat.le_of_ble_eq_true rfl, Nat.le_of_ble_eq_true rfl⟩) rfl rfl (Nat.le_of_ble_eq_true rfl) dX2_load_2 ⟨Nat.zero_le _, Nat.zero_le _⟩ (fun r τ1 H locs hp G => ?_)
    obtain ⟨hs, hp⟩ := hp
    rw [hs] at G
    rw [cm_spTr_miss hi1 hc0 h3 g] at hp
    have hp : r = -2 := hp
    subst hp
    refine lv_istore_n (lv' := [(2, .int (-2)), (0, .ref h0), (1, .int (nI i1))]) hx hb dX2_load_5 rfl hl (by decide) rfl (fun ls hl => ?_)
    refine lv_iload_n hx hb dX2_load_6 rfl (lv_at hl 0 rfl) ?_
    refine lv_if_ge (tgt := 12) hx hb dX2_load_7 (by decide) (fun c2 => absurd c2 (by decide)) (fun c2 => ?_)
    refine lv_iload_n hx hb dX2_load_10 rfl (lv_at hl 0 rfl) ?_
    exact cm_iret (wo := cm_wM h0 a d) (σ := τ) C G hr hlk (by rw [cm_spLoad_miss hi1 hc0 h3 g]; exact ⟨rfl, rfl⟩) dX2_load_11
  · skip
    refine lv_aload_n hx hb dX2_load_0 rfl (lv_at hl 0 rfl) ?_
    refine lv_iload_n hx hb dX2_load_1 rfl (lv_at hl 1 rfl) ?_
    refine cm_selfi (q := (RX2, TX2, 5)) (ci := 1) (rest := []) C hml hA G hl.1 (cm_X2_translate l D h0 a d τ (nI i1) hM) rfl rfl (cwV 1 C.2.2.1 (lw_V q201 q202 q203 q12 q204) rfl rfl rfl (by decide +kernel) ⟨Nat.le_of_ble_eq_true rfl, Nat.le_of_ble_eq_true rfl⟩) rfl rfl (Nat.le_of_ble_eq_true rfl) dX2_load_2 ⟨Nat.zero_le _, Nat.zero_le _⟩ (fun r τ1 H locs hp G => ?_)
    obtain ⟨hs, hp⟩ := hp
    rw [hs] at G
    rw [cm_spTr_hit hi1 hc0 h3 hf g] at hp
    have hp : r = nI (8 * f + i1 % 8) := hp
    subst hp
    refine lv_istore_n (lv' := [(2, .int (nI (8 * f + i1 % 8))), (0, .ref h0), (1, .int (nI i1))]) hx hb dX2_load_5 rfl hl (by decide) rfl (fun ls hl => ?_)
    refine lv_iload_n hx hb dX2_load_6 rfl (lv_at hl 0 rfl) ?_
    refine lv_if_ge (tgt := 12) hx hb dX2_load_7 (by decide) (fun c2 => ?_) (fun c2 => absurd (nI_pos' (by omega)) c2)
    refine lv_aload_n hx hb dX2_load_12 rfl (lv_at hl 1 rfl) ?_
    refine lv_aload_n hx hb dX2_load_13 rfl (lv_at hl 1 rfl) ?_
    refine cm_get2 C G 0 rfl 0 (by decide) q157 rfl (v := .ref (a 0)) rfl dX2_load_14 ?_
    refine lv_iload_n hx hb dX2_load_17 rfl (lv_at hl 0 rfl) ?_
    refine cm_iald C G 1 0 rfl rfl (8 * f + i1 % 8) (by omega) (by decide) dX2_load_18 ?_
    refine cm_put2 C G 0 rfl 4 (by decide) q161 rfl rfl (by decide +kernel) (Nat.le_of_ble_eq_true rfl) (ws' := cm_wM h0 a d (cm_st τ 4 0 (τ 0 (8 * f + i1 % 8)))) rfl dX2_load_19 (fun H locs G => ?_)
    refine lv_iconst (v := 0) hx hb dX2_load_22 (by decide) ?_
    exact cm_iret (wo := cm_wM h0 a d) (σ := (cm_st τ 4 0 (τ 0 (8 * f + i1 % 8)))) C G hr hlk (by rw [cm_spLoad_hit hi1 hc0 h3 hf g]; exact ⟨rfl, rfl⟩) dX2_load_23
set_option maxHeartbeats 4000000 in
/-- X2.store -/
theorem cm_X2_store (l : Launch) (D : va_G) (h0 : Nat) (a : Nat → Nat) (d : Nat → ClassId) (τ : cm_St) (x v : Int32) (hM : cm_WM τ) : cm_Mi l D yX2_store (ws_ yX2_store cX2_store 4 (some .int)) ({ frames := 2, cells := 0, slots := 0, locals := 43 }) (cm_tM d) (cm_wM h0 a d) h0 [.int x, .int v] τ (fun r τ' => r = (cm_spChange τ x v 0).1 ∧ τ' = (cm_spChange τ x v 0).2) := by
  refine cm_startI (by decide) (Nat.le_of_ble_eq_true rfl) ?_
  intro p e s m below meth c A ls C hr hlk hml hA G hl
  have hx := C.1
  have hb := C.2.1
  have hl : lv_has ls 4 [(0, .ref h0), (1, .int x), (2, .int v)] := hl
  rcases cm_tr_cases hM x with g | ⟨i1, c0, hi1, hc0, rfl, h3, g | ⟨f, hf, g⟩⟩
  · skip
    refine lv_aload_n hx hb dX2_store_0 rfl (lv_at hl 0 rfl) ?_
    refine lv_iload_n hx hb dX2_store_1 rfl (lv_at hl 1 rfl) ?_
    refine cm_selfi (q := (RX2, TX2, 5)) (ci := 1) (rest := []) C hml hA G hl.1 (cm_X2_translate l D h0 a d τ x hM) rfl rfl (cwV 1 C.2.2.1 (lw_V q201 q202 q203 q12 q204) rfl rfl rfl (by decide +kernel) ⟨Nat.le_of_ble_eq_true rfl, Nat.le_of_ble_eq_true rfl⟩) rfl rfl (Nat.le_of_ble_eq_true rfl) dX2_store_2 ⟨Nat.zero_le _, Nat.zero_le _⟩ (fun r τ1 H locs hp G => ?_)
    obtain ⟨hs, hp⟩ := hp
    rw [hs] at G
    rw [show cm_spTr τ x = (-1, τ) by simp only [cm_spTr, g]] at hp
    have hp : r = -1 := hp
    subst hp
    refine lv_istore_n (lv' := [(3, .int (-1)), (0, .ref h0), (1, .int x), (2, .int v)]) hx hb dX2_store_5 rfl hl (by decide) rfl (fun ls hl => ?_)
    refine lv_iload_n hx hb dX2_store_6 rfl (lv_at hl 0 rfl) ?_
    refine lv_if_ge (tgt := 12) hx hb dX2_store_7 (by decide) (fun c2 => absurd c2 (by decide)) (fun c2 => ?_)
    refine lv_iload_n hx hb dX2_store_10 rfl (lv_at hl 0 rfl) ?_
    exact cm_iret (wo := cm_wM h0 a d) (σ := τ) C G hr hlk (by rw [show cm_spChange τ x v 0 = (-1, τ) by simp only [cm_spChange, g]]; exact ⟨rfl, rfl⟩) dX2_store_11
  · skip
    refine lv_aload_n hx hb dX2_store_0 rfl (lv_at hl 0 rfl) ?_
    refine lv_iload_n hx hb dX2_store_1 rfl (lv_at hl 1 rfl) ?_
    refine cm_selfi (q := (RX2, TX2, 5)) (ci := 1) (rest := []) C hml hA G hl.1 (cm_X2_translate l D h0 a d τ (nI i1) hM) rfl rfl (cwV 1 C.2.2.1 (lw_V q201 q202 q203 q12 q204) rfl rfl rfl (by decide +kernel) ⟨Nat.le_of_ble_eq_true rfl, Nat.le_of_ble_eq_true rfl⟩) rfl rfl (Nat.le_of_ble_eq_true rfl) dX2_store_2 ⟨Nat.zero_le _, Nat.zero_le _⟩ (fun r τ1 H locs hp G => ?_)
    obtain ⟨hs, hp⟩ := hp
    rw [hs] at G
    rw [cm_spTr_miss hi1 hc0 h3 g] at hp
    have hp : r = -2 := hp
    subst hp
    refine lv_istore_n (lv' := [(3, .int (-2)), (0, .ref h0), (1, .int (nI i1)), (2, .int v)]) hx hb dX2_store_5 rfl hl (by decide) rfl (fun ls hl => ?_)
    refine lv_iload_n hx hb dX2_store_6 rfl (lv_at hl 0 rfl) ?_
    refine lv_if_ge (tgt := 12) hx hb dX2_store_7 (by decide) (fun c2 => absurd c2 (by decide)) (fun c2 => ?_)
    refine lv_iload_n hx hb dX2_store_10 rfl (lv_at hl 0 rfl) ?_
    exact cm_iret (wo := cm_wM h0 a d) (σ := τ) C G hr hlk (by rw [cm_spChange_miss hi1 hc0 h3 g]; exact ⟨rfl, rfl⟩) dX2_store_11
  · skip
    refine lv_aload_n hx hb dX2_store_0 rfl (lv_at hl 0 rfl) ?_
    refine lv_iload_n hx hb dX2_store_1 rfl (lv_at hl 1 rfl) ?_
    refine cm_selfi (q := (RX2, TX2, 5)) (ci := 1) (rest := []) C hml hA G hl.1 (cm_X2_translate l D h0 a d τ (nI i1) hM) rfl rfl (cwV 1 C.2.2.1 (lw_V q201 q202 q203 q12 q204) rfl rfl rfl (by decide +kernel) ⟨Nat.le_of_ble_eq_true rfl, Nat.le_of_ble_eq_true rfl⟩) rfl rfl (Nat.le_of_ble_eq_true rfl) dX2_store_2 ⟨Nat.zero_le _, Nat.zero_le _⟩ (fun r τ1 H locs hp G => ?_)
    obtain ⟨hs, hp⟩ := hp
    rw [hs] at G
    rw [cm_spTr_hit hi1 hc0 h3 hf g] at hp
    have hp : r = nI (8 * f + i1 % 8) := hp
    subst hp
    refine lv_istore_n (lv' := [(3, .int (nI (8 * f + i1 % 8))), (0, .ref h0), (1, .int (nI i1)), (2, .int v)]) hx hb dX2_store_5 rfl hl (by decide) rfl (fun ls hl => ?_)
    refine lv_iload_n hx hb dX2_store_6 rfl (lv_at hl 0 rfl) ?_
    refine lv_if_ge (tgt := 12) hx hb dX2_store_7 (by decide) (fun c2 => ?_) (fun c2 => absurd (nI_pos' (by omega)) c2)
    refine lv_aload_n hx hb dX2_store_12 rfl (lv_at hl 1 rfl) ?_
    refine cm_get2 C G 0 rfl 2 (by decide) q159 rfl (v := .ref (a 2)) rfl dX2_store_13 ?_
    refine lv_bipush (v := nI 8) hx hb dX2_store_16 (by decide) ?_
    refine lv_aload_n hx hb dX2_store_18 rfl (lv_at hl 1 rfl) ?_
    refine cm_get2 C G 0 rfl 3 (by decide) q160 rfl (v := .int (τ 3 0)) rfl dX2_store_19 ?_
    refine cm_top h3 ?_
    refine lv_imul hx hb dX2_store_22 ?_
    refine cm_top (pk_mul 8 c0) ?_
    refine lv_iload_n hx hb dX2_store_23 rfl (lv_at hl 2 rfl) ?_
    refine lv_iconst (v := nI 3) hx hb dX2_store_24 (by decide) ?_
    refine lv_ishr hx hb dX2_store_25 ?_
    refine cm_top (cm_shr3 (n := i1) (by omega)) ?_
    refine lv_iadd hx hb dX2_store_26 ?_
    refine cm_top (nI_add (8 * c0) (i1 / 8)) ?_
    refine cm_zald C G 3 2 rfl rfl (8 * c0 + i1 / 8) (by omega) (by decide) dX2_store_27 ?_
    refine lv_if_ne (tgt := 34) hx hb dX2_store_28 (by decide) (fun c4 => ?_) (fun c4 => ?_)
    rotate_left
    · skip
      refine lv_bipush (v := -3) hx hb dX2_store_31 (by decide) ?_
      exact cm_iret (wo := cm_wM h0 a d) (σ := τ) C G hr hlk (by rw [cm_spChange_ro hi1 hc0 h3 hf g c4]; exact ⟨rfl, rfl⟩) dX2_store_33
    refine lv_aload_n hx hb dX2_store_34 rfl (lv_at hl 1 rfl) ?_
    refine cm_get2 C G 0 rfl 0 (by decide) q157 rfl (v := .ref (a 0)) rfl dX2_store_35 ?_
    refine lv_iload_n hx hb dX2_store_38 rfl (lv_at hl 0 rfl) ?_
    refine lv_iload_n hx hb dX2_store_39 rfl (lv_at hl 3 rfl) ?_
    refine cm_iast C G 1 0 rfl rfl (8 * f + i1 % 8) (by omega) (by decide) (ws' := cm_wM h0 a d (cm_st τ 0 (8 * f + i1 % 8) v)) rfl dX2_store_40 (fun H locs G => ?_)
    refine lv_iconst (v := 0) hx hb dX2_store_41 (by decide) ?_
    exact cm_iret (wo := cm_wM h0 a d) (σ := (cm_st τ 0 (8 * f + i1 % 8) v)) C G hr hlk (by rw [cm_spChange_hit hi1 hc0 h3 hf g c4, if_pos rfl]; exact ⟨rfl, rfl⟩) dX2_store_42
set_option maxHeartbeats 4000000 in
/-- X2.add -/
theorem cm_X2_add (l : Launch) (D : va_G) (h0 : Nat) (a : Nat → Nat) (d : Nat → ClassId) (τ : cm_St) (x v : Int32) (hM : cm_WM τ) : cm_Mi l D yX2_add (ws_ yX2_add cX2_add 4 (some .int)) ({ frames := 3, cells := 0, slots := 0, locals := 66 }) (cm_tM d) (cm_wM h0 a d) h0 [.int x, .int v] τ (fun r τ' => r = (cm_spChange τ x v 1).1 ∧ τ' = (cm_spChange τ x v 1).2) := by
  refine cm_startI (by decide) (Nat.le_of_ble_eq_true rfl) ?_
  intro p e s m below meth c A ls C hr hlk hml hA G hl
  have hx := C.1
  have hb := C.2.1
  have hl : lv_has ls 4 [(0, .ref h0), (1, .int x), (2, .int v)] := hl
  rcases cm_tr_cases hM x with g | ⟨i1, c0, hi1, hc0, rfl, h3, g | ⟨f, hf, g⟩⟩
  · skip
    refine lv_aload_n hx hb dX2_add_0 rfl (lv_at hl 0 rfl) ?_
    refine lv_iload_n hx hb dX2_add_1 rfl (lv_at hl 1 rfl) ?_
    refine cm_selfi (q := (RX2, TX2, 5)) (ci := 1) (rest := []) C hml hA G hl.1 (cm_X2_translate l D h0 a d τ x hM) rfl rfl (cwV 1 C.2.2.1 (lw_V q201 q202 q203 q12 q204) rfl rfl rfl (by decide +kernel) ⟨Nat.le_of_ble_eq_true rfl, Nat.le_of_ble_eq_true rfl⟩) rfl rfl (Nat.le_of_ble_eq_true rfl) dX2_add_2 ⟨Nat.zero_le _, Nat.zero_le _⟩ (fun r τ1 H locs hp G => ?_)
    obtain ⟨hs, hp⟩ := hp
    rw [hs] at G
    rw [show cm_spTr τ x = (-1, τ) by simp only [cm_spTr, g]] at hp
    have hp : r = -1 := hp
    subst hp
    refine lv_istore_n (lv' := [(3, .int (-1)), (0, .ref h0), (1, .int x), (2, .int v)]) hx hb dX2_add_5 rfl hl (by decide) rfl (fun ls hl => ?_)
    refine lv_aload_n hx hb dX2_add_6 rfl (lv_at hl 1 rfl) ?_
    refine lv_iload_n hx hb dX2_add_7 rfl (lv_at hl 2 rfl) ?_
    refine lv_iload_n hx hb dX2_add_8 rfl (lv_at hl 0 rfl) ?_
    refine lv_if_ge (tgt := 16) hx hb dX2_add_9 (by decide) (fun c2 => absurd c2 (by decide)) (fun c2 => ?_)
    refine lv_iconst (v := 0) hx hb dX2_add_12 (by decide) ?_
    refine lv_goto (tgt := 24) hx hb dX2_add_13 (by decide) ?_
    refine cm_selfi (q := (RX2, TX2, 5)) (ci := 1) (rest := []) C hml hA G hl.1 (cm_X2_store l D h0 a d τ x 0 hM) rfl rfl (cwV 2 C.2.2.1 (lw_V q221 q214 q215 q12 q216) rfl rfl rfl (by decide +kernel) ⟨Nat.le_of_ble_eq_true rfl, Nat.le_of_ble_eq_true rfl⟩) rfl rfl (Nat.le_of_ble_eq_true rfl) dX2_add_24 ⟨Nat.zero_le _, Nat.zero_le _⟩ (fun r τ1 H locs hp G => ?_)
    rw [show ∀ v w, cm_spChange τ x v w = (-1, τ) by intro v w; simp only [cm_spChange, g]] at hp
    exact cm_iret (wo := cm_wM h0 a d) (σ := τ1) C G hr hlk (by rw [show ∀ v w, cm_spChange τ x v w = (-1, τ) by intro v w; simp only [cm_spChange, g]]; exact hp) dX2_add_27
  · skip
    refine lv_aload_n hx hb dX2_add_0 rfl (lv_at hl 0 rfl) ?_
    refine lv_iload_n hx hb dX2_add_1 rfl (lv_at hl 1 rfl) ?_
    refine cm_selfi (q := (RX2, TX2, 5)) (ci := 1) (rest := []) C hml hA G hl.1 (cm_X2_translate l D h0 a d τ (nI i1) hM) rfl rfl (cwV 1 C.2.2.1 (lw_V q201 q202 q203 q12 q204) rfl rfl rfl (by decide +kernel) ⟨Nat.le_of_ble_eq_true rfl, Nat.le_of_ble_eq_true rfl⟩) rfl rfl (Nat.le_of_ble_eq_true rfl) dX2_add_2 ⟨Nat.zero_le _, Nat.zero_le _⟩ (fun r τ1 H locs hp G => ?_)
    obtain ⟨hs, hp⟩ := hp
    rw [hs] at G
    rw [cm_spTr_miss hi1 hc0 h3 g] at hp
    have hp : r = -2 := hp
    subst hp
    refine lv_istore_n (lv' := [(3, .int (-2)), (0, .ref h0), (1, .int (nI i1)), (2, .int v)]) hx hb dX2_add_5 rfl hl (by decide) rfl (fun ls hl => ?_)
    refine lv_aload_n hx hb dX2_add_6 rfl (lv_at hl 1 rfl) ?_
    refine lv_iload_n hx hb dX2_add_7 rfl (lv_at hl 2 rfl) ?_
    refine lv_iload_n hx hb dX2_add_8 rfl (lv_at hl 0 rfl) ?_
    refine lv_if_ge (tgt := 16) hx hb dX2_add_9 (by decide) (fun c2 => absurd c2 (by decide)) (fun c2 => ?_)
    refine lv_iconst (v := 0) hx hb dX2_add_12 (by decide) ?_
    refine lv_goto (tgt := 24) hx hb dX2_add_13 (by decide) ?_
    refine cm_selfi (q := (RX2, TX2, 5)) (ci := 1) (rest := []) C hml hA G hl.1 (cm_X2_store l D h0 a d τ (nI i1) 0 hM) rfl rfl (cwV 2 C.2.2.1 (lw_V q221 q214 q215 q12 q216) rfl rfl rfl (by decide +kernel) ⟨Nat.le_of_ble_eq_true rfl, Nat.le_of_ble_eq_true rfl⟩) rfl rfl (Nat.le_of_ble_eq_true rfl) dX2_add_24 ⟨Nat.zero_le _, Nat.zero_le _⟩ (fun r τ1 H locs hp G => ?_)
    rw [show ∀ v w, cm_spChange τ (nI i1) v w = (-2, τ) from fun v w => cm_spChange_miss hi1 hc0 h3 g] at hp
    exact cm_iret (wo := cm_wM h0 a d) (σ := τ1) C G hr hlk (by rw [show ∀ v w, cm_spChange τ (nI i1) v w = (-2, τ) from fun v w => cm_spChange_miss hi1 hc0 h3 g]; exact hp) dX2_add_27
  · skip
    refine lv_aload_n hx hb dX2_add_0 rfl (lv_at hl 0 rfl) ?_
    refine lv_iload_n hx hb dX2_add_1 rfl (lv_at hl 1 rfl) ?_
    refine cm_selfi (q := (RX2, TX2, 5)) (ci := 1) (rest := []) C hml hA G hl.1 (cm_X2_translate l D h0 a d τ (nI i1) hM) rfl rfl (cwV 1 C.2.2.1 (lw_V q201 q202 q203 q12 q204) rfl rfl rfl (by decide +kernel) ⟨Nat.le_of_ble_eq_true rfl, Nat.le_of_ble_eq_true rfl⟩) rfl rfl (Nat.le_of_ble_eq_true rfl) dX2_add_2 ⟨Nat.zero_le _, Nat.zero_le _⟩ (fun r τ1 H locs hp G => ?_)
    obtain ⟨hs, hp⟩ := hp
    rw [hs] at G
    rw [cm_spTr_hit hi1 hc0 h3 hf g] at hp
    have hp : r = nI (8 * f + i1 % 8) := hp
    subst hp
    refine lv_istore_n (lv' := [(3, .int (nI (8 * f + i1 % 8))), (0, .ref h0), (1, .int (nI i1)), (2, .int v)]) hx hb dX2_add_5 rfl hl (by decide) rfl (fun ls hl => ?_)
    refine lv_aload_n hx hb dX2_add_6 rfl (lv_at hl 1 rfl) ?_
    refine lv_iload_n hx hb dX2_add_7 rfl (lv_at hl 2 rfl) ?_
    refine lv_iload_n hx hb dX2_add_8 rfl (lv_at hl 0 rfl) ?_
    refine lv_if_ge (tgt := 16) hx hb dX2_add_9 (by decide) (fun c2 => ?_) (fun c2 => absurd (nI_pos' (by omega)) c2)
    refine lv_aload_n hx hb dX2_add_16 rfl (lv_at hl 1 rfl) ?_
    refine cm_get2 C G 0 rfl 0 (by decide) q157 rfl (v := .ref (a 0)) rfl dX2_add_17 ?_
    refine lv_iload_n hx hb dX2_add_20 rfl (lv_at hl 0 rfl) ?_
    refine cm_iald C G 1 0 rfl rfl (8 * f + i1 % 8) (by omega) (by decide) dX2_add_21 ?_
    refine lv_iload_n hx hb dX2_add_22 rfl (lv_at hl 3 rfl) ?_
    refine lv_iadd hx hb dX2_add_23 ?_
    refine cm_selfi (q := (RX2, TX2, 5)) (ci := 1) (rest := []) C hml hA G hl.1 (cm_X2_store l D h0 a d τ (nI i1) (τ 0 (8 * f + i1 % 8) + v) hM) rfl rfl (cwV 2 C.2.2.1 (lw_V q221 q214 q215 q12 q216) rfl rfl rfl (by decide +kernel) ⟨Nat.le_of_ble_eq_true rfl, Nat.le_of_ble_eq_true rfl⟩) rfl rfl (Nat.le_of_ble_eq_true rfl) dX2_add_24 ⟨Nat.zero_le _, Nat.zero_le _⟩ (fun r τ1 H locs hp G => ?_)
    exact cm_iret (wo := cm_wM h0 a d) (σ := τ1) C G hr hlk (by rw [← cm_add_eq hi1 hc0 h3 hf g]; exact hp) dX2_add_27
set_option maxHeartbeats 4000000 in
/-- X2.deviceRead -/
theorem cm_X2_deviceRead (l : Launch) (D : va_G) (h0 : Nat) (a : Nat → Nat) (d : Nat → ClassId) (τ : cm_St) (x : Int32) : cm_Mi l D yX2_deviceRead (ws_ yX2_deviceRead cX2_deviceRead 2 (some .int)) ({ frames := 1, cells := 0, slots := 0, locals := 21 }) (cm_tM d) (cm_wM h0 a d) h0 [.int x] τ (fun r τ' => r = (cm_spDR τ x).1 ∧ τ' = (cm_spDR τ x).2) := by
  refine cm_startI (by decide) (Nat.le_of_ble_eq_true rfl) ?_
  intro p e s m below meth c A ls C hr hlk hml hA G hl
  have hx := C.1
  have hb := C.2.1
  have hl : lv_has ls 2 [(0, .ref h0), (1, .int x)] := hl
  refine lv_aload_n hx hb dX2_deviceRead_0 rfl (lv_at hl 0 rfl) ?_
  refine lv_iload_n hx hb dX2_deviceRead_1 rfl (lv_at hl 1 rfl) ?_
  refine cm_selfi (q := (RX2, TX2, 5)) (ci := 1) (rest := []) C hml hA G hl.1 (cm_X2_isWord l D h0 a d τ x) rfl rfl (cwV 1 C.2.2.1 (lw_V q205 q207 qs9 q12 q208) rfl rfl rfl (by decide +kernel) ⟨Nat.le_of_ble_eq_true rfl, Nat.le_of_ble_eq_true rfl⟩) rfl rfl (Nat.le_of_ble_eq_true rfl) dX2_deviceRead_2 ⟨Nat.zero_le _, Nat.zero_le _⟩ (fun r τ1 H locs hp G => ?_)
  obtain ⟨hs, hp⟩ := hp
  rw [hs] at G
  rcases hp with ⟨rfl, gi1⟩ | ⟨rfl, i1, hi1, rfl⟩
  · skip
    refine lv_if_eq (tgt := 17) hx hb dX2_deviceRead_5 (by decide) (fun ci1 => ?_) (fun ci1 => absurd rfl ci1)
    refine lv_iconst (v := 0) hx hb dX2_deviceRead_17 (by decide) ?_
    exact cm_iret (wo := cm_wM h0 a d) (σ := τ) C G hr hlk (by rw [show cm_spDR τ x = (0, τ) by simp only [cm_spDR, gi1]]; exact ⟨rfl, rfl⟩) dX2_deviceRead_18
  refine lv_if_eq (tgt := 17) hx hb dX2_deviceRead_5 (by decide) (fun ci1 => absurd ci1 (by decide)) (fun ci1 => ?_)
  refine lv_aload_n hx hb dX2_deviceRead_8 rfl (lv_at hl 0 rfl) ?_
  refine cm_get2 C G 0 rfl 0 (by decide) q157 rfl (v := .ref (a 0)) rfl dX2_deviceRead_9 ?_
  refine lv_iload_n hx hb dX2_deviceRead_12 rfl (lv_at hl 1 rfl) ?_
  refine cm_iald C G 1 0 rfl rfl i1 (by omega) (by decide) dX2_deviceRead_13 ?_
  refine lv_goto (tgt := 18) hx hb dX2_deviceRead_14 (by decide) ?_
  exact cm_iret (wo := cm_wM h0 a d) (σ := τ) C G hr hlk (by rw [cm_spDR_at hi1]; exact ⟨rfl, rfl⟩) dX2_deviceRead_18
set_option maxHeartbeats 4000000 in
/-- X2.deviceWrite -/
theorem cm_X2_deviceWrite (l : Launch) (D : va_G) (h0 : Nat) (a : Nat → Nat) (d : Nat → ClassId) (τ : cm_St) (x v : Int32) : cm_Mi l D yX2_deviceWrite (ws_ yX2_deviceWrite cX2_deviceWrite 3 (some .int)) ({ frames := 1, cells := 0, slots := 0, locals := 21 }) (cm_tM d) (cm_wM h0 a d) h0 [.int x, .int v] τ (fun r τ' => r = (cm_spDW τ x v).1 ∧ τ' = (cm_spDW τ x v).2) := by
  refine cm_startI (by decide) (Nat.le_of_ble_eq_true rfl) ?_
  intro p e s m below meth c A ls C hr hlk hml hA G hl
  have hx := C.1
  have hb := C.2.1
  have hl : lv_has ls 3 [(0, .ref h0), (1, .int x), (2, .int v)] := hl
  refine lv_aload_n hx hb dX2_deviceWrite_0 rfl (lv_at hl 0 rfl) ?_
  refine lv_iload_n hx hb dX2_deviceWrite_1 rfl (lv_at hl 1 rfl) ?_
  refine cm_selfi (q := (RX2, TX2, 5)) (ci := 1) (rest := []) C hml hA G hl.1 (cm_X2_isWord l D h0 a d τ x) rfl rfl (cwV 1 C.2.2.1 (lw_V q205 q207 qs9 q12 q208) rfl rfl rfl (by decide +kernel) ⟨Nat.le_of_ble_eq_true rfl, Nat.le_of_ble_eq_true rfl⟩) rfl rfl (Nat.le_of_ble_eq_true rfl) dX2_deviceWrite_2 ⟨Nat.zero_le _, Nat.zero_le _⟩ (fun r τ1 H locs hp G => ?_)
  obtain ⟨hs, hp⟩ := hp
  rw [hs] at G
  rcases hp with ⟨rfl, gi1⟩ | ⟨rfl, i1, hi1, rfl⟩
  · skip
    refine lv_if_ne (tgt := 10) hx hb dX2_deviceWrite_5 (by decide) (fun ci1 => absurd rfl ci1) (fun ci1 => ?_)
    refine lv_iconst (v := -1) hx hb dX2_deviceWrite_8 (by decide) ?_
    exact cm_iret (wo := cm_wM h0 a d) (σ := τ) C G hr hlk (by rw [show cm_spDW τ x v = (-1, τ) by simp only [cm_spDW, gi1]]; exact ⟨rfl, rfl⟩) dX2_deviceWrite_9
  refine lv_if_ne (tgt := 10) hx hb dX2_deviceWrite_5 (by decide) (fun ci1 => ?_) (fun ci1 => absurd ci1 (by decide))
  refine lv_aload_n hx hb dX2_deviceWrite_10 rfl (lv_at hl 0 rfl) ?_
  refine cm_get2 C G 0 rfl 0 (by decide) q157 rfl (v := .ref (a 0)) rfl dX2_deviceWrite_11 ?_
  refine lv_iload_n hx hb dX2_deviceWrite_14 rfl (lv_at hl 1 rfl) ?_
  refine lv_iload_n hx hb dX2_deviceWrite_15 rfl (lv_at hl 2 rfl) ?_
  refine cm_iast C G 1 0 rfl rfl i1 (by omega) (by decide) (ws' := cm_wM h0 a d (cm_st τ 0 i1 v)) rfl dX2_deviceWrite_16 (fun H locs G => ?_)
  refine lv_iconst (v := 0) hx hb dX2_deviceWrite_17 (by decide) ?_
  exact cm_iret (wo := cm_wM h0 a d) (σ := (cm_st τ 0 i1 v)) C G hr hlk (by rw [cm_spDW_at hi1]; exact ⟨rfl, rfl⟩) dX2_deviceWrite_18
set_option maxHeartbeats 4000000 in
/-- X2.deviceCopy -/
theorem cm_X2_deviceCopy (l : Launch) (D : va_G) (h0 : Nat) (a : Nat → Nat) (d : Nat → ClassId) (τ : cm_St) (x y n : Int32) : cm_Mi l D yX2_deviceCopy (ws_ yX2_deviceCopy cX2_deviceCopy 5 (some .int)) ({ frames := 0, cells := 0, slots := 0, locals := 0 }) (cm_tM d) (cm_wM h0 a d) h0 [.int x, .int y, .int n] τ (fun r τ' => r = (cm_spDC τ x y n).1 ∧ τ' = (cm_spDC τ x y n).2) := by
  refine cm_startI (by decide) (Nat.le_of_ble_eq_true rfl) ?_
  intro p e s m below meth c A ls C hr hlk hml hA G hl
  have hx := C.1
  have hb := C.2.1
  have hl : lv_has ls 5 [(0, .ref h0), (1, .int x), (2, .int y), (3, .int n)] := hl
  refine lv_iload_n hx hb dX2_deviceCopy_0 rfl (lv_at hl 1 rfl) ?_
  refine lv_if_lt (tgt := 30) hx hb dX2_deviceCopy_1 (by decide) (fun c1 => ?_) (fun c1 => ?_)
  · skip
    refine lv_iconst (v := -1) hx hb dX2_deviceCopy_30 (by decide) ?_
    exact cm_iret (wo := cm_wM h0 a d) (σ := τ) C G hr hlk (by rw [show cm_spDC τ x y n = (-1, τ) by simp only [cm_spDC, cm_rg_neg c1]]; exact ⟨rfl, rfl⟩) dX2_deviceCopy_31
  obtain ⟨i1, hi1, rfl⟩ := nI_of c1
  refine lv_iload_n hx hb dX2_deviceCopy_4 rfl (lv_at hl 2 rfl) ?_
  refine lv_if_lt (tgt := 30) hx hb dX2_deviceCopy_5 (by decide) (fun c2 => ?_) (fun c2 => ?_)
  · skip
    refine lv_iconst (v := -1) hx hb dX2_deviceCopy_30 (by decide) ?_
    exact cm_iret (wo := cm_wM h0 a d) (σ := τ) C G hr hlk (by rw [cm_spDC_y (cm_rg_neg c2)]; exact ⟨rfl, rfl⟩) dX2_deviceCopy_31
  obtain ⟨i2, hi2, rfl⟩ := nI_of c2
  refine lv_iload_n hx hb dX2_deviceCopy_8 rfl (lv_at hl 3 rfl) ?_
  refine lv_if_lt (tgt := 30) hx hb dX2_deviceCopy_9 (by decide) (fun c3 => ?_) (fun c3 => ?_)
  · skip
    refine lv_iconst (v := -1) hx hb dX2_deviceCopy_30 (by decide) ?_
    exact cm_iret (wo := cm_wM h0 a d) (σ := τ) C G hr hlk (by rw [cm_spDC_n (cm_rg_neg c3)]; exact ⟨rfl, rfl⟩) dX2_deviceCopy_31
  obtain ⟨i3, hi3, rfl⟩ := nI_of c3
  refine lv_iload_n hx hb dX2_deviceCopy_12 rfl (lv_at hl 1 rfl) ?_
  refine lv_bipush (v := nI 64) hx hb dX2_deviceCopy_13 (by decide) ?_
  refine lv_icmp_gt (tgt := 30) hx hb dX2_deviceCopy_15 (by decide) (fun c4 => ?_) (fun c4 => ?_)
  · skip
    have c4 : 64 < i1 := (nI_ltI (a := 64) (b := i1) (by omega) (by omega)).mp c4
    refine lv_iconst (v := -1) hx hb dX2_deviceCopy_30 (by decide) ?_
    exact cm_iret (wo := cm_wM h0 a d) (σ := τ) C G hr hlk (by rw [cm_spDC_no hi1 hi2 hi3 (by omega)]; exact ⟨rfl, rfl⟩) dX2_deviceCopy_31
  have c4 : ¬ 64 < i1 := fun q => c4 ((nI_ltI (a := 64) (b := i1) (by omega) (by omega)).mpr q)
  refine lv_iload_n hx hb dX2_deviceCopy_18 rfl (lv_at hl 2 rfl) ?_
  refine lv_bipush (v := nI 64) hx hb dX2_deviceCopy_19 (by decide) ?_
  refine lv_icmp_gt (tgt := 30) hx hb dX2_deviceCopy_21 (by decide) (fun c5 => ?_) (fun c5 => ?_)
  · skip
    have c5 : 64 < i2 := (nI_ltI (a := 64) (b := i2) (by omega) (by omega)).mp c5
    refine lv_iconst (v := -1) hx hb dX2_deviceCopy_30 (by decide) ?_
    exact cm_iret (wo := cm_wM h0 a d) (σ := τ) C G hr hlk (by rw [cm_spDC_no hi1 hi2 hi3 (by omega)]; exact ⟨rfl, rfl⟩) dX2_deviceCopy_31
  have c5 : ¬ 64 < i2 := fun q => c5 ((nI_ltI (a := 64) (b := i2) (by omega) (by omega)).mpr q)
  refine lv_iload_n hx hb dX2_deviceCopy_24 rfl (lv_at hl 3 rfl) ?_
  refine lv_bipush (v := nI 64) hx hb dX2_deviceCopy_25 (by decide) ?_
  refine lv_icmp_le (tgt := 32) hx hb dX2_deviceCopy_27 (by decide) (fun c6 => ?_) (fun c6 => ?_)
  rotate_left
  · skip
    have c6 : ¬ i3 ≤ 64 := fun q => c6 ((nI_leI (a := i3) (b := 64) (by omega) (by omega)).mpr q)
    refine lv_iconst (v := -1) hx hb dX2_deviceCopy_30 (by decide) ?_
    exact cm_iret (wo := cm_wM h0 a d) (σ := τ) C G hr hlk (by rw [cm_spDC_no hi1 hi2 hi3 (by omega)]; exact ⟨rfl, rfl⟩) dX2_deviceCopy_31
  have c6 : i3 ≤ 64 := (nI_leI (a := i3) (b := 64) (by omega) (by omega)).mp c6
  refine lv_iload_n hx hb dX2_deviceCopy_32 rfl (lv_at hl 1 rfl) ?_
  refine lv_iload_n hx hb dX2_deviceCopy_33 rfl (lv_at hl 3 rfl) ?_
  refine lv_iadd hx hb dX2_deviceCopy_34 ?_
  refine cm_top (nI_add i1 i3) ?_
  refine lv_bipush (v := nI 64) hx hb dX2_deviceCopy_35 (by decide) ?_
  refine lv_icmp_gt (tgt := 48) hx hb dX2_deviceCopy_37 (by decide) (fun c7 => ?_) (fun c7 => ?_)
  · skip
    have c7 : 64 < i1 + i3 := (nI_ltI (a := 64) (b := i1 + i3) (by omega) (by omega)).mp c7
    refine lv_iconst (v := -1) hx hb dX2_deviceCopy_48 (by decide) ?_
    exact cm_iret (wo := cm_wM h0 a d) (σ := τ) C G hr hlk (by rw [cm_spDC_no hi1 hi2 hi3 (by omega)]; exact ⟨rfl, rfl⟩) dX2_deviceCopy_49
  have c7 : ¬ 64 < i1 + i3 := fun q => c7 ((nI_ltI (a := 64) (b := i1 + i3) (by omega) (by omega)).mpr q)
  refine lv_iload_n hx hb dX2_deviceCopy_40 rfl (lv_at hl 2 rfl) ?_
  refine lv_iload_n hx hb dX2_deviceCopy_41 rfl (lv_at hl 3 rfl) ?_
  refine lv_iadd hx hb dX2_deviceCopy_42 ?_
  refine cm_top (nI_add i2 i3) ?_
  refine lv_bipush (v := nI 64) hx hb dX2_deviceCopy_43 (by decide) ?_
  refine lv_icmp_le (tgt := 50) hx hb dX2_deviceCopy_45 (by decide) (fun c8 => ?_) (fun c8 => ?_)
  rotate_left
  · skip
    have c8 : ¬ i2 + i3 ≤ 64 := fun q => c8 ((nI_leI (a := i2 + i3) (b := 64) (by omega) (by omega)).mpr q)
    refine lv_iconst (v := -1) hx hb dX2_deviceCopy_48 (by decide) ?_
    exact cm_iret (wo := cm_wM h0 a d) (σ := τ) C G hr hlk (by rw [cm_spDC_no hi1 hi2 hi3 (by omega)]; exact ⟨rfl, rfl⟩) dX2_deviceCopy_49
  have c8 : i2 + i3 ≤ 64 := (nI_leI (a := i2 + i3) (b := 64) (by omega) (by omega)).mp c8
  refine lv_iconst (v := nI 0) hx hb dX2_deviceCopy_50 (by decide) ?_
  refine lv_istore (lv' := [(4, .int (nI 0)), (0, .ref h0), (1, .int (nI i1)), (2, .int (nI i2)), (3, .int (nI i3))]) hx hb dX2_deviceCopy_51 hl (by decide) rfl (fun ls hl => ?_)
  refine cm_loop (I := fun i u => u = cm_cp τ i1 i2 i) (wo := cm_wM h0 a d) (lv := fun i _ => [(4, .int (nI i)), (0, .ref h0), (1, .int (nI i1)), (2, .int (nI i2)), (3, .int (nI i3))]) (N := i3) ?_ ?_ 0 τ _ _ _ (Nat.zero_le _) rfl G hl
  · skip
    intro u H locs ls hI G hl
    refine lv_iload hx hb dX2_deviceCopy_53 (lv_at hl 0 rfl) ?_
    refine lv_iload_n hx hb dX2_deviceCopy_55 rfl (lv_at hl 4 rfl) ?_
    refine lv_icmp_ge (tgt := 83) hx hb dX2_deviceCopy_56 (by decide) (fun c9 => ?_) (fun c9 => by have c9 : ¬ i3 ≤ i3 := fun q => c9 ((nI_leI (a := i3) (b := i3) (by omega) (by omega)).mpr q); omega)
    have c9 : i3 ≤ i3 := (nI_leI (a := i3) (b := i3) (by omega) (by omega)).mp c9
    refine lv_iload_n hx hb dX2_deviceCopy_83 rfl (lv_at hl 4 rfl) ?_
    exact cm_iret (wo := cm_wM h0 a d) (σ := u) C G hr hlk (by rw [cm_spDC_ok (by omega)]; exact ⟨rfl, hI⟩) dX2_deviceCopy_84
  · skip
    intro i u H locs ls hi hI G hl ih
    refine lv_iload hx hb dX2_deviceCopy_53 (lv_at hl 0 rfl) ?_
    refine lv_iload_n hx hb dX2_deviceCopy_55 rfl (lv_at hl 4 rfl) ?_
    refine lv_icmp_ge (tgt := 83) hx hb dX2_deviceCopy_56 (by decide) (fun c9 => by have c9 : i3 ≤ i := (nI_leI (a := i3) (b := i) (by omega) (by omega)).mp c9; omega) (fun c9 => ?_)
    have c9 : ¬ i3 ≤ i := fun q => c9 ((nI_leI (a := i3) (b := i) (by omega) (by omega)).mpr q)
    refine lv_aload_n hx hb dX2_deviceCopy_59 rfl (lv_at hl 1 rfl) ?_
    refine cm_get2 C G 0 rfl 0 (by decide) q157 rfl (v := .ref (a 0)) rfl dX2_deviceCopy_60 ?_
    refine lv_iload_n hx hb dX2_deviceCopy_63 rfl (lv_at hl 3 rfl) ?_
    refine lv_iload hx hb dX2_deviceCopy_64 (lv_at hl 0 rfl) ?_
    refine lv_iadd hx hb dX2_deviceCopy_66 ?_
    refine cm_top (nI_add i2 i) ?_
    refine lv_aload_n hx hb dX2_deviceCopy_67 rfl (lv_at hl 1 rfl) ?_
    refine cm_get2 C G 0 rfl 0 (by decide) q157 rfl (v := .ref (a 0)) rfl dX2_deviceCopy_68 ?_
    refine lv_iload_n hx hb dX2_deviceCopy_71 rfl (lv_at hl 2 rfl) ?_
    refine lv_iload hx hb dX2_deviceCopy_72 (lv_at hl 0 rfl) ?_
    refine lv_iadd hx hb dX2_deviceCopy_74 ?_
    refine cm_top (nI_add i1 i) ?_
    refine cm_iald C G 1 0 rfl rfl (i1 + i) (by omega) (by decide) dX2_deviceCopy_75 ?_
    refine cm_iast C G 1 0 rfl rfl (i2 + i) (by omega) (by decide) (ws' := cm_wM h0 a d (cm_st u 0 (i2 + i) (u 0 (i1 + i)))) rfl dX2_deviceCopy_76 (fun H locs G => ?_)
    refine lv_iinc (v := nI (i + 1)) (lv' := [(4, .int (nI (i + 1))), (0, .ref h0), (1, .int (nI i1)), (2, .int (nI i2)), (3, .int (nI i3))]) hx hb dX2_deviceCopy_77 hl (k := 0) rfl (cm_inc i) (by decide) rfl (fun ls hl => ?_)
    refine lv_goto (tgt := 53) hx hb dX2_deviceCopy_80 (by decide) ?_
    exact ih (cm_st u 0 (i2 + i) (u 0 (i1 + i))) _ _ _ (by rw [hI]; rfl) G hl
end
section
/-! cell, the constructors, and the rows that the law needs (the constructors are printed by gen4.py) -/
set_option maxRecDepth 100000
abbrev cm_f0 : List Value := [.null, .int 0, .int 0, .null, .null, .int 0, .null, .null, .null, .int 0, .int 0, .null, .null, .null, .null]
abbrev cm_f1 : List Value := [.null, .null, .null, .int 0, .int 0]
def cm_z : cm_St := fun _ _ => 0
def cm_ad {α : Type} (z q0 q3 q4 q6 q7 q8 q11 q12 q13 q14 : α) : Nat → α := fun k => match k with
  | 0 => q0
  | 3 => q3
  | 4 => q4
  | 6 => q6
  | 7 => q7
  | 8 => q8
  | 11 => q11
  | 12 => q12
  | 13 => q13
  | 14 => q14
  | _ => z
def cm_am {α : Type} (q0 q1 q2 : α) : Nat → α := fun k => match k with
  | 0 => q0
  | 1 => q1
  | _ => q2
/-- the class's state behind its constructor -/
def cm_I1 (σ : cm_St) : Prop := (∀ j, σ 0 j = 0) ∧ σ 1 0 = 0 ∧ σ 2 0 = 0 ∧ (∀ j, j < 32 → σ 3 j = -1) ∧ (∀ j, σ 4 j = 0) ∧ (∃ n, 1 ≤ n ∧ n ≤ 4 ∧ σ 5 0 = nI n) ∧ (∀ j, j < 4 → σ 6 j = -1) ∧ σ 9 0 = 0 ∧ (∃ n, 1 ≤ n ∧ n ≤ 4 ∧ σ 10 0 = nI n) ∧ ∀ j, j < 8 → σ 11 j = -1
/-- the reference's -/
def cm_I2 (τ : cm_St) : Prop := (∀ j, τ 0 j = 0) ∧ (∀ j, j < 32 → τ 1 j = -1) ∧ (∀ j, τ 2 j = 0) ∧ τ 3 0 = 0 ∧ τ 4 0 = 0
theorem cm_R0 {σ τ : cm_St} (h : cm_I1 σ) (g : cm_I2 τ) : cm_R σ τ := by
  obtain ⟨a0, a1, a2, a3, a4, ⟨n, n1, n4, a5⟩, a6, a9, ⟨m, m1, m4, a10⟩, a11⟩ := h
  obtain ⟨b0, b1, b2, b3, b4⟩ := g
  refine ⟨⟨⟨0, by decide, a1⟩, by rw [b3, a1], by rw [b4, a2], fun e he => ⟨by rw [b1 e he, a3 e he], by rw [b2, a4], Or.inl (a3 e he), Or.inl (a4 e)⟩⟩, ⟨n, n1, n4, a5, ⟨0, by omega, a9⟩, fun k hk => Or.inl (a6 k (by omega))⟩, ⟨m, m1, m4, a10, fun x hx => Or.inl (a11 x hx), fun x y b hx hy hb ex ey => ?_, fun w hw _ => by rw [b0, a0]⟩⟩
  rw [a11 x hx] at ex
  exact absurd ex (cm_m1 (by omega))
section CML
variable {p : Program} {l : Launch} {e : Env} {R : Room} {s : State} {m : MethodId} {args : Array Value} {below : List Frame} {meth : Method} {c : Code} {H : Heap} {locs : List Loc} {cells slots : Nat} {Q : State → Prop}
variable {cc : ByteArray} {pc : Nat} {ls : Array Slot} {rest : List Value} {D : va_G} {A : Nat → Prop} {tys : List (ClassId × FieldType)} {ws : va_W} {b L : Nat} {xs : Nat → Int32}
/-- a place of the script -/
theorem cm_sld (hx : p.tables.exec = Jvm.exec) (hb : c.code = cc) (hX : va_X b L xs s s.heap) (hbl : b < s.heap.size) (hbA : ¬ A b) (G : cm_G D A s.heap ws H locs) (j : Nat) (hj : j < L) (hL : L < 2 ^ 31) (hdg : decode cc pc = .ok (.iaload, 1))
    (kk : W p l e R s m args below meth c H locs cells slots Q (F0 m (pc + 1) ls (.int (xs j) :: rest))) : W p l e R s m args below meth c H locs cells slots Q (F0 m pc ls (.int (nI j) :: .ref b :: rest)) := by
  refine va_sld hx hb hX hbl hbA G.2.2 (vp_in_nI hj hL) hdg ?_
  rw [nI_clamp (Nat.lt_trans hj hL)]
  exact kk
/-- a number between 1 and 4, as both constructors' ternaries say it -/
theorem cm_clamp (hx : p.tables.exec = Jvm.exec) (hb : c.code = cc) {k : Fin 4} {i : Nat} {x : Int32} (hi : (k : Nat) = i) (hl : ls[i]? = some (.val (.int x))) (d0 : decode cc pc = .ok (.iload_n k, 1)) (d1 : decode cc (pc + 1) = .ok (.iconst 1, 1)) (d2 : decode cc (pc + 2) = .ok (.if_icmp .ge 7, 3)) (d3 : decode cc (pc + 5) = .ok (.iconst 1, 1)) (d4 : decode cc (pc + 6) = .ok (.goto 13, 3)) (d5 : decode cc (pc + 9) = .ok (.iload_n k, 1)) (d6 : decode cc (pc + 10) = .ok (.iconst 4, 1)) (d7 : decode cc (pc + 11) = .ok (.if_icmp .le 7, 3)) (d8 : decode cc (pc + 14) = .ok (.iconst 4, 1)) (d9 : decode cc (pc + 15) = .ok (.goto 4, 3)) (d10 : decode cc (pc + 18) = .ok (.iload_n k, 1))
    (kk : ∀ n : Nat, 1 ≤ n → n ≤ 4 → W p l e R s m args below meth c H locs cells slots Q (F0 m (pc + 19) ls (.int (nI n) :: rest))) : W p l e R s m args below meth c H locs cells slots Q (F0 m pc ls rest) := by
  refine lv_iload_n hx hb d0 hi hl ?_
  refine lv_iconst (v := nI 1) hx hb d1 (by decide) ?_
  refine lv_icmp_ge (tgt := pc + 9) hx hb d2 (by omega) (fun c1 => ?_) (fun c1 => ?_)
  · refine lv_iload_n hx hb d5 hi hl ?_
    refine lv_iconst (v := nI 4) hx hb d6 (by decide) ?_
    refine lv_icmp_le (tgt := pc + 18) hx hb d7 (by omega) (fun c2 => ?_) (fun c2 => ?_)
    · have hx0 : ¬ x < 0 := by
        rw [Int32.le_iff_toInt_le, nI_toInt (by decide)] at c1
        rw [Int32.lt_iff_toInt_lt]
        have : (0 : Int32).toInt = 0 := by decide
        omega
      obtain ⟨j, hj, rfl⟩ := nI_of hx0
      have c1 : 1 ≤ j := (nI_leI (by decide) hj).mp c1
      have c2 : j ≤ 4 := (nI_leI hj (by decide)).mp c2
      refine lv_iload_n hx hb d10 hi hl ?_
      exact kk j c1 c2
    · refine lv_iconst (v := nI 4) hx hb d8 (by decide) ?_
      refine lv_goto (tgt := pc + 19) hx hb d9 (by omega) ?_
      exact kk 4 (by decide) (by decide)
  · refine lv_iconst (v := nI 1) hx hb d3 (by decide) ?_
    refine lv_goto (tgt := pc + 19) hx hb d4 (by omega) ?_
    exact kk 1 (by decide) (by decide)
end CML
set_option maxHeartbeats 4000000 in
/-- cell(script, k) -/
theorem cm_X0_cell (l : Launch) (b L : Nat) (xs : Nat → Int32) (k : Nat) (hk : k < 2 ^ 31) (hL : L < 2 ^ 31) : Met l yX0_cell (ws_ yX0_cell cX0_cell 2 (some .int)) ({ frames := 0, cells := 0, slots := 0, locals := 0 }) (va_Pc [.ref b, .int (nI k)] (fun U => va_X b L xs U U.heap)) (va_Qi (fun (r : Int32) (_ : Unit) => r = if k < L then xs k else 0) (fun _ _ => True) (fun _ => False)) 0 0 (fun _ => False) := by
  refine Met.ofW (cc := cX0_cell) (maxL := 2) (ret := (some .int)) (by decide) rfl ?_
  intro p e s m args below meth c s₁ B hml hv
  obtain ⟨rfl, hX⟩ := hv
  have hx := B.exec
  have hb := B.bytes
  have hr := B.returns
  have hlk := B.notSynchronized
  have hbl : b < s.heap.size := by
    obtain ⟨scr, h1, -⟩ := hX
    exact (Array.getElem?_eq_some_iff.mp h1).1
  have hbA : ¬ (fun _ : Nat => False) b := fun h => h
  have hS : va_S (fun _ => False) s.heap s.heap [] := va_S.rf
  have hl := lv_entry ([.ref b, .int (nI k)]) (n := 2) (Nat.le_of_ble_eq_true rfl)
  rw [lg_entry_eq]
  generalize (lg_sl ([.ref b, .int (nI k)]) ++ List.replicate (2 - (lg_sl ([.ref b, .int (nI k)])).length) Slot.unset).toArray = ls at hl ⊢
  have hl : lv_has ls 2 [(0, .ref b), (1, .int (nI k))] := hl
  refine lv_iload_n hx hb dX0_cell_0 rfl (lv_at hl 1 rfl) ?_
  refine lv_aload_n hx hb dX0_cell_1 rfl (lv_at hl 0 rfl) ?_
  refine va_slen hx hb hX hbl hbA hS dX0_cell_2 ?_
  refine lv_icmp_ge (tgt := 12) hx hb dX0_cell_3 (by decide) (fun c1 => ?_) (fun c1 => ?_)
  · have c1 : L ≤ k := (nI_leI hL hk).mp c1
    refine lv_iconst (v := 0) hx hb dX0_cell_12 (by decide) ?_
    exact W.iret hx hb hr (fun t ht _ => ⟨⟨0, (), rfl, (if_neg (by omega)).symm, trivial⟩, hS.F ht⟩) hS.2.2 dX0_cell_13 hlk
  · have c1 : ¬ L ≤ k := fun q => c1 ((nI_leI hL hk).mpr q)
    refine lv_aload_n hx hb dX0_cell_6 rfl (lv_at hl 0 rfl) ?_
    refine lv_iload_n hx hb dX0_cell_7 rfl (lv_at hl 1 rfl) ?_
    refine va_sld hx hb hX hbl hbA hS (vp_in_nI (by omega) hL) dX0_cell_8 ?_
    rw [nI_clamp hk]
    refine lv_goto (tgt := 13) hx hb dX0_cell_9 (by decide) ?_
    exact W.iret hx hb hr (fun t ht _ => ⟨⟨xs k, (), rfl, (if_pos (by omega)).symm, trivial⟩, hS.F ht⟩) hS.2.2 dX0_cell_13 hlk
section CMS
variable {p : Program} {l : Launch} {e : Env} {R : Room} {s : State} {m : MethodId} {args : Array Value} {below : List Frame} {meth : Method} {c : Code} {H : Heap} {locs : List Loc} {cells slots : Nat} {Q : State → Prop}
variable {cc : ByteArray} {pc nL : Nat} {ls : Array Slot} {rest : List Value} {D : va_G} {A : Nat → Prop} {tys : List (ClassId × FieldType)} {ws : va_W} {b L : Nat} {xs : Nat → Int32}
/-- the law calls cell -/
theorem cm_callcell (C : cm_C p c cc s args m RX0 D tys) (hml : c.maxLocals = nL) (G : cm_G D A s.heap ws H locs) (hsz : ls.size = nL) (hX : va_X b L xs s s.heap) (hbl : b < s.heap.size) (hbA : ¬ A b) (k : Nat) (hk : k < 2 ^ 31) (hL : L < 2 ^ 31) (hroom : (rest.map fun v => v.category).sum ≤ 8) (hdg : decode cc pc = .ok (.invokestatic 9, 3)) (hR : 1 ≤ R.frames ∧ 21 ≤ R.locals) (hf : cells ≤ R.cells ∧ slots ≤ R.slots)
    (kk : ∀ (H1 : Heap) (locs1 : List Loc), cm_G D A s.heap ws H1 locs1 → W p l e R s m args below meth c H1 locs1 cells slots Q (F0 m (pc + 3) ls (.int (if k < L then xs k else 0) :: rest))) : W p l e R s m args below meth c H locs cells slots Q (F0 m pc ls (.int (nI k) :: .ref b :: rest)) := by
  obtain ⟨hx, hb, hts, hown, hK⟩ := C
  obtain ⟨hP, hD, hS⟩ := G
  refine va_calli (va_runS (As := [.ref b, .int (nI k)]) (rest := rest) ⟨hx, hb, hml, hown, hts⟩ (cm_X0_cell l b L xs k hk hL) (va_cwS 2 hts (lw_S q148 q149 q10 q150) rfl rfl rfl (by decide +kernel) hR) ⟨fun a U g mk q => ⟨q.1, va_X.moved (u := U) (U := U.calling g mk a) (Vm.Alike.refl U.vm) q.2⟩, fun U hU hW => ⟨rfl, ?_⟩⟩ rfl rfl hsz rfl (lv_room hroom) hdg hf) hS (fun q _ h => h.elim) (fun q h => h.elim) (fun r u t H1 locs1 ht hvm hw hB hz1 hk1 hS1 => ?_)
  · show va_X b L xs U U.heap
    rw [hU]
    exact (hX.kept (hS.2.1 b hbl hbA)).moved hW.alike
  · have hw : r = if k < L then xs k else 0 := hw
    rw [hw]
    exact kk H1 locs1 ⟨hP.kept (fun k q hq => hk1 q.1 (hP k q hq).lt (fun h => h)), hD, hS1⟩
/-- a constructor's contract -/
def cm_Mn (l : Launch) (D : va_G) (y : MethodName) (wds : List Cond) (rm : Room) (ty : (Nat → ClassId) → List (ClassId × FieldType)) (wo : Nat → (Nat → Nat) → (Nat → ClassId) → cm_St → va_W) (h0 : Nat) (e0 : va_E) (As : List Value) (post : cm_St → Prop) (mc ms : Nat) : Prop :=
  ∀ sz : Nat, Met l y wds rm (va_Pc (.ref h0 :: As) (fun U => U.heap.size = sz ∧ va_P D cm_cl [(h0, e0)] U.heap ∧ va_K D cm_cl [] U ∧ va_D (fun _ => True) [(h0, e0)])) (va_Qv (fun u : cm_St × (Nat → Nat) × (Nat → ClassId) => post u.1) (fun (u : cm_St × (Nat → Nat) × (Nat → ClassId)) (t : State) => va_P D cm_cl (wo h0 u.2.1 u.2.2 u.1) t.heap ∧ va_K D cm_cl (ty u.2.2) t ∧ va_D (va_A [(h0, e0)] sz) (wo h0 u.2.1 u.2.2 u.1)) (va_A [(h0, e0)] sz)) mc ms (va_A [(h0, e0)] sz)
/-- the law calls a constructor -/
theorem cm_callinit {y : MethodName} {bytes : ByteArray} {maxL n index mc ms h0 : Nat} {wds : List Cond} {rm : Room} {ty : (Nat → ClassId) → List (ClassId × FieldType)} {wo : Nat → (Nat → Nat) → (Nat → ClassId) → cm_St → va_W} {e0 : va_E} {As st0 : List Value} {post : cm_St → Prop} {own : String} {H0 : Heap} {wr : va_W} (C : cm_C p c cc s args m own D tys) (hml : c.maxLocals = nL) (hA : ∀ q : Nat, H0.size ≤ q → A q) (G : cm_G D A H0 ws H locs) (hsz : ls.size = nL) (hM : cm_Mn l D y wds rm ty wo h0 e0 As post mc ms) (cw : CallB R s args own index y bytes maxL none wds rm mc ms n ∧ y.name = "<init>" ∧ (Cond.instanceMethod y).before args s = true) (i : Nat) (isR : List Nat) (hC : [i].map (fun i => ws[i]?) = [(h0, e0)].map some) (hC2 : [i].filterMap (fun i => ws[i]?) = [(h0, e0)]) (hR : isR.map (fun i => ws[i]?) = wr.map some) (hnR : va_nd isR = true) (hdis : ∀ j ∈ isR, j ∉ [i]) (hn : As.length = n) (hst : st0 = As.reverse ++ .ref h0 :: rest) (hroom : (rest.map fun v => v.category).sum ≤ 8) (hdg : decode cc pc = .ok (.invokespecial index, 3)) (hf : cells + mc ≤ R.cells ∧ slots + ms ≤ R.slots)
    (kk : ∀ (σ : cm_St) (a : Nat → Nat) (d : Nat → ClassId) (H1 : Heap) (locs1 : List Loc), post σ → va_K D cm_cl (ty d) s → cm_G D A H0 (wr ++ wo h0 a d σ) H1 locs1 → W p l e R s m args below meth c H1 locs1 (cells + mc) (slots + ms) Q (F0 m (pc + 3) ls rest)) : W p l e R s m args below meth c H locs cells slots Q (F0 m pc ls st0) := by
  obtain ⟨hx, hb, hts, hown, hK⟩ := C
  obtain ⟨hP, hD, hS⟩ := G
  have hPc := hP.sub (ws' := [(h0, e0)]) [i] hC2
  have hDc := hD.sub (ws' := [(h0, e0)]) [i] rfl hC
  have hKc := hK.sub (tys' := []) [] rfl
  have hF := va_free (wc := [(h0, e0)]) hD hS hA [i] hC
  refine va_callv (va_runI (As := As) (rest := rest) ⟨hx, hb, hml, hown, hts⟩ (hM H.size) cw ⟨fun a U g mk q => by obtain ⟨q0, q1, qP, qK, qD⟩ := q; exact ⟨q0, q1, qP, va_K.moved (u := U) (U := U.calling g mk a) (Vm.Alike.refl U.vm) qK, qD⟩, fun U hU hW => ⟨rfl, by rw [hU], by rw [hU]; exact hPc, va_K.moved hW.alike hKc, hDc.weaken (fun _ _ _ _ => trivial)⟩⟩ rfl hn hsz hst (lv_room hroom) hdg hf) hS (fun q _ h => hF q h) hF (fun u t H1 locs1 ht hvm hw hB hz1 hk1 hS1 => ?_)
  obtain ⟨σ, a, d⟩ := u
  obtain ⟨hP1, hK1, hD1⟩ := hB
  rw [ht] at hP1
  have hK1 := va_K.moved hvm.symm hK1
  obtain ⟨h1, h2⟩ := va_join (wr := wr) (w1 := wo h0 a d σ) hP hD [i] isR hC hR hnR hdis hk1 hF hP1 hD1
  exact kk σ a d H1 locs1 hw hK1 ⟨h1, h2, hS1⟩
end CMS
set_option maxHeartbeats 4000000 in
/-- the constructor of X1 -/
theorem cm_X1_init (l : Launch) (D : va_G) (h0 : Nat) (x y : Int32) : cm_Mn l D yX1_init (ws_ yX1_init cX1_init 4 none) ({ frames := 1, cells := 10, slots := 192, locals := 12 }) cm_tX cm_wX h0 (.inr (0, cm_f0)) [.int x, .int y] cm_I1 10 192 := by
  intro sz
  refine Met.ofW (cc := cX1_init) (maxL := 4) (ret := none) (by decide) rfl ?_
  intro p e s m args below meth c s₁ B hml hv
  obtain ⟨rfl, hsz, hP, hK, hD0⟩ := hv
  have hx := B.exec
  have hb := B.bytes
  have hr := B.returns
  have hlk := B.notSynchronized
  have hts := atoms_spec (ws := ws_ yX1_init cX1_init 4 none) B.pre
  have hts : ∀ w ∈ lw_all, w.before _ s = true := fun w h => hts w (List.mem_cons_of_mem _ h)
  have hown : s.vm.findClass RX1 = some m.cls := findClass_of_methodNamed B.named
  have hin : meth.name = "<init>" := (name_of_methodNamed B.named B.method).1
  subst hsz
  have hD := hD0.self (sz := s.heap.size)
  generalize hAe : va_A [(h0, .inr (0, cm_f0))] s.heap.size = A at hD ⊢
  have hA : ∀ q : Nat, s.heap.size ≤ q → A q := fun q h => by rw [← hAe]; exact Or.inr h
  have hS : va_S A s.heap s.heap [] := va_S.rf
  have hl := lv_entry ([.ref h0, .int x, .int y]) (n := 4) (Nat.le_of_ble_eq_true rfl)
  rw [lg_entry_eq]
  generalize (lg_sl ([.ref h0, .int x, .int y]) ++ List.replicate (4 - (lg_sl ([.ref h0, .int x, .int y])).length) Slot.unset).toArray = ls at hl ⊢
  have hl : lv_has ls 4 [(0, .ref h0), (1, .int x), (2, .int y)] := hl
  refine lv_aload_n hx hb dX1_init_0 rfl (lv_at hl 0 rfl) ?_
  refine W.objInit hx hb hown (hts _ q18) (hts _ q19) (hts _ q20) rfl (by rw [hml]; exact hl.1) rfl dX1_init_1 (Nat.le_of_ble_eq_true rfl) (Nat.le_of_ble_eq_true rfl) ?_
  refine W.eq (g2 := F0 m 4 ls []) rfl ?_
  refine lv_aload_n hx hb dX1_init_4 rfl (lv_at hl 0 rfl) ?_
  refine lv_bipush (v := nI 64) hx hb dX1_init_5 (by decide) ?_
  refine va_newa (atype := .int) (a0 := (64, .inl (fun _ => 0))) (N' := 64) hx hb (hts _ q67) (ty := .int) rfl hK hP hD hS hA (fun _ => rfl) (nI_pos (by decide)) (nI_clamp (by decide)) (by decide) (Nat.le_of_ble_eq_true rfl) (Nat.le_of_ble_eq_true rfl) dX1_init_7 (fun q0 d0 H hK hP hD hS => ?_)
  refine W.widen (k := 1) (n := 64) (Nat.le_refl _) (Nat.le_refl _) ?_
  have hK : va_K D cm_cl [(d0, .int)] s := hK
  have hP : va_P D cm_cl [(h0, .inr (0, [.null, .int 0, .int 0, .null, .null, .int 0, .null, .null, .null, .int 0, .int 0, .null, .null, .null, .null])), (q0, .inl (d0, 64, .inl (fun _ => 0)))] H := hP
  have hD : va_D A [(h0, .inr (0, [.null, .int 0, .int 0, .null, .null, .int 0, .null, .null, .null, .int 0, .int 0, .null, .null, .null, .null])), (q0, .inl (d0, 64, .inl (fun _ => 0)))] := hD
  refine va_putF (D := D) (ci := 0) (v := .ref q0) (ty := .array .int) (C := RX1) (T := TX1) (N := 15) hx hb hts in_X1 tyX1 tyX1_ok nmX1 hown hK hP hD hS 0 rfl rfl 0 (by decide) (hts _ q21) (fun _ h9 => h9) rfl hin rfl (by decide +kernel) rfl rfl (Nat.le_of_ble_eq_true rfl) dX1_init_9 (fun H locs hP hD hS => ?_)
  have hP : va_P D cm_cl [(h0, .inr (0, [.ref q0, .int 0, .int 0, .null, .null, .int 0, .null, .null, .null, .int 0, .int 0, .null, .null, .null, .null])), (q0, .inl (d0, 64, .inl (fun _ => 0)))] H := hP
  have hD : va_D A [(h0, .inr (0, [.ref q0, .int 0, .int 0, .null, .null, .int 0, .null, .null, .null, .int 0, .int 0, .null, .null, .null, .null])), (q0, .inl (d0, 64, .inl (fun _ => 0)))] := hD
  refine lv_aload_n hx hb dX1_init_12 rfl (lv_at hl 0 rfl) ?_
  refine lv_bipush (v := nI 32) hx hb dX1_init_13 (by decide) ?_
  refine va_newa (atype := .byte) (a0 := (32, .inl (fun _ => 0))) (N' := 32) hx hb (hts _ q68) (ty := .byte) rfl hK hP hD hS hA (fun _ => rfl) (nI_pos (by decide)) (nI_clamp (by decide)) (by decide) (Nat.le_of_ble_eq_true rfl) (Nat.le_of_ble_eq_true rfl) dX1_init_15 (fun q3 d3 H hK hP hD hS => ?_)
  refine W.widen (k := 2) (n := 96) (Nat.le_refl _) (Nat.le_refl _) ?_
  have hK : va_K D cm_cl [(d0, .int), (d3, .byte)] s := hK
  have hP : va_P D cm_cl [(h0, .inr (0, [.ref q0, .int 0, .int 0, .null, .null, .int 0, .null, .null, .null, .int 0, .int 0, .null, .null, .null, .null])), (q0, .inl (d0, 64, .inl (fun _ => 0))), (q3, .inl (d3, 32, .inl (fun _ => 0)))] H := hP
  have hD : va_D A [(h0, .inr (0, [.ref q0, .int 0, .int 0, .null, .null, .int 0, .null, .null, .null, .int 0, .int 0, .null, .null, .null, .null])), (q0, .inl (d0, 64, .inl (fun _ => 0))), (q3, .inl (d3, 32, .inl (fun _ => 0)))] := hD
  refine va_putF (D := D) (ci := 0) (v := .ref q3) (ty := .array .byte) (C := RX1) (T := TX1) (N := 15) hx hb hts in_X1 tyX1 tyX1_ok nmX1 hown hK hP hD hS 0 rfl rfl 3 (by decide) (hts _ q24) (fun _ h9 => h9) rfl hin rfl (by decide +kernel) rfl rfl (Nat.le_of_ble_eq_true rfl) dX1_init_17 (fun H locs hP hD hS => ?_)
  have hP : va_P D cm_cl [(h0, .inr (0, [.ref q0, .int 0, .int 0, .ref q3, .null, .int 0, .null, .null, .null, .int 0, .int 0, .null, .null, .null, .null])), (q0, .inl (d0, 64, .inl (fun _ => 0))), (q3, .inl (d3, 32, .inl (fun _ => 0)))] H := hP
  have hD : va_D A [(h0, .inr (0, [.ref q0, .int 0, .int 0, .ref q3, .null, .int 0, .null, .null, .null, .int 0, .int 0, .null, .null, .null, .null])), (q0, .inl (d0, 64, .inl (fun _ => 0))), (q3, .inl (d3, 32, .inl (fun _ => 0)))] := hD
  refine lv_aload_n hx hb dX1_init_20 rfl (lv_at hl 0 rfl) ?_
  refine lv_bipush (v := nI 32) hx hb dX1_init_21 (by decide) ?_
  refine va_newa (atype := .boolean) (a0 := (32, .inl (fun _ => 0))) (N' := 32) hx hb (hts _ q69) (ty := .boolean) rfl hK hP hD hS hA (fun _ => rfl) (nI_pos (by decide)) (nI_clamp (by decide)) (by decide) (Nat.le_of_ble_eq_true rfl) (Nat.le_of_ble_eq_true rfl) dX1_init_23 (fun q4 d4 H hK hP hD hS => ?_)
  refine W.widen (k := 3) (n := 128) (Nat.le_refl _) (Nat.le_refl _) ?_
  have hK : va_K D cm_cl [(d0, .int), (d3, .byte), (d4, .boolean)] s := hK
  have hP : va_P D cm_cl [(h0, .inr (0, [.ref q0, .int 0, .int 0, .ref q3, .null, .int 0, .null, .null, .null, .int 0, .int 0, .null, .null, .null, .null])), (q0, .inl (d0, 64, .inl (fun _ => 0))), (q3, .inl (d3, 32, .inl (fun _ => 0))), (q4, .inl (d4, 32, .inl (fun _ => 0)))] H := hP
  have hD : va_D A [(h0, .inr (0, [.ref q0, .int 0, .int 0, .ref q3, .null, .int 0, .null, .null, .null, .int 0, .int 0, .null, .null, .null, .null])), (q0, .inl (d0, 64, .inl (fun _ => 0))), (q3, .inl (d3, 32, .inl (fun _ => 0))), (q4, .inl (d4, 32, .inl (fun _ => 0)))] := hD
  refine va_putF (D := D) (ci := 0) (v := .ref q4) (ty := .array .boolean) (C := RX1) (T := TX1) (N := 15) hx hb hts in_X1 tyX1 tyX1_ok nmX1 hown hK hP hD hS 0 rfl rfl 4 (by decide) (hts _ q25) (fun _ h9 => h9) rfl hin rfl (by decide +kernel) rfl rfl (Nat.le_of_ble_eq_true rfl) dX1_init_25 (fun H locs hP hD hS => ?_)
  have hP : va_P D cm_cl [(h0, .inr (0, [.ref q0, .int 0, .int 0, .ref q3, .ref q4, .int 0, .null, .null, .null, .int 0, .int 0, .null, .null, .null, .null])), (q0, .inl (d0, 64, .inl (fun _ => 0))), (q3, .inl (d3, 32, .inl (fun _ => 0))), (q4, .inl (d4, 32, .inl (fun _ => 0)))] H := hP
  have hD : va_D A [(h0, .inr (0, [.ref q0, .int 0, .int 0, .ref q3, .ref q4, .int 0, .null, .null, .null, .int 0, .int 0, .null, .null, .null, .null])), (q0, .inl (d0, 64, .inl (fun _ => 0))), (q3, .inl (d3, 32, .inl (fun _ => 0))), (q4, .inl (d4, 32, .inl (fun _ => 0)))] := hD
  refine lv_aload_n hx hb dX1_init_28 rfl (lv_at hl 0 rfl) ?_
  refine lv_iconst (v := nI 4) hx hb dX1_init_29 (by decide) ?_
  refine va_newa (atype := .byte) (a0 := (4, .inl (fun _ => 0))) (N' := 4) hx hb (hts _ q68) (ty := .byte) rfl hK hP hD hS hA (fun _ => rfl) (nI_pos (by decide)) (nI_clamp (by decide)) (by decide) (Nat.le_of_ble_eq_true rfl) (Nat.le_of_ble_eq_true rfl) dX1_init_30 (fun q6 d6 H hK hP hD hS => ?_)
  refine W.widen (k := 4) (n := 132) (Nat.le_refl _) (Nat.le_refl _) ?_
  have hK : va_K D cm_cl [(d0, .int), (d3, .byte), (d4, .boolean), (d6, .byte)] s := hK
  have hP : va_P D cm_cl [(h0, .inr (0, [.ref q0, .int 0, .int 0, .ref q3, .ref q4, .int 0, .null, .null, .null, .int 0, .int 0, .null, .null, .null, .null])), (q0, .inl (d0, 64, .inl (fun _ => 0))), (q3, .inl (d3, 32, .inl (fun _ => 0))), (q4, .inl (d4, 32, .inl (fun _ => 0))), (q6, .inl (d6, 4, .inl (fun _ => 0)))] H := hP
  have hD : va_D A [(h0, .inr (0, [.ref q0, .int 0, .int 0, .ref q3, .ref q4, .int 0, .null, .null, .null, .int 0, .int 0, .null, .null, .null, .null])), (q0, .inl (d0, 64, .inl (fun _ => 0))), (q3, .inl (d3, 32, .inl (fun _ => 0))), (q4, .inl (d4, 32, .inl (fun _ => 0))), (q6, .inl (d6, 4, .inl (fun _ => 0)))] := hD
  refine va_putF (D := D) (ci := 0) (v := .ref q6) (ty := .array .byte) (C := RX1) (T := TX1) (N := 15) hx hb hts in_X1 tyX1 tyX1_ok nmX1 hown hK hP hD hS 0 rfl rfl 6 (by decide) (hts _ q27) (fun _ h9 => h9) rfl hin rfl (by decide +kernel) rfl rfl (Nat.le_of_ble_eq_true rfl) dX1_init_32 (fun H locs hP hD hS => ?_)
  have hP : va_P D cm_cl [(h0, .inr (0, [.ref q0, .int 0, .int 0, .ref q3, .ref q4, .int 0, .ref q6, .null, .null, .int 0, .int 0, .null, .null, .null, .null])), (q0, .inl (d0, 64, .inl (fun _ => 0))), (q3, .inl (d3, 32, .inl (fun _ => 0))), (q4, .inl (d4, 32, .inl (fun _ => 0))), (q6, .inl (d6, 4, .inl (fun _ => 0)))] H := hP
  have hD : va_D A [(h0, .inr (0, [.ref q0, .int 0, .int 0, .ref q3, .ref q4, .int 0, .ref q6, .null, .null, .int 0, .int 0, .null, .null, .null, .null])), (q0, .inl (d0, 64, .inl (fun _ => 0))), (q3, .inl (d3, 32, .inl (fun _ => 0))), (q4, .inl (d4, 32, .inl (fun _ => 0))), (q6, .inl (d6, 4, .inl (fun _ => 0)))] := hD
  refine lv_aload_n hx hb dX1_init_35 rfl (lv_at hl 0 rfl) ?_
  refine lv_iconst (v := nI 4) hx hb dX1_init_36 (by decide) ?_
  refine va_newa (atype := .byte) (a0 := (4, .inl (fun _ => 0))) (N' := 4) hx hb (hts _ q68) (ty := .byte) rfl hK hP hD hS hA (fun _ => rfl) (nI_pos (by decide)) (nI_clamp (by decide)) (by decide) (Nat.le_of_ble_eq_true rfl) (Nat.le_of_ble_eq_true rfl) dX1_init_37 (fun q7 d7 H hK hP hD hS => ?_)
  refine W.widen (k := 5) (n := 136) (Nat.le_refl _) (Nat.le_refl _) ?_
  have hK : va_K D cm_cl [(d0, .int), (d3, .byte), (d4, .boolean), (d6, .byte), (d7, .byte)] s := hK
  have hP : va_P D cm_cl [(h0, .inr (0, [.ref q0, .int 0, .int 0, .ref q3, .ref q4, .int 0, .ref q6, .null, .null, .int 0, .int 0, .null, .null, .null, .null])), (q0, .inl (d0, 64, .inl (fun _ => 0))), (q3, .inl (d3, 32, .inl (fun _ => 0))), (q4, .inl (d4, 32, .inl (fun _ => 0))), (q6, .inl (d6, 4, .inl (fun _ => 0))), (q7, .inl (d7, 4, .inl (fun _ => 0)))] H := hP
  have hD : va_D A [(h0, .inr (0, [.ref q0, .int 0, .int 0, .ref q3, .ref q4, .int 0, .ref q6, .null, .null, .int 0, .int 0, .null, .null, .null, .null])), (q0, .inl (d0, 64, .inl (fun _ => 0))), (q3, .inl (d3, 32, .inl (fun _ => 0))), (q4, .inl (d4, 32, .inl (fun _ => 0))), (q6, .inl (d6, 4, .inl (fun _ => 0))), (q7, .inl (d7, 4, .inl (fun _ => 0)))] := hD
  refine va_putF (D := D) (ci := 0) (v := .ref q7) (ty := .array .byte) (C := RX1) (T := TX1) (N := 15) hx hb hts in_X1 tyX1 tyX1_ok nmX1 hown hK hP hD hS 0 rfl rfl 7 (by decide) (hts _ q28) (fun _ h9 => h9) rfl hin rfl (by decide +kernel) rfl rfl (Nat.le_of_ble_eq_true rfl) dX1_init_39 (fun H locs hP hD hS => ?_)
  have hP : va_P D cm_cl [(h0, .inr (0, [.ref q0, .int 0, .int 0, .ref q3, .ref q4, .int 0, .ref q6, .ref q7, .null, .int 0, .int 0, .null, .null, .null, .null])), (q0, .inl (d0, 64, .inl (fun _ => 0))), (q3, .inl (d3, 32, .inl (fun _ => 0))), (q4, .inl (d4, 32, .inl (fun _ => 0))), (q6, .inl (d6, 4, .inl (fun _ => 0))), (q7, .inl (d7, 4, .inl (fun _ => 0)))] H := hP
  have hD : va_D A [(h0, .inr (0, [.ref q0, .int 0, .int 0, .ref q3, .ref q4, .int 0, .ref q6, .ref q7, .null, .int 0, .int 0, .null, .null, .null, .null])), (q0, .inl (d0, 64, .inl (fun _ => 0))), (q3, .inl (d3, 32, .inl (fun _ => 0))), (q4, .inl (d4, 32, .inl (fun _ => 0))), (q6, .inl (d6, 4, .inl (fun _ => 0))), (q7, .inl (d7, 4, .inl (fun _ => 0)))] := hD
  refine lv_aload_n hx hb dX1_init_42 rfl (lv_at hl 0 rfl) ?_
  refine lv_iconst (v := nI 4) hx hb dX1_init_43 (by decide) ?_
  refine va_newa (atype := .boolean) (a0 := (4, .inl (fun _ => 0))) (N' := 4) hx hb (hts _ q69) (ty := .boolean) rfl hK hP hD hS hA (fun _ => rfl) (nI_pos (by decide)) (nI_clamp (by decide)) (by decide) (Nat.le_of_ble_eq_true rfl) (Nat.le_of_ble_eq_true rfl) dX1_init_44 (fun q8 d8 H hK hP hD hS => ?_)
  refine W.widen (k := 6) (n := 140) (Nat.le_refl _) (Nat.le_refl _) ?_
  have hK : va_K D cm_cl [(d0, .int), (d3, .byte), (d4, .boolean), (d6, .byte), (d7, .byte), (d8, .boolean)] s := hK
  have hP : va_P D cm_cl [(h0, .inr (0, [.ref q0, .int 0, .int 0, .ref q3, .ref q4, .int 0, .ref q6, .ref q7, .null, .int 0, .int 0, .null, .null, .null, .null])), (q0, .inl (d0, 64, .inl (fun _ => 0))), (q3, .inl (d3, 32, .inl (fun _ => 0))), (q4, .inl (d4, 32, .inl (fun _ => 0))), (q6, .inl (d6, 4, .inl (fun _ => 0))), (q7, .inl (d7, 4, .inl (fun _ => 0))), (q8, .inl (d8, 4, .inl (fun _ => 0)))] H := hP
  have hD : va_D A [(h0, .inr (0, [.ref q0, .int 0, .int 0, .ref q3, .ref q4, .int 0, .ref q6, .ref q7, .null, .int 0, .int 0, .null, .null, .null, .null])), (q0, .inl (d0, 64, .inl (fun _ => 0))), (q3, .inl (d3, 32, .inl (fun _ => 0))), (q4, .inl (d4, 32, .inl (fun _ => 0))), (q6, .inl (d6, 4, .inl (fun _ => 0))), (q7, .inl (d7, 4, .inl (fun _ => 0))), (q8, .inl (d8, 4, .inl (fun _ => 0)))] := hD
  refine va_putF (D := D) (ci := 0) (v := .ref q8) (ty := .array .boolean) (C := RX1) (T := TX1) (N := 15) hx hb hts in_X1 tyX1 tyX1_ok nmX1 hown hK hP hD hS 0 rfl rfl 8 (by decide) (hts _ q29) (fun _ h9 => h9) rfl hin rfl (by decide +kernel) rfl rfl (Nat.le_of_ble_eq_true rfl) dX1_init_46 (fun H locs hP hD hS => ?_)
  have hP : va_P D cm_cl [(h0, .inr (0, [.ref q0, .int 0, .int 0, .ref q3, .ref q4, .int 0, .ref q6, .ref q7, .ref q8, .int 0, .int 0, .null, .null, .null, .null])), (q0, .inl (d0, 64, .inl (fun _ => 0))), (q3, .inl (d3, 32, .inl (fun _ => 0))), (q4, .inl (d4, 32, .inl (fun _ => 0))), (q6, .inl (d6, 4, .inl (fun _ => 0))), (q7, .inl (d7, 4, .inl (fun _ => 0))), (q8, .inl (d8, 4, .inl (fun _ => 0)))] H := hP
  have hD : va_D A [(h0, .inr (0, [.ref q0, .int 0, .int 0, .ref q3, .ref q4, .int 0, .ref q6, .ref q7, .ref q8, .int 0, .int 0, .null, .null, .null, .null])), (q0, .inl (d0, 64, .inl (fun _ => 0))), (q3, .inl (d3, 32, .inl (fun _ => 0))), (q4, .inl (d4, 32, .inl (fun _ => 0))), (q6, .inl (d6, 4, .inl (fun _ => 0))), (q7, .inl (d7, 4, .inl (fun _ => 0))), (q8, .inl (d8, 4, .inl (fun _ => 0)))] := hD
  refine lv_aload_n hx hb dX1_init_49 rfl (lv_at hl 0 rfl) ?_
  refine lv_bipush (v := nI 8) hx hb dX1_init_50 (by decide) ?_
  refine va_newa (atype := .byte) (a0 := (8, .inl (fun _ => 0))) (N' := 8) hx hb (hts _ q68) (ty := .byte) rfl hK hP hD hS hA (fun _ => rfl) (nI_pos (by decide)) (nI_clamp (by decide)) (by decide) (Nat.le_of_ble_eq_true rfl) (Nat.le_of_ble_eq_true rfl) dX1_init_52 (fun q11 d11 H hK hP hD hS => ?_)
  refine W.widen (k := 7) (n := 148) (Nat.le_refl _) (Nat.le_refl _) ?_
  have hK : va_K D cm_cl [(d0, .int), (d3, .byte), (d4, .boolean), (d6, .byte), (d7, .byte), (d8, .boolean), (d11, .byte)] s := hK
  have hP : va_P D cm_cl [(h0, .inr (0, [.ref q0, .int 0, .int 0, .ref q3, .ref q4, .int 0, .ref q6, .ref q7, .ref q8, .int 0, .int 0, .null, .null, .null, .null])), (q0, .inl (d0, 64, .inl (fun _ => 0))), (q3, .inl (d3, 32, .inl (fun _ => 0))), (q4, .inl (d4, 32, .inl (fun _ => 0))), (q6, .inl (d6, 4, .inl (fun _ => 0))), (q7, .inl (d7, 4, .inl (fun _ => 0))), (q8, .inl (d8, 4, .inl (fun _ => 0))), (q11, .inl (d11, 8, .inl (fun _ => 0)))] H := hP
  have hD : va_D A [(h0, .inr (0, [.ref q0, .int 0, .int 0, .ref q3, .ref q4, .int 0, .ref q6, .ref q7, .ref q8, .int 0, .int 0, .null, .null, .null, .null])), (q0, .inl (d0, 64, .inl (fun _ => 0))), (q3, .inl (d3, 32, .inl (fun _ => 0))), (q4, .inl (d4, 32, .inl (fun _ => 0))), (q6, .inl (d6, 4, .inl (fun _ => 0))), (q7, .inl (d7, 4, .inl (fun _ => 0))), (q8, .inl (d8, 4, .inl (fun _ => 0))), (q11, .inl (d11, 8, .inl (fun _ => 0)))] := hD
  refine va_putF (D := D) (ci := 0) (v := .ref q11) (ty := .array .byte) (C := RX1) (T := TX1) (N := 15) hx hb hts in_X1 tyX1 tyX1_ok nmX1 hown hK hP hD hS 0 rfl rfl 11 (by decide) (hts _ q32) (fun _ h9 => h9) rfl hin rfl (by decide +kernel) rfl rfl (Nat.le_of_ble_eq_true rfl) dX1_init_54 (fun H locs hP hD hS => ?_)
  have hP : va_P D cm_cl [(h0, .inr (0, [.ref q0, .int 0, .int 0, .ref q3, .ref q4, .int 0, .ref q6, .ref q7, .ref q8, .int 0, .int 0, .ref q11, .null, .null, .null])), (q0, .inl (d0, 64, .inl (fun _ => 0))), (q3, .inl (d3, 32, .inl (fun _ => 0))), (q4, .inl (d4, 32, .inl (fun _ => 0))), (q6, .inl (d6, 4, .inl (fun _ => 0))), (q7, .inl (d7, 4, .inl (fun _ => 0))), (q8, .inl (d8, 4, .inl (fun _ => 0))), (q11, .inl (d11, 8, .inl (fun _ => 0)))] H := hP
  have hD : va_D A [(h0, .inr (0, [.ref q0, .int 0, .int 0, .ref q3, .ref q4, .int 0, .ref q6, .ref q7, .ref q8, .int 0, .int 0, .ref q11, .null, .null, .null])), (q0, .inl (d0, 64, .inl (fun _ => 0))), (q3, .inl (d3, 32, .inl (fun _ => 0))), (q4, .inl (d4, 32, .inl (fun _ => 0))), (q6, .inl (d6, 4, .inl (fun _ => 0))), (q7, .inl (d7, 4, .inl (fun _ => 0))), (q8, .inl (d8, 4, .inl (fun _ => 0))), (q11, .inl (d11, 8, .inl (fun _ => 0)))] := hD
  refine lv_aload_n hx hb dX1_init_57 rfl (lv_at hl 0 rfl) ?_
  refine lv_bipush (v := nI 8) hx hb dX1_init_58 (by decide) ?_
  refine va_newa (atype := .boolean) (a0 := (8, .inl (fun _ => 0))) (N' := 8) hx hb (hts _ q69) (ty := .boolean) rfl hK hP hD hS hA (fun _ => rfl) (nI_pos (by decide)) (nI_clamp (by decide)) (by decide) (Nat.le_of_ble_eq_true rfl) (Nat.le_of_ble_eq_true rfl) dX1_init_60 (fun q12 d12 H hK hP hD hS => ?_)
  refine W.widen (k := 8) (n := 156) (Nat.le_refl _) (Nat.le_refl _) ?_
  have hK : va_K D cm_cl [(d0, .int), (d3, .byte), (d4, .boolean), (d6, .byte), (d7, .byte), (d8, .boolean), (d11, .byte), (d12, .boolean)] s := hK
  have hP : va_P D cm_cl [(h0, .inr (0, [.ref q0, .int 0, .int 0, .ref q3, .ref q4, .int 0, .ref q6, .ref q7, .ref q8, .int 0, .int 0, .ref q11, .null, .null, .null])), (q0, .inl (d0, 64, .inl (fun _ => 0))), (q3, .inl (d3, 32, .inl (fun _ => 0))), (q4, .inl (d4, 32, .inl (fun _ => 0))), (q6, .inl (d6, 4, .inl (fun _ => 0))), (q7, .inl (d7, 4, .inl (fun _ => 0))), (q8, .inl (d8, 4, .inl (fun _ => 0))), (q11, .inl (d11, 8, .inl (fun _ => 0))), (q12, .inl (d12, 8, .inl (fun _ => 0)))] H := hP
  have hD : va_D A [(h0, .inr (0, [.ref q0, .int 0, .int 0, .ref q3, .ref q4, .int 0, .ref q6, .ref q7, .ref q8, .int 0, .int 0, .ref q11, .null, .null, .null])), (q0, .inl (d0, 64, .inl (fun _ => 0))), (q3, .inl (d3, 32, .inl (fun _ => 0))), (q4, .inl (d4, 32, .inl (fun _ => 0))), (q6, .inl (d6, 4, .inl (fun _ => 0))), (q7, .inl (d7, 4, .inl (fun _ => 0))), (q8, .inl (d8, 4, .inl (fun _ => 0))), (q11, .inl (d11, 8, .inl (fun _ => 0))), (q12, .inl (d12, 8, .inl (fun _ => 0)))] := hD
  refine va_putF (D := D) (ci := 0) (v := .ref q12) (ty := .array .boolean) (C := RX1) (T := TX1) (N := 15) hx hb hts in_X1 tyX1 tyX1_ok nmX1 hown hK hP hD hS 0 rfl rfl 12 (by decide) (hts _ q33) (fun _ h9 => h9) rfl hin rfl (by decide +kernel) rfl rfl (Nat.le_of_ble_eq_true rfl) dX1_init_62 (fun H locs hP hD hS => ?_)
  have hP : va_P D cm_cl [(h0, .inr (0, [.ref q0, .int 0, .int 0, .ref q3, .ref q4, .int 0, .ref q6, .ref q7, .ref q8, .int 0, .int 0, .ref q11, .ref q12, .null, .null])), (q0, .inl (d0, 64, .inl (fun _ => 0))), (q3, .inl (d3, 32, .inl (fun _ => 0))), (q4, .inl (d4, 32, .inl (fun _ => 0))), (q6, .inl (d6, 4, .inl (fun _ => 0))), (q7, .inl (d7, 4, .inl (fun _ => 0))), (q8, .inl (d8, 4, .inl (fun _ => 0))), (q11, .inl (d11, 8, .inl (fun _ => 0))), (q12, .inl (d12, 8, .inl (fun _ => 0)))] H := hP
  have hD : va_D A [(h0, .inr (0, [.ref q0, .int 0, .int 0, .ref q3, .ref q4, .int 0, .ref q6, .ref q7, .ref q8, .int 0, .int 0, .ref q11, .ref q12, .null, .null])), (q0, .inl (d0, 64, .inl (fun _ => 0))), (q3, .inl (d3, 32, .inl (fun _ => 0))), (q4, .inl (d4, 32, .inl (fun _ => 0))), (q6, .inl (d6, 4, .inl (fun _ => 0))), (q7, .inl (d7, 4, .inl (fun _ => 0))), (q8, .inl (d8, 4, .inl (fun _ => 0))), (q11, .inl (d11, 8, .inl (fun _ => 0))), (q12, .inl (d12, 8, .inl (fun _ => 0)))] := hD
  refine lv_aload_n hx hb dX1_init_65 rfl (lv_at hl 0 rfl) ?_
  refine lv_bipush (v := nI 32) hx hb dX1_init_66 (by decide) ?_
  refine va_newa (atype := .int) (a0 := (32, .inl (fun _ => 0))) (N' := 32) hx hb (hts _ q67) (ty := .int) rfl hK hP hD hS hA (fun _ => rfl) (nI_pos (by decide)) (nI_clamp (by decide)) (by decide) (Nat.le_of_ble_eq_true rfl) (Nat.le_of_ble_eq_true rfl) dX1_init_68 (fun q13 d13 H hK hP hD hS => ?_)
  refine W.widen (k := 9) (n := 188) (Nat.le_refl _) (Nat.le_refl _) ?_
  have hK : va_K D cm_cl [(d0, .int), (d3, .byte), (d4, .boolean), (d6, .byte), (d7, .byte), (d8, .boolean), (d11, .byte), (d12, .boolean), (d13, .int)] s := hK
  have hP : va_P D cm_cl [(h0, .inr (0, [.ref q0, .int 0, .int 0, .ref q3, .ref q4, .int 0, .ref q6, .ref q7, .ref q8, .int 0, .int 0, .ref q11, .ref q12, .null, .null])), (q0, .inl (d0, 64, .inl (fun _ => 0))), (q3, .inl (d3, 32, .inl (fun _ => 0))), (q4, .inl (d4, 32, .inl (fun _ => 0))), (q6, .inl (d6, 4, .inl (fun _ => 0))), (q7, .inl (d7, 4, .inl (fun _ => 0))), (q8, .inl (d8, 4, .inl (fun _ => 0))), (q11, .inl (d11, 8, .inl (fun _ => 0))), (q12, .inl (d12, 8, .inl (fun _ => 0))), (q13, .inl (d13, 32, .inl (fun _ => 0)))] H := hP
  have hD : va_D A [(h0, .inr (0, [.ref q0, .int 0, .int 0, .ref q3, .ref q4, .int 0, .ref q6, .ref q7, .ref q8, .int 0, .int 0, .ref q11, .ref q12, .null, .null])), (q0, .inl (d0, 64, .inl (fun _ => 0))), (q3, .inl (d3, 32, .inl (fun _ => 0))), (q4, .inl (d4, 32, .inl (fun _ => 0))), (q6, .inl (d6, 4, .inl (fun _ => 0))), (q7, .inl (d7, 4, .inl (fun _ => 0))), (q8, .inl (d8, 4, .inl (fun _ => 0))), (q11, .inl (d11, 8, .inl (fun _ => 0))), (q12, .inl (d12, 8, .inl (fun _ => 0))), (q13, .inl (d13, 32, .inl (fun _ => 0)))] := hD
  refine va_putF (D := D) (ci := 0) (v := .ref q13) (ty := .array .int) (C := RX1) (T := TX1) (N := 15) hx hb hts in_X1 tyX1 tyX1_ok nmX1 hown hK hP hD hS 0 rfl rfl 13 (by decide) (hts _ q34) (fun _ h9 => h9) rfl hin rfl (by decide +kernel) rfl rfl (Nat.le_of_ble_eq_true rfl) dX1_init_70 (fun H locs hP hD hS => ?_)
  have hP : va_P D cm_cl [(h0, .inr (0, [.ref q0, .int 0, .int 0, .ref q3, .ref q4, .int 0, .ref q6, .ref q7, .ref q8, .int 0, .int 0, .ref q11, .ref q12, .ref q13, .null])), (q0, .inl (d0, 64, .inl (fun _ => 0))), (q3, .inl (d3, 32, .inl (fun _ => 0))), (q4, .inl (d4, 32, .inl (fun _ => 0))), (q6, .inl (d6, 4, .inl (fun _ => 0))), (q7, .inl (d7, 4, .inl (fun _ => 0))), (q8, .inl (d8, 4, .inl (fun _ => 0))), (q11, .inl (d11, 8, .inl (fun _ => 0))), (q12, .inl (d12, 8, .inl (fun _ => 0))), (q13, .inl (d13, 32, .inl (fun _ => 0)))] H := hP
  have hD : va_D A [(h0, .inr (0, [.ref q0, .int 0, .int 0, .ref q3, .ref q4, .int 0, .ref q6, .ref q7, .ref q8, .int 0, .int 0, .ref q11, .ref q12, .ref q13, .null])), (q0, .inl (d0, 64, .inl (fun _ => 0))), (q3, .inl (d3, 32, .inl (fun _ => 0))), (q4, .inl (d4, 32, .inl (fun _ => 0))), (q6, .inl (d6, 4, .inl (fun _ => 0))), (q7, .inl (d7, 4, .inl (fun _ => 0))), (q8, .inl (d8, 4, .inl (fun _ => 0))), (q11, .inl (d11, 8, .inl (fun _ => 0))), (q12, .inl (d12, 8, .inl (fun _ => 0))), (q13, .inl (d13, 32, .inl (fun _ => 0)))] := hD
  refine lv_aload_n hx hb dX1_init_73 rfl (lv_at hl 0 rfl) ?_
  refine lv_iconst (v := nI 4) hx hb dX1_init_74 (by decide) ?_
  refine va_newa (atype := .byte) (a0 := (4, .inl (fun _ => 0))) (N' := 4) hx hb (hts _ q68) (ty := .byte) rfl hK hP hD hS hA (fun _ => rfl) (nI_pos (by decide)) (nI_clamp (by decide)) (by decide) (Nat.le_of_ble_eq_true rfl) (Nat.le_of_ble_eq_true rfl) dX1_init_75 (fun q14 d14 H hK hP hD hS => ?_)
  refine W.widen (k := 10) (n := 192) (Nat.le_refl _) (Nat.le_refl _) ?_
  have hK : va_K D cm_cl [(d0, .int), (d3, .byte), (d4, .boolean), (d6, .byte), (d7, .byte), (d8, .boolean), (d11, .byte), (d12, .boolean), (d13, .int), (d14, .byte)] s := hK
  have hP : va_P D cm_cl [(h0, .inr (0, [.ref q0, .int 0, .int 0, .ref q3, .ref q4, .int 0, .ref q6, .ref q7, .ref q8, .int 0, .int 0, .ref q11, .ref q12, .ref q13, .null])), (q0, .inl (d0, 64, .inl (fun _ => 0))), (q3, .inl (d3, 32, .inl (fun _ => 0))), (q4, .inl (d4, 32, .inl (fun _ => 0))), (q6, .inl (d6, 4, .inl (fun _ => 0))), (q7, .inl (d7, 4, .inl (fun _ => 0))), (q8, .inl (d8, 4, .inl (fun _ => 0))), (q11, .inl (d11, 8, .inl (fun _ => 0))), (q12, .inl (d12, 8, .inl (fun _ => 0))), (q13, .inl (d13, 32, .inl (fun _ => 0))), (q14, .inl (d14, 4, .inl (fun _ => 0)))] H := hP
  have hD : va_D A [(h0, .inr (0, [.ref q0, .int 0, .int 0, .ref q3, .ref q4, .int 0, .ref q6, .ref q7, .ref q8, .int 0, .int 0, .ref q11, .ref q12, .ref q13, .null])), (q0, .inl (d0, 64, .inl (fun _ => 0))), (q3, .inl (d3, 32, .inl (fun _ => 0))), (q4, .inl (d4, 32, .inl (fun _ => 0))), (q6, .inl (d6, 4, .inl (fun _ => 0))), (q7, .inl (d7, 4, .inl (fun _ => 0))), (q8, .inl (d8, 4, .inl (fun _ => 0))), (q11, .inl (d11, 8, .inl (fun _ => 0))), (q12, .inl (d12, 8, .inl (fun _ => 0))), (q13, .inl (d13, 32, .inl (fun _ => 0))), (q14, .inl (d14, 4, .inl (fun _ => 0)))] := hD
  refine va_putF (D := D) (ci := 0) (v := .ref q14) (ty := .array .byte) (C := RX1) (T := TX1) (N := 15) hx hb hts in_X1 tyX1 tyX1_ok nmX1 hown hK hP hD hS 0 rfl rfl 14 (by decide) (hts _ q35) (fun _ h9 => h9) rfl hin rfl (by decide +kernel) rfl rfl (Nat.le_of_ble_eq_true rfl) dX1_init_77 (fun H locs hP hD hS => ?_)
  have hP : va_P D cm_cl [(h0, .inr (0, [.ref q0, .int 0, .int 0, .ref q3, .ref q4, .int 0, .ref q6, .ref q7, .ref q8, .int 0, .int 0, .ref q11, .ref q12, .ref q13, .ref q14])), (q0, .inl (d0, 64, .inl (fun _ => 0))), (q3, .inl (d3, 32, .inl (fun _ => 0))), (q4, .inl (d4, 32, .inl (fun _ => 0))), (q6, .inl (d6, 4, .inl (fun _ => 0))), (q7, .inl (d7, 4, .inl (fun _ => 0))), (q8, .inl (d8, 4, .inl (fun _ => 0))), (q11, .inl (d11, 8, .inl (fun _ => 0))), (q12, .inl (d12, 8, .inl (fun _ => 0))), (q13, .inl (d13, 32, .inl (fun _ => 0))), (q14, .inl (d14, 4, .inl (fun _ => 0)))] H := hP
  have hD : va_D A [(h0, .inr (0, [.ref q0, .int 0, .int 0, .ref q3, .ref q4, .int 0, .ref q6, .ref q7, .ref q8, .int 0, .int 0, .ref q11, .ref q12, .ref q13, .ref q14])), (q0, .inl (d0, 64, .inl (fun _ => 0))), (q3, .inl (d3, 32, .inl (fun _ => 0))), (q4, .inl (d4, 32, .inl (fun _ => 0))), (q6, .inl (d6, 4, .inl (fun _ => 0))), (q7, .inl (d7, 4, .inl (fun _ => 0))), (q8, .inl (d8, 4, .inl (fun _ => 0))), (q11, .inl (d11, 8, .inl (fun _ => 0))), (q12, .inl (d12, 8, .inl (fun _ => 0))), (q13, .inl (d13, 32, .inl (fun _ => 0))), (q14, .inl (d14, 4, .inl (fun _ => 0)))] := hD
  have G : cm_G D A s.heap (cm_wX h0 (cm_ad 0 q0 q3 q4 q6 q7 q8 q11 q12 q13 q14) (cm_ad d0 d0 d3 d4 d6 d7 d8 d11 d12 d13 d14) cm_z) H locs := ⟨hP, hD, hS⟩
  have hK : va_K D cm_cl (cm_tX (cm_ad d0 d0 d3 d4 d6 d7 d8 d11 d12 d13 d14)) s := hK
  generalize cm_ad 0 q0 q3 q4 q6 q7 q8 q11 q12 q13 q14 = a at G
  generalize cm_ad d0 d0 d3 d4 d6 d7 d8 d11 d12 d13 d14 = d at G hK
  have C : cm_C p c cX1_init s _ m RX1 D (cm_tX d) := ⟨hx, hb, hts, hown, hK⟩
  refine lv_aload_n hx hb dX1_init_80 rfl (lv_at hl 0 rfl) ?_
  refine cm_clamp (pc := 81) hx hb rfl (lv_at hl 1 rfl) dX1_init_81 dX1_init_82 dX1_init_83 dX1_init_86 dX1_init_87 dX1_init_90 dX1_init_91 dX1_init_92 dX1_init_95 dX1_init_96 dX1_init_99 (fun n1 hn1a hn1b => ?_)
  refine cm_put1 C G 0 rfl 10 (by decide) q31 rfl rfl (by decide +kernel) (Nat.le_of_ble_eq_true rfl) (ws' := cm_wX h0 a d (cm_st cm_z 10 0 (nI n1))) rfl dX1_init_100 (fun H locs G => ?_)
  refine lv_aload_n hx hb dX1_init_103 rfl (lv_at hl 0 rfl) ?_
  refine cm_clamp (pc := 104) hx hb rfl (lv_at hl 2 rfl) dX1_init_104 dX1_init_105 dX1_init_106 dX1_init_109 dX1_init_110 dX1_init_113 dX1_init_114 dX1_init_115 dX1_init_118 dX1_init_119 dX1_init_122 (fun n2 hn2a hn2b => ?_)
  refine cm_put1 C G 0 rfl 5 (by decide) q26 rfl rfl (by decide +kernel) (Nat.le_of_ble_eq_true rfl) (ws' := cm_wX h0 a d (cm_st (cm_st cm_z 10 0 (nI n1)) 5 0 (nI n2))) rfl dX1_init_123 (fun H locs G => ?_)
  refine lv_iconst (v := nI 0) hx hb dX1_init_126 (by decide) ?_
  refine lv_istore_n (lv' := [(3, .int (nI 0)), (0, .ref h0), (1, .int x), (2, .int y)]) hx hb dX1_init_127 rfl hl (by decide) rfl (fun ls hl => ?_)
  refine cm_loop (I := fun i u => (∀ k, k ≠ 3 → u k = (cm_st (cm_st cm_z 10 0 (nI n1)) 5 0 (nI n2)) k) ∧ ∀ j, j < i → u 3 j = -1) (wo := cm_wX h0 a d) (lv := fun i _ => [(3, .int (nI i)), (0, .ref h0), (1, .int x), (2, .int y)]) (N := 32) ?_ ?_ 0 (cm_st (cm_st cm_z 10 0 (nI n1)) 5 0 (nI n2)) _ _ _ (Nat.zero_le _) ⟨fun _ _ => rfl, fun j hj => absurd hj (Nat.not_lt_zero _)⟩ G hl
  rotate_left
  · skip
    intro i u H locs ls hi hI G hl ih
    refine lv_iload_n hx hb dX1_init_128 rfl (lv_at hl 0 rfl) ?_
    refine lv_bipush (v := nI 32) hx hb dX1_init_129 (by decide) ?_
    refine lv_icmp_ge (tgt := 147) hx hb dX1_init_131 (by decide) (fun cc1 => by have cc1 : 32 ≤ i := (nI_leI (a := 32) (b := i) (by omega) (by omega)).mp cc1; omega) (fun cc1 => ?_)
    have cc1 : ¬ 32 ≤ i := fun q => cc1 ((nI_leI (a := 32) (b := i) (by omega) (by omega)).mpr q)
    refine lv_aload_n hx hb dX1_init_134 rfl (lv_at hl 1 rfl) ?_
    refine cm_get1 C G 0 rfl 3 (by decide) q24 rfl (v := .ref (a 3)) rfl dX1_init_135 ?_
    refine lv_iload_n hx hb dX1_init_138 rfl (lv_at hl 0 rfl) ?_
    refine lv_iconst (v := -1) hx hb dX1_init_139 (by decide) ?_
    refine cm_bast C G 2 1 rfl rfl i (by omega) (by decide) (v := -1) cm_narbm (ws' := cm_wX h0 a d (cm_st u 3 i (-1))) rfl dX1_init_140 (fun H locs G => ?_)
    refine lv_iinc (v := nI (i + 1)) (lv' := [(3, .int (nI (i + 1))), (0, .ref h0), (1, .int x), (2, .int y)]) hx hb dX1_init_141 hl (k := 0) rfl (cm_inc i) (by decide) rfl (fun ls hl => ?_)
    refine lv_goto (tgt := 128) hx hb dX1_init_144 (by decide) ?_
    refine ih (cm_st u 3 i (-1)) _ _ _ ⟨fun k hk => (cm_st_ne hk).trans (hI.1 k hk), fun j hj => ?_⟩ G hl
    rw [cm_st_eq, cm_upd]
    by_cases hji : j = i
    · rw [if_pos hji]
    · rw [if_neg hji]; exact hI.2 j (by omega)
  intro u3 H locs ls hI3 G hl
  refine lv_iload_n hx hb dX1_init_128 rfl (lv_at hl 0 rfl) ?_
  refine lv_bipush (v := nI 32) hx hb dX1_init_129 (by decide) ?_
  refine lv_icmp_ge (tgt := 147) hx hb dX1_init_131 (by decide) (fun cc1 => ?_) (fun cc1 => by have cc1 : ¬ 32 ≤ 32 := fun q => cc1 ((nI_leI (a := 32) (b := 32) (by omega) (by omega)).mpr q); omega)
  have cc1 : 32 ≤ 32 := (nI_leI (a := 32) (b := 32) (by omega) (by omega)).mp cc1
  refine lv_iconst (v := nI 0) hx hb dX1_init_147 (by decide) ?_
  refine lv_istore_n (lv' := [(3, .int (nI 0)), (0, .ref h0), (1, .int x), (2, .int y)]) hx hb dX1_init_148 rfl hl (by decide) rfl (fun ls hl => ?_)
  refine cm_loop (I := fun i u => (∀ k, k ≠ 6 → u k = u3 k) ∧ ∀ j, j < i → u 6 j = -1) (wo := cm_wX h0 a d) (lv := fun i _ => [(3, .int (nI i)), (0, .ref h0), (1, .int x), (2, .int y)]) (N := 4) ?_ ?_ 0 u3 _ _ _ (Nat.zero_le _) ⟨fun _ _ => rfl, fun j hj => absurd hj (Nat.not_lt_zero _)⟩ G hl
  rotate_left
  · skip
    intro i u H locs ls hi hI G hl ih
    refine lv_iload_n hx hb dX1_init_149 rfl (lv_at hl 0 rfl) ?_
    refine lv_iconst (v := nI 4) hx hb dX1_init_150 (by decide) ?_
    refine lv_icmp_ge (tgt := 167) hx hb dX1_init_151 (by decide) (fun cc1 => by have cc1 : 4 ≤ i := (nI_leI (a := 4) (b := i) (by omega) (by omega)).mp cc1; omega) (fun cc1 => ?_)
    have cc1 : ¬ 4 ≤ i := fun q => cc1 ((nI_leI (a := 4) (b := i) (by omega) (by omega)).mpr q)
    refine lv_aload_n hx hb dX1_init_154 rfl (lv_at hl 1 rfl) ?_
    refine cm_get1 C G 0 rfl 6 (by decide) q27 rfl (v := .ref (a 6)) rfl dX1_init_155 ?_
    refine lv_iload_n hx hb dX1_init_158 rfl (lv_at hl 0 rfl) ?_
    refine lv_iconst (v := -1) hx hb dX1_init_159 (by decide) ?_
    refine cm_bast C G 4 3 rfl rfl i (by omega) (by decide) (v := -1) cm_narbm (ws' := cm_wX h0 a d (cm_st u 6 i (-1))) rfl dX1_init_160 (fun H locs G => ?_)
    refine lv_iinc (v := nI (i + 1)) (lv' := [(3, .int (nI (i + 1))), (0, .ref h0), (1, .int x), (2, .int y)]) hx hb dX1_init_161 hl (k := 0) rfl (cm_inc i) (by decide) rfl (fun ls hl => ?_)
    refine lv_goto (tgt := 149) hx hb dX1_init_164 (by decide) ?_
    refine ih (cm_st u 6 i (-1)) _ _ _ ⟨fun k hk => (cm_st_ne hk).trans (hI.1 k hk), fun j hj => ?_⟩ G hl
    rw [cm_st_eq, cm_upd]
    by_cases hji : j = i
    · rw [if_pos hji]
    · rw [if_neg hji]; exact hI.2 j (by omega)
  intro u6 H locs ls hI6 G hl
  refine lv_iload_n hx hb dX1_init_149 rfl (lv_at hl 0 rfl) ?_
  refine lv_iconst (v := nI 4) hx hb dX1_init_150 (by decide) ?_
  refine lv_icmp_ge (tgt := 167) hx hb dX1_init_151 (by decide) (fun cc1 => ?_) (fun cc1 => by have cc1 : ¬ 4 ≤ 4 := fun q => cc1 ((nI_leI (a := 4) (b := 4) (by omega) (by omega)).mpr q); omega)
  have cc1 : 4 ≤ 4 := (nI_leI (a := 4) (b := 4) (by omega) (by omega)).mp cc1
  refine lv_iconst (v := nI 0) hx hb dX1_init_167 (by decide) ?_
  refine lv_istore_n (lv' := [(3, .int (nI 0)), (0, .ref h0), (1, .int x), (2, .int y)]) hx hb dX1_init_168 rfl hl (by decide) rfl (fun ls hl => ?_)
  refine cm_loop (I := fun i u => (∀ k, k ≠ 11 → u k = u6 k) ∧ ∀ j, j < i → u 11 j = -1) (wo := cm_wX h0 a d) (lv := fun i _ => [(3, .int (nI i)), (0, .ref h0), (1, .int x), (2, .int y)]) (N := 8) ?_ ?_ 0 u6 _ _ _ (Nat.zero_le _) ⟨fun _ _ => rfl, fun j hj => absurd hj (Nat.not_lt_zero _)⟩ G hl
  rotate_left
  · skip
    intro i u H locs ls hi hI G hl ih
    refine lv_iload_n hx hb dX1_init_169 rfl (lv_at hl 0 rfl) ?_
    refine lv_bipush (v := nI 8) hx hb dX1_init_170 (by decide) ?_
    refine lv_icmp_ge (tgt := 188) hx hb dX1_init_172 (by decide) (fun cc1 => by have cc1 : 8 ≤ i := (nI_leI (a := 8) (b := i) (by omega) (by omega)).mp cc1; omega) (fun cc1 => ?_)
    have cc1 : ¬ 8 ≤ i := fun q => cc1 ((nI_leI (a := 8) (b := i) (by omega) (by omega)).mpr q)
    refine lv_aload_n hx hb dX1_init_175 rfl (lv_at hl 1 rfl) ?_
    refine cm_get1 C G 0 rfl 11 (by decide) q32 rfl (v := .ref (a 11)) rfl dX1_init_176 ?_
    refine lv_iload_n hx hb dX1_init_179 rfl (lv_at hl 0 rfl) ?_
    refine lv_iconst (v := -1) hx hb dX1_init_180 (by decide) ?_
    refine cm_bast C G 7 6 rfl rfl i (by omega) (by decide) (v := -1) cm_narbm (ws' := cm_wX h0 a d (cm_st u 11 i (-1))) rfl dX1_init_181 (fun H locs G => ?_)
    refine lv_iinc (v := nI (i + 1)) (lv' := [(3, .int (nI (i + 1))), (0, .ref h0), (1, .int x), (2, .int y)]) hx hb dX1_init_182 hl (k := 0) rfl (cm_inc i) (by decide) rfl (fun ls hl => ?_)
    refine lv_goto (tgt := 169) hx hb dX1_init_185 (by decide) ?_
    refine ih (cm_st u 11 i (-1)) _ _ _ ⟨fun k hk => (cm_st_ne hk).trans (hI.1 k hk), fun j hj => ?_⟩ G hl
    rw [cm_st_eq, cm_upd]
    by_cases hji : j = i
    · rw [if_pos hji]
    · rw [if_neg hji]; exact hI.2 j (by omega)
  intro u11 H locs ls hI11 G hl
  refine lv_iload_n hx hb dX1_init_169 rfl (lv_at hl 0 rfl) ?_
  refine lv_bipush (v := nI 8) hx hb dX1_init_170 (by decide) ?_
  refine lv_icmp_ge (tgt := 188) hx hb dX1_init_172 (by decide) (fun cc1 => ?_) (fun cc1 => by have cc1 : ¬ 8 ≤ 8 := fun q => cc1 ((nI_leI (a := 8) (b := 8) (by omega) (by omega)).mpr q); omega)
  have cc1 : 8 ≤ 8 := (nI_leI (a := 8) (b := 8) (by omega) (by omega)).mp cc1
  have e : ∀ k, k ≠ 3 → k ≠ 6 → k ≠ 11 → u11 k = cm_st (cm_st cm_z 10 0 (nI n1)) 5 0 (nI n2) k := fun k k1 k2 k3 => ((hI11.1 k k3).trans (hI6.1 k k2)).trans (hI3.1 k k1)
  have hI0 : cm_I1 u11 := ⟨fun j => by rw [e 0 (by decide) (by decide) (by decide)]; rfl, by rw [e 1 (by decide) (by decide) (by decide)]; rfl, by rw [e 2 (by decide) (by decide) (by decide)]; rfl, fun j hj => by rw [hI11.1 3 (by decide), hI6.1 3 (by decide)]; exact hI3.2 j hj, fun j => by rw [e 4 (by decide) (by decide) (by decide)]; rfl, ⟨n2, hn2a, hn2b, by rw [e 5 (by decide) (by decide) (by decide)]; rfl⟩, fun j hj => by rw [hI11.1 6 (by decide)]; exact hI6.2 j hj, by rw [e 9 (by decide) (by decide) (by decide)]; rfl, ⟨n1, hn1a, hn1b, by rw [e 10 (by decide) (by decide) (by decide)]; rfl⟩, hI11.2⟩
  exact W.vret hx hb hr (fun t ht hW => ⟨⟨(u11, a, d), rfl, hI0, by rw [ht]; exact G.1, va_K.moved hW.alike hK, G.2.1⟩, G.2.2.F ht⟩) G.2.2.2.2 dX1_init_188 hlk
set_option maxHeartbeats 4000000 in
/-- the constructor of X2 -/
theorem cm_X2_init (l : Launch) (D : va_G) (h0 : Nat) (x y : Int32) : cm_Mn l D yX2_init (ws_ yX2_init cX2_init 4 none) ({ frames := 1, cells := 3, slots := 128, locals := 12 }) cm_tM cm_wM h0 (.inr (1, cm_f1)) [.int x, .int y] cm_I2 3 128 := by
  intro sz
  refine Met.ofW (cc := cX2_init) (maxL := 4) (ret := none) (by decide) rfl ?_
  intro p e s m args below meth c s₁ B hml hv
  obtain ⟨rfl, hsz, hP, hK, hD0⟩ := hv
  have hx := B.exec
  have hb := B.bytes
  have hr := B.returns
  have hlk := B.notSynchronized
  have hts := atoms_spec (ws := ws_ yX2_init cX2_init 4 none) B.pre
  have hts : ∀ w ∈ lw_all, w.before _ s = true := fun w h => hts w (List.mem_cons_of_mem _ h)
  have hown : s.vm.findClass RX2 = some m.cls := findClass_of_methodNamed B.named
  have hin : meth.name = "<init>" := (name_of_methodNamed B.named B.method).1
  subst hsz
  have hD := hD0.self (sz := s.heap.size)
  generalize hAe : va_A [(h0, .inr (1, cm_f1))] s.heap.size = A at hD ⊢
  have hA : ∀ q : Nat, s.heap.size ≤ q → A q := fun q h => by rw [← hAe]; exact Or.inr h
  have hS : va_S A s.heap s.heap [] := va_S.rf
  have hl := lv_entry ([.ref h0, .int x, .int y]) (n := 4) (Nat.le_of_ble_eq_true rfl)
  rw [lg_entry_eq]
  generalize (lg_sl ([.ref h0, .int x, .int y]) ++ List.replicate (4 - (lg_sl ([.ref h0, .int x, .int y])).length) Slot.unset).toArray = ls at hl ⊢
  have hl : lv_has ls 4 [(0, .ref h0), (1, .int x), (2, .int y)] := hl
  refine lv_aload_n hx hb dX2_init_0 rfl (lv_at hl 0 rfl) ?_
  refine W.objInit hx hb hown (hts _ q156) (hts _ q19) (hts _ q20) rfl (by rw [hml]; exact hl.1) rfl dX2_init_1 (Nat.le_of_ble_eq_true rfl) (Nat.le_of_ble_eq_true rfl) ?_
  refine W.eq (g2 := F0 m 4 ls []) rfl ?_
  refine lv_aload_n hx hb dX2_init_4 rfl (lv_at hl 0 rfl) ?_
  refine lv_bipush (v := nI 64) hx hb dX2_init_5 (by decide) ?_
  refine va_newa (atype := .int) (a0 := (64, .inl (fun _ => 0))) (N' := 64) hx hb (hts _ q67) (ty := .int) rfl hK hP hD hS hA (fun _ => rfl) (nI_pos (by decide)) (nI_clamp (by decide)) (by decide) (Nat.le_of_ble_eq_true rfl) (Nat.le_of_ble_eq_true rfl) dX2_init_7 (fun q0 d0 H hK hP hD hS => ?_)
  refine W.widen (k := 1) (n := 64) (Nat.le_refl _) (Nat.le_refl _) ?_
  have hK : va_K D cm_cl [(d0, .int)] s := hK
  have hP : va_P D cm_cl [(h0, .inr (1, [.null, .null, .null, .int 0, .int 0])), (q0, .inl (d0, 64, .inl (fun _ => 0)))] H := hP
  have hD : va_D A [(h0, .inr (1, [.null, .null, .null, .int 0, .int 0])), (q0, .inl (d0, 64, .inl (fun _ => 0)))] := hD
  refine va_put (D := D) (ci := 1) (v := .ref q0) (ty := .array .int) (C := RX2) (T := TX2) (N := 5) hx hb hts in_X2 tyX2 tyX2_ok nmX2 hown hK hP hD hS 0 rfl rfl 0 (by decide) (hts _ q157) (fun _ h9 => h9) rfl (by decide +kernel) rfl rfl (Nat.le_of_ble_eq_true rfl) dX2_init_9 (fun H locs hP hD hS => ?_)
  have hP : va_P D cm_cl [(h0, .inr (1, [.ref q0, .null, .null, .int 0, .int 0])), (q0, .inl (d0, 64, .inl (fun _ => 0)))] H := hP
  have hD : va_D A [(h0, .inr (1, [.ref q0, .null, .null, .int 0, .int 0])), (q0, .inl (d0, 64, .inl (fun _ => 0)))] := hD
  refine lv_aload_n hx hb dX2_init_12 rfl (lv_at hl 0 rfl) ?_
  refine lv_bipush (v := nI 32) hx hb dX2_init_13 (by decide) ?_
  refine va_newa (atype := .int) (a0 := (32, .inl (fun _ => 0))) (N' := 32) hx hb (hts _ q67) (ty := .int) rfl hK hP hD hS hA (fun _ => rfl) (nI_pos (by decide)) (nI_clamp (by decide)) (by decide) (Nat.le_of_ble_eq_true rfl) (Nat.le_of_ble_eq_true rfl) dX2_init_15 (fun q1 d1 H hK hP hD hS => ?_)
  refine W.widen (k := 2) (n := 96) (Nat.le_refl _) (Nat.le_refl _) ?_
  have hK : va_K D cm_cl [(d0, .int), (d1, .int)] s := hK
  have hP : va_P D cm_cl [(h0, .inr (1, [.ref q0, .null, .null, .int 0, .int 0])), (q0, .inl (d0, 64, .inl (fun _ => 0))), (q1, .inl (d1, 32, .inl (fun _ => 0)))] H := hP
  have hD : va_D A [(h0, .inr (1, [.ref q0, .null, .null, .int 0, .int 0])), (q0, .inl (d0, 64, .inl (fun _ => 0))), (q1, .inl (d1, 32, .inl (fun _ => 0)))] := hD
  refine va_put (D := D) (ci := 1) (v := .ref q1) (ty := .array .int) (C := RX2) (T := TX2) (N := 5) hx hb hts in_X2 tyX2 tyX2_ok nmX2 hown hK hP hD hS 0 rfl rfl 1 (by decide) (hts _ q158) (fun _ h9 => h9) rfl (by decide +kernel) rfl rfl (Nat.le_of_ble_eq_true rfl) dX2_init_17 (fun H locs hP hD hS => ?_)
  have hP : va_P D cm_cl [(h0, .inr (1, [.ref q0, .ref q1, .null, .int 0, .int 0])), (q0, .inl (d0, 64, .inl (fun _ => 0))), (q1, .inl (d1, 32, .inl (fun _ => 0)))] H := hP
  have hD : va_D A [(h0, .inr (1, [.ref q0, .ref q1, .null, .int 0, .int 0])), (q0, .inl (d0, 64, .inl (fun _ => 0))), (q1, .inl (d1, 32, .inl (fun _ => 0)))] := hD
  refine lv_aload_n hx hb dX2_init_20 rfl (lv_at hl 0 rfl) ?_
  refine lv_bipush (v := nI 32) hx hb dX2_init_21 (by decide) ?_
  refine va_newa (atype := .boolean) (a0 := (32, .inl (fun _ => 0))) (N' := 32) hx hb (hts _ q69) (ty := .boolean) rfl hK hP hD hS hA (fun _ => rfl) (nI_pos (by decide)) (nI_clamp (by decide)) (by decide) (Nat.le_of_ble_eq_true rfl) (Nat.le_of_ble_eq_true rfl) dX2_init_23 (fun q2 d2 H hK hP hD hS => ?_)
  refine W.widen (k := 3) (n := 128) (Nat.le_refl _) (Nat.le_refl _) ?_
  have hK : va_K D cm_cl [(d0, .int), (d1, .int), (d2, .boolean)] s := hK
  have hP : va_P D cm_cl [(h0, .inr (1, [.ref q0, .ref q1, .null, .int 0, .int 0])), (q0, .inl (d0, 64, .inl (fun _ => 0))), (q1, .inl (d1, 32, .inl (fun _ => 0))), (q2, .inl (d2, 32, .inl (fun _ => 0)))] H := hP
  have hD : va_D A [(h0, .inr (1, [.ref q0, .ref q1, .null, .int 0, .int 0])), (q0, .inl (d0, 64, .inl (fun _ => 0))), (q1, .inl (d1, 32, .inl (fun _ => 0))), (q2, .inl (d2, 32, .inl (fun _ => 0)))] := hD
  refine va_put (D := D) (ci := 1) (v := .ref q2) (ty := .array .boolean) (C := RX2) (T := TX2) (N := 5) hx hb hts in_X2 tyX2 tyX2_ok nmX2 hown hK hP hD hS 0 rfl rfl 2 (by decide) (hts _ q159) (fun _ h9 => h9) rfl (by decide +kernel) rfl rfl (Nat.le_of_ble_eq_true rfl) dX2_init_25 (fun H locs hP hD hS => ?_)
  have hP : va_P D cm_cl [(h0, .inr (1, [.ref q0, .ref q1, .ref q2, .int 0, .int 0])), (q0, .inl (d0, 64, .inl (fun _ => 0))), (q1, .inl (d1, 32, .inl (fun _ => 0))), (q2, .inl (d2, 32, .inl (fun _ => 0)))] H := hP
  have hD : va_D A [(h0, .inr (1, [.ref q0, .ref q1, .ref q2, .int 0, .int 0])), (q0, .inl (d0, 64, .inl (fun _ => 0))), (q1, .inl (d1, 32, .inl (fun _ => 0))), (q2, .inl (d2, 32, .inl (fun _ => 0)))] := hD
  have G : cm_G D A s.heap (cm_wM h0 (cm_am q0 q1 q2) (cm_am d0 d1 d2) cm_z) H locs := ⟨hP, hD, hS⟩
  have hK : va_K D cm_cl (cm_tM (cm_am d0 d1 d2)) s := hK
  generalize cm_am q0 q1 q2 = a at G
  generalize cm_am d0 d1 d2 = d at G hK
  have C : cm_C p c cX2_init s _ m RX2 D (cm_tM d) := ⟨hx, hb, hts, hown, hK⟩
  refine lv_aload_n hx hb dX2_init_28 rfl (lv_at hl 0 rfl) ?_
  refine lv_iconst (v := 0) hx hb dX2_init_29 (by decide) ?_
  refine cm_put2 C G 0 rfl 3 (by decide) q160 rfl rfl (by decide +kernel) (Nat.le_of_ble_eq_true rfl) (ws' := cm_wM h0 a d (cm_st cm_z 3 0 0)) rfl dX2_init_30 (fun H locs G => ?_)
  refine lv_aload_n hx hb dX2_init_33 rfl (lv_at hl 0 rfl) ?_
  refine lv_iconst (v := 0) hx hb dX2_init_34 (by decide) ?_
  refine cm_put2 C G 0 rfl 4 (by decide) q161 rfl rfl (by decide +kernel) (Nat.le_of_ble_eq_true rfl) (ws' := cm_wM h0 a d (cm_st (cm_st cm_z 3 0 0) 4 0 0)) rfl dX2_init_35 (fun H locs G => ?_)
  refine lv_iconst (v := nI 0) hx hb dX2_init_38 (by decide) ?_
  refine lv_istore_n (lv' := [(3, .int (nI 0)), (0, .ref h0), (1, .int x), (2, .int y)]) hx hb dX2_init_39 rfl hl (by decide) rfl (fun ls hl => ?_)
  refine cm_loop (I := fun i u => (∀ k, k ≠ 1 → u k = (cm_st (cm_st cm_z 3 0 0) 4 0 0) k) ∧ ∀ j, j < i → u 1 j = -1) (wo := cm_wM h0 a d) (lv := fun i _ => [(3, .int (nI i)), (0, .ref h0), (1, .int x), (2, .int y)]) (N := 32) ?_ ?_ 0 (cm_st (cm_st cm_z 3 0 0) 4 0 0) _ _ _ (Nat.zero_le _) ⟨fun _ _ => rfl, fun j hj => absurd hj (Nat.not_lt_zero _)⟩ G hl
  rotate_left
  · skip
    intro i u H locs ls hi hI G hl ih
    refine lv_iload_n hx hb dX2_init_40 rfl (lv_at hl 0 rfl) ?_
    refine lv_bipush (v := nI 32) hx hb dX2_init_41 (by decide) ?_
    refine lv_icmp_ge (tgt := 59) hx hb dX2_init_43 (by decide) (fun cc1 => by have cc1 : 32 ≤ i := (nI_leI (a := 32) (b := i) (by omega) (by omega)).mp cc1; omega) (fun cc1 => ?_)
    have cc1 : ¬ 32 ≤ i := fun q => cc1 ((nI_leI (a := 32) (b := i) (by omega) (by omega)).mpr q)
    refine lv_aload_n hx hb dX2_init_46 rfl (lv_at hl 1 rfl) ?_
    refine cm_get2 C G 0 rfl 1 (by decide) q158 rfl (v := .ref (a 1)) rfl dX2_init_47 ?_
    refine lv_iload_n hx hb dX2_init_50 rfl (lv_at hl 0 rfl) ?_
    refine lv_iconst (v := -1) hx hb dX2_init_51 (by decide) ?_
    refine cm_iast C G 2 1 rfl rfl i (by omega) (by decide) (ws' := cm_wM h0 a d (cm_st u 1 i (-1))) rfl dX2_init_52 (fun H locs G => ?_)
    refine lv_iinc (v := nI (i + 1)) (lv' := [(3, .int (nI (i + 1))), (0, .ref h0), (1, .int x), (2, .int y)]) hx hb dX2_init_53 hl (k := 0) rfl (cm_inc i) (by decide) rfl (fun ls hl => ?_)
    refine lv_goto (tgt := 40) hx hb dX2_init_56 (by decide) ?_
    refine ih (cm_st u 1 i (-1)) _ _ _ ⟨fun k hk => (cm_st_ne hk).trans (hI.1 k hk), fun j hj => ?_⟩ G hl
    rw [cm_st_eq, cm_upd]
    by_cases hji : j = i
    · rw [if_pos hji]
    · rw [if_neg hji]; exact hI.2 j (by omega)
  intro u1 H locs ls hI1 G hl
  refine lv_iload_n hx hb dX2_init_40 rfl (lv_at hl 0 rfl) ?_
  refine lv_bipush (v := nI 32) hx hb dX2_init_41 (by decide) ?_
  refine lv_icmp_ge (tgt := 59) hx hb dX2_init_43 (by decide) (fun cc1 => ?_) (fun cc1 => by have cc1 : ¬ 32 ≤ 32 := fun q => cc1 ((nI_leI (a := 32) (b := 32) (by omega) (by omega)).mpr q); omega)
  have cc1 : 32 ≤ 32 := (nI_leI (a := 32) (b := 32) (by omega) (by omega)).mp cc1
  have hI0 : cm_I2 u1 := ⟨fun j => by rw [hI1.1 0 (by decide)]; rfl, hI1.2, fun j => by rw [hI1.1 2 (by decide)]; rfl, by rw [hI1.1 3 (by decide)]; rfl, by rw [hI1.1 4 (by decide)]; rfl⟩
  exact W.vret hx hb hr (fun t ht hW => ⟨⟨(u1, a, d), rfl, hI0, by rw [ht]; exact G.1, va_K.moved hW.alike hK, G.2.1⟩, G.2.2.F ht⟩) G.2.2.2.2 dX2_init_59 hlk
end
section
set_option maxRecDepth 100000
/-! THE CLAIM OUT OF ONE WALK OF THE LAW'S BODY. Your part is whole_start (and what it stands on); all else here is the same for every law, but numbers. -/
def R_law : String := "CachedMemoryLaw"
def lw_P (b : Addr) (xs : List Int32) (args : Array Value) (s : State) : Prop := args = #[.ref b] ∧ s.IntsAt b xs ∧ xs.length ≤ 322 ∧ (Jvm.Cond.and given_1 narrow_1).before args s = true
def lw_Q (_ : Array Value) (s : State) (o : Outcome) (t : State) : Prop := o = .returned (some (.int 1)) ∧ Framed s o t [] 600000 7290000
def lw_Z (below : List Frame) (a : Array Value) (s : State) : State → Prop := fun t => ∃ o, t.status = .running ∧ Ended t below o ∧ lw_Q a s o t
/-- the law's own end, with 1 on the stack, nothing written that was there before, its room as the claim has it -/
theorem lw_ret {p : Program} {l : Launch} {e : Env} {s : State} {m : MethodId} {below : List Frame} {meth : Method} {c : Code} {b : Nat} (hx : p.tables.exec = Jvm.exec) (hb : c.code = code) (hr : meth.sig.returnType = ret) (hlocks : meth.locks = false) {pc : Nat} {H : Heap} {ls : Array Slot} (hdg : decode code pc = .ok (.ireturn, 1)) : W p l e room_1 s m #[Value.ref b] below meth c H [] 600000 7290000 (lw_Z below #[Value.ref b] s) (F0 m pc ls [.int 1]) := by
  intro T hT X
  obtain ⟨fs, hret, hrun, hended, hW, hframe⟩ := X.leave (v := some (.int 1)) (hlocks := hlocks) (fun h => by rw [hr] at h; cases h)
  have hmeth' : T.vm.method? m = some meth := X.method'
  refine ⟨T.setFrames fs, ?_, .returned (some (.int 1)), hrun, hended, rfl, ⟨_, rfl⟩, hW, hframe⟩
  jvm_step X.here [X.here.top, hx, hb, hdg, hmeth', hr, ret, narrow_b1]
  (try refine ⟨rfl, ?_⟩); (try refine ⟨rfl, ?_⟩)
  first | (intro acts; rw [hret _ acts rfl rfl rfl]) | rw [hret _ _ rfl rfl rfl]
  exact Steps.refl _
/-- what holds at the law's entry: the machine, the code, the tables' words (any of lw_tbl by 'hts w (by decide +kernel)'), the script of L ints xs at the cell b, what the Statement gives of the start (any of its parts by flat_of_before) -/
def lw_At (p : Program) (s : State) (m : MethodId) (meth : Method) (c : Code) (b L : Nat) (xs : Nat → Int32) : Prop :=
  p.tables.exec = Jvm.exec ∧ c.code = code ∧ meth.sig.returnType = ret ∧ c.maxLocals = 4 ∧ s.vm.findClass R_law = some m.cls ∧ (∀ w ∈ lw_tbl, w.before #[Value.ref b] s = true) ∧ va_X b L xs s s.heap ∧ b < s.heap.size ∧ meth.locks = false ∧ (Jvm.Cond.and given_1 narrow_1).before #[Value.ref b] s = true
theorem cm_lawcmp {L i : Nat} (hL : L ≤ 322) (hi : i ≤ 400) : (nI L - nI 5 < nI (2 + 5 * i)) ↔ L < 7 + 5 * i := by
  rw [Int32.lt_iff_toInt_lt, pk_sub_toInt (by omega) (by omega), nI_toInt (by omega)]
  omega
theorem cm_spTr_snd (τ : cm_St) (x : Int32) : (cm_spTr τ x).2 = τ := by
  unfold cm_spTr
  cases cm_rg x 64 with
  | none => rfl
  | some j =>
    show (if τ 1 (cm_ix τ j) < 0 then (-2, τ) else (nI (cm_wd τ j), τ)).2 = τ
    by_cases h : τ 1 (cm_ix τ j) < 0
    · rw [if_pos h]
    · rw [if_neg h]
end
section
/-! the law's loop (printed by gen5.py) -/
set_option maxRecDepth 100000
set_option maxHeartbeats 8000000 in
/-- the law, from the head of its loop -/
theorem cm_law_loop {p : Program} {e : Env} {s : State} {m : MethodId} {below : List Frame} {meth : Method} {c : Code} (l : Launch) {b L : Nat} {xs : Nat → Int32} (hL : L ≤ 322) (C0 : lw_At p s m meth c b L xs) {D : va_G} (g1 g2 : Nat) (a1 a2 : Nat → Nat) (d1 d2 : Nat → ClassId) (hK : va_K D cm_cl (cm_tX d1 ++ cm_tM d2) s) (σ0 τ0 : cm_St) (H : Heap) (locs : List Loc) (ls : Array Slot) (hR0 : cm_R σ0 τ0) (G : cm_G D (fun q : Nat => s.heap.size ≤ q) s.heap (cm_wX g1 a1 d1 σ0 ++ cm_wM g2 a2 d2 τ0) H locs) (hl : lv_has ls 4 [(3, .int (nI 2)), (0, .ref b), (1, .ref g1), (2, .ref g2)]) : W p l e room_1 s m #[Value.ref b] below meth c H locs 15 340 (lw_Z below #[Value.ref b] s) (F0 m 38 ls []) := by
  obtain ⟨hx, hb, hr, hml, hown, hts, hX, hbl, hlocks, hgv⟩ := id C0
  have hA : ∀ q : Nat, s.heap.size ≤ q → (fun q : Nat => s.heap.size ≤ q) q := fun _ h => h
  have hbA : ¬ (fun q : Nat => s.heap.size ≤ q) b := Nat.not_le.mpr hbl
  have C : cm_C p c cL_law s #[Value.ref b] m RX0 D (cm_tX d1 ++ cm_tM d2) := ⟨hx, hb, fun w h => hts w (lw_all_tbl h), hown, hK⟩
  refine cm_loop (I := fun _ u => cm_R u.1 u.2) (wo := fun u : cm_St × cm_St => cm_wX g1 a1 d1 u.1 ++ cm_wM g2 a2 d2 u.2) (lv := fun i _ => [(3, .int (nI (2 + 5 * i))), (0, .ref b), (1, .ref g1), (2, .ref g2)]) (N := (L - 2) / 5) ?_ ?_ 0 (σ0, τ0) _ _ _ (Nat.zero_le _) hR0 G hl
  · skip
    intro u H locs ls hI G hl
    refine lv_iload_n hx hb dL_law_38 rfl (lv_at hl 0 rfl) ?_
    refine lv_aload_n hx hb dL_law_39 rfl (lv_at hl 1 rfl) ?_
    refine va_slen hx hb hX hbl hbA G.2.2 dL_law_40 ?_
    refine lv_iconst (v := nI 5) hx hb dL_law_41 (by decide) ?_
    refine lv_isub hx hb dL_law_42 ?_
    refine lv_icmp_gt (tgt := 494) hx hb dL_law_43 (by decide) (fun c1 => ?_) (fun c1 => absurd ((cm_lawcmp hL (by omega)).mpr (by omega)) c1)
    refine lv_iconst (v := 1) hx hb dL_law_494 (by decide) ?_
    refine va_forget (fun q hq => G.2.2.2.2 q hq) ?_
    refine W.widen (k := 600000) (n := 7290000) (by decide) (by decide) ?_
    exact lw_ret hx hb hr hlocks dL_law_495
  · skip
    intro i u H locs ls hi hR G hl ih
    obtain ⟨σ, τ⟩ := u
    have hR : cm_R σ τ := hR
    have hM := hR.wm
    have G : cm_G D (fun q : Nat => s.heap.size ≤ q) s.heap (cm_wX g1 a1 d1 σ ++ cm_wM g2 a2 d2 τ) H locs := G
    have hl : lv_has ls 4 [(3, .int (nI (2 + 5 * i))), (0, .ref b), (1, .ref g1), (2, .ref g2)] := hl
    have hi7 : 7 + 5 * i ≤ L := by omega
    refine lv_iload_n hx hb dL_law_38 rfl (lv_at hl 0 rfl) ?_
    refine lv_aload_n hx hb dL_law_39 rfl (lv_at hl 1 rfl) ?_
    refine va_slen hx hb hX hbl hbA G.2.2 dL_law_40 ?_
    refine lv_iconst (v := nI 5) hx hb dL_law_41 (by decide) ?_
    refine lv_isub hx hb dL_law_42 ?_
    refine lv_icmp_gt (tgt := 494) hx hb dL_law_43 (by decide) (fun c1 => absurd ((cm_lawcmp hL (by omega)).mp c1) (by omega)) (fun c1 => ?_)
    refine lv_aload_n hx hb dL_law_46 rfl (lv_at hl 1 rfl) ?_
    refine lv_iload_n hx hb dL_law_47 rfl (lv_at hl 0 rfl) ?_
    refine cm_sld hx hb hX hbl hbA G (2 + 5 * i) (by omega) (by omega) dL_law_48 ?_
    refine lv_bipush (v := nI 15) hx hb dL_law_49 (by decide) ?_
    refine lv_iand hx hb dL_law_51 ?_
    obtain ⟨t, ht, et⟩ := cm_and15 (xs (2 + 5 * i))
    refine cm_top et ?_
    rcases (show t = 0 ∨ t = 1 ∨ t = 2 ∨ t = 3 ∨ t = 4 ∨ t = 5 ∨ t = 6 ∨ t = 7 ∨ t = 8 ∨ t = 9 ∨ t = 10 ∨ t = 11 ∨ 12 ≤ t by omega) with rfl | rfl | rfl | rfl | rfl | rfl | rfl | rfl | rfl | rfl | rfl | rfl | h12
    · skip
      refine lv_tableIn (off := 64) (tgt := 116) hx hb dL_law_52 (by decide) (by decide) (by decide) (by decide) ?_
      refine lv_aload_n hx hb dL_law_116 rfl (lv_at hl 2 rfl) ?_
      refine lv_aload_n hx hb dL_law_117 rfl (lv_at hl 1 rfl) ?_
      refine lv_iload_n hx hb dL_law_118 rfl (lv_at hl 0 rfl) ?_
      refine lv_iconst (v := nI 1) hx hb dL_law_119 (by decide) ?_
      refine lv_iadd hx hb dL_law_120 ?_
      refine cm_top (nI_add (2 + 5 * i) 1) ?_
      refine cm_sld hx hb hX hbl hbA G (2 + 5 * i + 1) (by omega) (by omega) dL_law_121 ?_
      refine cm_frami (q := (RX1, TX1, 15)) (ci := 0) (rest := []) (wr := cm_wM g2 a2 d2 τ) C hml hA G hl.1 (cm_X1_enter l D g1 a1 d1 σ (xs (2 + 5 * i + 1)) τ hR) [0, 1, 2, 3, 4, 5, 6, 7, 8, 9] [0, 1, 2, 3, 4, 5, 6, 7, 8, 9, 10] [11, 12, 13, 14] rfl rfl rfl rfl rfl rfl (by decide) rfl rfl (cwV 1 C.2.2.1 (lw_V q70 q71 q72 q11 q73) rfl rfl rfl (by decide +kernel) ⟨Nat.le_of_ble_eq_true rfl, Nat.le_of_ble_eq_true rfl⟩) rfl rfl (Nat.le_of_ble_eq_true rfl) dL_law_122 ⟨Nat.le_of_ble_eq_true rfl, Nat.le_of_ble_eq_true rfl⟩ (fun r1 σ1 H locs hp1 G => ?_)
      refine lv_aload_n hx hb dL_law_125 rfl (lv_at hl 3 rfl) ?_
      refine lv_aload_n hx hb dL_law_126 rfl (lv_at hl 1 rfl) ?_
      refine lv_iload_n hx hb dL_law_127 rfl (lv_at hl 0 rfl) ?_
      refine lv_iconst (v := nI 1) hx hb dL_law_128 (by decide) ?_
      refine lv_iadd hx hb dL_law_129 ?_
      refine cm_top (nI_add (2 + 5 * i) 1) ?_
      refine cm_sld hx hb hX hbl hbA G (2 + 5 * i + 1) (by omega) (by omega) dL_law_130 ?_
      refine cm_frami (q := (RX2, TX2, 5)) (ci := 1) (rest := [.int r1]) (wr := cm_wX g1 a1 d1 σ1) C hml hA G hl.1 (cm_X2_enter l D g2 a2 d2 τ (xs (2 + 5 * i + 1))) [10, 11, 12] [0, 1, 2, 3] [4, 5, 6, 7, 8, 9, 10, 11, 12, 13, 14] rfl rfl rfl rfl rfl rfl (by decide) rfl rfl (cwV 1 C.2.2.1 (lw_V q173 q174 q175 q12 q176) rfl rfl rfl (by decide +kernel) ⟨Nat.le_of_ble_eq_true rfl, Nat.le_of_ble_eq_true rfl⟩) rfl rfl (Nat.le_of_ble_eq_true rfl) dL_law_131 ⟨Nat.le_of_ble_eq_true rfl, Nat.le_of_ble_eq_true rfl⟩ (fun r2 τ1 H locs hp2 G => ?_)
      refine lv_icmp_eq (tgt := 488) hx hb dL_law_134 (by decide) (fun c4 => ?_) (fun c4 => absurd (hp1.1.trans hp2.1.symm) c4)
      refine lv_iinc (v := nI (2 + 5 * (i + 1))) (lv' := [(3, .int (nI (2 + 5 * (i + 1)))), (0, .ref b), (1, .ref g1), (2, .ref g2)]) hx hb dL_law_488 hl (k := 0) rfl (by rw [cm_inc5]; exact congrArg nI (by omega)) (by decide) rfl (fun ls hl => ?_)
      refine lv_goto (tgt := 38) hx hb dL_law_491 (by decide) ?_
      exact ih (σ1, τ1) _ _ _ (show cm_R σ1 τ1 by rw [hp2.2]; exact hp1.2) G hl
    · skip
      refine lv_tableIn (off := 87) (tgt := 139) hx hb dL_law_52 (by decide) (by decide) (by decide) (by decide) ?_
      refine lv_aload_n hx hb dL_law_139 rfl (lv_at hl 2 rfl) ?_
      refine lv_aload_n hx hb dL_law_140 rfl (lv_at hl 1 rfl) ?_
      refine lv_iload_n hx hb dL_law_141 rfl (lv_at hl 0 rfl) ?_
      refine lv_iconst (v := nI 1) hx hb dL_law_142 (by decide) ?_
      refine lv_iadd hx hb dL_law_143 ?_
      refine cm_top (nI_add (2 + 5 * i) 1) ?_
      refine cm_sld hx hb hX hbl hbA G (2 + 5 * i + 1) (by omega) (by omega) dL_law_144 ?_
      refine lv_aload_n hx hb dL_law_145 rfl (lv_at hl 1 rfl) ?_
      refine lv_iload_n hx hb dL_law_146 rfl (lv_at hl 0 rfl) ?_
      refine lv_iconst (v := nI 2) hx hb dL_law_147 (by decide) ?_
      refine lv_iadd hx hb dL_law_148 ?_
      refine cm_top (nI_add (2 + 5 * i) 2) ?_
      refine cm_sld hx hb hX hbl hbA G (2 + 5 * i + 2) (by omega) (by omega) dL_law_149 ?_
      refine lv_aload_n hx hb dL_law_150 rfl (lv_at hl 1 rfl) ?_
      refine lv_iload_n hx hb dL_law_151 rfl (lv_at hl 0 rfl) ?_
      refine lv_iconst (v := nI 3) hx hb dL_law_152 (by decide) ?_
      refine lv_iadd hx hb dL_law_153 ?_
      refine cm_top (nI_add (2 + 5 * i) 3) ?_
      refine cm_sld hx hb hX hbl hbA G (2 + 5 * i + 3) (by omega) (by omega) dL_law_154 ?_
      refine lv_aload_n hx hb dL_law_155 rfl (lv_at hl 1 rfl) ?_
      refine lv_iload_n hx hb dL_law_156 rfl (lv_at hl 0 rfl) ?_
      refine lv_iconst (v := nI 4) hx hb dL_law_157 (by decide) ?_
      refine lv_iadd hx hb dL_law_158 ?_
      refine cm_top (nI_add (2 + 5 * i) 4) ?_
      refine cm_sld hx hb hX hbl hbA G (2 + 5 * i + 4) (by omega) (by omega) dL_law_159 ?_
      refine lv_if_eq (tgt := 167) hx hb dL_law_160 (by decide) (fun c2 => ?_) (fun c2 => ?_)
      · skip
        refine lv_iconst (v := 0) hx hb dL_law_167 (by decide) ?_
        refine cm_frami (q := (RX1, TX1, 15)) (ci := 0) (rest := []) (wr := cm_wM g2 a2 d2 τ) C hml hA G hl.1 (cm_X1_map l D g1 a1 d1 σ (xs (2 + 5 * i + 1)) (xs (2 + 5 * i + 2)) (xs (2 + 5 * i + 3)) 0 τ (Or.inl rfl) hR) [0, 1, 2, 3, 4, 5, 6, 7, 8, 9] [0, 1, 2, 3, 4, 5, 6, 7, 8, 9, 10] [11, 12, 13, 14] rfl rfl rfl rfl rfl rfl (by decide) rfl rfl (cwV 4 C.2.2.1 (lw_V q74 q75 q76 q11 q77) rfl rfl rfl (by decide +kernel) ⟨Nat.le_of_ble_eq_true rfl, Nat.le_of_ble_eq_true rfl⟩) rfl rfl (Nat.le_of_ble_eq_true rfl) dL_law_168 ⟨Nat.le_of_ble_eq_true rfl, Nat.le_of_ble_eq_true rfl⟩ (fun r1 σ1 H locs hp1 G => ?_)
        refine lv_aload_n hx hb dL_law_171 rfl (lv_at hl 3 rfl) ?_
        refine lv_aload_n hx hb dL_law_172 rfl (lv_at hl 1 rfl) ?_
        refine lv_iload_n hx hb dL_law_173 rfl (lv_at hl 0 rfl) ?_
        refine lv_iconst (v := nI 1) hx hb dL_law_174 (by decide) ?_
        refine lv_iadd hx hb dL_law_175 ?_
        refine cm_top (nI_add (2 + 5 * i) 1) ?_
        refine cm_sld hx hb hX hbl hbA G (2 + 5 * i + 1) (by omega) (by omega) dL_law_176 ?_
        refine lv_aload_n hx hb dL_law_177 rfl (lv_at hl 1 rfl) ?_
        refine lv_iload_n hx hb dL_law_178 rfl (lv_at hl 0 rfl) ?_
        refine lv_iconst (v := nI 2) hx hb dL_law_179 (by decide) ?_
        refine lv_iadd hx hb dL_law_180 ?_
        refine cm_top (nI_add (2 + 5 * i) 2) ?_
        refine cm_sld hx hb hX hbl hbA G (2 + 5 * i + 2) (by omega) (by omega) dL_law_181 ?_
        refine lv_aload_n hx hb dL_law_182 rfl (lv_at hl 1 rfl) ?_
        refine lv_iload_n hx hb dL_law_183 rfl (lv_at hl 0 rfl) ?_
        refine lv_iconst (v := nI 3) hx hb dL_law_184 (by decide) ?_
        refine lv_iadd hx hb dL_law_185 ?_
        refine cm_top (nI_add (2 + 5 * i) 3) ?_
        refine cm_sld hx hb hX hbl hbA G (2 + 5 * i + 3) (by omega) (by omega) dL_law_186 ?_
        refine lv_aload_n hx hb dL_law_187 rfl (lv_at hl 1 rfl) ?_
        refine lv_iload_n hx hb dL_law_188 rfl (lv_at hl 0 rfl) ?_
        refine lv_iconst (v := nI 4) hx hb dL_law_189 (by decide) ?_
        refine lv_iadd hx hb dL_law_190 ?_
        refine cm_top (nI_add (2 + 5 * i) 4) ?_
        refine cm_sld hx hb hX hbl hbA G (2 + 5 * i + 4) (by omega) (by omega) dL_law_191 ?_
        refine lv_if_eq (tgt := 199) hx hb dL_law_192 (by decide) (fun c3 => ?_) (fun c3 => absurd c2 c3)
        refine lv_iconst (v := 0) hx hb dL_law_199 (by decide) ?_
        refine cm_frami (q := (RX2, TX2, 5)) (ci := 1) (rest := [.int r1]) (wr := cm_wX g1 a1 d1 σ1) C hml hA G hl.1 (cm_X2_map l D g2 a2 d2 τ (xs (2 + 5 * i + 1)) (xs (2 + 5 * i + 2)) (xs (2 + 5 * i + 3)) 0 (Or.inl rfl)) [10, 11, 12] [0, 1, 2, 3] [4, 5, 6, 7, 8, 9, 10, 11, 12, 13, 14] rfl rfl rfl rfl rfl rfl (by decide) rfl rfl (cwV 4 C.2.2.1 (lw_V q181 q182 q183 q12 q184) rfl rfl rfl (by decide +kernel) ⟨Nat.le_of_ble_eq_true rfl, Nat.le_of_ble_eq_true rfl⟩) rfl rfl (Nat.le_of_ble_eq_true rfl) dL_law_200 ⟨Nat.le_of_ble_eq_true rfl, Nat.le_of_ble_eq_true rfl⟩ (fun r2 τ1 H locs hp2 G => ?_)
        refine lv_icmp_eq (tgt := 488) hx hb dL_law_203 (by decide) (fun c4 => ?_) (fun c4 => absurd (hp1.1.trans hp2.1.symm) c4)
        refine lv_iinc (v := nI (2 + 5 * (i + 1))) (lv' := [(3, .int (nI (2 + 5 * (i + 1)))), (0, .ref b), (1, .ref g1), (2, .ref g2)]) hx hb dL_law_488 hl (k := 0) rfl (by rw [cm_inc5]; exact congrArg nI (by omega)) (by decide) rfl (fun ls hl => ?_)
        refine lv_goto (tgt := 38) hx hb dL_law_491 (by decide) ?_
        exact ih (σ1, τ1) _ _ _ (show cm_R σ1 τ1 by rw [hp2.2]; exact hp1.2) G hl
      refine lv_iconst (v := 1) hx hb dL_law_163 (by decide) ?_
      refine lv_goto (tgt := 168) hx hb dL_law_164 (by decide) ?_
      refine cm_frami (q := (RX1, TX1, 15)) (ci := 0) (rest := []) (wr := cm_wM g2 a2 d2 τ) C hml hA G hl.1 (cm_X1_map l D g1 a1 d1 σ (xs (2 + 5 * i + 1)) (xs (2 + 5 * i + 2)) (xs (2 + 5 * i + 3)) 1 τ (Or.inr rfl) hR) [0, 1, 2, 3, 4, 5, 6, 7, 8, 9] [0, 1, 2, 3, 4, 5, 6, 7, 8, 9, 10] [11, 12, 13, 14] rfl rfl rfl rfl rfl rfl (by decide) rfl rfl (cwV 4 C.2.2.1 (lw_V q74 q75 q76 q11 q77) rfl rfl rfl (by decide +kernel) ⟨Nat.le_of_ble_eq_true rfl, Nat.le_of_ble_eq_true rfl⟩) rfl rfl (Nat.le_of_ble_eq_true rfl) dL_law_168 ⟨Nat.le_of_ble_eq_true rfl, Nat.le_of_ble_eq_true rfl⟩ (fun r1 σ1 H locs hp1 G => ?_)
      refine lv_aload_n hx hb dL_law_171 rfl (lv_at hl 3 rfl) ?_
      refine lv_aload_n hx hb dL_law_172 rfl (lv_at hl 1 rfl) ?_
      refine lv_iload_n hx hb dL_law_173 rfl (lv_at hl 0 rfl) ?_
      refine lv_iconst (v := nI 1) hx hb dL_law_174 (by decide) ?_
      refine lv_iadd hx hb dL_law_175 ?_
      refine cm_top (nI_add (2 + 5 * i) 1) ?_
      refine cm_sld hx hb hX hbl hbA G (2 + 5 * i + 1) (by omega) (by omega) dL_law_176 ?_
      refine lv_aload_n hx hb dL_law_177 rfl (lv_at hl 1 rfl) ?_
      refine lv_iload_n hx hb dL_law_178 rfl (lv_at hl 0 rfl) ?_
      refine lv_iconst (v := nI 2) hx hb dL_law_179 (by decide) ?_
      refine lv_iadd hx hb dL_law_180 ?_
      refine cm_top (nI_add (2 + 5 * i) 2) ?_
      refine cm_sld hx hb hX hbl hbA G (2 + 5 * i + 2) (by omega) (by omega) dL_law_181 ?_
      refine lv_aload_n hx hb dL_law_182 rfl (lv_at hl 1 rfl) ?_
      refine lv_iload_n hx hb dL_law_183 rfl (lv_at hl 0 rfl) ?_
      refine lv_iconst (v := nI 3) hx hb dL_law_184 (by decide) ?_
      refine lv_iadd hx hb dL_law_185 ?_
      refine cm_top (nI_add (2 + 5 * i) 3) ?_
      refine cm_sld hx hb hX hbl hbA G (2 + 5 * i + 3) (by omega) (by omega) dL_law_186 ?_
      refine lv_aload_n hx hb dL_law_187 rfl (lv_at hl 1 rfl) ?_
      refine lv_iload_n hx hb dL_law_188 rfl (lv_at hl 0 rfl) ?_
      refine lv_iconst (v := nI 4) hx hb dL_law_189 (by decide) ?_
      refine lv_iadd hx hb dL_law_190 ?_
      refine cm_top (nI_add (2 + 5 * i) 4) ?_
      refine cm_sld hx hb hX hbl hbA G (2 + 5 * i + 4) (by omega) (by omega) dL_law_191 ?_
      refine lv_if_eq (tgt := 199) hx hb dL_law_192 (by decide) (fun c3 => absurd c3 c2) (fun c3 => ?_)
      refine lv_iconst (v := 1) hx hb dL_law_195 (by decide) ?_
      refine lv_goto (tgt := 200) hx hb dL_law_196 (by decide) ?_
      refine cm_frami (q := (RX2, TX2, 5)) (ci := 1) (rest := [.int r1]) (wr := cm_wX g1 a1 d1 σ1) C hml hA G hl.1 (cm_X2_map l D g2 a2 d2 τ (xs (2 + 5 * i + 1)) (xs (2 + 5 * i + 2)) (xs (2 + 5 * i + 3)) 1 (Or.inr rfl)) [10, 11, 12] [0, 1, 2, 3] [4, 5, 6, 7, 8, 9, 10, 11, 12, 13, 14] rfl rfl rfl rfl rfl rfl (by decide) rfl rfl (cwV 4 C.2.2.1 (lw_V q181 q182 q183 q12 q184) rfl rfl rfl (by decide +kernel) ⟨Nat.le_of_ble_eq_true rfl, Nat.le_of_ble_eq_true rfl⟩) rfl rfl (Nat.le_of_ble_eq_true rfl) dL_law_200 ⟨Nat.le_of_ble_eq_true rfl, Nat.le_of_ble_eq_true rfl⟩ (fun r2 τ1 H locs hp2 G => ?_)
      refine lv_icmp_eq (tgt := 488) hx hb dL_law_203 (by decide) (fun c4 => ?_) (fun c4 => absurd (hp1.1.trans hp2.1.symm) c4)
      refine lv_iinc (v := nI (2 + 5 * (i + 1))) (lv' := [(3, .int (nI (2 + 5 * (i + 1)))), (0, .ref b), (1, .ref g1), (2, .ref g2)]) hx hb dL_law_488 hl (k := 0) rfl (by rw [cm_inc5]; exact congrArg nI (by omega)) (by decide) rfl (fun ls hl => ?_)
      refine lv_goto (tgt := 38) hx hb dL_law_491 (by decide) ?_
      exact ih (σ1, τ1) _ _ _ (show cm_R σ1 τ1 by rw [hp2.2]; exact hp1.2) G hl
    · skip
      refine lv_tableIn (off := 156) (tgt := 208) hx hb dL_law_52 (by decide) (by decide) (by decide) (by decide) ?_
      refine lv_aload_n hx hb dL_law_208 rfl (lv_at hl 2 rfl) ?_
      refine lv_aload_n hx hb dL_law_209 rfl (lv_at hl 1 rfl) ?_
      refine lv_iload_n hx hb dL_law_210 rfl (lv_at hl 0 rfl) ?_
      refine lv_iconst (v := nI 1) hx hb dL_law_211 (by decide) ?_
      refine lv_iadd hx hb dL_law_212 ?_
      refine cm_top (nI_add (2 + 5 * i) 1) ?_
      refine cm_sld hx hb hX hbl hbA G (2 + 5 * i + 1) (by omega) (by omega) dL_law_213 ?_
      refine lv_aload_n hx hb dL_law_214 rfl (lv_at hl 1 rfl) ?_
      refine lv_iload_n hx hb dL_law_215 rfl (lv_at hl 0 rfl) ?_
      refine lv_iconst (v := nI 2) hx hb dL_law_216 (by decide) ?_
      refine lv_iadd hx hb dL_law_217 ?_
      refine cm_top (nI_add (2 + 5 * i) 2) ?_
      refine cm_sld hx hb hX hbl hbA G (2 + 5 * i + 2) (by omega) (by omega) dL_law_218 ?_
      refine cm_frami (q := (RX1, TX1, 15)) (ci := 0) (rest := []) (wr := cm_wM g2 a2 d2 τ) C hml hA G hl.1 (cm_X1_unmap l D g1 a1 d1 σ (xs (2 + 5 * i + 1)) (xs (2 + 5 * i + 2)) τ hR) [0, 1, 2, 3, 4, 5, 6, 7, 8, 9] [0, 1, 2, 3, 4, 5, 6, 7, 8, 9, 10] [11, 12, 13, 14] rfl rfl rfl rfl rfl rfl (by decide) rfl rfl (cwV 2 C.2.2.1 (lw_V q86 q87 q88 q11 q89) rfl rfl rfl (by decide +kernel) ⟨Nat.le_of_ble_eq_true rfl, Nat.le_of_ble_eq_true rfl⟩) rfl rfl (Nat.le_of_ble_eq_true rfl) dL_law_219 ⟨Nat.le_of_ble_eq_true rfl, Nat.le_of_ble_eq_true rfl⟩ (fun r1 σ1 H locs hp1 G => ?_)
      refine lv_aload_n hx hb dL_law_222 rfl (lv_at hl 3 rfl) ?_
      refine lv_aload_n hx hb dL_law_223 rfl (lv_at hl 1 rfl) ?_
      refine lv_iload_n hx hb dL_law_224 rfl (lv_at hl 0 rfl) ?_
      refine lv_iconst (v := nI 1) hx hb dL_law_225 (by decide) ?_
      refine lv_iadd hx hb dL_law_226 ?_
      refine cm_top (nI_add (2 + 5 * i) 1) ?_
      refine cm_sld hx hb hX hbl hbA G (2 + 5 * i + 1) (by omega) (by omega) dL_law_227 ?_
      refine lv_aload_n hx hb dL_law_228 rfl (lv_at hl 1 rfl) ?_
      refine lv_iload_n hx hb dL_law_229 rfl (lv_at hl 0 rfl) ?_
      refine lv_iconst (v := nI 2) hx hb dL_law_230 (by decide) ?_
      refine lv_iadd hx hb dL_law_231 ?_
      refine cm_top (nI_add (2 + 5 * i) 2) ?_
      refine cm_sld hx hb hX hbl hbA G (2 + 5 * i + 2) (by omega) (by omega) dL_law_232 ?_
      refine cm_frami (q := (RX2, TX2, 5)) (ci := 1) (rest := [.int r1]) (wr := cm_wX g1 a1 d1 σ1) C hml hA G hl.1 (cm_X2_unmap l D g2 a2 d2 τ (xs (2 + 5 * i + 1)) (xs (2 + 5 * i + 2))) [10, 11, 12] [0, 1, 2, 3] [4, 5, 6, 7, 8, 9, 10, 11, 12, 13, 14] rfl rfl rfl rfl rfl rfl (by decide) rfl rfl (cwV 2 C.2.2.1 (lw_V q189 q190 q191 q12 q192) rfl rfl rfl (by decide +kernel) ⟨Nat.le_of_ble_eq_true rfl, Nat.le_of_ble_eq_true rfl⟩) rfl rfl (Nat.le_of_ble_eq_true rfl) dL_law_233 ⟨Nat.le_of_ble_eq_true rfl, Nat.le_of_ble_eq_true rfl⟩ (fun r2 τ1 H locs hp2 G => ?_)
      refine lv_icmp_eq (tgt := 488) hx hb dL_law_236 (by decide) (fun c4 => ?_) (fun c4 => absurd (hp1.1.trans hp2.1.symm) c4)
      refine lv_iinc (v := nI (2 + 5 * (i + 1))) (lv' := [(3, .int (nI (2 + 5 * (i + 1)))), (0, .ref b), (1, .ref g1), (2, .ref g2)]) hx hb dL_law_488 hl (k := 0) rfl (by rw [cm_inc5]; exact congrArg nI (by omega)) (by decide) rfl (fun ls hl => ?_)
      refine lv_goto (tgt := 38) hx hb dL_law_491 (by decide) ?_
      exact ih (σ1, τ1) _ _ _ (show cm_R σ1 τ1 by rw [hp2.2]; exact hp1.2) G hl
    · skip
      refine lv_tableIn (off := 189) (tgt := 241) hx hb dL_law_52 (by decide) (by decide) (by decide) (by decide) ?_
      refine lv_aload_n hx hb dL_law_241 rfl (lv_at hl 2 rfl) ?_
      refine lv_aload_n hx hb dL_law_242 rfl (lv_at hl 1 rfl) ?_
      refine lv_iload_n hx hb dL_law_243 rfl (lv_at hl 0 rfl) ?_
      refine lv_iconst (v := nI 1) hx hb dL_law_244 (by decide) ?_
      refine lv_iadd hx hb dL_law_245 ?_
      refine cm_top (nI_add (2 + 5 * i) 1) ?_
      refine cm_sld hx hb hX hbl hbA G (2 + 5 * i + 1) (by omega) (by omega) dL_law_246 ?_
      refine cm_frami (q := (RX1, TX1, 15)) (ci := 0) (rest := []) (wr := cm_wM g2 a2 d2 τ) C hml hA G hl.1 (cm_X1_protect l D g1 a1 d1 σ (xs (2 + 5 * i + 1)) τ hR) [0, 1, 2, 3, 4, 5, 6, 7, 8, 9] [0, 1, 2, 3, 4, 5, 6, 7, 8, 9, 10] [11, 12, 13, 14] rfl rfl rfl rfl rfl rfl (by decide) rfl rfl (cwV 1 C.2.2.1 (lw_V q90 q91 q92 q11 q93) rfl rfl rfl (by decide +kernel) ⟨Nat.le_of_ble_eq_true rfl, Nat.le_of_ble_eq_true rfl⟩) rfl rfl (Nat.le_of_ble_eq_true rfl) dL_law_247 ⟨Nat.le_of_ble_eq_true rfl, Nat.le_of_ble_eq_true rfl⟩ (fun r1 σ1 H locs hp1 G => ?_)
      refine lv_aload_n hx hb dL_law_250 rfl (lv_at hl 3 rfl) ?_
      refine lv_aload_n hx hb dL_law_251 rfl (lv_at hl 1 rfl) ?_
      refine lv_iload_n hx hb dL_law_252 rfl (lv_at hl 0 rfl) ?_
      refine lv_iconst (v := nI 1) hx hb dL_law_253 (by decide) ?_
      refine lv_iadd hx hb dL_law_254 ?_
      refine cm_top (nI_add (2 + 5 * i) 1) ?_
      refine cm_sld hx hb hX hbl hbA G (2 + 5 * i + 1) (by omega) (by omega) dL_law_255 ?_
      refine cm_frami (q := (RX2, TX2, 5)) (ci := 1) (rest := [.int r1]) (wr := cm_wX g1 a1 d1 σ1) C hml hA G hl.1 (cm_X2_protect l D g2 a2 d2 τ (xs (2 + 5 * i + 1))) [10, 11, 12] [0, 1, 2, 3] [4, 5, 6, 7, 8, 9, 10, 11, 12, 13, 14] rfl rfl rfl rfl rfl rfl (by decide) rfl rfl (cwV 1 C.2.2.1 (lw_V q193 q194 q195 q12 q196) rfl rfl rfl (by decide +kernel) ⟨Nat.le_of_ble_eq_true rfl, Nat.le_of_ble_eq_true rfl⟩) rfl rfl (Nat.le_of_ble_eq_true rfl) dL_law_256 ⟨Nat.le_of_ble_eq_true rfl, Nat.le_of_ble_eq_true rfl⟩ (fun r2 τ1 H locs hp2 G => ?_)
      refine lv_icmp_eq (tgt := 488) hx hb dL_law_259 (by decide) (fun c4 => ?_) (fun c4 => absurd (hp1.1.trans hp2.1.symm) c4)
      refine lv_iinc (v := nI (2 + 5 * (i + 1))) (lv' := [(3, .int (nI (2 + 5 * (i + 1)))), (0, .ref b), (1, .ref g1), (2, .ref g2)]) hx hb dL_law_488 hl (k := 0) rfl (by rw [cm_inc5]; exact congrArg nI (by omega)) (by decide) rfl (fun ls hl => ?_)
      refine lv_goto (tgt := 38) hx hb dL_law_491 (by decide) ?_
      exact ih (σ1, τ1) _ _ _ (show cm_R σ1 τ1 by rw [hp2.2]; exact hp1.2) G hl
    · skip
      refine lv_tableIn (off := 212) (tgt := 264) hx hb dL_law_52 (by decide) (by decide) (by decide) (by decide) ?_
      refine lv_aload_n hx hb dL_law_264 rfl (lv_at hl 2 rfl) ?_
      refine lv_aload_n hx hb dL_law_265 rfl (lv_at hl 1 rfl) ?_
      refine lv_iload_n hx hb dL_law_266 rfl (lv_at hl 0 rfl) ?_
      refine lv_iconst (v := nI 1) hx hb dL_law_267 (by decide) ?_
      refine lv_iadd hx hb dL_law_268 ?_
      refine cm_top (nI_add (2 + 5 * i) 1) ?_
      refine cm_sld hx hb hX hbl hbA G (2 + 5 * i + 1) (by omega) (by omega) dL_law_269 ?_
      refine cm_frami (q := (RX1, TX1, 15)) (ci := 0) (rest := []) (wr := cm_wM g2 a2 d2 τ) C hml hA G hl.1 (cm_X1_load l D g1 a1 d1 σ (xs (2 + 5 * i + 1)) τ hR) [0, 1, 2, 3, 4, 5, 6, 7, 8, 9] [0, 1, 2, 3, 4, 5, 6, 7, 8, 9, 10] [11, 12, 13, 14] rfl rfl rfl rfl rfl rfl (by decide) rfl rfl (cwV 1 C.2.2.1 (lw_V q94 q95 q96 q11 q97) rfl rfl rfl (by decide +kernel) ⟨Nat.le_of_ble_eq_true rfl, Nat.le_of_ble_eq_true rfl⟩) rfl rfl (Nat.le_of_ble_eq_true rfl) dL_law_270 ⟨Nat.le_of_ble_eq_true rfl, Nat.le_of_ble_eq_true rfl⟩ (fun r1 σ1 H locs hp1 G => ?_)
      refine lv_aload_n hx hb dL_law_273 rfl (lv_at hl 3 rfl) ?_
      refine lv_aload_n hx hb dL_law_274 rfl (lv_at hl 1 rfl) ?_
      refine lv_iload_n hx hb dL_law_275 rfl (lv_at hl 0 rfl) ?_
      refine lv_iconst (v := nI 1) hx hb dL_law_276 (by decide) ?_
      refine lv_iadd hx hb dL_law_277 ?_
      refine cm_top (nI_add (2 + 5 * i) 1) ?_
      refine cm_sld hx hb hX hbl hbA G (2 + 5 * i + 1) (by omega) (by omega) dL_law_278 ?_
      refine cm_frami (q := (RX2, TX2, 5)) (ci := 1) (rest := [.int r1]) (wr := cm_wX g1 a1 d1 σ1) C hml hA G hl.1 (cm_X2_load l D g2 a2 d2 τ (xs (2 + 5 * i + 1)) hM) [10, 11, 12] [0, 1, 2, 3] [4, 5, 6, 7, 8, 9, 10, 11, 12, 13, 14] rfl rfl rfl rfl rfl rfl (by decide) rfl rfl (cwV 1 C.2.2.1 (lw_V q197 q198 q199 q12 q200) rfl rfl rfl (by decide +kernel) ⟨Nat.le_of_ble_eq_true rfl, Nat.le_of_ble_eq_true rfl⟩) rfl rfl (Nat.le_of_ble_eq_true rfl) dL_law_279 ⟨Nat.le_of_ble_eq_true rfl, Nat.le_of_ble_eq_true rfl⟩ (fun r2 τ1 H locs hp2 G => ?_)
      refine lv_icmp_eq (tgt := 488) hx hb dL_law_282 (by decide) (fun c4 => ?_) (fun c4 => absurd (hp1.1.trans hp2.1.symm) c4)
      refine lv_iinc (v := nI (2 + 5 * (i + 1))) (lv' := [(3, .int (nI (2 + 5 * (i + 1)))), (0, .ref b), (1, .ref g1), (2, .ref g2)]) hx hb dL_law_488 hl (k := 0) rfl (by rw [cm_inc5]; exact congrArg nI (by omega)) (by decide) rfl (fun ls hl => ?_)
      refine lv_goto (tgt := 38) hx hb dL_law_491 (by decide) ?_
      exact ih (σ1, τ1) _ _ _ (show cm_R σ1 τ1 by rw [hp2.2]; exact hp1.2) G hl
    · skip
      refine lv_tableIn (off := 235) (tgt := 287) hx hb dL_law_52 (by decide) (by decide) (by decide) (by decide) ?_
      refine lv_aload_n hx hb dL_law_287 rfl (lv_at hl 2 rfl) ?_
      refine cm_frami (q := (RX1, TX1, 15)) (ci := 0) (rest := []) (wr := cm_wM g2 a2 d2 τ) C hml hA G hl.1 (cm_X1_last l D g1 a1 d1 σ  τ hR) [0, 1, 2, 3, 4, 5, 6, 7, 8, 9] [0, 1, 2, 3, 4, 5, 6, 7, 8, 9, 10] [11, 12, 13, 14] rfl rfl rfl rfl rfl rfl (by decide) rfl rfl (cwV 0 C.2.2.1 (lw_V q114 q115 q116 q11 q117) rfl rfl rfl (by decide +kernel) ⟨Nat.le_of_ble_eq_true rfl, Nat.le_of_ble_eq_true rfl⟩) rfl rfl (Nat.le_of_ble_eq_true rfl) dL_law_288 ⟨Nat.le_of_ble_eq_true rfl, Nat.le_of_ble_eq_true rfl⟩ (fun r1 σ1 H locs hp1 G => ?_)
      refine lv_aload_n hx hb dL_law_291 rfl (lv_at hl 3 rfl) ?_
      refine cm_frami (q := (RX2, TX2, 5)) (ci := 1) (rest := [.int r1]) (wr := cm_wX g1 a1 d1 σ1) C hml hA G hl.1 (cm_X2_last l D g2 a2 d2 τ ) [10, 11, 12] [0, 1, 2, 3] [4, 5, 6, 7, 8, 9, 10, 11, 12, 13, 14] rfl rfl rfl rfl rfl rfl (by decide) rfl rfl (cwV 0 C.2.2.1 (lw_V q209 q210 q211 q12 q212) rfl rfl rfl (by decide +kernel) ⟨Nat.le_of_ble_eq_true rfl, Nat.le_of_ble_eq_true rfl⟩) rfl rfl (Nat.le_of_ble_eq_true rfl) dL_law_292 ⟨Nat.le_of_ble_eq_true rfl, Nat.le_of_ble_eq_true rfl⟩ (fun r2 τ1 H locs hp2 G => ?_)
      refine lv_icmp_eq (tgt := 488) hx hb dL_law_295 (by decide) (fun c4 => ?_) (fun c4 => absurd (hp1.1.trans hp2.1.symm) c4)
      refine lv_iinc (v := nI (2 + 5 * (i + 1))) (lv' := [(3, .int (nI (2 + 5 * (i + 1)))), (0, .ref b), (1, .ref g1), (2, .ref g2)]) hx hb dL_law_488 hl (k := 0) rfl (by rw [cm_inc5]; exact congrArg nI (by omega)) (by decide) rfl (fun ls hl => ?_)
      refine lv_goto (tgt := 38) hx hb dL_law_491 (by decide) ?_
      exact ih (σ1, τ1) _ _ _ (show cm_R σ1 τ1 by rw [hp2.2]; exact hp1.2) G hl
    · skip
      refine lv_tableIn (off := 248) (tgt := 300) hx hb dL_law_52 (by decide) (by decide) (by decide) (by decide) ?_
      refine lv_aload_n hx hb dL_law_300 rfl (lv_at hl 2 rfl) ?_
      refine lv_aload_n hx hb dL_law_301 rfl (lv_at hl 1 rfl) ?_
      refine lv_iload_n hx hb dL_law_302 rfl (lv_at hl 0 rfl) ?_
      refine lv_iconst (v := nI 1) hx hb dL_law_303 (by decide) ?_
      refine lv_iadd hx hb dL_law_304 ?_
      refine cm_top (nI_add (2 + 5 * i) 1) ?_
      refine cm_sld hx hb hX hbl hbA G (2 + 5 * i + 1) (by omega) (by omega) dL_law_305 ?_
      refine lv_aload_n hx hb dL_law_306 rfl (lv_at hl 1 rfl) ?_
      refine lv_iload_n hx hb dL_law_307 rfl (lv_at hl 0 rfl) ?_
      refine lv_iconst (v := nI 2) hx hb dL_law_308 (by decide) ?_
      refine lv_iadd hx hb dL_law_309 ?_
      refine cm_top (nI_add (2 + 5 * i) 2) ?_
      refine cm_sld hx hb hX hbl hbA G (2 + 5 * i + 2) (by omega) (by omega) dL_law_310 ?_
      refine cm_frami (q := (RX1, TX1, 15)) (ci := 0) (rest := []) (wr := cm_wM g2 a2 d2 τ) C hml hA G hl.1 (cm_X1_store l D g1 a1 d1 σ (xs (2 + 5 * i + 1)) (xs (2 + 5 * i + 2)) τ hR) [0, 1, 2, 3, 4, 5, 6, 7, 8, 9] [0, 1, 2, 3, 4, 5, 6, 7, 8, 9, 10] [11, 12, 13, 14] rfl rfl rfl rfl rfl rfl (by decide) rfl rfl (cwV 2 C.2.2.1 (lw_V q118 q119 q120 q11 q121) rfl rfl rfl (by decide +kernel) ⟨Nat.le_of_ble_eq_true rfl, Nat.le_of_ble_eq_true rfl⟩) rfl rfl (Nat.le_of_ble_eq_true rfl) dL_law_311 ⟨Nat.le_of_ble_eq_true rfl, Nat.le_of_ble_eq_true rfl⟩ (fun r1 σ1 H locs hp1 G => ?_)
      refine lv_aload_n hx hb dL_law_314 rfl (lv_at hl 3 rfl) ?_
      refine lv_aload_n hx hb dL_law_315 rfl (lv_at hl 1 rfl) ?_
      refine lv_iload_n hx hb dL_law_316 rfl (lv_at hl 0 rfl) ?_
      refine lv_iconst (v := nI 1) hx hb dL_law_317 (by decide) ?_
      refine lv_iadd hx hb dL_law_318 ?_
      refine cm_top (nI_add (2 + 5 * i) 1) ?_
      refine cm_sld hx hb hX hbl hbA G (2 + 5 * i + 1) (by omega) (by omega) dL_law_319 ?_
      refine lv_aload_n hx hb dL_law_320 rfl (lv_at hl 1 rfl) ?_
      refine lv_iload_n hx hb dL_law_321 rfl (lv_at hl 0 rfl) ?_
      refine lv_iconst (v := nI 2) hx hb dL_law_322 (by decide) ?_
      refine lv_iadd hx hb dL_law_323 ?_
      refine cm_top (nI_add (2 + 5 * i) 2) ?_
      refine cm_sld hx hb hX hbl hbA G (2 + 5 * i + 2) (by omega) (by omega) dL_law_324 ?_
      refine cm_frami (q := (RX2, TX2, 5)) (ci := 1) (rest := [.int r1]) (wr := cm_wX g1 a1 d1 σ1) C hml hA G hl.1 (cm_X2_store l D g2 a2 d2 τ (xs (2 + 5 * i + 1)) (xs (2 + 5 * i + 2)) hM) [10, 11, 12] [0, 1, 2, 3] [4, 5, 6, 7, 8, 9, 10, 11, 12, 13, 14] rfl rfl rfl rfl rfl rfl (by decide) rfl rfl (cwV 2 C.2.2.1 (lw_V q213 q214 q215 q12 q216) rfl rfl rfl (by decide +kernel) ⟨Nat.le_of_ble_eq_true rfl, Nat.le_of_ble_eq_true rfl⟩) rfl rfl (Nat.le_of_ble_eq_true rfl) dL_law_325 ⟨Nat.le_of_ble_eq_true rfl, Nat.le_of_ble_eq_true rfl⟩ (fun r2 τ1 H locs hp2 G => ?_)
      refine lv_icmp_eq (tgt := 488) hx hb dL_law_328 (by decide) (fun c4 => ?_) (fun c4 => absurd (hp1.1.trans hp2.1.symm) c4)
      refine lv_iinc (v := nI (2 + 5 * (i + 1))) (lv' := [(3, .int (nI (2 + 5 * (i + 1)))), (0, .ref b), (1, .ref g1), (2, .ref g2)]) hx hb dL_law_488 hl (k := 0) rfl (by rw [cm_inc5]; exact congrArg nI (by omega)) (by decide) rfl (fun ls hl => ?_)
      refine lv_goto (tgt := 38) hx hb dL_law_491 (by decide) ?_
      exact ih (σ1, τ1) _ _ _ (show cm_R σ1 τ1 by rw [hp2.2]; exact hp1.2) G hl
    · skip
      refine lv_tableIn (off := 281) (tgt := 333) hx hb dL_law_52 (by decide) (by decide) (by decide) (by decide) ?_
      refine lv_aload_n hx hb dL_law_333 rfl (lv_at hl 2 rfl) ?_
      refine lv_aload_n hx hb dL_law_334 rfl (lv_at hl 1 rfl) ?_
      refine lv_iload_n hx hb dL_law_335 rfl (lv_at hl 0 rfl) ?_
      refine lv_iconst (v := nI 1) hx hb dL_law_336 (by decide) ?_
      refine lv_iadd hx hb dL_law_337 ?_
      refine cm_top (nI_add (2 + 5 * i) 1) ?_
      refine cm_sld hx hb hX hbl hbA G (2 + 5 * i + 1) (by omega) (by omega) dL_law_338 ?_
      refine lv_aload_n hx hb dL_law_339 rfl (lv_at hl 1 rfl) ?_
      refine lv_iload_n hx hb dL_law_340 rfl (lv_at hl 0 rfl) ?_
      refine lv_iconst (v := nI 2) hx hb dL_law_341 (by decide) ?_
      refine lv_iadd hx hb dL_law_342 ?_
      refine cm_top (nI_add (2 + 5 * i) 2) ?_
      refine cm_sld hx hb hX hbl hbA G (2 + 5 * i + 2) (by omega) (by omega) dL_law_343 ?_
      refine cm_frami (q := (RX1, TX1, 15)) (ci := 0) (rest := []) (wr := cm_wM g2 a2 d2 τ) C hml hA G hl.1 (cm_X1_add l D g1 a1 d1 σ (xs (2 + 5 * i + 1)) (xs (2 + 5 * i + 2)) τ hR) [0, 1, 2, 3, 4, 5, 6, 7, 8, 9] [0, 1, 2, 3, 4, 5, 6, 7, 8, 9, 10] [11, 12, 13, 14] rfl rfl rfl rfl rfl rfl (by decide) rfl rfl (cwV 2 C.2.2.1 (lw_V q126 q127 q128 q11 q129) rfl rfl rfl (by decide +kernel) ⟨Nat.le_of_ble_eq_true rfl, Nat.le_of_ble_eq_true rfl⟩) rfl rfl (Nat.le_of_ble_eq_true rfl) dL_law_344 ⟨Nat.le_of_ble_eq_true rfl, Nat.le_of_ble_eq_true rfl⟩ (fun r1 σ1 H locs hp1 G => ?_)
      refine lv_aload_n hx hb dL_law_347 rfl (lv_at hl 3 rfl) ?_
      refine lv_aload_n hx hb dL_law_348 rfl (lv_at hl 1 rfl) ?_
      refine lv_iload_n hx hb dL_law_349 rfl (lv_at hl 0 rfl) ?_
      refine lv_iconst (v := nI 1) hx hb dL_law_350 (by decide) ?_
      refine lv_iadd hx hb dL_law_351 ?_
      refine cm_top (nI_add (2 + 5 * i) 1) ?_
      refine cm_sld hx hb hX hbl hbA G (2 + 5 * i + 1) (by omega) (by omega) dL_law_352 ?_
      refine lv_aload_n hx hb dL_law_353 rfl (lv_at hl 1 rfl) ?_
      refine lv_iload_n hx hb dL_law_354 rfl (lv_at hl 0 rfl) ?_
      refine lv_iconst (v := nI 2) hx hb dL_law_355 (by decide) ?_
      refine lv_iadd hx hb dL_law_356 ?_
      refine cm_top (nI_add (2 + 5 * i) 2) ?_
      refine cm_sld hx hb hX hbl hbA G (2 + 5 * i + 2) (by omega) (by omega) dL_law_357 ?_
      refine cm_frami (q := (RX2, TX2, 5)) (ci := 1) (rest := [.int r1]) (wr := cm_wX g1 a1 d1 σ1) C hml hA G hl.1 (cm_X2_add l D g2 a2 d2 τ (xs (2 + 5 * i + 1)) (xs (2 + 5 * i + 2)) hM) [10, 11, 12] [0, 1, 2, 3] [4, 5, 6, 7, 8, 9, 10, 11, 12, 13, 14] rfl rfl rfl rfl rfl rfl (by decide) rfl rfl (cwV 2 C.2.2.1 (lw_V q217 q218 q219 q12 q220) rfl rfl rfl (by decide +kernel) ⟨Nat.le_of_ble_eq_true rfl, Nat.le_of_ble_eq_true rfl⟩) rfl rfl (Nat.le_of_ble_eq_true rfl) dL_law_358 ⟨Nat.le_of_ble_eq_true rfl, Nat.le_of_ble_eq_true rfl⟩ (fun r2 τ1 H locs hp2 G => ?_)
      refine lv_icmp_eq (tgt := 488) hx hb dL_law_361 (by decide) (fun c4 => ?_) (fun c4 => absurd (hp1.1.trans hp2.1.symm) c4)
      refine lv_iinc (v := nI (2 + 5 * (i + 1))) (lv' := [(3, .int (nI (2 + 5 * (i + 1)))), (0, .ref b), (1, .ref g1), (2, .ref g2)]) hx hb dL_law_488 hl (k := 0) rfl (by rw [cm_inc5]; exact congrArg nI (by omega)) (by decide) rfl (fun ls hl => ?_)
      refine lv_goto (tgt := 38) hx hb dL_law_491 (by decide) ?_
      exact ih (σ1, τ1) _ _ _ (show cm_R σ1 τ1 by rw [hp2.2]; exact hp1.2) G hl
    · skip
      refine lv_tableIn (off := 314) (tgt := 366) hx hb dL_law_52 (by decide) (by decide) (by decide) (by decide) ?_
      refine lv_aload_n hx hb dL_law_366 rfl (lv_at hl 2 rfl) ?_
      refine lv_aload_n hx hb dL_law_367 rfl (lv_at hl 1 rfl) ?_
      refine lv_iload_n hx hb dL_law_368 rfl (lv_at hl 0 rfl) ?_
      refine lv_iconst (v := nI 1) hx hb dL_law_369 (by decide) ?_
      refine lv_iadd hx hb dL_law_370 ?_
      refine cm_top (nI_add (2 + 5 * i) 1) ?_
      refine cm_sld hx hb hX hbl hbA G (2 + 5 * i + 1) (by omega) (by omega) dL_law_371 ?_
      refine cm_frami (q := (RX1, TX1, 15)) (ci := 0) (rest := []) (wr := cm_wM g2 a2 d2 τ) C hml hA G hl.1 (cm_X1_deviceRead l D g1 a1 d1 σ (xs (2 + 5 * i + 1)) τ hR) [0, 1, 2, 3, 4, 5, 6, 7, 8, 9] [0, 1, 2, 3, 4, 5, 6, 7, 8, 9, 10] [11, 12, 13, 14] rfl rfl rfl rfl rfl rfl (by decide) rfl rfl (cwV 1 C.2.2.1 (lw_V q130 q131 q132 q11 q133) rfl rfl rfl (by decide +kernel) ⟨Nat.le_of_ble_eq_true rfl, Nat.le_of_ble_eq_true rfl⟩) rfl rfl (Nat.le_of_ble_eq_true rfl) dL_law_372 ⟨Nat.le_of_ble_eq_true rfl, Nat.le_of_ble_eq_true rfl⟩ (fun r1 σ1 H locs hp1 G => ?_)
      refine lv_aload_n hx hb dL_law_375 rfl (lv_at hl 3 rfl) ?_
      refine lv_aload_n hx hb dL_law_376 rfl (lv_at hl 1 rfl) ?_
      refine lv_iload_n hx hb dL_law_377 rfl (lv_at hl 0 rfl) ?_
      refine lv_iconst (v := nI 1) hx hb dL_law_378 (by decide) ?_
      refine lv_iadd hx hb dL_law_379 ?_
      refine cm_top (nI_add (2 + 5 * i) 1) ?_
      refine cm_sld hx hb hX hbl hbA G (2 + 5 * i + 1) (by omega) (by omega) dL_law_380 ?_
      refine cm_frami (q := (RX2, TX2, 5)) (ci := 1) (rest := [.int r1]) (wr := cm_wX g1 a1 d1 σ1) C hml hA G hl.1 (cm_X2_deviceRead l D g2 a2 d2 τ (xs (2 + 5 * i + 1))) [10, 11, 12] [0, 1, 2, 3] [4, 5, 6, 7, 8, 9, 10, 11, 12, 13, 14] rfl rfl rfl rfl rfl rfl (by decide) rfl rfl (cwV 1 C.2.2.1 (lw_V q222 q223 q224 q12 q225) rfl rfl rfl (by decide +kernel) ⟨Nat.le_of_ble_eq_true rfl, Nat.le_of_ble_eq_true rfl⟩) rfl rfl (Nat.le_of_ble_eq_true rfl) dL_law_381 ⟨Nat.le_of_ble_eq_true rfl, Nat.le_of_ble_eq_true rfl⟩ (fun r2 τ1 H locs hp2 G => ?_)
      refine lv_icmp_eq (tgt := 488) hx hb dL_law_384 (by decide) (fun c4 => ?_) (fun c4 => absurd (hp1.1.trans hp2.1.symm) c4)
      refine lv_iinc (v := nI (2 + 5 * (i + 1))) (lv' := [(3, .int (nI (2 + 5 * (i + 1)))), (0, .ref b), (1, .ref g1), (2, .ref g2)]) hx hb dL_law_488 hl (k := 0) rfl (by rw [cm_inc5]; exact congrArg nI (by omega)) (by decide) rfl (fun ls hl => ?_)
      refine lv_goto (tgt := 38) hx hb dL_law_491 (by decide) ?_
      exact ih (σ1, τ1) _ _ _ (show cm_R σ1 τ1 by rw [hp2.2]; exact hp1.2) G hl
    · skip
      refine lv_tableIn (off := 337) (tgt := 389) hx hb dL_law_52 (by decide) (by decide) (by decide) (by decide) ?_
      refine lv_aload_n hx hb dL_law_389 rfl (lv_at hl 2 rfl) ?_
      refine lv_aload_n hx hb dL_law_390 rfl (lv_at hl 1 rfl) ?_
      refine lv_iload_n hx hb dL_law_391 rfl (lv_at hl 0 rfl) ?_
      refine lv_iconst (v := nI 1) hx hb dL_law_392 (by decide) ?_
      refine lv_iadd hx hb dL_law_393 ?_
      refine cm_top (nI_add (2 + 5 * i) 1) ?_
      refine cm_sld hx hb hX hbl hbA G (2 + 5 * i + 1) (by omega) (by omega) dL_law_394 ?_
      refine lv_aload_n hx hb dL_law_395 rfl (lv_at hl 1 rfl) ?_
      refine lv_iload_n hx hb dL_law_396 rfl (lv_at hl 0 rfl) ?_
      refine lv_iconst (v := nI 2) hx hb dL_law_397 (by decide) ?_
      refine lv_iadd hx hb dL_law_398 ?_
      refine cm_top (nI_add (2 + 5 * i) 2) ?_
      refine cm_sld hx hb hX hbl hbA G (2 + 5 * i + 2) (by omega) (by omega) dL_law_399 ?_
      refine cm_frami (q := (RX1, TX1, 15)) (ci := 0) (rest := []) (wr := cm_wM g2 a2 d2 τ) C hml hA G hl.1 (cm_X1_deviceWrite l D g1 a1 d1 σ (xs (2 + 5 * i + 1)) (xs (2 + 5 * i + 2)) τ hR) [0, 1, 2, 3, 4, 5, 6, 7, 8, 9] [0, 1, 2, 3, 4, 5, 6, 7, 8, 9, 10] [11, 12, 13, 14] rfl rfl rfl rfl rfl rfl (by decide) rfl rfl (cwV 2 C.2.2.1 (lw_V q134 q135 q136 q11 q137) rfl rfl rfl (by decide +kernel) ⟨Nat.le_of_ble_eq_true rfl, Nat.le_of_ble_eq_true rfl⟩) rfl rfl (Nat.le_of_ble_eq_true rfl) dL_law_400 ⟨Nat.le_of_ble_eq_true rfl, Nat.le_of_ble_eq_true rfl⟩ (fun r1 σ1 H locs hp1 G => ?_)
      refine lv_aload_n hx hb dL_law_403 rfl (lv_at hl 3 rfl) ?_
      refine lv_aload_n hx hb dL_law_404 rfl (lv_at hl 1 rfl) ?_
      refine lv_iload_n hx hb dL_law_405 rfl (lv_at hl 0 rfl) ?_
      refine lv_iconst (v := nI 1) hx hb dL_law_406 (by decide) ?_
      refine lv_iadd hx hb dL_law_407 ?_
      refine cm_top (nI_add (2 + 5 * i) 1) ?_
      refine cm_sld hx hb hX hbl hbA G (2 + 5 * i + 1) (by omega) (by omega) dL_law_408 ?_
      refine lv_aload_n hx hb dL_law_409 rfl (lv_at hl 1 rfl) ?_
      refine lv_iload_n hx hb dL_law_410 rfl (lv_at hl 0 rfl) ?_
      refine lv_iconst (v := nI 2) hx hb dL_law_411 (by decide) ?_
      refine lv_iadd hx hb dL_law_412 ?_
      refine cm_top (nI_add (2 + 5 * i) 2) ?_
      refine cm_sld hx hb hX hbl hbA G (2 + 5 * i + 2) (by omega) (by omega) dL_law_413 ?_
      refine cm_frami (q := (RX2, TX2, 5)) (ci := 1) (rest := [.int r1]) (wr := cm_wX g1 a1 d1 σ1) C hml hA G hl.1 (cm_X2_deviceWrite l D g2 a2 d2 τ (xs (2 + 5 * i + 1)) (xs (2 + 5 * i + 2))) [10, 11, 12] [0, 1, 2, 3] [4, 5, 6, 7, 8, 9, 10, 11, 12, 13, 14] rfl rfl rfl rfl rfl rfl (by decide) rfl rfl (cwV 2 C.2.2.1 (lw_V q226 q227 q228 q12 q229) rfl rfl rfl (by decide +kernel) ⟨Nat.le_of_ble_eq_true rfl, Nat.le_of_ble_eq_true rfl⟩) rfl rfl (Nat.le_of_ble_eq_true rfl) dL_law_414 ⟨Nat.le_of_ble_eq_true rfl, Nat.le_of_ble_eq_true rfl⟩ (fun r2 τ1 H locs hp2 G => ?_)
      refine lv_icmp_eq (tgt := 488) hx hb dL_law_417 (by decide) (fun c4 => ?_) (fun c4 => absurd (hp1.1.trans hp2.1.symm) c4)
      refine lv_iinc (v := nI (2 + 5 * (i + 1))) (lv' := [(3, .int (nI (2 + 5 * (i + 1)))), (0, .ref b), (1, .ref g1), (2, .ref g2)]) hx hb dL_law_488 hl (k := 0) rfl (by rw [cm_inc5]; exact congrArg nI (by omega)) (by decide) rfl (fun ls hl => ?_)
      refine lv_goto (tgt := 38) hx hb dL_law_491 (by decide) ?_
      exact ih (σ1, τ1) _ _ _ (show cm_R σ1 τ1 by rw [hp2.2]; exact hp1.2) G hl
    · skip
      refine lv_tableIn (off := 370) (tgt := 422) hx hb dL_law_52 (by decide) (by decide) (by decide) (by decide) ?_
      refine lv_aload_n hx hb dL_law_422 rfl (lv_at hl 2 rfl) ?_
      refine lv_aload_n hx hb dL_law_423 rfl (lv_at hl 1 rfl) ?_
      refine lv_iload_n hx hb dL_law_424 rfl (lv_at hl 0 rfl) ?_
      refine lv_iconst (v := nI 1) hx hb dL_law_425 (by decide) ?_
      refine lv_iadd hx hb dL_law_426 ?_
      refine cm_top (nI_add (2 + 5 * i) 1) ?_
      refine cm_sld hx hb hX hbl hbA G (2 + 5 * i + 1) (by omega) (by omega) dL_law_427 ?_
      refine lv_aload_n hx hb dL_law_428 rfl (lv_at hl 1 rfl) ?_
      refine lv_iload_n hx hb dL_law_429 rfl (lv_at hl 0 rfl) ?_
      refine lv_iconst (v := nI 2) hx hb dL_law_430 (by decide) ?_
      refine lv_iadd hx hb dL_law_431 ?_
      refine cm_top (nI_add (2 + 5 * i) 2) ?_
      refine cm_sld hx hb hX hbl hbA G (2 + 5 * i + 2) (by omega) (by omega) dL_law_432 ?_
      refine lv_aload_n hx hb dL_law_433 rfl (lv_at hl 1 rfl) ?_
      refine lv_iload_n hx hb dL_law_434 rfl (lv_at hl 0 rfl) ?_
      refine lv_iconst (v := nI 3) hx hb dL_law_435 (by decide) ?_
      refine lv_iadd hx hb dL_law_436 ?_
      refine cm_top (nI_add (2 + 5 * i) 3) ?_
      refine cm_sld hx hb hX hbl hbA G (2 + 5 * i + 3) (by omega) (by omega) dL_law_437 ?_
      refine cm_frami (q := (RX1, TX1, 15)) (ci := 0) (rest := []) (wr := cm_wM g2 a2 d2 τ) C hml hA G hl.1 (cm_X1_deviceCopy l D g1 a1 d1 σ (xs (2 + 5 * i + 1)) (xs (2 + 5 * i + 2)) (xs (2 + 5 * i + 3)) τ hR) [0, 1, 2, 3, 4, 5, 6, 7, 8, 9] [0, 1, 2, 3, 4, 5, 6, 7, 8, 9, 10] [11, 12, 13, 14] rfl rfl rfl rfl rfl rfl (by decide) rfl rfl (cwV 3 C.2.2.1 (lw_V q138 q139 q140 q11 q141) rfl rfl rfl (by decide +kernel) ⟨Nat.le_of_ble_eq_true rfl, Nat.le_of_ble_eq_true rfl⟩) rfl rfl (Nat.le_of_ble_eq_true rfl) dL_law_438 ⟨Nat.le_of_ble_eq_true rfl, Nat.le_of_ble_eq_true rfl⟩ (fun r1 σ1 H locs hp1 G => ?_)
      refine lv_aload_n hx hb dL_law_441 rfl (lv_at hl 3 rfl) ?_
      refine lv_aload_n hx hb dL_law_442 rfl (lv_at hl 1 rfl) ?_
      refine lv_iload_n hx hb dL_law_443 rfl (lv_at hl 0 rfl) ?_
      refine lv_iconst (v := nI 1) hx hb dL_law_444 (by decide) ?_
      refine lv_iadd hx hb dL_law_445 ?_
      refine cm_top (nI_add (2 + 5 * i) 1) ?_
      refine cm_sld hx hb hX hbl hbA G (2 + 5 * i + 1) (by omega) (by omega) dL_law_446 ?_
      refine lv_aload_n hx hb dL_law_447 rfl (lv_at hl 1 rfl) ?_
      refine lv_iload_n hx hb dL_law_448 rfl (lv_at hl 0 rfl) ?_
      refine lv_iconst (v := nI 2) hx hb dL_law_449 (by decide) ?_
      refine lv_iadd hx hb dL_law_450 ?_
      refine cm_top (nI_add (2 + 5 * i) 2) ?_
      refine cm_sld hx hb hX hbl hbA G (2 + 5 * i + 2) (by omega) (by omega) dL_law_451 ?_
      refine lv_aload_n hx hb dL_law_452 rfl (lv_at hl 1 rfl) ?_
      refine lv_iload_n hx hb dL_law_453 rfl (lv_at hl 0 rfl) ?_
      refine lv_iconst (v := nI 3) hx hb dL_law_454 (by decide) ?_
      refine lv_iadd hx hb dL_law_455 ?_
      refine cm_top (nI_add (2 + 5 * i) 3) ?_
      refine cm_sld hx hb hX hbl hbA G (2 + 5 * i + 3) (by omega) (by omega) dL_law_456 ?_
      refine cm_frami (q := (RX2, TX2, 5)) (ci := 1) (rest := [.int r1]) (wr := cm_wX g1 a1 d1 σ1) C hml hA G hl.1 (cm_X2_deviceCopy l D g2 a2 d2 τ (xs (2 + 5 * i + 1)) (xs (2 + 5 * i + 2)) (xs (2 + 5 * i + 3))) [10, 11, 12] [0, 1, 2, 3] [4, 5, 6, 7, 8, 9, 10, 11, 12, 13, 14] rfl rfl rfl rfl rfl rfl (by decide) rfl rfl (cwV 3 C.2.2.1 (lw_V q230 q231 q232 q12 q233) rfl rfl rfl (by decide +kernel) ⟨Nat.le_of_ble_eq_true rfl, Nat.le_of_ble_eq_true rfl⟩) rfl rfl (Nat.le_of_ble_eq_true rfl) dL_law_457 ⟨Nat.le_of_ble_eq_true rfl, Nat.le_of_ble_eq_true rfl⟩ (fun r2 τ1 H locs hp2 G => ?_)
      refine lv_icmp_eq (tgt := 488) hx hb dL_law_460 (by decide) (fun c4 => ?_) (fun c4 => absurd (hp1.1.trans hp2.1.symm) c4)
      refine lv_iinc (v := nI (2 + 5 * (i + 1))) (lv' := [(3, .int (nI (2 + 5 * (i + 1)))), (0, .ref b), (1, .ref g1), (2, .ref g2)]) hx hb dL_law_488 hl (k := 0) rfl (by rw [cm_inc5]; exact congrArg nI (by omega)) (by decide) rfl (fun ls hl => ?_)
      refine lv_goto (tgt := 38) hx hb dL_law_491 (by decide) ?_
      exact ih (σ1, τ1) _ _ _ (show cm_R σ1 τ1 by rw [hp2.2]; exact hp1.2) G hl
    · skip
      refine lv_tableIn (off := 413) (tgt := 465) hx hb dL_law_52 (by decide) (by decide) (by decide) (by decide) ?_
      refine lv_aload_n hx hb dL_law_465 rfl (lv_at hl 2 rfl) ?_
      refine lv_aload_n hx hb dL_law_466 rfl (lv_at hl 1 rfl) ?_
      refine lv_iload_n hx hb dL_law_467 rfl (lv_at hl 0 rfl) ?_
      refine lv_iconst (v := nI 1) hx hb dL_law_468 (by decide) ?_
      refine lv_iadd hx hb dL_law_469 ?_
      refine cm_top (nI_add (2 + 5 * i) 1) ?_
      refine cm_sld hx hb hX hbl hbA G (2 + 5 * i + 1) (by omega) (by omega) dL_law_470 ?_
      refine cm_frami (q := (RX1, TX1, 15)) (ci := 0) (rest := []) (wr := cm_wM g2 a2 d2 τ) C hml hA G hl.1 (cm_X1_translate l D g1 a1 d1 σ (xs (2 + 5 * i + 1)) τ hR) [0, 1, 2, 3, 4, 5, 6, 7, 8, 9] [0, 1, 2, 3, 4, 5, 6, 7, 8, 9, 10] [11, 12, 13, 14] rfl rfl rfl rfl rfl rfl (by decide) rfl rfl (cwV 1 C.2.2.1 (lw_V q144 q145 q146 q11 q147) rfl rfl rfl (by decide +kernel) ⟨Nat.le_of_ble_eq_true rfl, Nat.le_of_ble_eq_true rfl⟩) rfl rfl (Nat.le_of_ble_eq_true rfl) dL_law_471 ⟨Nat.le_of_ble_eq_true rfl, Nat.le_of_ble_eq_true rfl⟩ (fun r1 σ1 H locs hp1 G => ?_)
      refine lv_aload_n hx hb dL_law_474 rfl (lv_at hl 3 rfl) ?_
      refine lv_aload_n hx hb dL_law_475 rfl (lv_at hl 1 rfl) ?_
      refine lv_iload_n hx hb dL_law_476 rfl (lv_at hl 0 rfl) ?_
      refine lv_iconst (v := nI 1) hx hb dL_law_477 (by decide) ?_
      refine lv_iadd hx hb dL_law_478 ?_
      refine cm_top (nI_add (2 + 5 * i) 1) ?_
      refine cm_sld hx hb hX hbl hbA G (2 + 5 * i + 1) (by omega) (by omega) dL_law_479 ?_
      refine cm_frami (q := (RX2, TX2, 5)) (ci := 1) (rest := [.int r1]) (wr := cm_wX g1 a1 d1 σ1) C hml hA G hl.1 (cm_X2_translate l D g2 a2 d2 τ (xs (2 + 5 * i + 1)) hM) [10, 11, 12] [0, 1, 2, 3] [4, 5, 6, 7, 8, 9, 10, 11, 12, 13, 14] rfl rfl rfl rfl rfl rfl (by decide) rfl rfl (cwV 1 C.2.2.1 (lw_V q234 q202 q203 q12 q204) rfl rfl rfl (by decide +kernel) ⟨Nat.le_of_ble_eq_true rfl, Nat.le_of_ble_eq_true rfl⟩) rfl rfl (Nat.le_of_ble_eq_true rfl) dL_law_480 ⟨Nat.le_of_ble_eq_true rfl, Nat.le_of_ble_eq_true rfl⟩ (fun r2 τ1 H locs hp2 G => ?_)
      refine lv_icmp_eq (tgt := 488) hx hb dL_law_483 (by decide) (fun c4 => ?_) (fun c4 => absurd (hp1.1.trans hp2.2.symm) c4)
      refine lv_iinc (v := nI (2 + 5 * (i + 1))) (lv' := [(3, .int (nI (2 + 5 * (i + 1)))), (0, .ref b), (1, .ref g1), (2, .ref g2)]) hx hb dL_law_488 hl (k := 0) rfl (by rw [cm_inc5]; exact congrArg nI (by omega)) (by decide) rfl (fun ls hl => ?_)
      refine lv_goto (tgt := 38) hx hb dL_law_491 (by decide) ?_
      exact ih (σ1, τ1) _ _ _ (show cm_R σ1 τ1 by rw [hp2.1, ← cm_spTr_snd τ (xs (2 + 5 * i + 1))]; exact hp1.2) G hl
    refine lv_tableOut (tgt := 488) hx hb dL_law_52 (Or.inr (by rw [nI_toInt (by omega)]; omega)) (by decide) ?_
    refine lv_iinc (v := nI (2 + 5 * (i + 1))) (lv' := [(3, .int (nI (2 + 5 * (i + 1)))), (0, .ref b), (1, .ref g1), (2, .ref g2)]) hx hb dL_law_488 hl (k := 0) rfl (by rw [cm_inc5]; exact congrArg nI (by omega)) (by decide) rfl (fun ls hl => ?_)
    refine lv_goto (tgt := 38) hx hb dL_law_491 (by decide) ?_
    exact ih (σ, τ) _ _ _ hR G hl
end
section
/-! the law from its entry (printed by gen5.py) -/
set_option maxRecDepth 100000
set_option maxHeartbeats 8000000 in
/-- the law, from its entry -/
theorem whole_start {p : Program} {e : Env} {s : State} {m : MethodId} {below : List Frame} {meth : Method} {c : Code} (l : Launch) {b L : Nat} {xs : Nat → Int32} (hL : L ≤ 322) (C0 : lw_At p s m meth c b L xs) : W p l e room_1 s m #[Value.ref b] below meth c s.heap [] 0 0 (lw_Z below #[Value.ref b] s) (entryFrame m ([Value.ref b] : List Value).toArray 4) := by
  obtain ⟨hx, hb, hr, hml, hown, hts, hX, hbl, hlocks, hgv⟩ := id C0
  have hall : ∀ w ∈ lw_all, w.before #[Value.ref b] s = true := fun w h => hts w (lw_all_tbl h)
  have hA : ∀ q : Nat, s.heap.size ≤ q → (fun q : Nat => s.heap.size ≤ q) q := fun _ h => h
  have hbA : ¬ (fun q : Nat => s.heap.size ≤ q) b := Nat.not_le.mpr hbl
  have hown : s.vm.findClass RX0 = some m.cls := hown
  obtain ⟨e0_, iS0, hKn0⟩ := u_known (C := RX1) (T := TX1) (N := 15) (n := 15) hts (fun w h => lw_all_tbl (in_X1 w h)) (hall _ q14)
  obtain ⟨e1_, iS1, hKn1⟩ := u_known (C := RX2) (T := TX2) (N := 5) (n := 5) hts (fun w h => lw_all_tbl (in_X2 w h)) (hall _ q152)
  obtain ⟨D, hKc⟩ : ∃ D : va_G, ∀ (k : Nat) (q : vw_C), cm_cl[k]? = some q → u_Kn s q.1 q.2.1 q.2.2 (D.1 k) (D.2 k) := by
    refine ⟨(fun k => if k = 0 then e0_ else e1_, fun k => if k = 0 then iS0 else iS1), ?_⟩
    intro k q hq
    match k, hq with
    | 0, hq => cases hq; exact hKn0
    | 1, hq => cases hq; exact hKn1
    | k + 2, hq => simp [cm_cl] at hq
  have hS : va_S (fun q : Nat => s.heap.size ≤ q) s.heap s.heap [] := va_S.rf
  have hK : va_K D cm_cl [] s := ⟨hKc, fun k q h => by simp at h⟩
  have hP : va_P D cm_cl [] s.heap := fun k q h => by simp at h
  have hD : va_D (fun q : Nat => s.heap.size ≤ q) [] := ⟨fun i j p q h => by simp at h, fun k q h => by simp at h⟩
  have hl := lv_entry ([.ref b]) (n := 4) (Nat.le_of_ble_eq_true rfl)
  rw [lg_entry_eq]
  generalize (lg_sl ([.ref b]) ++ List.replicate (4 - (lg_sl ([.ref b])).length) Slot.unset).toArray = ls at hl ⊢
  have hl : lv_has ls 4 [(0, .ref b)] := hl
  refine va_new (ci := 0) (fs := cm_f0) (C := RX1) (T := TX1) (N := 15) hx hb hall in_X1 tyX1 tyX1_ok hown (hall _ q13) (hall _ q14) (hall _ q11) hK hP hD hS hA rfl (fun j hj => by rcases (show j = 0 ∨ j = 1 ∨ j = 2 ∨ j = 3 ∨ j = 4 ∨ j = 5 ∨ j = 6 ∨ j = 7 ∨ j = 8 ∨ j = 9 ∨ j = 10 ∨ j = 11 ∨ j = 12 ∨ j = 13 ∨ j = 14 by omega) with rfl | rfl | rfl | rfl | rfl | rfl | rfl | rfl | rfl | rfl | rfl | rfl | rfl | rfl | rfl <;> rfl) (Nat.le_of_ble_eq_true rfl) (Nat.le_of_ble_eq_true rfl) dL_law_0 (fun g1 H hP hD hS => ?_)
  refine W.widen (k := 1) (n := 15) (Nat.le_refl _) (Nat.le_refl _) ?_
  have G : cm_G D (fun q : Nat => s.heap.size ≤ q) s.heap [(g1, .inr (0, cm_f0))] H [] := ⟨hP, hD, hS⟩
  have C : cm_C p c cL_law s #[Value.ref b] m RX0 D [] := ⟨hx, hb, hall, hown, hK⟩
  refine lv_dup hx hb dL_law_3 rfl ?_
  refine lv_aload_n hx hb dL_law_4 rfl (lv_at hl 0 rfl) ?_
  refine lv_iconst (v := nI 0) hx hb dL_law_5 (by decide) ?_
  refine cm_callcell C hml G hl.1 hX hbl hbA 0 (by decide) (by omega) (Nat.le_of_ble_eq_true rfl) dL_law_6 ⟨Nat.le_of_ble_eq_true rfl, Nat.le_of_ble_eq_true rfl⟩ ⟨Nat.le_of_ble_eq_true rfl, Nat.le_of_ble_eq_true rfl⟩ (fun H locs G => ?_)
  refine lv_aload_n hx hb dL_law_9 rfl (lv_at hl 0 rfl) ?_
  refine lv_iconst (v := nI 1) hx hb dL_law_10 (by decide) ?_
  refine cm_callcell C hml G hl.1 hX hbl hbA 1 (by decide) (by omega) (Nat.le_of_ble_eq_true rfl) dL_law_11 ⟨Nat.le_of_ble_eq_true rfl, Nat.le_of_ble_eq_true rfl⟩ ⟨Nat.le_of_ble_eq_true rfl, Nat.le_of_ble_eq_true rfl⟩ (fun H locs G => ?_)
  refine cm_callinit (wo := cm_wX) (ty := cm_tX) (rest := [.ref g1]) (wr := []) C hml hA G hl.1 (cm_X1_init l D g1 (if 0 < L then xs 0 else 0) (if 1 < L then xs 1 else 0)) (cwI 2 C.2.2.1 (lw_meth q17) rfl rfl rfl (C.2.2.1 _ q11) (C.2.2.1 _ q15) (C.2.2.1 _ q16) rfl (by decide +kernel) ⟨Nat.le_of_ble_eq_true rfl, Nat.le_of_ble_eq_true rfl⟩) 0 [] rfl rfl rfl rfl (by decide) rfl rfl (Nat.le_of_ble_eq_true rfl) dL_law_14 ⟨Nat.le_of_ble_eq_true rfl, Nat.le_of_ble_eq_true rfl⟩ (fun σ a1 d1 H locs hI1 hK1 G => ?_)
  refine W.widen (k := 11) (n := 207) (Nat.le_refl _) (Nat.le_refl _) ?_
  have G : cm_G D (fun q : Nat => s.heap.size ≤ q) s.heap (cm_wX g1 a1 d1 σ) H locs := G
  refine lv_astore_n (lv' := [(1, .ref g1), (0, .ref b)]) hx hb dL_law_17 rfl hl (by decide) rfl (fun ls hl => ?_)
  have C : cm_C p c cL_law s #[Value.ref b] m RX0 D (cm_tX d1) := ⟨hx, hb, hall, hown, hK1⟩
  refine va_new (ci := 1) (fs := cm_f1) (C := RX2) (T := TX2) (N := 5) hx hb hall in_X2 tyX2 tyX2_ok hown (hall _ q151) (hall _ q152) (hall _ q12) hK1 G.1 G.2.1 G.2.2 hA rfl (fun j hj => by rcases (show j = 0 ∨ j = 1 ∨ j = 2 ∨ j = 3 ∨ j = 4 by omega) with rfl | rfl | rfl | rfl | rfl <;> rfl) (Nat.le_of_ble_eq_true rfl) (Nat.le_of_ble_eq_true rfl) dL_law_18 (fun g2 H hP hD hS => ?_)
  refine W.widen (k := 12) (n := 212) (Nat.le_refl _) (Nat.le_refl _) ?_
  have G : cm_G D (fun q : Nat => s.heap.size ≤ q) s.heap (cm_wX g1 a1 d1 σ ++ [(g2, .inr (1, cm_f1))]) H locs := ⟨hP, hD, hS⟩
  refine lv_dup hx hb dL_law_21 rfl ?_
  refine lv_aload_n hx hb dL_law_22 rfl (lv_at hl 1 rfl) ?_
  refine lv_iconst (v := nI 0) hx hb dL_law_23 (by decide) ?_
  refine cm_callcell C hml G hl.1 hX hbl hbA 0 (by decide) (by omega) (Nat.le_of_ble_eq_true rfl) dL_law_24 ⟨Nat.le_of_ble_eq_true rfl, Nat.le_of_ble_eq_true rfl⟩ ⟨Nat.le_of_ble_eq_true rfl, Nat.le_of_ble_eq_true rfl⟩ (fun H locs G => ?_)
  refine lv_aload_n hx hb dL_law_27 rfl (lv_at hl 1 rfl) ?_
  refine lv_iconst (v := nI 1) hx hb dL_law_28 (by decide) ?_
  refine cm_callcell C hml G hl.1 hX hbl hbA 1 (by decide) (by omega) (Nat.le_of_ble_eq_true rfl) dL_law_29 ⟨Nat.le_of_ble_eq_true rfl, Nat.le_of_ble_eq_true rfl⟩ ⟨Nat.le_of_ble_eq_true rfl, Nat.le_of_ble_eq_true rfl⟩ (fun H locs G => ?_)
  refine cm_callinit (wo := cm_wM) (ty := cm_tM) (rest := [.ref g2]) (wr := cm_wX g1 a1 d1 σ) C hml hA G hl.1 (cm_X2_init l D g2 (if 0 < L then xs 0 else 0) (if 1 < L then xs 1 else 0)) (cwI 2 C.2.2.1 (lw_meth q155) rfl rfl rfl (C.2.2.1 _ q12) (C.2.2.1 _ q153) (C.2.2.1 _ q154) rfl (by decide +kernel) ⟨Nat.le_of_ble_eq_true rfl, Nat.le_of_ble_eq_true rfl⟩) 11 [0, 1, 2, 3, 4, 5, 6, 7, 8, 9, 10] rfl rfl rfl rfl (by decide) rfl rfl (Nat.le_of_ble_eq_true rfl) dL_law_32 ⟨Nat.le_of_ble_eq_true rfl, Nat.le_of_ble_eq_true rfl⟩ (fun τ a2 d2 H locs hI2 hK2 G => ?_)
  refine W.widen (k := 15) (n := 340) (Nat.le_refl _) (Nat.le_refl _) ?_
  refine lv_astore_n (lv' := [(2, .ref g2), (1, .ref g1), (0, .ref b)]) hx hb dL_law_35 rfl hl (by decide) rfl (fun ls hl => ?_)
  refine lv_iconst (v := nI 2) hx hb dL_law_36 (by decide) ?_
  refine lv_istore_n (lv' := [(3, .int (nI 2)), (2, .ref g2), (1, .ref g1), (0, .ref b)]) hx hb dL_law_37 rfl hl (by decide) rfl (fun ls hl => ?_)
  exact cm_law_loop l hL C0 g1 g2 a1 a2 d1 d2 (hK1.app hK2) σ τ H locs ls (cm_R0 hI1 hI2) G (lv_sub hl [0, 3, 2, 1] rfl)
end
section
set_option maxRecDepth 100000
set_option maxHeartbeats 4000000 in
theorem lw_walk (l : Launch) (b : Addr) (xs : List Int32) : MetFree l x (headSpec (Jvm.Cond.code x code maxLocals ret :: tables_1) room_1) (lw_P b xs) (fun _ _ _ _ _ => True) lw_Q := by
  refine MetFree.of_bodyS (code := code) (maxLocals := maxLocals) (ret := ret) (by decide) ?_ ?_
  · intro args s m h hn
    obtain ⟨meth, c, h1, h2, h3, h4, h5, h6, -, -⟩ := Cond.code_spec hn (atoms_spec (ws := Jvm.Cond.code x code maxLocals ret :: tables_1) h _ List.mem_cons_self)
    exact ⟨meth, c, h1, h2, h3, h4, h5, h6⟩
  · intro p e s m args below meth c s₁ B hml0 hP _
    obtain ⟨rfl, hx, hbd, hgv⟩ := hP
    obtain ⟨scr, harrAt, hlist, hof, hsmall⟩ := hx
    obtain ⟨hcb, hkn, -, -⟩ := State.arrayAt?_spec harrAt
    have hown : s.vm.findClass R_law = some m.cls := findClass_of_methodNamed B.named
    have hts0 : ∀ c ∈ (Jvm.Cond.code x code maxLocals ret :: tables_1), c.before #[Value.ref b] s = true := atoms_spec (ws := Jvm.Cond.code x code maxLocals ret :: tables_1) B.pre
    have hts : ∀ w ∈ lw_tbl, w.before #[Value.ref b] s = true := k2_hts_sels lw_privs (fun w hw => hts0 w (List.mem_cons_of_mem _ hw)) lw_privs_ok
    have hml : c.maxLocals = 4 := B.maxLocals_eq (hts0 _ List.mem_cons_self)
    have X₀ : Stand p l e room_1 s m #[Value.ref b] below meth c s₁ [] 0 0 := Stand.of_body B
    have hh0 : s₁.heap = s.heap := by rw [B.state]; rfl
    have hsz : scr.slots.size = xs.length := by rw [← Array.length_toList, hlist, List.length_map]
    have hval : ∀ j : Nat, j < xs.length → scr.slots[j]? = some (.int (xs.getD j 0)) := fun j hj => by
      rw [← Array.getElem?_toList, hlist]
      simp [hj]
    have hbl : b < s.heap.size := (Array.getElem?_eq_some_iff.mp hcb).1
    have hX : va_X b xs.length (fun j => xs.getD j 0) s s.heap := ⟨scr, hcb, hof, hkn, hsz, hval⟩
    have K : W p l e room_1 s m #[Value.ref b] below meth c s₁.heap [] 0 0 (lw_Z below #[Value.ref b] s) (entryFrame m ([Value.ref b] : List Value).toArray 4) := by
      rw [hh0]
      exact whole_start l hbd ⟨B.exec, B.bytes, B.returns, hml, hown, hts, hX, hbl, B.notSynchronized, hgv⟩
    obtain ⟨t, a1, o, b1, b2, b3⟩ := K s₁ rfl X₀
    exact ⟨t, o, a1, b1, b2, b3⟩
theorem lw_pre_spec {args : Array Value} {s : State} (h : (Jvm.Cond.and given_1 narrow_1).before args s = true) (hr : rest_1_c.before args s = true) : ∃ (b : Addr) (xs : List Int32), lw_P b xs args s := by
  have hs := flat_of_before _ h
  have hq := flat_of_before _ hr
  have hc : (Cond.count 1).before args s = true := hs _ (by decide +kernel)
  have harr : (Cond.arrayOf (.arg 0) .int).before args s = true := hs _ (by decide +kernel)
  have hle : (Cond.le (.length (.arg 0)) (.int 322)).before args s = true := hs _ (by decide +kernel)
  have hlen : (Cond.isInt (.length (.arg 0))).before args s = true := hq _ (by decide +kernel)
  have hall : (Cond.all (.arg 0) (.isInt (.elem (.arg 0) (.index 0)))).before args s = true := hq _ (by decide +kernel)
  obtain ⟨b, xs, hb, hx⟩ := State.ints_of_pre rfl harr hlen hall
  have hsm : xs.length < 2 ^ 31 := hx.choose_spec.2.2.2
  have hev : (Term.length (.arg 0)).eval args s none [] s = some (.int xs.length.toInt32) := hx.length_eval hb
  have hv := Cond.le_ints hev (show (Term.int 322).eval args s none [] s = some (.int 322) from rfl)
  have hd : xs.length.toInt32 ≤ 322 := by
    simpa [Cond.before, Cond.holds, hv] using hle
  have hN : xs.length ≤ 322 := (Int32.ofNat_le_ofNat hsm (by decide)).mp (show Int32.ofNat xs.length ≤ Int32.ofNat 322 from hd)
  exact ⟨b, xs, Cond.one_arg hc (show args[0]? = some (.ref b) from hb), hx, hN, h⟩
theorem lw_comes (l : Launch) : Comes l x (Jvm.Cond.code x code maxLocals ret :: tables_1) room_1 (fun tb e args s => Calls_1 tb e args s ∧ rest_1 tb e args s ∧ Pre_1 tb e args s)
    (fun _ _ args s o t => lw_Q args s o t) := by
  intro p e ha hc hk s m args below hf hfit hheap happ hpre
  obtain ⟨b, xs, hP⟩ := lw_pre_spec hpre.2.2 hpre.2.1
  obtain ⟨k, o, h1, h2, h3, hQ⟩ := lw_walk l b xs p e ha hc hk s m args below hf ((Spec.applies_iff_loose hf).mp happ).1 hP trivial
  exact ⟨k, o, h1, h2, h3, hQ⟩
theorem lw_frame {s t : State} {o : Outcome} {args : Array Value} (h : Framed s o t [] 600000 7290000) :
    Framed s o t (fieldLocs frame_1_writes args s ++ arrayLocs frame_1_arrays args s ++ staticLocs frame_1_statics s) 600000 7290000 := h
theorem lw_limb (L : Cond) (hL : ∀ (args : Array Value) (s t : State), L.after args s (.returned (some (.int 1))) t = true) :
    ArmFor flags0 classFile x code maxLocals ret World_1 tables_1 room_1 Calls_1 rest_1 Pre_1
      (fun tb e a s o t => postC L tb e a s o t ∧ Framed s o t (fieldLocs frame_1_writes a s ++ arrayLocs frame_1_arrays a s ++ staticLocs frame_1_statics s) 600000 7290000) := by
  intro l _ _ _ p e ha hc hk s m args below hf hfit hheap happ hpre
  obtain ⟨k, o, h1, h2, h3, rfl, hF⟩ := lw_comes l p e ha hc hk s m args below hf hfit hheap happ hpre
  exact ⟨k, _, h1, h2, h3, hL args s _, lw_frame hF⟩
theorem i_vc : Claimed_1_1 ∧ Claimed_1_2 := ⟨lw_limb limb_1_1 (fun args s t => by simp [limb_1_1, Cond.after, Cond.holds, Cond.value]), lw_limb limb_1_2 (fun args s t => Cond.after_iff.mpr (by
  first | (rw [show limb_1_2 = Cond.eq .result (.int 1) from rfl, Cond.eq_ints (x := 1) (y := 1) rfl rfl]; simp; done) | (simp [limb_1_2, Cond.value, Term.eval]; done)))⟩
end
