section
-- ===== PART A: goes FIRST, ahead of the names: the tables' words, and 'selects' of the private methods out of them =====
/-- a private method of a class that the tables say can be made, by its rows of tables_1 -/
def lw_okq (q : MethodName × Nat) : Prop := (q.1.cls ≠ "java/lang/invoke/MethodHandle" ∧ q.1.cls ≠ "java/lang/invoke/VarHandle") ∧ Cond.instantiable q.1.cls q.2 ∈ tables_1 ∧ Cond.privateMethod q.1 ∈ tables_1 ∧ Cond.instanceMethod q.1 ∈ tables_1
set_option maxRecDepth 100000
theorem lw_t1 {w : Cond} (h : w ∈ tables_1_1) : w ∈ tables_1 := List.mem_append_left _ h
theorem lw_t2 {w : Cond} (h : w ∈ tables_1_2) : w ∈ tables_1 := List.mem_append_right _ h
theorem lw_p0 : lw_okq (⟨"PointColours", "isPoint", "(I)Z"⟩, 12) := ⟨⟨by decide +kernel, by decide +kernel⟩, lw_t1 (List.mem_of_getElem? (i := 6) rfl), lw_t1 (List.mem_of_getElem? (i := 88) rfl), lw_t1 (List.mem_of_getElem? (i := 89) rfl)⟩
theorem lw_p1 : lw_okq (⟨"PointColours", "cheapest", "()I"⟩, 12) := ⟨⟨by decide +kernel, by decide +kernel⟩, lw_t1 (List.mem_of_getElem? (i := 6) rfl), lw_t1 (List.mem_of_getElem? (i := 125) rfl), lw_t1 (List.mem_of_getElem? (i := 126) rfl)⟩
theorem lw_p2 : lw_okq (⟨"PointColours", "takeOut", "(II)V"⟩, 12) := ⟨⟨by decide +kernel, by decide +kernel⟩, lw_t1 (List.mem_of_getElem? (i := 6) rfl), lw_t1 (List.mem_of_getElem? (i := 133) rfl), lw_t1 (List.mem_of_getElem? (i := 134) rfl)⟩
theorem lw_p3 : lw_okq (⟨"PointColours", "paint", "(I)V"⟩, 12) := ⟨⟨by decide +kernel, by decide +kernel⟩, lw_t1 (List.mem_of_getElem? (i := 6) rfl), lw_t1 (List.mem_of_getElem? (i := 141) rfl), lw_t1 (List.mem_of_getElem? (i := 142) rfl)⟩
theorem lw_p4 : lw_okq (⟨"PointColoursModel", "isPoint", "(I)Z"⟩, 9) := ⟨⟨by decide +kernel, by decide +kernel⟩, lw_t1 (List.mem_of_getElem? (i := 165) rfl), lw_t1 (List.mem_of_getElem? (i := 209) rfl), lw_t1 (List.mem_of_getElem? (i := 210) rfl)⟩
theorem lw_p5 : lw_okq (⟨"PointColoursModel", "next", "()I"⟩, 9) := ⟨⟨by decide +kernel, by decide +kernel⟩, lw_t1 (List.mem_of_getElem? (i := 165) rfl), lw_t1 (List.mem_of_getElem? (i := 226) rfl), lw_t1 (List.mem_of_getElem? (i := 227) rfl)⟩
theorem lw_p6 : lw_okq (⟨"PointColoursModel", "left", "(I)I"⟩, 9) := ⟨⟨by decide +kernel, by decide +kernel⟩, lw_t1 (List.mem_of_getElem? (i := 165) rfl), lw_t1 (List.mem_of_getElem? (i := 230) rfl), lw_t1 (List.mem_of_getElem? (i := 231) rfl)⟩
theorem lw_p7 : lw_okq (⟨"PointColoursModel", "colourFor", "(I)I"⟩, 9) := ⟨⟨by decide +kernel, by decide +kernel⟩, lw_t1 (List.mem_of_getElem? (i := 165) rfl), lw_t1 (List.mem_of_getElem? (i := 234) rfl), lw_t1 (List.mem_of_getElem? (i := 235) rfl)⟩
theorem lw_p8 : lw_okq (⟨"PointColoursModel", "isFree", "(II)Z"⟩, 9) := ⟨⟨by decide +kernel, by decide +kernel⟩, lw_t1 (List.mem_of_getElem? (i := 165) rfl), lw_t1 (List.mem_of_getElem? (i := 238) rfl), lw_t1 (List.mem_of_getElem? (i := 239) rfl)⟩
def lw_privs_1 : List (MethodName × Nat) := [(⟨"PointColours", "isPoint", "(I)Z"⟩, 12), (⟨"PointColours", "cheapest", "()I"⟩, 12), (⟨"PointColours", "takeOut", "(II)V"⟩, 12), (⟨"PointColours", "paint", "(I)V"⟩, 12), (⟨"PointColoursModel", "isPoint", "(I)Z"⟩, 9), (⟨"PointColoursModel", "next", "()I"⟩, 9), (⟨"PointColoursModel", "left", "(I)I"⟩, 9), (⟨"PointColoursModel", "colourFor", "(I)I"⟩, 9), (⟨"PointColoursModel", "isFree", "(II)Z"⟩, 9)]
theorem lw_r1 : ∀ q ∈ lw_privs_1, lw_okq q := List.forall_mem_cons.mpr ⟨lw_p0, List.forall_mem_cons.mpr ⟨lw_p1, List.forall_mem_cons.mpr ⟨lw_p2, List.forall_mem_cons.mpr ⟨lw_p3, List.forall_mem_cons.mpr ⟨lw_p4, List.forall_mem_cons.mpr ⟨lw_p5, List.forall_mem_cons.mpr ⟨lw_p6, List.forall_mem_cons.mpr ⟨lw_p7, List.forall_mem_cons.mpr ⟨lw_p8, fun _ h => absurd h List.not_mem_nil⟩⟩⟩⟩⟩⟩⟩⟩⟩
def lw_privs : List (MethodName × Nat) := lw_privs_1
def lw_tbl : List Cond := k2_sels lw_privs ++ tables_1
theorem lw_privs_ok : ∀ q ∈ lw_privs, lw_okq q := lw_r1
-- ===== ONE list of words for every method: the tables' words that hold all through a run =====
def lw_all : List Cond := lw_tbl.filter goodWord
/-- a word of the tables by its place: claim/WORDS.tsv -/
theorem lw_w {w : Cond} (i : Nat) (h : lw_tbl[i]? = some w) (g : goodWord w = true) : w ∈ lw_all := List.mem_filter.mpr ⟨List.mem_of_getElem? h, g⟩
theorem lw_all_tbl {w : Cond} (h : w ∈ lw_all) : w ∈ lw_tbl := (List.mem_filter.mp h).1
theorem lw_self : GoodIn lw_all lw_all := fun w h => ⟨h, good_of_word (List.mem_filter.mp h).2⟩
/-- a class's field words, by their places -/
theorem lw_in (ws : List Cond) (ps : List Nat) (hp : ws = ps.filterMap (fun i => lw_tbl[i]?)) (hg : ws.all goodWord = true) : ∀ w ∈ ws, w ∈ lw_all := by
  intro w h
  have h1 := List.all_eq_true.mp hg w h
  rw [hp] at h
  obtain ⟨i, -, hi⟩ := List.mem_filterMap.mp h
  exact lw_w i hi h1
/-- the words of a contract for the method y with code b, L locals, answer r -/
abbrev ws_ (y : MethodName) (b : ByteArray) (L : Nat) (r : Option FieldType) : List Cond := Cond.code y b L r :: lw_all
theorem lw_meth {y : MethodName} {b : ByteArray} {L : Nat} {r : Option FieldType} (h : Cond.code y b L r ∈ lw_all) : GoodIn lw_all (ws_ y b L r) := by
  intro w hw
  rcases List.mem_cons.mp hw with e | e
  · rw [e]
    exact lw_self _ h
  · exact lw_self _ e
theorem lw_app {a c : List Cond} (ha : ∀ w ∈ a, w ∈ lw_all) (hc : GoodIn lw_all c) : GoodIn lw_all (a ++ c) := by
  intro w hw
  rcases List.mem_append.mp hw with e | e
  · exact lw_self w (ha w e)
  · exact hc w e
/-- what a call through an object asks: cwV n hts (lw_V ..) -/
theorem lw_V {own : String} {idx : Nat} {C : String} {y : MethodName} {b : ByteArray} {L : Nat} {r : Option FieldType} (h1 : Cond.methodLink own idx y ∈ lw_all) (h2 : Cond.instanceMethod y ∈ lw_all) (h3 : Cond.selects C y y ∈ lw_all) (h4 : Cond.initialized C ∈ lw_all) (h5 : Cond.code y b L r ∈ lw_all) : GoodIn lw_all (wsV own idx C y (ws_ y b L r)) := by
  refine lw_app ?_ (lw_meth h5)
  intro w hw
  simp only [List.mem_cons, List.not_mem_nil, or_false] at hw
  rcases hw with e | e | e | e
  · rw [e]; exact h1
  · rw [e]; exact h2
  · rw [e]; exact h3
  · rw [e]; exact h4
/-- what a static call asks: va_cwS n hts (lw_S ..) -/
theorem lw_S {own : String} {idx : Nat} {y : MethodName} {b : ByteArray} {L : Nat} {r : Option FieldType} (h1 : Cond.methodLink own idx y ∈ lw_all) (h2 : Cond.static y ∈ lw_all) (h3 : Cond.initialized y.cls ∈ lw_all) (h4 : Cond.code y b L r ∈ lw_all) : GoodIn lw_all (va_wsS own idx y (ws_ y b L r)) := by
  refine lw_app ?_ (lw_meth h4)
  intro w hw
  simp only [List.mem_cons, List.not_mem_nil, or_false] at hw
  rcases hw with e | e | e
  · rw [e]; exact h1
  · rw [e]; exact h2
  · rw [e]; exact h3
/-- the words of a contract for a method WITH HANDLERS (hh: its table) -/
abbrev wsW_ (y : MethodName) (b : ByteArray) (L : Nat) (r : Option FieldType) (hh : List (Nat × Nat × Nat × Nat)) : List Cond := Cond.codeWith y b L r hh :: lw_all
theorem lw_methW {y : MethodName} {b : ByteArray} {L : Nat} {r : Option FieldType} {hh : List (Nat × Nat × Nat × Nat)} (h : Cond.codeWith y b L r hh ∈ lw_all) : GoodIn lw_all (wsW_ y b L r hh) := by
  intro w hw
  rcases List.mem_cons.mp hw with e | e
  · rw [e]
    exact lw_self _ h
  · exact lw_self _ e
/-- any list of words by their places (lw_in), good -/
theorem lw_good {ws : List Cond} (h : ∀ w ∈ ws, w ∈ lw_all) : GoodIn lw_all ws := fun w hw => lw_self w (h w hw)
/-- what a call of a method with handlers asks: vx_cwVW n hts (lw_VW ..), vx_cwSW n hts (lw_SW ..) -/
theorem lw_VW {own : String} {idx : Nat} {C : String} {y : MethodName} {b : ByteArray} {L : Nat} {r : Option FieldType} {hh : List (Nat × Nat × Nat × Nat)} (h1 : Cond.methodLink own idx y ∈ lw_all) (h2 : Cond.instanceMethod y ∈ lw_all) (h3 : Cond.selects C y y ∈ lw_all) (h4 : Cond.initialized C ∈ lw_all) (h5 : Cond.codeWith y b L r hh ∈ lw_all) : GoodIn lw_all (wsV own idx C y (wsW_ y b L r hh)) := by
  refine lw_app ?_ (lw_methW h5)
  intro w hw
  simp only [List.mem_cons, List.not_mem_nil, or_false] at hw
  rcases hw with e | e | e | e
  · rw [e]; exact h1
  · rw [e]; exact h2
  · rw [e]; exact h3
  · rw [e]; exact h4
theorem lw_SW {own : String} {idx : Nat} {y : MethodName} {b : ByteArray} {L : Nat} {r : Option FieldType} {hh : List (Nat × Nat × Nat × Nat)} (h1 : Cond.methodLink own idx y ∈ lw_all) (h2 : Cond.static y ∈ lw_all) (h3 : Cond.initialized y.cls ∈ lw_all) (h4 : Cond.codeWith y b L r hh ∈ lw_all) : GoodIn lw_all (va_wsS own idx y (wsW_ y b L r hh)) := by
  refine lw_app ?_ (lw_methW h4)
  intro w hw
  simp only [List.mem_cons, List.not_mem_nil, or_false] at hw
  rcases hw with e | e | e
  · rw [e]; exact h1
  · rw [e]; exact h2
  · rw [e]; exact h3
/-- a word by its place in its run of the tables -/
theorem lw_at {r : List Cond} (hr : ∀ w ∈ r, w ∈ lw_tbl) {w : Cond} (i : Nat) (h : r[i]? = some w) : w ∈ lw_tbl := hr w (List.mem_of_getElem? h)
theorem lw_g {w : Cond} (h : w ∈ lw_tbl) (g : goodWord w = true) : w ∈ lw_all := List.mem_filter.mpr ⟨h, g⟩
theorem lw_ms : ∀ w ∈ k2_sels lw_privs, w ∈ lw_tbl := fun w h => show w ∈ k2_sels lw_privs ++ tables_1 from List.mem_append_left _ h
theorem lw_m1 : ∀ w ∈ tables_1_1, w ∈ lw_tbl := fun w h => show w ∈ k2_sels lw_privs ++ tables_1 from List.mem_append_right (k2_sels lw_privs) (show w ∈ tables_1 from List.mem_append_left _ h)
theorem lw_m2 : ∀ w ∈ tables_1_2, w ∈ lw_tbl := fun w h => show w ∈ k2_sels lw_privs ++ tables_1 from List.mem_append_right (k2_sels lw_privs) (show w ∈ tables_1 from List.mem_append_right _ h)
theorem qs0 : (Cond.selects "PointColours" ⟨"PointColours", "isPoint", "(I)Z"⟩ ⟨"PointColours", "isPoint", "(I)Z"⟩) ∈ lw_all := lw_g (lw_at lw_ms 0 rfl) rfl
theorem qs1 : (Cond.selects "PointColours" ⟨"PointColours", "cheapest", "()I"⟩ ⟨"PointColours", "cheapest", "()I"⟩) ∈ lw_all := lw_g (lw_at lw_ms 1 rfl) rfl
theorem qs2 : (Cond.selects "PointColours" ⟨"PointColours", "takeOut", "(II)V"⟩ ⟨"PointColours", "takeOut", "(II)V"⟩) ∈ lw_all := lw_g (lw_at lw_ms 2 rfl) rfl
theorem qs3 : (Cond.selects "PointColours" ⟨"PointColours", "paint", "(I)V"⟩ ⟨"PointColours", "paint", "(I)V"⟩) ∈ lw_all := lw_g (lw_at lw_ms 3 rfl) rfl
theorem qs4 : (Cond.selects "PointColoursModel" ⟨"PointColoursModel", "isPoint", "(I)Z"⟩ ⟨"PointColoursModel", "isPoint", "(I)Z"⟩) ∈ lw_all := lw_g (lw_at lw_ms 4 rfl) rfl
theorem qs5 : (Cond.selects "PointColoursModel" ⟨"PointColoursModel", "next", "()I"⟩ ⟨"PointColoursModel", "next", "()I"⟩) ∈ lw_all := lw_g (lw_at lw_ms 5 rfl) rfl
theorem qs6 : (Cond.selects "PointColoursModel" ⟨"PointColoursModel", "left", "(I)I"⟩ ⟨"PointColoursModel", "left", "(I)I"⟩) ∈ lw_all := lw_g (lw_at lw_ms 6 rfl) rfl
theorem qs7 : (Cond.selects "PointColoursModel" ⟨"PointColoursModel", "colourFor", "(I)I"⟩ ⟨"PointColoursModel", "colourFor", "(I)I"⟩) ∈ lw_all := lw_g (lw_at lw_ms 7 rfl) rfl
theorem qs8 : (Cond.selects "PointColoursModel" ⟨"PointColoursModel", "isFree", "(II)Z"⟩ ⟨"PointColoursModel", "isFree", "(II)Z"⟩) ∈ lw_all := lw_g (lw_at lw_ms 8 rfl) rfl
end
section
/-! java/lang/Object -/
set_option maxRecDepth 100000
def RJ0 : String := "java/lang/Object"
abbrev cJ0_init : ByteArray := object_method_1_code
def yJ0_init : MethodName := ⟨RJ0, "<init>", "()V"⟩
theorem dJ0_init_0 : decode cJ0_init 0 = .ok (.return_, 1) := by decide +kernel
theorem q20 : (Jvm.Cond.instanceMethod ({ cls := "java/lang/Object", name := "<init>", desc := "()V" } : Jvm.MethodName)) ∈ lw_all := lw_g (lw_at lw_m1 11 rfl) rfl
theorem q21 : (Jvm.Cond.code ({ cls := "java/lang/Object", name := "<init>", desc := "()V" } : Jvm.MethodName) object_method_1_code (1 : Nat) (Option.none : Option Jvm.ClassFile.FieldType)) ∈ lw_all := lw_g (lw_at lw_m1 12 rfl) rfl
theorem q32 : (Jvm.Cond.arrayClass Jvm.ClassFile.FieldType.int) ∈ lw_all := lw_g (lw_at lw_m1 23 rfl) rfl
set_option maxRecDepth 100000
theorem q83 : (Jvm.Cond.arrayClass Jvm.ClassFile.FieldType.boolean) ∈ lw_all := lw_g (lw_at lw_m1 74 rfl) rfl
/-! PointColours$Edges -/
set_option maxRecDepth 100000
def RX1 : String := "PointColours$Edges"
def TX1 : u_T := fun k => match k with
  | _ => ("PointColours$Edges", "bits", "[I", true)
def tyX1 : Nat → FieldType := fun k => match k with
  | _ => .array .int
abbrev wsX10 : List Cond := u_ws RX1 TX1 1
theorem nmX1 : ∀ a, a < 1 → ∀ b, b < 1 → a ≠ b → (TX1 a).2.1 ≠ (TX1 b).2.1 := by decide +kernel
theorem tyX1_ok : ∀ k, k < 1 → parseFieldDescriptor (TX1 k).2.2.1 = some (tyX1 k) := by decide +kernel
abbrev cX1_init : ByteArray := prog_2_method_1_code
def yX1_init : MethodName := ⟨RX1, "<init>", "()V"⟩
theorem dX1_init_0 : decode cX1_init 0 = .ok (.aload_n 0, 1) := by decide +kernel
theorem dX1_init_1 : decode cX1_init 1 = .ok (.invokespecial 3, 3) := by decide +kernel
theorem dX1_init_4 : decode cX1_init 4 = .ok (.aload_n 0, 1) := by decide +kernel
theorem dX1_init_5 : decode cX1_init 5 = .ok (.sipush 1400, 3) := by decide +kernel
theorem dX1_init_8 : decode cX1_init 8 = .ok (.newarray .int, 2) := by decide +kernel
theorem dX1_init_10 : decode cX1_init 10 = .ok (.putfield 9, 3) := by decide +kernel
theorem dX1_init_13 : decode cX1_init 13 = .ok (.return_, 1) := by decide +kernel
abbrev cX1_clear : ByteArray := prog_2_method_2_code
def yX1_clear : MethodName := ⟨RX1, "clear", "()V"⟩
theorem dX1_clear_0 : decode cX1_clear 0 = .ok (.iconst 0, 1) := by decide +kernel
theorem dX1_clear_1 : decode cX1_clear 1 = .ok (.istore_n 1, 1) := by decide +kernel
theorem dX1_clear_2 : decode cX1_clear 2 = .ok (.iload_n 1, 1) := by decide +kernel
theorem dX1_clear_3 : decode cX1_clear 3 = .ok (.aload_n 0, 1) := by decide +kernel
theorem dX1_clear_4 : decode cX1_clear 4 = .ok (.getfield 9, 3) := by decide +kernel
theorem dX1_clear_7 : decode cX1_clear 7 = .ok (.arraylength, 1) := by decide +kernel
theorem dX1_clear_8 : decode cX1_clear 8 = .ok (.if_icmp .ge 16, 3) := by decide +kernel
theorem dX1_clear_11 : decode cX1_clear 11 = .ok (.aload_n 0, 1) := by decide +kernel
theorem dX1_clear_12 : decode cX1_clear 12 = .ok (.getfield 9, 3) := by decide +kernel
theorem dX1_clear_15 : decode cX1_clear 15 = .ok (.iload_n 1, 1) := by decide +kernel
theorem dX1_clear_16 : decode cX1_clear 16 = .ok (.iconst 0, 1) := by decide +kernel
theorem dX1_clear_17 : decode cX1_clear 17 = .ok (.iastore, 1) := by decide +kernel
theorem dX1_clear_18 : decode cX1_clear 18 = .ok (.iinc 1 1, 3) := by decide +kernel
theorem dX1_clear_21 : decode cX1_clear 21 = .ok (.goto (-19), 3) := by decide +kernel
theorem dX1_clear_24 : decode cX1_clear 24 = .ok (.return_, 1) := by decide +kernel
abbrev cX1_has : ByteArray := prog_2_method_3_code
def yX1_has : MethodName := ⟨RX1, "has", "(II)Z"⟩
theorem dX1_has_0 : decode cX1_has 0 = .ok (.aload_n 0, 1) := by decide +kernel
theorem dX1_has_1 : decode cX1_has 1 = .ok (.getfield 9, 3) := by decide +kernel
theorem dX1_has_4 : decode cX1_has 4 = .ok (.iload_n 1, 1) := by decide +kernel
theorem dX1_has_5 : decode cX1_has 5 = .ok (.bipush 7, 2) := by decide +kernel
theorem dX1_has_7 : decode cX1_has 7 = .ok (.imul, 1) := by decide +kernel
theorem dX1_has_8 : decode cX1_has 8 = .ok (.iload_n 2, 1) := by decide +kernel
theorem dX1_has_9 : decode cX1_has 9 = .ok (.iconst 5, 1) := by decide +kernel
theorem dX1_has_10 : decode cX1_has 10 = .ok (.ishr, 1) := by decide +kernel
theorem dX1_has_11 : decode cX1_has 11 = .ok (.iadd, 1) := by decide +kernel
theorem dX1_has_12 : decode cX1_has 12 = .ok (.iaload, 1) := by decide +kernel
theorem dX1_has_13 : decode cX1_has 13 = .ok (.iload_n 2, 1) := by decide +kernel
theorem dX1_has_14 : decode cX1_has 14 = .ok (.bipush 31, 2) := by decide +kernel
theorem dX1_has_16 : decode cX1_has 16 = .ok (.iand, 1) := by decide +kernel
theorem dX1_has_17 : decode cX1_has 17 = .ok (.ishr, 1) := by decide +kernel
theorem dX1_has_18 : decode cX1_has 18 = .ok (.iconst 1, 1) := by decide +kernel
theorem dX1_has_19 : decode cX1_has 19 = .ok (.iand, 1) := by decide +kernel
theorem dX1_has_20 : decode cX1_has 20 = .ok (.iconst 1, 1) := by decide +kernel
theorem dX1_has_21 : decode cX1_has 21 = .ok (.if_icmp .ne 7, 3) := by decide +kernel
theorem dX1_has_24 : decode cX1_has 24 = .ok (.iconst 1, 1) := by decide +kernel
theorem dX1_has_25 : decode cX1_has 25 = .ok (.goto 4, 3) := by decide +kernel
theorem dX1_has_28 : decode cX1_has 28 = .ok (.iconst 0, 1) := by decide +kernel
theorem dX1_has_29 : decode cX1_has 29 = .ok (.ireturn, 1) := by decide +kernel
abbrev cX1_put : ByteArray := prog_2_method_4_code
def yX1_put : MethodName := ⟨RX1, "put", "(II)V"⟩
theorem dX1_put_0 : decode cX1_put 0 = .ok (.aload_n 0, 1) := by decide +kernel
theorem dX1_put_1 : decode cX1_put 1 = .ok (.getfield 9, 3) := by decide +kernel
theorem dX1_put_4 : decode cX1_put 4 = .ok (.iload_n 1, 1) := by decide +kernel
theorem dX1_put_5 : decode cX1_put 5 = .ok (.bipush 7, 2) := by decide +kernel
theorem dX1_put_7 : decode cX1_put 7 = .ok (.imul, 1) := by decide +kernel
theorem dX1_put_8 : decode cX1_put 8 = .ok (.iload_n 2, 1) := by decide +kernel
theorem dX1_put_9 : decode cX1_put 9 = .ok (.iconst 5, 1) := by decide +kernel
theorem dX1_put_10 : decode cX1_put 10 = .ok (.ishr, 1) := by decide +kernel
theorem dX1_put_11 : decode cX1_put 11 = .ok (.iadd, 1) := by decide +kernel
theorem dX1_put_12 : decode cX1_put 12 = .ok (.dup2, 1) := by decide +kernel
theorem dX1_put_13 : decode cX1_put 13 = .ok (.iaload, 1) := by decide +kernel
theorem dX1_put_14 : decode cX1_put 14 = .ok (.iconst 1, 1) := by decide +kernel
theorem dX1_put_15 : decode cX1_put 15 = .ok (.iload_n 2, 1) := by decide +kernel
theorem dX1_put_16 : decode cX1_put 16 = .ok (.bipush 31, 2) := by decide +kernel
theorem dX1_put_18 : decode cX1_put 18 = .ok (.iand, 1) := by decide +kernel
theorem dX1_put_19 : decode cX1_put 19 = .ok (.ishl, 1) := by decide +kernel
theorem dX1_put_20 : decode cX1_put 20 = .ok (.ior, 1) := by decide +kernel
theorem dX1_put_21 : decode cX1_put 21 = .ok (.iastore, 1) := by decide +kernel
theorem dX1_put_22 : decode cX1_put 22 = .ok (.return_, 1) := by decide +kernel
abbrev cX1_next : ByteArray := prog_2_method_5_code
def yX1_next : MethodName := ⟨RX1, "next", "(II)I"⟩
theorem dX1_next_0 : decode cX1_next 0 = .ok (.iload_n 2, 1) := by decide +kernel
theorem dX1_next_1 : decode cX1_next 1 = .ok (.iconst 1, 1) := by decide +kernel
theorem dX1_next_2 : decode cX1_next 2 = .ok (.iadd, 1) := by decide +kernel
theorem dX1_next_3 : decode cX1_next 3 = .ok (.istore_n 3, 1) := by decide +kernel
theorem dX1_next_4 : decode cX1_next 4 = .ok (.iload_n 3, 1) := by decide +kernel
theorem dX1_next_5 : decode cX1_next 5 = .ok (.iconst 5, 1) := by decide +kernel
theorem dX1_next_6 : decode cX1_next 6 = .ok (.ishr, 1) := by decide +kernel
theorem dX1_next_7 : decode cX1_next 7 = .ok (.istore 4, 2) := by decide +kernel
theorem dX1_next_9 : decode cX1_next 9 = .ok (.iload 4, 2) := by decide +kernel
theorem dX1_next_11 : decode cX1_next 11 = .ok (.bipush 7, 2) := by decide +kernel
theorem dX1_next_13 : decode cX1_next 13 = .ok (.if_icmp .ge 28, 3) := by decide +kernel
theorem dX1_next_16 : decode cX1_next 16 = .ok (.aload_n 0, 1) := by decide +kernel
theorem dX1_next_17 : decode cX1_next 17 = .ok (.getfield 9, 3) := by decide +kernel
theorem dX1_next_20 : decode cX1_next 20 = .ok (.iload_n 1, 1) := by decide +kernel
theorem dX1_next_21 : decode cX1_next 21 = .ok (.bipush 7, 2) := by decide +kernel
theorem dX1_next_23 : decode cX1_next 23 = .ok (.imul, 1) := by decide +kernel
theorem dX1_next_24 : decode cX1_next 24 = .ok (.iload 4, 2) := by decide +kernel
theorem dX1_next_26 : decode cX1_next 26 = .ok (.iadd, 1) := by decide +kernel
theorem dX1_next_27 : decode cX1_next 27 = .ok (.iaload, 1) := by decide +kernel
theorem dX1_next_28 : decode cX1_next 28 = .ok (.iload_n 3, 1) := by decide +kernel
theorem dX1_next_29 : decode cX1_next 29 = .ok (.bipush 31, 2) := by decide +kernel
theorem dX1_next_31 : decode cX1_next 31 = .ok (.iand, 1) := by decide +kernel
theorem dX1_next_32 : decode cX1_next 32 = .ok (.iushr, 1) := by decide +kernel
theorem dX1_next_33 : decode cX1_next 33 = .ok (.iload_n 3, 1) := by decide +kernel
theorem dX1_next_34 : decode cX1_next 34 = .ok (.bipush 31, 2) := by decide +kernel
theorem dX1_next_36 : decode cX1_next 36 = .ok (.iand, 1) := by decide +kernel
theorem dX1_next_37 : decode cX1_next 37 = .ok (.ishl, 1) := by decide +kernel
theorem dX1_next_38 : decode cX1_next 38 = .ok (.goto 4, 3) := by decide +kernel
theorem dX1_next_41 : decode cX1_next 41 = .ok (.iconst 0, 1) := by decide +kernel
theorem dX1_next_42 : decode cX1_next 42 = .ok (.istore 5, 2) := by decide +kernel
theorem dX1_next_44 : decode cX1_next 44 = .ok (.iload 5, 2) := by decide +kernel
theorem dX1_next_46 : decode cX1_next 46 = .ok (.ifCond .ne 32, 3) := by decide +kernel
theorem dX1_next_49 : decode cX1_next 49 = .ok (.iinc 4 1, 3) := by decide +kernel
theorem dX1_next_52 : decode cX1_next 52 = .ok (.iload 4, 2) := by decide +kernel
theorem dX1_next_54 : decode cX1_next 54 = .ok (.bipush 7, 2) := by decide +kernel
theorem dX1_next_56 : decode cX1_next 56 = .ok (.if_icmp .lt 5, 3) := by decide +kernel
theorem dX1_next_59 : decode cX1_next 59 = .ok (.iconst (-1), 1) := by decide +kernel
theorem dX1_next_60 : decode cX1_next 60 = .ok (.ireturn, 1) := by decide +kernel
theorem dX1_next_61 : decode cX1_next 61 = .ok (.aload_n 0, 1) := by decide +kernel
theorem dX1_next_62 : decode cX1_next 62 = .ok (.getfield 9, 3) := by decide +kernel
theorem dX1_next_65 : decode cX1_next 65 = .ok (.iload_n 1, 1) := by decide +kernel
theorem dX1_next_66 : decode cX1_next 66 = .ok (.bipush 7, 2) := by decide +kernel
theorem dX1_next_68 : decode cX1_next 68 = .ok (.imul, 1) := by decide +kernel
theorem dX1_next_69 : decode cX1_next 69 = .ok (.iload 4, 2) := by decide +kernel
theorem dX1_next_71 : decode cX1_next 71 = .ok (.iadd, 1) := by decide +kernel
theorem dX1_next_72 : decode cX1_next 72 = .ok (.iaload, 1) := by decide +kernel
theorem dX1_next_73 : decode cX1_next 73 = .ok (.istore 5, 2) := by decide +kernel
theorem dX1_next_75 : decode cX1_next 75 = .ok (.goto (-31), 3) := by decide +kernel
theorem dX1_next_78 : decode cX1_next 78 = .ok (.iconst 0, 1) := by decide +kernel
theorem dX1_next_79 : decode cX1_next 79 = .ok (.istore 6, 2) := by decide +kernel
theorem dX1_next_81 : decode cX1_next 81 = .ok (.iload 5, 2) := by decide +kernel
theorem dX1_next_83 : decode cX1_next 83 = .ok (.iload 6, 2) := by decide +kernel
theorem dX1_next_85 : decode cX1_next 85 = .ok (.iushr, 1) := by decide +kernel
theorem dX1_next_86 : decode cX1_next 86 = .ok (.iconst 1, 1) := by decide +kernel
theorem dX1_next_87 : decode cX1_next 87 = .ok (.iand, 1) := by decide +kernel
theorem dX1_next_88 : decode cX1_next 88 = .ok (.ifCond .ne 9, 3) := by decide +kernel
theorem dX1_next_91 : decode cX1_next 91 = .ok (.iinc 6 1, 3) := by decide +kernel
theorem dX1_next_94 : decode cX1_next 94 = .ok (.goto (-13), 3) := by decide +kernel
theorem dX1_next_97 : decode cX1_next 97 = .ok (.bipush 32, 2) := by decide +kernel
theorem dX1_next_99 : decode cX1_next 99 = .ok (.iload 4, 2) := by decide +kernel
theorem dX1_next_101 : decode cX1_next 101 = .ok (.imul, 1) := by decide +kernel
theorem dX1_next_102 : decode cX1_next 102 = .ok (.iload 6, 2) := by decide +kernel
theorem dX1_next_104 : decode cX1_next 104 = .ok (.iadd, 1) := by decide +kernel
theorem dX1_next_105 : decode cX1_next 105 = .ok (.ireturn, 1) := by decide +kernel
theorem q11 : (Jvm.Cond.initialized "PointColours$Edges") ∈ lw_all := lw_g (lw_at lw_m1 2 rfl) rfl
theorem q23 : (Jvm.Cond.instantiable "PointColours$Edges" (1 : Nat)) ∈ lw_all := lw_g (lw_at lw_m1 14 rfl) rfl
theorem q25 : (Jvm.Cond.instanceMethod ({ cls := "PointColours$Edges", name := "<init>", desc := "()V" } : Jvm.MethodName)) ∈ lw_all := lw_g (lw_at lw_m1 16 rfl) rfl
theorem q26 : (Jvm.Cond.code ({ cls := "PointColours$Edges", name := "<init>", desc := "()V" } : Jvm.MethodName) prog_2_method_1_code (1 : Nat) (Option.none : Option Jvm.ClassFile.FieldType)) ∈ lw_all := lw_g (lw_at lw_m1 17 rfl) rfl
theorem q27 : (Jvm.Cond.methodLink "PointColours$Edges" (3 : Nat) ({ cls := "java/lang/Object", name := "<init>", desc := "()V" } : Jvm.MethodName)) ∈ lw_all := lw_g (lw_at lw_m1 18 rfl) rfl
theorem q28 : (Jvm.Cond.fieldLink "PointColours$Edges" (9 : Nat) "PointColours$Edges" "bits" "[I") ∈ lw_all := lw_g (lw_at lw_m1 19 rfl) rfl
theorem q29 : (Jvm.Cond.laysFinal "PointColours$Edges" "PointColours$Edges" "bits" "[I") ∈ lw_all := lw_g (lw_at lw_m1 20 rfl) rfl
theorem q30 : (Jvm.Cond.soleField "PointColours$Edges" "bits") ∈ lw_all := lw_g (lw_at lw_m1 21 rfl) rfl
theorem q31 : (Jvm.Cond.superclass "PointColours$Edges" "java/lang/Object") ∈ lw_all := lw_g (lw_at lw_m1 22 rfl) rfl
theorem q89 : (Jvm.Cond.instanceMethod ({ cls := "PointColours$Edges", name := "clear", desc := "()V" } : Jvm.MethodName)) ∈ lw_all := lw_g (lw_at lw_m1 80 rfl) rfl
theorem q90 : (Jvm.Cond.selects "PointColours$Edges" ({ cls := "PointColours$Edges", name := "clear", desc := "()V" } : Jvm.MethodName) ({ cls := "PointColours$Edges", name := "clear", desc := "()V" } : Jvm.MethodName)) ∈ lw_all := lw_g (lw_at lw_m1 81 rfl) rfl
theorem q91 : (Jvm.Cond.code ({ cls := "PointColours$Edges", name := "clear", desc := "()V" } : Jvm.MethodName) prog_2_method_2_code (2 : Nat) (Option.none : Option Jvm.ClassFile.FieldType)) ∈ lw_all := lw_g (lw_at lw_m1 82 rfl) rfl
theorem q101 : (Jvm.Cond.instanceMethod ({ cls := "PointColours$Edges", name := "has", desc := "(II)Z" } : Jvm.MethodName)) ∈ lw_all := lw_g (lw_at lw_m1 92 rfl) rfl
theorem q102 : (Jvm.Cond.selects "PointColours$Edges" ({ cls := "PointColours$Edges", name := "has", desc := "(II)Z" } : Jvm.MethodName) ({ cls := "PointColours$Edges", name := "has", desc := "(II)Z" } : Jvm.MethodName)) ∈ lw_all := lw_g (lw_at lw_m1 93 rfl) rfl
theorem q103 : (Jvm.Cond.code ({ cls := "PointColours$Edges", name := "has", desc := "(II)Z" } : Jvm.MethodName) prog_2_method_3_code (3 : Nat) (Option.some Jvm.ClassFile.FieldType.boolean)) ∈ lw_all := lw_g (lw_at lw_m1 94 rfl) rfl
theorem q105 : (Jvm.Cond.instanceMethod ({ cls := "PointColours$Edges", name := "put", desc := "(II)V" } : Jvm.MethodName)) ∈ lw_all := lw_g (lw_at lw_m1 96 rfl) rfl
theorem q106 : (Jvm.Cond.selects "PointColours$Edges" ({ cls := "PointColours$Edges", name := "put", desc := "(II)V" } : Jvm.MethodName) ({ cls := "PointColours$Edges", name := "put", desc := "(II)V" } : Jvm.MethodName)) ∈ lw_all := lw_g (lw_at lw_m1 97 rfl) rfl
theorem q107 : (Jvm.Cond.code ({ cls := "PointColours$Edges", name := "put", desc := "(II)V" } : Jvm.MethodName) prog_2_method_4_code (3 : Nat) (Option.none : Option Jvm.ClassFile.FieldType)) ∈ lw_all := lw_g (lw_at lw_m1 98 rfl) rfl
theorem q146 : (Jvm.Cond.instanceMethod ({ cls := "PointColours$Edges", name := "next", desc := "(II)I" } : Jvm.MethodName)) ∈ lw_all := lw_g (lw_at lw_m1 137 rfl) rfl
theorem q147 : (Jvm.Cond.selects "PointColours$Edges" ({ cls := "PointColours$Edges", name := "next", desc := "(II)I" } : Jvm.MethodName) ({ cls := "PointColours$Edges", name := "next", desc := "(II)I" } : Jvm.MethodName)) ∈ lw_all := lw_g (lw_at lw_m1 138 rfl) rfl
theorem q148 : (Jvm.Cond.code ({ cls := "PointColours$Edges", name := "next", desc := "(II)I" } : Jvm.MethodName) prog_2_method_5_code (7 : Nat) (Option.some Jvm.ClassFile.FieldType.int)) ∈ lw_all := lw_g (lw_at lw_m1 139 rfl) rfl
theorem in_X1 : ∀ w ∈ wsX10, w ∈ lw_all := lw_in wsX10 [29] (by decide +kernel) (by decide +kernel)
/-! PointColours$Heap -/
set_option maxRecDepth 100000
def RX2 : String := "PointColours$Heap"
def TX2 : u_T := fun k => match k with
  | 0 => ("PointColours$Heap", "row", "[I", true)
  | _ => ("PointColours$Heap", "count", "I", false)
def tyX2 : Nat → FieldType := fun k => match k with
  | 0 => .array .int
  | _ => .int
abbrev wsX20 : List Cond := u_ws RX2 TX2 2
theorem nmX2 : ∀ a, a < 2 → ∀ b, b < 2 → a ≠ b → (TX2 a).2.1 ≠ (TX2 b).2.1 := by decide +kernel
theorem tyX2_ok : ∀ k, k < 2 → parseFieldDescriptor (TX2 k).2.2.1 = some (tyX2 k) := by decide +kernel
abbrev cX2_init : ByteArray := prog_3_method_1_code
def yX2_init : MethodName := ⟨RX2, "<init>", "()V"⟩
theorem dX2_init_0 : decode cX2_init 0 = .ok (.aload_n 0, 1) := by decide +kernel
theorem dX2_init_1 : decode cX2_init 1 = .ok (.invokespecial 3, 3) := by decide +kernel
theorem dX2_init_4 : decode cX2_init 4 = .ok (.aload_n 0, 1) := by decide +kernel
theorem dX2_init_5 : decode cX2_init 5 = .ok (.sipush 200, 3) := by decide +kernel
theorem dX2_init_8 : decode cX2_init 8 = .ok (.newarray .int, 2) := by decide +kernel
theorem dX2_init_10 : decode cX2_init 10 = .ok (.putfield 9, 3) := by decide +kernel
theorem dX2_init_13 : decode cX2_init 13 = .ok (.return_, 1) := by decide +kernel
abbrev cX2_clear : ByteArray := prog_3_method_2_code
def yX2_clear : MethodName := ⟨RX2, "clear", "()V"⟩
theorem dX2_clear_0 : decode cX2_clear 0 = .ok (.aload_n 0, 1) := by decide +kernel
theorem dX2_clear_1 : decode cX2_clear 1 = .ok (.iconst 0, 1) := by decide +kernel
theorem dX2_clear_2 : decode cX2_clear 2 = .ok (.putfield 15, 3) := by decide +kernel
theorem dX2_clear_5 : decode cX2_clear 5 = .ok (.return_, 1) := by decide +kernel
abbrev cX2_put : ByteArray := prog_3_method_4_code
def yX2_put : MethodName := ⟨RX2, "put", "(I)V"⟩
theorem dX2_put_0 : decode cX2_put 0 = .ok (.aload_n 0, 1) := by decide +kernel
theorem dX2_put_1 : decode cX2_put 1 = .ok (.getfield 15, 3) := by decide +kernel
theorem dX2_put_4 : decode cX2_put 4 = .ok (.istore_n 2, 1) := by decide +kernel
theorem dX2_put_5 : decode cX2_put 5 = .ok (.aload_n 0, 1) := by decide +kernel
theorem dX2_put_6 : decode cX2_put 6 = .ok (.dup, 1) := by decide +kernel
theorem dX2_put_7 : decode cX2_put 7 = .ok (.getfield 15, 3) := by decide +kernel
theorem dX2_put_10 : decode cX2_put 10 = .ok (.iconst 1, 1) := by decide +kernel
theorem dX2_put_11 : decode cX2_put 11 = .ok (.iadd, 1) := by decide +kernel
theorem dX2_put_12 : decode cX2_put 12 = .ok (.putfield 15, 3) := by decide +kernel
theorem dX2_put_15 : decode cX2_put 15 = .ok (.iload_n 2, 1) := by decide +kernel
theorem dX2_put_16 : decode cX2_put 16 = .ok (.ifCond .le 42, 3) := by decide +kernel
theorem dX2_put_19 : decode cX2_put 19 = .ok (.aload_n 0, 1) := by decide +kernel
theorem dX2_put_20 : decode cX2_put 20 = .ok (.getfield 9, 3) := by decide +kernel
theorem dX2_put_23 : decode cX2_put 23 = .ok (.iload_n 2, 1) := by decide +kernel
theorem dX2_put_24 : decode cX2_put 24 = .ok (.iconst 1, 1) := by decide +kernel
theorem dX2_put_25 : decode cX2_put 25 = .ok (.isub, 1) := by decide +kernel
theorem dX2_put_26 : decode cX2_put 26 = .ok (.iconst 2, 1) := by decide +kernel
theorem dX2_put_27 : decode cX2_put 27 = .ok (.idiv, 1) := by decide +kernel
theorem dX2_put_28 : decode cX2_put 28 = .ok (.iaload, 1) := by decide +kernel
theorem dX2_put_29 : decode cX2_put 29 = .ok (.iload_n 1, 1) := by decide +kernel
theorem dX2_put_30 : decode cX2_put 30 = .ok (.if_icmp .le 28, 3) := by decide +kernel
theorem dX2_put_33 : decode cX2_put 33 = .ok (.aload_n 0, 1) := by decide +kernel
theorem dX2_put_34 : decode cX2_put 34 = .ok (.getfield 9, 3) := by decide +kernel
theorem dX2_put_37 : decode cX2_put 37 = .ok (.iload_n 2, 1) := by decide +kernel
theorem dX2_put_38 : decode cX2_put 38 = .ok (.aload_n 0, 1) := by decide +kernel
theorem dX2_put_39 : decode cX2_put 39 = .ok (.getfield 9, 3) := by decide +kernel
theorem dX2_put_42 : decode cX2_put 42 = .ok (.iload_n 2, 1) := by decide +kernel
theorem dX2_put_43 : decode cX2_put 43 = .ok (.iconst 1, 1) := by decide +kernel
theorem dX2_put_44 : decode cX2_put 44 = .ok (.isub, 1) := by decide +kernel
theorem dX2_put_45 : decode cX2_put 45 = .ok (.iconst 2, 1) := by decide +kernel
theorem dX2_put_46 : decode cX2_put 46 = .ok (.idiv, 1) := by decide +kernel
theorem dX2_put_47 : decode cX2_put 47 = .ok (.iaload, 1) := by decide +kernel
theorem dX2_put_48 : decode cX2_put 48 = .ok (.iastore, 1) := by decide +kernel
theorem dX2_put_49 : decode cX2_put 49 = .ok (.iload_n 2, 1) := by decide +kernel
theorem dX2_put_50 : decode cX2_put 50 = .ok (.iconst 1, 1) := by decide +kernel
theorem dX2_put_51 : decode cX2_put 51 = .ok (.isub, 1) := by decide +kernel
theorem dX2_put_52 : decode cX2_put 52 = .ok (.iconst 2, 1) := by decide +kernel
theorem dX2_put_53 : decode cX2_put 53 = .ok (.idiv, 1) := by decide +kernel
theorem dX2_put_54 : decode cX2_put 54 = .ok (.istore_n 2, 1) := by decide +kernel
theorem dX2_put_55 : decode cX2_put 55 = .ok (.goto (-40), 3) := by decide +kernel
theorem dX2_put_58 : decode cX2_put 58 = .ok (.aload_n 0, 1) := by decide +kernel
theorem dX2_put_59 : decode cX2_put 59 = .ok (.getfield 9, 3) := by decide +kernel
theorem dX2_put_62 : decode cX2_put 62 = .ok (.iload_n 2, 1) := by decide +kernel
theorem dX2_put_63 : decode cX2_put 63 = .ok (.iload_n 1, 1) := by decide +kernel
theorem dX2_put_64 : decode cX2_put 64 = .ok (.iastore, 1) := by decide +kernel
theorem dX2_put_65 : decode cX2_put 65 = .ok (.return_, 1) := by decide +kernel
abbrev cX2_isEmpty : ByteArray := prog_3_method_3_code
def yX2_isEmpty : MethodName := ⟨RX2, "isEmpty", "()Z"⟩
theorem dX2_isEmpty_0 : decode cX2_isEmpty 0 = .ok (.aload_n 0, 1) := by decide +kernel
theorem dX2_isEmpty_1 : decode cX2_isEmpty 1 = .ok (.getfield 15, 3) := by decide +kernel
theorem dX2_isEmpty_4 : decode cX2_isEmpty 4 = .ok (.ifCond .ne 7, 3) := by decide +kernel
theorem dX2_isEmpty_7 : decode cX2_isEmpty 7 = .ok (.iconst 1, 1) := by decide +kernel
theorem dX2_isEmpty_8 : decode cX2_isEmpty 8 = .ok (.goto 4, 3) := by decide +kernel
theorem dX2_isEmpty_11 : decode cX2_isEmpty 11 = .ok (.iconst 0, 1) := by decide +kernel
theorem dX2_isEmpty_12 : decode cX2_isEmpty 12 = .ok (.ireturn, 1) := by decide +kernel
abbrev cX2_take : ByteArray := prog_3_method_5_code
def yX2_take : MethodName := ⟨RX2, "take", "()I"⟩
theorem dX2_take_0 : decode cX2_take 0 = .ok (.aload_n 0, 1) := by decide +kernel
theorem dX2_take_1 : decode cX2_take 1 = .ok (.getfield 9, 3) := by decide +kernel
theorem dX2_take_4 : decode cX2_take 4 = .ok (.iconst 0, 1) := by decide +kernel
theorem dX2_take_5 : decode cX2_take 5 = .ok (.iaload, 1) := by decide +kernel
theorem dX2_take_6 : decode cX2_take 6 = .ok (.istore_n 1, 1) := by decide +kernel
theorem dX2_take_7 : decode cX2_take 7 = .ok (.aload_n 0, 1) := by decide +kernel
theorem dX2_take_8 : decode cX2_take 8 = .ok (.dup, 1) := by decide +kernel
theorem dX2_take_9 : decode cX2_take 9 = .ok (.getfield 15, 3) := by decide +kernel
theorem dX2_take_12 : decode cX2_take 12 = .ok (.iconst 1, 1) := by decide +kernel
theorem dX2_take_13 : decode cX2_take 13 = .ok (.isub, 1) := by decide +kernel
theorem dX2_take_14 : decode cX2_take 14 = .ok (.putfield 15, 3) := by decide +kernel
theorem dX2_take_17 : decode cX2_take 17 = .ok (.aload_n 0, 1) := by decide +kernel
theorem dX2_take_18 : decode cX2_take 18 = .ok (.getfield 9, 3) := by decide +kernel
theorem dX2_take_21 : decode cX2_take 21 = .ok (.aload_n 0, 1) := by decide +kernel
theorem dX2_take_22 : decode cX2_take 22 = .ok (.getfield 15, 3) := by decide +kernel
theorem dX2_take_25 : decode cX2_take 25 = .ok (.iaload, 1) := by decide +kernel
theorem dX2_take_26 : decode cX2_take 26 = .ok (.istore_n 2, 1) := by decide +kernel
theorem dX2_take_27 : decode cX2_take 27 = .ok (.iconst 0, 1) := by decide +kernel
theorem dX2_take_28 : decode cX2_take 28 = .ok (.istore_n 3, 1) := by decide +kernel
theorem dX2_take_29 : decode cX2_take 29 = .ok (.iconst 1, 1) := by decide +kernel
theorem dX2_take_30 : decode cX2_take 30 = .ok (.istore 4, 2) := by decide +kernel
theorem dX2_take_32 : decode cX2_take 32 = .ok (.iload 4, 2) := by decide +kernel
theorem dX2_take_34 : decode cX2_take 34 = .ok (.ifCond .eq 94, 3) := by decide +kernel
theorem dX2_take_37 : decode cX2_take 37 = .ok (.iconst 2, 1) := by decide +kernel
theorem dX2_take_38 : decode cX2_take 38 = .ok (.iload_n 3, 1) := by decide +kernel
theorem dX2_take_39 : decode cX2_take 39 = .ok (.imul, 1) := by decide +kernel
theorem dX2_take_40 : decode cX2_take 40 = .ok (.iconst 1, 1) := by decide +kernel
theorem dX2_take_41 : decode cX2_take 41 = .ok (.iadd, 1) := by decide +kernel
theorem dX2_take_42 : decode cX2_take 42 = .ok (.istore 5, 2) := by decide +kernel
theorem dX2_take_44 : decode cX2_take 44 = .ok (.iload 5, 2) := by decide +kernel
theorem dX2_take_46 : decode cX2_take 46 = .ok (.iconst 1, 1) := by decide +kernel
theorem dX2_take_47 : decode cX2_take 47 = .ok (.iadd, 1) := by decide +kernel
theorem dX2_take_48 : decode cX2_take 48 = .ok (.aload_n 0, 1) := by decide +kernel
theorem dX2_take_49 : decode cX2_take 49 = .ok (.getfield 15, 3) := by decide +kernel
theorem dX2_take_52 : decode cX2_take 52 = .ok (.if_icmp .ge 25, 3) := by decide +kernel
theorem dX2_take_55 : decode cX2_take 55 = .ok (.aload_n 0, 1) := by decide +kernel
theorem dX2_take_56 : decode cX2_take 56 = .ok (.getfield 9, 3) := by decide +kernel
theorem dX2_take_59 : decode cX2_take 59 = .ok (.iload 5, 2) := by decide +kernel
theorem dX2_take_61 : decode cX2_take 61 = .ok (.iconst 1, 1) := by decide +kernel
theorem dX2_take_62 : decode cX2_take 62 = .ok (.iadd, 1) := by decide +kernel
theorem dX2_take_63 : decode cX2_take 63 = .ok (.iaload, 1) := by decide +kernel
theorem dX2_take_64 : decode cX2_take 64 = .ok (.aload_n 0, 1) := by decide +kernel
theorem dX2_take_65 : decode cX2_take 65 = .ok (.getfield 9, 3) := by decide +kernel
theorem dX2_take_68 : decode cX2_take 68 = .ok (.iload 5, 2) := by decide +kernel
theorem dX2_take_70 : decode cX2_take 70 = .ok (.iaload, 1) := by decide +kernel
theorem dX2_take_71 : decode cX2_take 71 = .ok (.if_icmp .ge 6, 3) := by decide +kernel
theorem dX2_take_74 : decode cX2_take 74 = .ok (.iinc 5 1, 3) := by decide +kernel
theorem dX2_take_77 : decode cX2_take 77 = .ok (.iload 5, 2) := by decide +kernel
theorem dX2_take_79 : decode cX2_take 79 = .ok (.aload_n 0, 1) := by decide +kernel
theorem dX2_take_80 : decode cX2_take 80 = .ok (.getfield 15, 3) := by decide +kernel
theorem dX2_take_83 : decode cX2_take 83 = .ok (.if_icmp .ge 18, 3) := by decide +kernel
theorem dX2_take_86 : decode cX2_take 86 = .ok (.aload_n 0, 1) := by decide +kernel
theorem dX2_take_87 : decode cX2_take 87 = .ok (.getfield 9, 3) := by decide +kernel
theorem dX2_take_90 : decode cX2_take 90 = .ok (.iload 5, 2) := by decide +kernel
theorem dX2_take_92 : decode cX2_take 92 = .ok (.iaload, 1) := by decide +kernel
theorem dX2_take_93 : decode cX2_take 93 = .ok (.iload_n 2, 1) := by decide +kernel
theorem dX2_take_94 : decode cX2_take 94 = .ok (.if_icmp .ge 7, 3) := by decide +kernel
theorem dX2_take_97 : decode cX2_take 97 = .ok (.iconst 1, 1) := by decide +kernel
theorem dX2_take_98 : decode cX2_take 98 = .ok (.goto 4, 3) := by decide +kernel
theorem dX2_take_101 : decode cX2_take 101 = .ok (.iconst 0, 1) := by decide +kernel
theorem dX2_take_102 : decode cX2_take 102 = .ok (.istore 4, 2) := by decide +kernel
theorem dX2_take_104 : decode cX2_take 104 = .ok (.iload 4, 2) := by decide +kernel
theorem dX2_take_106 : decode cX2_take 106 = .ok (.ifCond .eq 19, 3) := by decide +kernel
theorem dX2_take_109 : decode cX2_take 109 = .ok (.aload_n 0, 1) := by decide +kernel
theorem dX2_take_110 : decode cX2_take 110 = .ok (.getfield 9, 3) := by decide +kernel
theorem dX2_take_113 : decode cX2_take 113 = .ok (.iload_n 3, 1) := by decide +kernel
theorem dX2_take_114 : decode cX2_take 114 = .ok (.aload_n 0, 1) := by decide +kernel
theorem dX2_take_115 : decode cX2_take 115 = .ok (.getfield 9, 3) := by decide +kernel
theorem dX2_take_118 : decode cX2_take 118 = .ok (.iload 5, 2) := by decide +kernel
theorem dX2_take_120 : decode cX2_take 120 = .ok (.iaload, 1) := by decide +kernel
theorem dX2_take_121 : decode cX2_take 121 = .ok (.iastore, 1) := by decide +kernel
theorem dX2_take_122 : decode cX2_take 122 = .ok (.iload 5, 2) := by decide +kernel
theorem dX2_take_124 : decode cX2_take 124 = .ok (.istore_n 3, 1) := by decide +kernel
theorem dX2_take_125 : decode cX2_take 125 = .ok (.goto (-93), 3) := by decide +kernel
theorem dX2_take_128 : decode cX2_take 128 = .ok (.aload_n 0, 1) := by decide +kernel
theorem dX2_take_129 : decode cX2_take 129 = .ok (.getfield 9, 3) := by decide +kernel
theorem dX2_take_132 : decode cX2_take 132 = .ok (.iload_n 3, 1) := by decide +kernel
theorem dX2_take_133 : decode cX2_take 133 = .ok (.iload_n 2, 1) := by decide +kernel
theorem dX2_take_134 : decode cX2_take 134 = .ok (.iastore, 1) := by decide +kernel
theorem dX2_take_135 : decode cX2_take 135 = .ok (.iload_n 1, 1) := by decide +kernel
theorem dX2_take_136 : decode cX2_take 136 = .ok (.ireturn, 1) := by decide +kernel
theorem q12 : (Jvm.Cond.initialized "PointColours$Heap") ∈ lw_all := lw_g (lw_at lw_m1 3 rfl) rfl
theorem q34 : (Jvm.Cond.instantiable "PointColours$Heap" (2 : Nat)) ∈ lw_all := lw_g (lw_at lw_m1 25 rfl) rfl
theorem q36 : (Jvm.Cond.instanceMethod ({ cls := "PointColours$Heap", name := "<init>", desc := "()V" } : Jvm.MethodName)) ∈ lw_all := lw_g (lw_at lw_m1 27 rfl) rfl
theorem q37 : (Jvm.Cond.code ({ cls := "PointColours$Heap", name := "<init>", desc := "()V" } : Jvm.MethodName) prog_3_method_1_code (1 : Nat) (Option.none : Option Jvm.ClassFile.FieldType)) ∈ lw_all := lw_g (lw_at lw_m1 28 rfl) rfl
theorem q38 : (Jvm.Cond.methodLink "PointColours$Heap" (3 : Nat) ({ cls := "java/lang/Object", name := "<init>", desc := "()V" } : Jvm.MethodName)) ∈ lw_all := lw_g (lw_at lw_m1 29 rfl) rfl
theorem q39 : (Jvm.Cond.fieldLink "PointColours$Heap" (9 : Nat) "PointColours$Heap" "row" "[I") ∈ lw_all := lw_g (lw_at lw_m1 30 rfl) rfl
theorem q40 : (Jvm.Cond.fieldLink "PointColours$Heap" (15 : Nat) "PointColours$Heap" "count" "I") ∈ lw_all := lw_g (lw_at lw_m1 31 rfl) rfl
theorem q41 : (Jvm.Cond.laysFinal "PointColours$Heap" "PointColours$Heap" "row" "[I") ∈ lw_all := lw_g (lw_at lw_m1 32 rfl) rfl
theorem q42 : (Jvm.Cond.soleField "PointColours$Heap" "row") ∈ lw_all := lw_g (lw_at lw_m1 33 rfl) rfl
theorem q43 : (Jvm.Cond.lays "PointColours$Heap" "PointColours$Heap" "count" "I") ∈ lw_all := lw_g (lw_at lw_m1 34 rfl) rfl
theorem q44 : (Jvm.Cond.soleField "PointColours$Heap" "count") ∈ lw_all := lw_g (lw_at lw_m1 35 rfl) rfl
theorem q45 : (Jvm.Cond.superclass "PointColours$Heap" "java/lang/Object") ∈ lw_all := lw_g (lw_at lw_m1 36 rfl) rfl
theorem q122 : (Jvm.Cond.instanceMethod ({ cls := "PointColours$Heap", name := "clear", desc := "()V" } : Jvm.MethodName)) ∈ lw_all := lw_g (lw_at lw_m1 113 rfl) rfl
theorem q123 : (Jvm.Cond.selects "PointColours$Heap" ({ cls := "PointColours$Heap", name := "clear", desc := "()V" } : Jvm.MethodName) ({ cls := "PointColours$Heap", name := "clear", desc := "()V" } : Jvm.MethodName)) ∈ lw_all := lw_g (lw_at lw_m1 114 rfl) rfl
theorem q124 : (Jvm.Cond.code ({ cls := "PointColours$Heap", name := "clear", desc := "()V" } : Jvm.MethodName) prog_3_method_2_code (1 : Nat) (Option.none : Option Jvm.ClassFile.FieldType)) ∈ lw_all := lw_g (lw_at lw_m1 115 rfl) rfl
theorem q126 : (Jvm.Cond.instanceMethod ({ cls := "PointColours$Heap", name := "put", desc := "(I)V" } : Jvm.MethodName)) ∈ lw_all := lw_g (lw_at lw_m1 117 rfl) rfl
theorem q127 : (Jvm.Cond.selects "PointColours$Heap" ({ cls := "PointColours$Heap", name := "put", desc := "(I)V" } : Jvm.MethodName) ({ cls := "PointColours$Heap", name := "put", desc := "(I)V" } : Jvm.MethodName)) ∈ lw_all := lw_g (lw_at lw_m1 118 rfl) rfl
theorem q128 : (Jvm.Cond.code ({ cls := "PointColours$Heap", name := "put", desc := "(I)V" } : Jvm.MethodName) prog_3_method_4_code (3 : Nat) (Option.none : Option Jvm.ClassFile.FieldType)) ∈ lw_all := lw_g (lw_at lw_m1 119 rfl) rfl
theorem q130 : (Jvm.Cond.instanceMethod ({ cls := "PointColours$Heap", name := "isEmpty", desc := "()Z" } : Jvm.MethodName)) ∈ lw_all := lw_g (lw_at lw_m1 121 rfl) rfl
theorem q131 : (Jvm.Cond.selects "PointColours$Heap" ({ cls := "PointColours$Heap", name := "isEmpty", desc := "()Z" } : Jvm.MethodName) ({ cls := "PointColours$Heap", name := "isEmpty", desc := "()Z" } : Jvm.MethodName)) ∈ lw_all := lw_g (lw_at lw_m1 122 rfl) rfl
theorem q132 : (Jvm.Cond.code ({ cls := "PointColours$Heap", name := "isEmpty", desc := "()Z" } : Jvm.MethodName) prog_3_method_3_code (1 : Nat) (Option.some Jvm.ClassFile.FieldType.boolean)) ∈ lw_all := lw_g (lw_at lw_m1 123 rfl) rfl
theorem q138 : (Jvm.Cond.instanceMethod ({ cls := "PointColours$Heap", name := "take", desc := "()I" } : Jvm.MethodName)) ∈ lw_all := lw_g (lw_at lw_m1 129 rfl) rfl
theorem q139 : (Jvm.Cond.selects "PointColours$Heap" ({ cls := "PointColours$Heap", name := "take", desc := "()I" } : Jvm.MethodName) ({ cls := "PointColours$Heap", name := "take", desc := "()I" } : Jvm.MethodName)) ∈ lw_all := lw_g (lw_at lw_m1 130 rfl) rfl
theorem q140 : (Jvm.Cond.code ({ cls := "PointColours$Heap", name := "take", desc := "()I" } : Jvm.MethodName) prog_3_method_5_code (6 : Nat) (Option.some Jvm.ClassFile.FieldType.int)) ∈ lw_all := lw_g (lw_at lw_m1 131 rfl) rfl
theorem in_X2 : ∀ w ∈ wsX20, w ∈ lw_all := lw_in wsX20 [41, 43] (by decide +kernel) (by decide +kernel)
end
section
/-! PointColours -/
set_option maxRecDepth 100000
def RX0 : String := "PointColours"
def TX0 : u_T := fun k => match k with
  | 0 => ("PointColours", "points", "I", false)
  | 1 => ("PointColours", "colours", "I", false)
  | 2 => ("PointColours", "edges", "LPointColours$Edges;", true)
  | 3 => ("PointColours", "few", "LPointColours$Heap;", true)
  | 4 => ("PointColours", "cost", "[I", true)
  | 5 => ("PointColours", "wish", "[I", true)
  | 6 => ("PointColours", "degree", "[I", true)
  | 7 => ("PointColours", "left", "[I", true)
  | 8 => ("PointColours", "isOut", "[Z", true)
  | 9 => ("PointColours", "order", "[I", true)
  | 10 => ("PointColours", "colour", "[I", true)
  | _ => ("PointColours", "isGiven", "Z", false)
def tyX0 : Nat → FieldType := fun k => match k with
  | 0 => .int
  | 1 => .int
  | 2 => .object "PointColours$Edges"
  | 3 => .object "PointColours$Heap"
  | 4 => .array .int
  | 5 => .array .int
  | 6 => .array .int
  | 7 => .array .int
  | 8 => .array .boolean
  | 9 => .array .int
  | 10 => .array .int
  | _ => .boolean
abbrev wsX00 : List Cond := u_ws RX0 TX0 12
theorem nmX0 : ∀ a, a < 12 → ∀ b, b < 12 → a ≠ b → (TX0 a).2.1 ≠ (TX0 b).2.1 := by decide +kernel
theorem tyX0_ok : ∀ k, k < 12 → parseFieldDescriptor (TX0 k).2.2.1 = some (tyX0 k) := by decide +kernel
abbrev cX0_init : ByteArray := prog_1_method_1_code
def yX0_init : MethodName := ⟨RX0, "<init>", "()V"⟩
theorem dX0_init_0 : decode cX0_init 0 = .ok (.aload_n 0, 1) := by decide +kernel
theorem dX0_init_1 : decode cX0_init 1 = .ok (.invokespecial 1, 3) := by decide +kernel
theorem dX0_init_4 : decode cX0_init 4 = .ok (.aload_n 0, 1) := by decide +kernel
theorem dX0_init_5 : decode cX0_init 5 = .ok (.iconst 1, 1) := by decide +kernel
theorem dX0_init_6 : decode cX0_init 6 = .ok (.putfield 7, 3) := by decide +kernel
theorem dX0_init_9 : decode cX0_init 9 = .ok (.aload_n 0, 1) := by decide +kernel
theorem dX0_init_10 : decode cX0_init 10 = .ok (.iconst 1, 1) := by decide +kernel
theorem dX0_init_11 : decode cX0_init 11 = .ok (.putfield 13, 3) := by decide +kernel
theorem dX0_init_14 : decode cX0_init 14 = .ok (.aload_n 0, 1) := by decide +kernel
theorem dX0_init_15 : decode cX0_init 15 = .ok (.new 16, 3) := by decide +kernel
theorem dX0_init_18 : decode cX0_init 18 = .ok (.dup, 1) := by decide +kernel
theorem dX0_init_19 : decode cX0_init 19 = .ok (.invokespecial 18, 3) := by decide +kernel
theorem dX0_init_22 : decode cX0_init 22 = .ok (.putfield 19, 3) := by decide +kernel
theorem dX0_init_25 : decode cX0_init 25 = .ok (.aload_n 0, 1) := by decide +kernel
theorem dX0_init_26 : decode cX0_init 26 = .ok (.new 23, 3) := by decide +kernel
theorem dX0_init_29 : decode cX0_init 29 = .ok (.dup, 1) := by decide +kernel
theorem dX0_init_30 : decode cX0_init 30 = .ok (.invokespecial 25, 3) := by decide +kernel
theorem dX0_init_33 : decode cX0_init 33 = .ok (.putfield 26, 3) := by decide +kernel
theorem dX0_init_36 : decode cX0_init 36 = .ok (.aload_n 0, 1) := by decide +kernel
theorem dX0_init_37 : decode cX0_init 37 = .ok (.sipush 200, 3) := by decide +kernel
theorem dX0_init_40 : decode cX0_init 40 = .ok (.newarray .int, 2) := by decide +kernel
theorem dX0_init_42 : decode cX0_init 42 = .ok (.putfield 30, 3) := by decide +kernel
theorem dX0_init_45 : decode cX0_init 45 = .ok (.aload_n 0, 1) := by decide +kernel
theorem dX0_init_46 : decode cX0_init 46 = .ok (.sipush 200, 3) := by decide +kernel
theorem dX0_init_49 : decode cX0_init 49 = .ok (.newarray .int, 2) := by decide +kernel
theorem dX0_init_51 : decode cX0_init 51 = .ok (.putfield 34, 3) := by decide +kernel
theorem dX0_init_54 : decode cX0_init 54 = .ok (.aload_n 0, 1) := by decide +kernel
theorem dX0_init_55 : decode cX0_init 55 = .ok (.sipush 200, 3) := by decide +kernel
theorem dX0_init_58 : decode cX0_init 58 = .ok (.newarray .int, 2) := by decide +kernel
theorem dX0_init_60 : decode cX0_init 60 = .ok (.putfield 37, 3) := by decide +kernel
theorem dX0_init_63 : decode cX0_init 63 = .ok (.aload_n 0, 1) := by decide +kernel
theorem dX0_init_64 : decode cX0_init 64 = .ok (.sipush 200, 3) := by decide +kernel
theorem dX0_init_67 : decode cX0_init 67 = .ok (.newarray .int, 2) := by decide +kernel
theorem dX0_init_69 : decode cX0_init 69 = .ok (.putfield 40, 3) := by decide +kernel
theorem dX0_init_72 : decode cX0_init 72 = .ok (.aload_n 0, 1) := by decide +kernel
theorem dX0_init_73 : decode cX0_init 73 = .ok (.sipush 200, 3) := by decide +kernel
theorem dX0_init_76 : decode cX0_init 76 = .ok (.newarray .boolean, 2) := by decide +kernel
theorem dX0_init_78 : decode cX0_init 78 = .ok (.putfield 43, 3) := by decide +kernel
theorem dX0_init_81 : decode cX0_init 81 = .ok (.aload_n 0, 1) := by decide +kernel
theorem dX0_init_82 : decode cX0_init 82 = .ok (.sipush 200, 3) := by decide +kernel
theorem dX0_init_85 : decode cX0_init 85 = .ok (.newarray .int, 2) := by decide +kernel
theorem dX0_init_87 : decode cX0_init 87 = .ok (.putfield 47, 3) := by decide +kernel
theorem dX0_init_90 : decode cX0_init 90 = .ok (.aload_n 0, 1) := by decide +kernel
theorem dX0_init_91 : decode cX0_init 91 = .ok (.sipush 200, 3) := by decide +kernel
theorem dX0_init_94 : decode cX0_init 94 = .ok (.newarray .int, 2) := by decide +kernel
theorem dX0_init_96 : decode cX0_init 96 = .ok (.putfield 50, 3) := by decide +kernel
theorem dX0_init_99 : decode cX0_init 99 = .ok (.aload_n 0, 1) := by decide +kernel
theorem dX0_init_100 : decode cX0_init 100 = .ok (.getfield 34, 3) := by decide +kernel
theorem dX0_init_103 : decode cX0_init 103 = .ok (.iconst 0, 1) := by decide +kernel
theorem dX0_init_104 : decode cX0_init 104 = .ok (.iconst 0, 1) := by decide +kernel
theorem dX0_init_105 : decode cX0_init 105 = .ok (.iastore, 1) := by decide +kernel
theorem dX0_init_106 : decode cX0_init 106 = .ok (.return_, 1) := by decide +kernel
abbrev cX0_begin : ByteArray := prog_1_method_2_code
def yX0_begin : MethodName := ⟨RX0, "begin", "(II)Z"⟩
theorem dX0_begin_0 : decode cX0_begin 0 = .ok (.iload_n 1, 1) := by decide +kernel
theorem dX0_begin_1 : decode cX0_begin 1 = .ok (.iconst 1, 1) := by decide +kernel
theorem dX0_begin_2 : decode cX0_begin 2 = .ok (.if_icmp .lt 21, 3) := by decide +kernel
theorem dX0_begin_5 : decode cX0_begin 5 = .ok (.iload_n 1, 1) := by decide +kernel
theorem dX0_begin_6 : decode cX0_begin 6 = .ok (.sipush 200, 3) := by decide +kernel
theorem dX0_begin_9 : decode cX0_begin 9 = .ok (.if_icmp .gt 14, 3) := by decide +kernel
theorem dX0_begin_12 : decode cX0_begin 12 = .ok (.iload_n 2, 1) := by decide +kernel
theorem dX0_begin_13 : decode cX0_begin 13 = .ok (.iconst 1, 1) := by decide +kernel
theorem dX0_begin_14 : decode cX0_begin 14 = .ok (.if_icmp .lt 9, 3) := by decide +kernel
theorem dX0_begin_17 : decode cX0_begin 17 = .ok (.iload_n 2, 1) := by decide +kernel
theorem dX0_begin_18 : decode cX0_begin 18 = .ok (.bipush 30, 2) := by decide +kernel
theorem dX0_begin_20 : decode cX0_begin 20 = .ok (.if_icmp .le 5, 3) := by decide +kernel
theorem dX0_begin_23 : decode cX0_begin 23 = .ok (.iconst 0, 1) := by decide +kernel
theorem dX0_begin_24 : decode cX0_begin 24 = .ok (.ireturn, 1) := by decide +kernel
theorem dX0_begin_25 : decode cX0_begin 25 = .ok (.aload_n 0, 1) := by decide +kernel
theorem dX0_begin_26 : decode cX0_begin 26 = .ok (.iload_n 1, 1) := by decide +kernel
theorem dX0_begin_27 : decode cX0_begin 27 = .ok (.putfield 7, 3) := by decide +kernel
theorem dX0_begin_30 : decode cX0_begin 30 = .ok (.aload_n 0, 1) := by decide +kernel
theorem dX0_begin_31 : decode cX0_begin 31 = .ok (.iload_n 2, 1) := by decide +kernel
theorem dX0_begin_32 : decode cX0_begin 32 = .ok (.putfield 13, 3) := by decide +kernel
theorem dX0_begin_35 : decode cX0_begin 35 = .ok (.aload_n 0, 1) := by decide +kernel
theorem dX0_begin_36 : decode cX0_begin 36 = .ok (.getfield 19, 3) := by decide +kernel
theorem dX0_begin_39 : decode cX0_begin 39 = .ok (.invokevirtual 53, 3) := by decide +kernel
theorem dX0_begin_42 : decode cX0_begin 42 = .ok (.iconst 0, 1) := by decide +kernel
theorem dX0_begin_43 : decode cX0_begin 43 = .ok (.istore_n 3, 1) := by decide +kernel
theorem dX0_begin_44 : decode cX0_begin 44 = .ok (.iload_n 3, 1) := by decide +kernel
theorem dX0_begin_45 : decode cX0_begin 45 = .ok (.iload_n 1, 1) := by decide +kernel
theorem dX0_begin_46 : decode cX0_begin 46 = .ok (.if_icmp .ge 30, 3) := by decide +kernel
theorem dX0_begin_49 : decode cX0_begin 49 = .ok (.aload_n 0, 1) := by decide +kernel
theorem dX0_begin_50 : decode cX0_begin 50 = .ok (.getfield 30, 3) := by decide +kernel
theorem dX0_begin_53 : decode cX0_begin 53 = .ok (.iload_n 3, 1) := by decide +kernel
theorem dX0_begin_54 : decode cX0_begin 54 = .ok (.iconst 0, 1) := by decide +kernel
theorem dX0_begin_55 : decode cX0_begin 55 = .ok (.iastore, 1) := by decide +kernel
theorem dX0_begin_56 : decode cX0_begin 56 = .ok (.aload_n 0, 1) := by decide +kernel
theorem dX0_begin_57 : decode cX0_begin 57 = .ok (.getfield 34, 3) := by decide +kernel
theorem dX0_begin_60 : decode cX0_begin 60 = .ok (.iload_n 3, 1) := by decide +kernel
theorem dX0_begin_61 : decode cX0_begin 61 = .ok (.iload_n 3, 1) := by decide +kernel
theorem dX0_begin_62 : decode cX0_begin 62 = .ok (.iastore, 1) := by decide +kernel
theorem dX0_begin_63 : decode cX0_begin 63 = .ok (.aload_n 0, 1) := by decide +kernel
theorem dX0_begin_64 : decode cX0_begin 64 = .ok (.getfield 37, 3) := by decide +kernel
theorem dX0_begin_67 : decode cX0_begin 67 = .ok (.iload_n 3, 1) := by decide +kernel
theorem dX0_begin_68 : decode cX0_begin 68 = .ok (.iconst 0, 1) := by decide +kernel
theorem dX0_begin_69 : decode cX0_begin 69 = .ok (.iastore, 1) := by decide +kernel
theorem dX0_begin_70 : decode cX0_begin 70 = .ok (.iinc 3 1, 3) := by decide +kernel
theorem dX0_begin_73 : decode cX0_begin 73 = .ok (.goto (-29), 3) := by decide +kernel
theorem dX0_begin_76 : decode cX0_begin 76 = .ok (.aload_n 0, 1) := by decide +kernel
theorem dX0_begin_77 : decode cX0_begin 77 = .ok (.iconst 0, 1) := by decide +kernel
theorem dX0_begin_78 : decode cX0_begin 78 = .ok (.putfield 56, 3) := by decide +kernel
theorem dX0_begin_81 : decode cX0_begin 81 = .ok (.iconst 1, 1) := by decide +kernel
theorem dX0_begin_82 : decode cX0_begin 82 = .ok (.ireturn, 1) := by decide +kernel
abbrev cX0_join : ByteArray := prog_1_method_4_code
def yX0_join : MethodName := ⟨RX0, "join", "(II)Z"⟩
theorem dX0_join_0 : decode cX0_join 0 = .ok (.aload_n 0, 1) := by decide +kernel
theorem dX0_join_1 : decode cX0_join 1 = .ok (.iload_n 1, 1) := by decide +kernel
theorem dX0_join_2 : decode cX0_join 2 = .ok (.invokevirtual 60, 3) := by decide +kernel
theorem dX0_join_5 : decode cX0_join 5 = .ok (.ifCond .eq 28, 3) := by decide +kernel
theorem dX0_join_8 : decode cX0_join 8 = .ok (.aload_n 0, 1) := by decide +kernel
theorem dX0_join_9 : decode cX0_join 9 = .ok (.iload_n 2, 1) := by decide +kernel
theorem dX0_join_10 : decode cX0_join 10 = .ok (.invokevirtual 60, 3) := by decide +kernel
theorem dX0_join_13 : decode cX0_join 13 = .ok (.ifCond .eq 20, 3) := by decide +kernel
theorem dX0_join_16 : decode cX0_join 16 = .ok (.iload_n 1, 1) := by decide +kernel
theorem dX0_join_17 : decode cX0_join 17 = .ok (.iload_n 2, 1) := by decide +kernel
theorem dX0_join_18 : decode cX0_join 18 = .ok (.if_icmp .eq 15, 3) := by decide +kernel
theorem dX0_join_21 : decode cX0_join 21 = .ok (.aload_n 0, 1) := by decide +kernel
theorem dX0_join_22 : decode cX0_join 22 = .ok (.getfield 19, 3) := by decide +kernel
theorem dX0_join_25 : decode cX0_join 25 = .ok (.iload_n 1, 1) := by decide +kernel
theorem dX0_join_26 : decode cX0_join 26 = .ok (.iload_n 2, 1) := by decide +kernel
theorem dX0_join_27 : decode cX0_join 27 = .ok (.invokevirtual 64, 3) := by decide +kernel
theorem dX0_join_30 : decode cX0_join 30 = .ok (.ifCond .eq 5, 3) := by decide +kernel
theorem dX0_join_33 : decode cX0_join 33 = .ok (.iconst 0, 1) := by decide +kernel
theorem dX0_join_34 : decode cX0_join 34 = .ok (.ireturn, 1) := by decide +kernel
theorem dX0_join_35 : decode cX0_join 35 = .ok (.aload_n 0, 1) := by decide +kernel
theorem dX0_join_36 : decode cX0_join 36 = .ok (.getfield 19, 3) := by decide +kernel
theorem dX0_join_39 : decode cX0_join 39 = .ok (.iload_n 1, 1) := by decide +kernel
theorem dX0_join_40 : decode cX0_join 40 = .ok (.iload_n 2, 1) := by decide +kernel
theorem dX0_join_41 : decode cX0_join 41 = .ok (.invokevirtual 68, 3) := by decide +kernel
theorem dX0_join_44 : decode cX0_join 44 = .ok (.aload_n 0, 1) := by decide +kernel
theorem dX0_join_45 : decode cX0_join 45 = .ok (.getfield 19, 3) := by decide +kernel
theorem dX0_join_48 : decode cX0_join 48 = .ok (.iload_n 2, 1) := by decide +kernel
theorem dX0_join_49 : decode cX0_join 49 = .ok (.iload_n 1, 1) := by decide +kernel
theorem dX0_join_50 : decode cX0_join 50 = .ok (.invokevirtual 68, 3) := by decide +kernel
theorem dX0_join_53 : decode cX0_join 53 = .ok (.aload_n 0, 1) := by decide +kernel
theorem dX0_join_54 : decode cX0_join 54 = .ok (.getfield 37, 3) := by decide +kernel
theorem dX0_join_57 : decode cX0_join 57 = .ok (.iload_n 1, 1) := by decide +kernel
theorem dX0_join_58 : decode cX0_join 58 = .ok (.dup2, 1) := by decide +kernel
theorem dX0_join_59 : decode cX0_join 59 = .ok (.iaload, 1) := by decide +kernel
theorem dX0_join_60 : decode cX0_join 60 = .ok (.iconst 1, 1) := by decide +kernel
theorem dX0_join_61 : decode cX0_join 61 = .ok (.iadd, 1) := by decide +kernel
theorem dX0_join_62 : decode cX0_join 62 = .ok (.iastore, 1) := by decide +kernel
theorem dX0_join_63 : decode cX0_join 63 = .ok (.aload_n 0, 1) := by decide +kernel
theorem dX0_join_64 : decode cX0_join 64 = .ok (.getfield 37, 3) := by decide +kernel
theorem dX0_join_67 : decode cX0_join 67 = .ok (.iload_n 2, 1) := by decide +kernel
theorem dX0_join_68 : decode cX0_join 68 = .ok (.dup2, 1) := by decide +kernel
theorem dX0_join_69 : decode cX0_join 69 = .ok (.iaload, 1) := by decide +kernel
theorem dX0_join_70 : decode cX0_join 70 = .ok (.iconst 1, 1) := by decide +kernel
theorem dX0_join_71 : decode cX0_join 71 = .ok (.iadd, 1) := by decide +kernel
theorem dX0_join_72 : decode cX0_join 72 = .ok (.iastore, 1) := by decide +kernel
theorem dX0_join_73 : decode cX0_join 73 = .ok (.aload_n 0, 1) := by decide +kernel
theorem dX0_join_74 : decode cX0_join 74 = .ok (.iconst 0, 1) := by decide +kernel
theorem dX0_join_75 : decode cX0_join 75 = .ok (.putfield 56, 3) := by decide +kernel
theorem dX0_join_78 : decode cX0_join 78 = .ok (.iconst 1, 1) := by decide +kernel
theorem dX0_join_79 : decode cX0_join 79 = .ok (.ireturn, 1) := by decide +kernel
abbrev cX0_isPoint : ByteArray := prog_1_method_3_code
def yX0_isPoint : MethodName := ⟨RX0, "isPoint", "(I)Z"⟩
theorem dX0_isPoint_0 : decode cX0_isPoint 0 = .ok (.iload_n 1, 1) := by decide +kernel
theorem dX0_isPoint_1 : decode cX0_isPoint 1 = .ok (.ifCond .lt 15, 3) := by decide +kernel
theorem dX0_isPoint_4 : decode cX0_isPoint 4 = .ok (.iload_n 1, 1) := by decide +kernel
theorem dX0_isPoint_5 : decode cX0_isPoint 5 = .ok (.aload_n 0, 1) := by decide +kernel
theorem dX0_isPoint_6 : decode cX0_isPoint 6 = .ok (.getfield 7, 3) := by decide +kernel
theorem dX0_isPoint_9 : decode cX0_isPoint 9 = .ok (.if_icmp .ge 7, 3) := by decide +kernel
theorem dX0_isPoint_12 : decode cX0_isPoint 12 = .ok (.iconst 1, 1) := by decide +kernel
theorem dX0_isPoint_13 : decode cX0_isPoint 13 = .ok (.goto 4, 3) := by decide +kernel
theorem dX0_isPoint_16 : decode cX0_isPoint 16 = .ok (.iconst 0, 1) := by decide +kernel
theorem dX0_isPoint_17 : decode cX0_isPoint 17 = .ok (.ireturn, 1) := by decide +kernel
abbrev cX0_cost : ByteArray := prog_1_method_5_code
def yX0_cost : MethodName := ⟨RX0, "cost", "(II)Z"⟩
theorem dX0_cost_0 : decode cX0_cost 0 = .ok (.aload_n 0, 1) := by decide +kernel
theorem dX0_cost_1 : decode cX0_cost 1 = .ok (.iload_n 1, 1) := by decide +kernel
theorem dX0_cost_2 : decode cX0_cost 2 = .ok (.invokevirtual 60, 3) := by decide +kernel
theorem dX0_cost_5 : decode cX0_cost 5 = .ok (.ifCond .eq 13, 3) := by decide +kernel
theorem dX0_cost_8 : decode cX0_cost 8 = .ok (.iload_n 2, 1) := by decide +kernel
theorem dX0_cost_9 : decode cX0_cost 9 = .ok (.ifCond .lt 9, 3) := by decide +kernel
theorem dX0_cost_12 : decode cX0_cost 12 = .ok (.iload_n 2, 1) := by decide +kernel
theorem dX0_cost_13 : decode cX0_cost 13 = .ok (.ldc 72, 2) := by decide +kernel
theorem dX0_cost_15 : decode cX0_cost 15 = .ok (.if_icmp .le 5, 3) := by decide +kernel
theorem dX0_cost_18 : decode cX0_cost 18 = .ok (.iconst 0, 1) := by decide +kernel
theorem dX0_cost_19 : decode cX0_cost 19 = .ok (.ireturn, 1) := by decide +kernel
theorem dX0_cost_20 : decode cX0_cost 20 = .ok (.aload_n 0, 1) := by decide +kernel
theorem dX0_cost_21 : decode cX0_cost 21 = .ok (.getfield 30, 3) := by decide +kernel
theorem dX0_cost_24 : decode cX0_cost 24 = .ok (.iload_n 1, 1) := by decide +kernel
theorem dX0_cost_25 : decode cX0_cost 25 = .ok (.iload_n 2, 1) := by decide +kernel
theorem dX0_cost_26 : decode cX0_cost 26 = .ok (.iastore, 1) := by decide +kernel
theorem dX0_cost_27 : decode cX0_cost 27 = .ok (.aload_n 0, 1) := by decide +kernel
theorem dX0_cost_28 : decode cX0_cost 28 = .ok (.iconst 0, 1) := by decide +kernel
theorem dX0_cost_29 : decode cX0_cost 29 = .ok (.putfield 56, 3) := by decide +kernel
theorem dX0_cost_32 : decode cX0_cost 32 = .ok (.iconst 1, 1) := by decide +kernel
theorem dX0_cost_33 : decode cX0_cost 33 = .ok (.ireturn, 1) := by decide +kernel
abbrev cX0_wish : ByteArray := prog_1_method_6_code
def yX0_wish : MethodName := ⟨RX0, "wish", "(II)Z"⟩
theorem dX0_wish_0 : decode cX0_wish 0 = .ok (.aload_n 0, 1) := by decide +kernel
theorem dX0_wish_1 : decode cX0_wish 1 = .ok (.iload_n 1, 1) := by decide +kernel
theorem dX0_wish_2 : decode cX0_wish 2 = .ok (.invokevirtual 60, 3) := by decide +kernel
theorem dX0_wish_5 : decode cX0_wish 5 = .ok (.ifCond .eq 11, 3) := by decide +kernel
theorem dX0_wish_8 : decode cX0_wish 8 = .ok (.aload_n 0, 1) := by decide +kernel
theorem dX0_wish_9 : decode cX0_wish 9 = .ok (.iload_n 2, 1) := by decide +kernel
theorem dX0_wish_10 : decode cX0_wish 10 = .ok (.invokevirtual 60, 3) := by decide +kernel
theorem dX0_wish_13 : decode cX0_wish 13 = .ok (.ifCond .ne 5, 3) := by decide +kernel
theorem dX0_wish_16 : decode cX0_wish 16 = .ok (.iconst 0, 1) := by decide +kernel
theorem dX0_wish_17 : decode cX0_wish 17 = .ok (.ireturn, 1) := by decide +kernel
theorem dX0_wish_18 : decode cX0_wish 18 = .ok (.aload_n 0, 1) := by decide +kernel
theorem dX0_wish_19 : decode cX0_wish 19 = .ok (.getfield 34, 3) := by decide +kernel
theorem dX0_wish_22 : decode cX0_wish 22 = .ok (.iload_n 1, 1) := by decide +kernel
theorem dX0_wish_23 : decode cX0_wish 23 = .ok (.iload_n 2, 1) := by decide +kernel
theorem dX0_wish_24 : decode cX0_wish 24 = .ok (.iastore, 1) := by decide +kernel
theorem dX0_wish_25 : decode cX0_wish 25 = .ok (.aload_n 0, 1) := by decide +kernel
theorem dX0_wish_26 : decode cX0_wish 26 = .ok (.iconst 0, 1) := by decide +kernel
theorem dX0_wish_27 : decode cX0_wish 27 = .ok (.putfield 56, 3) := by decide +kernel
theorem dX0_wish_30 : decode cX0_wish 30 = .ok (.iconst 1, 1) := by decide +kernel
theorem dX0_wish_31 : decode cX0_wish 31 = .ok (.ireturn, 1) := by decide +kernel
abbrev cX0_give : ByteArray := prog_1_method_7_code
def yX0_give : MethodName := ⟨RX0, "give", "()I"⟩
theorem dX0_give_0 : decode cX0_give 0 = .ok (.aload_n 0, 1) := by decide +kernel
theorem dX0_give_1 : decode cX0_give 1 = .ok (.getfield 26, 3) := by decide +kernel
theorem dX0_give_4 : decode cX0_give 4 = .ok (.invokevirtual 73, 3) := by decide +kernel
theorem dX0_give_7 : decode cX0_give 7 = .ok (.iconst 0, 1) := by decide +kernel
theorem dX0_give_8 : decode cX0_give 8 = .ok (.istore_n 1, 1) := by decide +kernel
theorem dX0_give_9 : decode cX0_give 9 = .ok (.iload_n 1, 1) := by decide +kernel
theorem dX0_give_10 : decode cX0_give 10 = .ok (.aload_n 0, 1) := by decide +kernel
theorem dX0_give_11 : decode cX0_give 11 = .ok (.getfield 7, 3) := by decide +kernel
theorem dX0_give_14 : decode cX0_give 14 = .ok (.if_icmp .ge 56, 3) := by decide +kernel
theorem dX0_give_17 : decode cX0_give 17 = .ok (.aload_n 0, 1) := by decide +kernel
theorem dX0_give_18 : decode cX0_give 18 = .ok (.getfield 40, 3) := by decide +kernel
theorem dX0_give_21 : decode cX0_give 21 = .ok (.iload_n 1, 1) := by decide +kernel
theorem dX0_give_22 : decode cX0_give 22 = .ok (.aload_n 0, 1) := by decide +kernel
theorem dX0_give_23 : decode cX0_give 23 = .ok (.getfield 37, 3) := by decide +kernel
theorem dX0_give_26 : decode cX0_give 26 = .ok (.iload_n 1, 1) := by decide +kernel
theorem dX0_give_27 : decode cX0_give 27 = .ok (.iaload, 1) := by decide +kernel
theorem dX0_give_28 : decode cX0_give 28 = .ok (.iastore, 1) := by decide +kernel
theorem dX0_give_29 : decode cX0_give 29 = .ok (.aload_n 0, 1) := by decide +kernel
theorem dX0_give_30 : decode cX0_give 30 = .ok (.getfield 43, 3) := by decide +kernel
theorem dX0_give_33 : decode cX0_give 33 = .ok (.iload_n 1, 1) := by decide +kernel
theorem dX0_give_34 : decode cX0_give 34 = .ok (.iconst 0, 1) := by decide +kernel
theorem dX0_give_35 : decode cX0_give 35 = .ok (.bastore, 1) := by decide +kernel
theorem dX0_give_36 : decode cX0_give 36 = .ok (.aload_n 0, 1) := by decide +kernel
theorem dX0_give_37 : decode cX0_give 37 = .ok (.getfield 50, 3) := by decide +kernel
theorem dX0_give_40 : decode cX0_give 40 = .ok (.iload_n 1, 1) := by decide +kernel
theorem dX0_give_41 : decode cX0_give 41 = .ok (.iconst (-1), 1) := by decide +kernel
theorem dX0_give_42 : decode cX0_give 42 = .ok (.iastore, 1) := by decide +kernel
theorem dX0_give_43 : decode cX0_give 43 = .ok (.aload_n 0, 1) := by decide +kernel
theorem dX0_give_44 : decode cX0_give 44 = .ok (.getfield 40, 3) := by decide +kernel
theorem dX0_give_47 : decode cX0_give 47 = .ok (.iload_n 1, 1) := by decide +kernel
theorem dX0_give_48 : decode cX0_give 48 = .ok (.iaload, 1) := by decide +kernel
theorem dX0_give_49 : decode cX0_give 49 = .ok (.aload_n 0, 1) := by decide +kernel
theorem dX0_give_50 : decode cX0_give 50 = .ok (.getfield 13, 3) := by decide +kernel
theorem dX0_give_53 : decode cX0_give 53 = .ok (.if_icmp .ge 11, 3) := by decide +kernel
theorem dX0_give_56 : decode cX0_give 56 = .ok (.aload_n 0, 1) := by decide +kernel
theorem dX0_give_57 : decode cX0_give 57 = .ok (.getfield 26, 3) := by decide +kernel
theorem dX0_give_60 : decode cX0_give 60 = .ok (.iload_n 1, 1) := by decide +kernel
theorem dX0_give_61 : decode cX0_give 61 = .ok (.invokevirtual 74, 3) := by decide +kernel
theorem dX0_give_64 : decode cX0_give 64 = .ok (.iinc 1 1, 3) := by decide +kernel
theorem dX0_give_67 : decode cX0_give 67 = .ok (.goto (-58), 3) := by decide +kernel
theorem dX0_give_70 : decode cX0_give 70 = .ok (.iconst 0, 1) := by decide +kernel
theorem dX0_give_71 : decode cX0_give 71 = .ok (.istore_n 1, 1) := by decide +kernel
theorem dX0_give_72 : decode cX0_give 72 = .ok (.iload_n 1, 1) := by decide +kernel
theorem dX0_give_73 : decode cX0_give 73 = .ok (.aload_n 0, 1) := by decide +kernel
theorem dX0_give_74 : decode cX0_give 74 = .ok (.getfield 7, 3) := by decide +kernel
theorem dX0_give_77 : decode cX0_give 77 = .ok (.if_icmp .ge 38, 3) := by decide +kernel
theorem dX0_give_80 : decode cX0_give 80 = .ok (.aload_n 0, 1) := by decide +kernel
theorem dX0_give_81 : decode cX0_give 81 = .ok (.iload_n 1, 1) := by decide +kernel
theorem dX0_give_82 : decode cX0_give 82 = .ok (.aload_n 0, 1) := by decide +kernel
theorem dX0_give_83 : decode cX0_give 83 = .ok (.getfield 26, 3) := by decide +kernel
theorem dX0_give_86 : decode cX0_give 86 = .ok (.invokevirtual 77, 3) := by decide +kernel
theorem dX0_give_89 : decode cX0_give 89 = .ok (.ifCond .eq 10, 3) := by decide +kernel
theorem dX0_give_92 : decode cX0_give 92 = .ok (.aload_n 0, 1) := by decide +kernel
theorem dX0_give_93 : decode cX0_give 93 = .ok (.invokevirtual 81, 3) := by decide +kernel
theorem dX0_give_96 : decode cX0_give 96 = .ok (.goto 10, 3) := by decide +kernel
theorem dX0_give_99 : decode cX0_give 99 = .ok (.aload_n 0, 1) := by decide +kernel
theorem dX0_give_100 : decode cX0_give 100 = .ok (.getfield 26, 3) := by decide +kernel
theorem dX0_give_103 : decode cX0_give 103 = .ok (.invokevirtual 85, 3) := by decide +kernel
theorem dX0_give_106 : decode cX0_give 106 = .ok (.invokevirtual 88, 3) := by decide +kernel
theorem dX0_give_109 : decode cX0_give 109 = .ok (.iinc 1 1, 3) := by decide +kernel
theorem dX0_give_112 : decode cX0_give 112 = .ok (.goto (-40), 3) := by decide +kernel
theorem dX0_give_115 : decode cX0_give 115 = .ok (.iconst 0, 1) := by decide +kernel
theorem dX0_give_116 : decode cX0_give 116 = .ok (.istore_n 1, 1) := by decide +kernel
theorem dX0_give_117 : decode cX0_give 117 = .ok (.aload_n 0, 1) := by decide +kernel
theorem dX0_give_118 : decode cX0_give 118 = .ok (.getfield 7, 3) := by decide +kernel
theorem dX0_give_121 : decode cX0_give 121 = .ok (.iconst 1, 1) := by decide +kernel
theorem dX0_give_122 : decode cX0_give 122 = .ok (.isub, 1) := by decide +kernel
theorem dX0_give_123 : decode cX0_give 123 = .ok (.istore_n 2, 1) := by decide +kernel
theorem dX0_give_124 : decode cX0_give 124 = .ok (.iload_n 2, 1) := by decide +kernel
theorem dX0_give_125 : decode cX0_give 125 = .ok (.ifCond .lt 37, 3) := by decide +kernel
theorem dX0_give_128 : decode cX0_give 128 = .ok (.aload_n 0, 1) := by decide +kernel
theorem dX0_give_129 : decode cX0_give 129 = .ok (.aload_n 0, 1) := by decide +kernel
theorem dX0_give_130 : decode cX0_give 130 = .ok (.getfield 47, 3) := by decide +kernel
theorem dX0_give_133 : decode cX0_give 133 = .ok (.iload_n 2, 1) := by decide +kernel
theorem dX0_give_134 : decode cX0_give 134 = .ok (.iaload, 1) := by decide +kernel
theorem dX0_give_135 : decode cX0_give 135 = .ok (.invokevirtual 91, 3) := by decide +kernel
theorem dX0_give_138 : decode cX0_give 138 = .ok (.aload_n 0, 1) := by decide +kernel
theorem dX0_give_139 : decode cX0_give 139 = .ok (.getfield 50, 3) := by decide +kernel
theorem dX0_give_142 : decode cX0_give 142 = .ok (.aload_n 0, 1) := by decide +kernel
theorem dX0_give_143 : decode cX0_give 143 = .ok (.getfield 47, 3) := by decide +kernel
theorem dX0_give_146 : decode cX0_give 146 = .ok (.iload_n 2, 1) := by decide +kernel
theorem dX0_give_147 : decode cX0_give 147 = .ok (.iaload, 1) := by decide +kernel
theorem dX0_give_148 : decode cX0_give 148 = .ok (.iaload, 1) := by decide +kernel
theorem dX0_give_149 : decode cX0_give 149 = .ok (.iconst (-1), 1) := by decide +kernel
theorem dX0_give_150 : decode cX0_give 150 = .ok (.if_icmp .ne 6, 3) := by decide +kernel
theorem dX0_give_153 : decode cX0_give 153 = .ok (.iinc 1 1, 3) := by decide +kernel
theorem dX0_give_156 : decode cX0_give 156 = .ok (.iinc 2 (-1), 3) := by decide +kernel
theorem dX0_give_159 : decode cX0_give 159 = .ok (.goto (-35), 3) := by decide +kernel
theorem dX0_give_162 : decode cX0_give 162 = .ok (.aload_n 0, 1) := by decide +kernel
theorem dX0_give_163 : decode cX0_give 163 = .ok (.iconst 1, 1) := by decide +kernel
theorem dX0_give_164 : decode cX0_give 164 = .ok (.putfield 56, 3) := by decide +kernel
theorem dX0_give_167 : decode cX0_give 167 = .ok (.iload_n 1, 1) := by decide +kernel
theorem dX0_give_168 : decode cX0_give 168 = .ok (.ireturn, 1) := by decide +kernel
abbrev cX0_cheapest : ByteArray := prog_1_method_8_code
def yX0_cheapest : MethodName := ⟨RX0, "cheapest", "()I"⟩
theorem dX0_cheapest_0 : decode cX0_cheapest 0 = .ok (.iconst (-1), 1) := by decide +kernel
theorem dX0_cheapest_1 : decode cX0_cheapest 1 = .ok (.istore_n 1, 1) := by decide +kernel
theorem dX0_cheapest_2 : decode cX0_cheapest 2 = .ok (.iconst 0, 1) := by decide +kernel
theorem dX0_cheapest_3 : decode cX0_cheapest 3 = .ok (.istore_n 2, 1) := by decide +kernel
theorem dX0_cheapest_4 : decode cX0_cheapest 4 = .ok (.iload_n 2, 1) := by decide +kernel
theorem dX0_cheapest_5 : decode cX0_cheapest 5 = .ok (.aload_n 0, 1) := by decide +kernel
theorem dX0_cheapest_6 : decode cX0_cheapest 6 = .ok (.getfield 7, 3) := by decide +kernel
theorem dX0_cheapest_9 : decode cX0_cheapest 9 = .ok (.if_icmp .ge 62, 3) := by decide +kernel
theorem dX0_cheapest_12 : decode cX0_cheapest 12 = .ok (.aload_n 0, 1) := by decide +kernel
theorem dX0_cheapest_13 : decode cX0_cheapest 13 = .ok (.getfield 43, 3) := by decide +kernel
theorem dX0_cheapest_16 : decode cX0_cheapest 16 = .ok (.iload_n 2, 1) := by decide +kernel
theorem dX0_cheapest_17 : decode cX0_cheapest 17 = .ok (.baload, 1) := by decide +kernel
theorem dX0_cheapest_18 : decode cX0_cheapest 18 = .ok (.ifCond .eq 6, 3) := by decide +kernel
theorem dX0_cheapest_21 : decode cX0_cheapest 21 = .ok (.goto 44, 3) := by decide +kernel
theorem dX0_cheapest_24 : decode cX0_cheapest 24 = .ok (.iload_n 1, 1) := by decide +kernel
theorem dX0_cheapest_25 : decode cX0_cheapest 25 = .ok (.iconst (-1), 1) := by decide +kernel
theorem dX0_cheapest_26 : decode cX0_cheapest 26 = .ok (.if_icmp .eq 37, 3) := by decide +kernel
theorem dX0_cheapest_29 : decode cX0_cheapest 29 = .ok (.aload_n 0, 1) := by decide +kernel
theorem dX0_cheapest_30 : decode cX0_cheapest 30 = .ok (.getfield 30, 3) := by decide +kernel
theorem dX0_cheapest_33 : decode cX0_cheapest 33 = .ok (.iload_n 2, 1) := by decide +kernel
theorem dX0_cheapest_34 : decode cX0_cheapest 34 = .ok (.iaload, 1) := by decide +kernel
theorem dX0_cheapest_35 : decode cX0_cheapest 35 = .ok (.i2l, 1) := by decide +kernel
theorem dX0_cheapest_36 : decode cX0_cheapest 36 = .ok (.aload_n 0, 1) := by decide +kernel
theorem dX0_cheapest_37 : decode cX0_cheapest 37 = .ok (.getfield 40, 3) := by decide +kernel
theorem dX0_cheapest_40 : decode cX0_cheapest 40 = .ok (.iload_n 1, 1) := by decide +kernel
theorem dX0_cheapest_41 : decode cX0_cheapest 41 = .ok (.iaload, 1) := by decide +kernel
theorem dX0_cheapest_42 : decode cX0_cheapest 42 = .ok (.i2l, 1) := by decide +kernel
theorem dX0_cheapest_43 : decode cX0_cheapest 43 = .ok (.lmul, 1) := by decide +kernel
theorem dX0_cheapest_44 : decode cX0_cheapest 44 = .ok (.aload_n 0, 1) := by decide +kernel
theorem dX0_cheapest_45 : decode cX0_cheapest 45 = .ok (.getfield 30, 3) := by decide +kernel
theorem dX0_cheapest_48 : decode cX0_cheapest 48 = .ok (.iload_n 1, 1) := by decide +kernel
theorem dX0_cheapest_49 : decode cX0_cheapest 49 = .ok (.iaload, 1) := by decide +kernel
theorem dX0_cheapest_50 : decode cX0_cheapest 50 = .ok (.i2l, 1) := by decide +kernel
theorem dX0_cheapest_51 : decode cX0_cheapest 51 = .ok (.aload_n 0, 1) := by decide +kernel
theorem dX0_cheapest_52 : decode cX0_cheapest 52 = .ok (.getfield 40, 3) := by decide +kernel
theorem dX0_cheapest_55 : decode cX0_cheapest 55 = .ok (.iload_n 2, 1) := by decide +kernel
theorem dX0_cheapest_56 : decode cX0_cheapest 56 = .ok (.iaload, 1) := by decide +kernel
theorem dX0_cheapest_57 : decode cX0_cheapest 57 = .ok (.i2l, 1) := by decide +kernel
theorem dX0_cheapest_58 : decode cX0_cheapest 58 = .ok (.lmul, 1) := by decide +kernel
theorem dX0_cheapest_59 : decode cX0_cheapest 59 = .ok (.lcmp, 1) := by decide +kernel
theorem dX0_cheapest_60 : decode cX0_cheapest 60 = .ok (.ifCond .ge 5, 3) := by decide +kernel
theorem dX0_cheapest_63 : decode cX0_cheapest 63 = .ok (.iload_n 2, 1) := by decide +kernel
theorem dX0_cheapest_64 : decode cX0_cheapest 64 = .ok (.istore_n 1, 1) := by decide +kernel
theorem dX0_cheapest_65 : decode cX0_cheapest 65 = .ok (.iinc 2 1, 3) := by decide +kernel
theorem dX0_cheapest_68 : decode cX0_cheapest 68 = .ok (.goto (-64), 3) := by decide +kernel
theorem dX0_cheapest_71 : decode cX0_cheapest 71 = .ok (.iload_n 1, 1) := by decide +kernel
theorem dX0_cheapest_72 : decode cX0_cheapest 72 = .ok (.ireturn, 1) := by decide +kernel
abbrev cX0_takeOut : ByteArray := prog_1_method_9_code
def yX0_takeOut : MethodName := ⟨RX0, "takeOut", "(II)V"⟩
theorem dX0_takeOut_0 : decode cX0_takeOut 0 = .ok (.aload_n 0, 1) := by decide +kernel
theorem dX0_takeOut_1 : decode cX0_takeOut 1 = .ok (.getfield 47, 3) := by decide +kernel
theorem dX0_takeOut_4 : decode cX0_takeOut 4 = .ok (.iload_n 1, 1) := by decide +kernel
theorem dX0_takeOut_5 : decode cX0_takeOut 5 = .ok (.iload_n 2, 1) := by decide +kernel
theorem dX0_takeOut_6 : decode cX0_takeOut 6 = .ok (.iastore, 1) := by decide +kernel
theorem dX0_takeOut_7 : decode cX0_takeOut 7 = .ok (.aload_n 0, 1) := by decide +kernel
theorem dX0_takeOut_8 : decode cX0_takeOut 8 = .ok (.getfield 43, 3) := by decide +kernel
theorem dX0_takeOut_11 : decode cX0_takeOut 11 = .ok (.iload_n 2, 1) := by decide +kernel
theorem dX0_takeOut_12 : decode cX0_takeOut 12 = .ok (.iconst 1, 1) := by decide +kernel
theorem dX0_takeOut_13 : decode cX0_takeOut 13 = .ok (.bastore, 1) := by decide +kernel
theorem dX0_takeOut_14 : decode cX0_takeOut 14 = .ok (.aload_n 0, 1) := by decide +kernel
theorem dX0_takeOut_15 : decode cX0_takeOut 15 = .ok (.getfield 19, 3) := by decide +kernel
theorem dX0_takeOut_18 : decode cX0_takeOut 18 = .ok (.iload_n 2, 1) := by decide +kernel
theorem dX0_takeOut_19 : decode cX0_takeOut 19 = .ok (.iconst (-1), 1) := by decide +kernel
theorem dX0_takeOut_20 : decode cX0_takeOut 20 = .ok (.invokevirtual 94, 3) := by decide +kernel
theorem dX0_takeOut_23 : decode cX0_takeOut 23 = .ok (.istore_n 3, 1) := by decide +kernel
theorem dX0_takeOut_24 : decode cX0_takeOut 24 = .ok (.iload_n 3, 1) := by decide +kernel
theorem dX0_takeOut_25 : decode cX0_takeOut 25 = .ok (.iconst (-1), 1) := by decide +kernel
theorem dX0_takeOut_26 : decode cX0_takeOut 26 = .ok (.if_icmp .eq 61, 3) := by decide +kernel
theorem dX0_takeOut_29 : decode cX0_takeOut 29 = .ok (.aload_n 0, 1) := by decide +kernel
theorem dX0_takeOut_30 : decode cX0_takeOut 30 = .ok (.getfield 43, 3) := by decide +kernel
theorem dX0_takeOut_33 : decode cX0_takeOut 33 = .ok (.iload_n 3, 1) := by decide +kernel
theorem dX0_takeOut_34 : decode cX0_takeOut 34 = .ok (.baload, 1) := by decide +kernel
theorem dX0_takeOut_35 : decode cX0_takeOut 35 = .ok (.ifCond .eq 6, 3) := by decide +kernel
theorem dX0_takeOut_38 : decode cX0_takeOut 38 = .ok (.goto 36, 3) := by decide +kernel
theorem dX0_takeOut_41 : decode cX0_takeOut 41 = .ok (.aload_n 0, 1) := by decide +kernel
theorem dX0_takeOut_42 : decode cX0_takeOut 42 = .ok (.getfield 40, 3) := by decide +kernel
theorem dX0_takeOut_45 : decode cX0_takeOut 45 = .ok (.iload_n 3, 1) := by decide +kernel
theorem dX0_takeOut_46 : decode cX0_takeOut 46 = .ok (.dup2, 1) := by decide +kernel
theorem dX0_takeOut_47 : decode cX0_takeOut 47 = .ok (.iaload, 1) := by decide +kernel
theorem dX0_takeOut_48 : decode cX0_takeOut 48 = .ok (.iconst 1, 1) := by decide +kernel
theorem dX0_takeOut_49 : decode cX0_takeOut 49 = .ok (.isub, 1) := by decide +kernel
theorem dX0_takeOut_50 : decode cX0_takeOut 50 = .ok (.iastore, 1) := by decide +kernel
theorem dX0_takeOut_51 : decode cX0_takeOut 51 = .ok (.aload_n 0, 1) := by decide +kernel
theorem dX0_takeOut_52 : decode cX0_takeOut 52 = .ok (.getfield 40, 3) := by decide +kernel
theorem dX0_takeOut_55 : decode cX0_takeOut 55 = .ok (.iload_n 3, 1) := by decide +kernel
theorem dX0_takeOut_56 : decode cX0_takeOut 56 = .ok (.iaload, 1) := by decide +kernel
theorem dX0_takeOut_57 : decode cX0_takeOut 57 = .ok (.aload_n 0, 1) := by decide +kernel
theorem dX0_takeOut_58 : decode cX0_takeOut 58 = .ok (.getfield 13, 3) := by decide +kernel
theorem dX0_takeOut_61 : decode cX0_takeOut 61 = .ok (.iconst 1, 1) := by decide +kernel
theorem dX0_takeOut_62 : decode cX0_takeOut 62 = .ok (.isub, 1) := by decide +kernel
theorem dX0_takeOut_63 : decode cX0_takeOut 63 = .ok (.if_icmp .ne 11, 3) := by decide +kernel
theorem dX0_takeOut_66 : decode cX0_takeOut 66 = .ok (.aload_n 0, 1) := by decide +kernel
theorem dX0_takeOut_67 : decode cX0_takeOut 67 = .ok (.getfield 26, 3) := by decide +kernel
theorem dX0_takeOut_70 : decode cX0_takeOut 70 = .ok (.iload_n 3, 1) := by decide +kernel
theorem dX0_takeOut_71 : decode cX0_takeOut 71 = .ok (.invokevirtual 74, 3) := by decide +kernel
theorem dX0_takeOut_74 : decode cX0_takeOut 74 = .ok (.aload_n 0, 1) := by decide +kernel
theorem dX0_takeOut_75 : decode cX0_takeOut 75 = .ok (.getfield 19, 3) := by decide +kernel
theorem dX0_takeOut_78 : decode cX0_takeOut 78 = .ok (.iload_n 2, 1) := by decide +kernel
theorem dX0_takeOut_79 : decode cX0_takeOut 79 = .ok (.iload_n 3, 1) := by decide +kernel
theorem dX0_takeOut_80 : decode cX0_takeOut 80 = .ok (.invokevirtual 94, 3) := by decide +kernel
theorem dX0_takeOut_83 : decode cX0_takeOut 83 = .ok (.istore_n 3, 1) := by decide +kernel
theorem dX0_takeOut_84 : decode cX0_takeOut 84 = .ok (.goto (-60), 3) := by decide +kernel
theorem dX0_takeOut_87 : decode cX0_takeOut 87 = .ok (.return_, 1) := by decide +kernel
abbrev cX0_paint : ByteArray := prog_1_method_10_code
def yX0_paint : MethodName := ⟨RX0, "paint", "(I)V"⟩
theorem dX0_paint_0 : decode cX0_paint 0 = .ok (.iconst 0, 1) := by decide +kernel
theorem dX0_paint_1 : decode cX0_paint 1 = .ok (.istore_n 2, 1) := by decide +kernel
theorem dX0_paint_2 : decode cX0_paint 2 = .ok (.aload_n 0, 1) := by decide +kernel
theorem dX0_paint_3 : decode cX0_paint 3 = .ok (.getfield 19, 3) := by decide +kernel
theorem dX0_paint_6 : decode cX0_paint 6 = .ok (.iload_n 1, 1) := by decide +kernel
theorem dX0_paint_7 : decode cX0_paint 7 = .ok (.iconst (-1), 1) := by decide +kernel
theorem dX0_paint_8 : decode cX0_paint 8 = .ok (.invokevirtual 94, 3) := by decide +kernel
theorem dX0_paint_11 : decode cX0_paint 11 = .ok (.istore_n 3, 1) := by decide +kernel
theorem dX0_paint_12 : decode cX0_paint 12 = .ok (.iload_n 3, 1) := by decide +kernel
theorem dX0_paint_13 : decode cX0_paint 13 = .ok (.iconst (-1), 1) := by decide +kernel
theorem dX0_paint_14 : decode cX0_paint 14 = .ok (.if_icmp .eq 37, 3) := by decide +kernel
theorem dX0_paint_17 : decode cX0_paint 17 = .ok (.aload_n 0, 1) := by decide +kernel
theorem dX0_paint_18 : decode cX0_paint 18 = .ok (.getfield 50, 3) := by decide +kernel
theorem dX0_paint_21 : decode cX0_paint 21 = .ok (.iload_n 3, 1) := by decide +kernel
theorem dX0_paint_22 : decode cX0_paint 22 = .ok (.iaload, 1) := by decide +kernel
theorem dX0_paint_23 : decode cX0_paint 23 = .ok (.iconst (-1), 1) := by decide +kernel
theorem dX0_paint_24 : decode cX0_paint 24 = .ok (.if_icmp .eq 14, 3) := by decide +kernel
theorem dX0_paint_27 : decode cX0_paint 27 = .ok (.iload_n 2, 1) := by decide +kernel
theorem dX0_paint_28 : decode cX0_paint 28 = .ok (.iconst 1, 1) := by decide +kernel
theorem dX0_paint_29 : decode cX0_paint 29 = .ok (.aload_n 0, 1) := by decide +kernel
theorem dX0_paint_30 : decode cX0_paint 30 = .ok (.getfield 50, 3) := by decide +kernel
theorem dX0_paint_33 : decode cX0_paint 33 = .ok (.iload_n 3, 1) := by decide +kernel
theorem dX0_paint_34 : decode cX0_paint 34 = .ok (.iaload, 1) := by decide +kernel
theorem dX0_paint_35 : decode cX0_paint 35 = .ok (.ishl, 1) := by decide +kernel
theorem dX0_paint_36 : decode cX0_paint 36 = .ok (.ior, 1) := by decide +kernel
theorem dX0_paint_37 : decode cX0_paint 37 = .ok (.istore_n 2, 1) := by decide +kernel
theorem dX0_paint_38 : decode cX0_paint 38 = .ok (.aload_n 0, 1) := by decide +kernel
theorem dX0_paint_39 : decode cX0_paint 39 = .ok (.getfield 19, 3) := by decide +kernel
theorem dX0_paint_42 : decode cX0_paint 42 = .ok (.iload_n 1, 1) := by decide +kernel
theorem dX0_paint_43 : decode cX0_paint 43 = .ok (.iload_n 3, 1) := by decide +kernel
theorem dX0_paint_44 : decode cX0_paint 44 = .ok (.invokevirtual 94, 3) := by decide +kernel
theorem dX0_paint_47 : decode cX0_paint 47 = .ok (.istore_n 3, 1) := by decide +kernel
theorem dX0_paint_48 : decode cX0_paint 48 = .ok (.goto (-36), 3) := by decide +kernel
theorem dX0_paint_51 : decode cX0_paint 51 = .ok (.aload_n 0, 1) := by decide +kernel
theorem dX0_paint_52 : decode cX0_paint 52 = .ok (.getfield 50, 3) := by decide +kernel
theorem dX0_paint_55 : decode cX0_paint 55 = .ok (.aload_n 0, 1) := by decide +kernel
theorem dX0_paint_56 : decode cX0_paint 56 = .ok (.getfield 34, 3) := by decide +kernel
theorem dX0_paint_59 : decode cX0_paint 59 = .ok (.iload_n 1, 1) := by decide +kernel
theorem dX0_paint_60 : decode cX0_paint 60 = .ok (.iaload, 1) := by decide +kernel
theorem dX0_paint_61 : decode cX0_paint 61 = .ok (.iaload, 1) := by decide +kernel
theorem dX0_paint_62 : decode cX0_paint 62 = .ok (.istore_n 3, 1) := by decide +kernel
theorem dX0_paint_63 : decode cX0_paint 63 = .ok (.iload_n 3, 1) := by decide +kernel
theorem dX0_paint_64 : decode cX0_paint 64 = .ok (.iconst (-1), 1) := by decide +kernel
theorem dX0_paint_65 : decode cX0_paint 65 = .ok (.if_icmp .eq 19, 3) := by decide +kernel
theorem dX0_paint_68 : decode cX0_paint 68 = .ok (.iload_n 2, 1) := by decide +kernel
theorem dX0_paint_69 : decode cX0_paint 69 = .ok (.iload_n 3, 1) := by decide +kernel
theorem dX0_paint_70 : decode cX0_paint 70 = .ok (.ishr, 1) := by decide +kernel
theorem dX0_paint_71 : decode cX0_paint 71 = .ok (.iconst 1, 1) := by decide +kernel
theorem dX0_paint_72 : decode cX0_paint 72 = .ok (.iand, 1) := by decide +kernel
theorem dX0_paint_73 : decode cX0_paint 73 = .ok (.ifCond .ne 11, 3) := by decide +kernel
theorem dX0_paint_76 : decode cX0_paint 76 = .ok (.aload_n 0, 1) := by decide +kernel
theorem dX0_paint_77 : decode cX0_paint 77 = .ok (.getfield 50, 3) := by decide +kernel
theorem dX0_paint_80 : decode cX0_paint 80 = .ok (.iload_n 1, 1) := by decide +kernel
theorem dX0_paint_81 : decode cX0_paint 81 = .ok (.iload_n 3, 1) := by decide +kernel
theorem dX0_paint_82 : decode cX0_paint 82 = .ok (.iastore, 1) := by decide +kernel
theorem dX0_paint_83 : decode cX0_paint 83 = .ok (.return_, 1) := by decide +kernel
theorem dX0_paint_84 : decode cX0_paint 84 = .ok (.iconst 0, 1) := by decide +kernel
theorem dX0_paint_85 : decode cX0_paint 85 = .ok (.istore 4, 2) := by decide +kernel
theorem dX0_paint_87 : decode cX0_paint 87 = .ok (.iload 4, 2) := by decide +kernel
theorem dX0_paint_89 : decode cX0_paint 89 = .ok (.aload_n 0, 1) := by decide +kernel
theorem dX0_paint_90 : decode cX0_paint 90 = .ok (.getfield 13, 3) := by decide +kernel
theorem dX0_paint_93 : decode cX0_paint 93 = .ok (.if_icmp .ge 19, 3) := by decide +kernel
theorem dX0_paint_96 : decode cX0_paint 96 = .ok (.iload_n 2, 1) := by decide +kernel
theorem dX0_paint_97 : decode cX0_paint 97 = .ok (.iload 4, 2) := by decide +kernel
theorem dX0_paint_99 : decode cX0_paint 99 = .ok (.ishr, 1) := by decide +kernel
theorem dX0_paint_100 : decode cX0_paint 100 = .ok (.iconst 1, 1) := by decide +kernel
theorem dX0_paint_101 : decode cX0_paint 101 = .ok (.iand, 1) := by decide +kernel
theorem dX0_paint_102 : decode cX0_paint 102 = .ok (.iconst 1, 1) := by decide +kernel
theorem dX0_paint_103 : decode cX0_paint 103 = .ok (.if_icmp .ne 9, 3) := by decide +kernel
theorem dX0_paint_106 : decode cX0_paint 106 = .ok (.iinc 4 1, 3) := by decide +kernel
theorem dX0_paint_109 : decode cX0_paint 109 = .ok (.goto (-22), 3) := by decide +kernel
theorem dX0_paint_112 : decode cX0_paint 112 = .ok (.aload_n 0, 1) := by decide +kernel
theorem dX0_paint_113 : decode cX0_paint 113 = .ok (.getfield 50, 3) := by decide +kernel
theorem dX0_paint_116 : decode cX0_paint 116 = .ok (.iload_n 1, 1) := by decide +kernel
theorem dX0_paint_117 : decode cX0_paint 117 = .ok (.iload 4, 2) := by decide +kernel
theorem dX0_paint_119 : decode cX0_paint 119 = .ok (.aload_n 0, 1) := by decide +kernel
theorem dX0_paint_120 : decode cX0_paint 120 = .ok (.getfield 13, 3) := by decide +kernel
theorem dX0_paint_123 : decode cX0_paint 123 = .ok (.if_icmp .ge 8, 3) := by decide +kernel
theorem dX0_paint_126 : decode cX0_paint 126 = .ok (.iload 4, 2) := by decide +kernel
theorem dX0_paint_128 : decode cX0_paint 128 = .ok (.goto 4, 3) := by decide +kernel
theorem dX0_paint_131 : decode cX0_paint 131 = .ok (.iconst (-1), 1) := by decide +kernel
theorem dX0_paint_132 : decode cX0_paint 132 = .ok (.iastore, 1) := by decide +kernel
theorem dX0_paint_133 : decode cX0_paint 133 = .ok (.return_, 1) := by decide +kernel
abbrev cX0_colour : ByteArray := prog_1_method_11_code
def yX0_colour : MethodName := ⟨RX0, "colour", "(I)I"⟩
theorem dX0_colour_0 : decode cX0_colour 0 = .ok (.aload_n 0, 1) := by decide +kernel
theorem dX0_colour_1 : decode cX0_colour 1 = .ok (.getfield 56, 3) := by decide +kernel
theorem dX0_colour_4 : decode cX0_colour 4 = .ok (.ifCond .eq 20, 3) := by decide +kernel
theorem dX0_colour_7 : decode cX0_colour 7 = .ok (.aload_n 0, 1) := by decide +kernel
theorem dX0_colour_8 : decode cX0_colour 8 = .ok (.iload_n 1, 1) := by decide +kernel
theorem dX0_colour_9 : decode cX0_colour 9 = .ok (.invokevirtual 60, 3) := by decide +kernel
theorem dX0_colour_12 : decode cX0_colour 12 = .ok (.ifCond .eq 12, 3) := by decide +kernel
theorem dX0_colour_15 : decode cX0_colour 15 = .ok (.aload_n 0, 1) := by decide +kernel
theorem dX0_colour_16 : decode cX0_colour 16 = .ok (.getfield 50, 3) := by decide +kernel
theorem dX0_colour_19 : decode cX0_colour 19 = .ok (.iload_n 1, 1) := by decide +kernel
theorem dX0_colour_20 : decode cX0_colour 20 = .ok (.iaload, 1) := by decide +kernel
theorem dX0_colour_21 : decode cX0_colour 21 = .ok (.goto 4, 3) := by decide +kernel
theorem dX0_colour_24 : decode cX0_colour 24 = .ok (.iconst (-1), 1) := by decide +kernel
theorem dX0_colour_25 : decode cX0_colour 25 = .ok (.ireturn, 1) := by decide +kernel
abbrev cX0_taken : ByteArray := prog_1_method_12_code
def yX0_taken : MethodName := ⟨RX0, "taken", "(I)I"⟩
theorem dX0_taken_0 : decode cX0_taken 0 = .ok (.aload_n 0, 1) := by decide +kernel
theorem dX0_taken_1 : decode cX0_taken 1 = .ok (.getfield 56, 3) := by decide +kernel
theorem dX0_taken_4 : decode cX0_taken 4 = .ok (.ifCond .eq 20, 3) := by decide +kernel
theorem dX0_taken_7 : decode cX0_taken 7 = .ok (.aload_n 0, 1) := by decide +kernel
theorem dX0_taken_8 : decode cX0_taken 8 = .ok (.iload_n 1, 1) := by decide +kernel
theorem dX0_taken_9 : decode cX0_taken 9 = .ok (.invokevirtual 60, 3) := by decide +kernel
theorem dX0_taken_12 : decode cX0_taken 12 = .ok (.ifCond .eq 12, 3) := by decide +kernel
theorem dX0_taken_15 : decode cX0_taken 15 = .ok (.aload_n 0, 1) := by decide +kernel
theorem dX0_taken_16 : decode cX0_taken 16 = .ok (.getfield 47, 3) := by decide +kernel
theorem dX0_taken_19 : decode cX0_taken 19 = .ok (.iload_n 1, 1) := by decide +kernel
theorem dX0_taken_20 : decode cX0_taken 20 = .ok (.iaload, 1) := by decide +kernel
theorem dX0_taken_21 : decode cX0_taken 21 = .ok (.goto 4, 3) := by decide +kernel
theorem dX0_taken_24 : decode cX0_taken 24 = .ok (.iconst (-1), 1) := by decide +kernel
theorem dX0_taken_25 : decode cX0_taken 25 = .ok (.ireturn, 1) := by decide +kernel
abbrev cX0_joined : ByteArray := prog_1_method_13_code
def yX0_joined : MethodName := ⟨RX0, "joined", "(II)Z"⟩
theorem dX0_joined_0 : decode cX0_joined 0 = .ok (.aload_n 0, 1) := by decide +kernel
theorem dX0_joined_1 : decode cX0_joined 1 = .ok (.iload_n 1, 1) := by decide +kernel
theorem dX0_joined_2 : decode cX0_joined 2 = .ok (.invokevirtual 60, 3) := by decide +kernel
theorem dX0_joined_5 : decode cX0_joined 5 = .ok (.ifCond .eq 27, 3) := by decide +kernel
theorem dX0_joined_8 : decode cX0_joined 8 = .ok (.aload_n 0, 1) := by decide +kernel
theorem dX0_joined_9 : decode cX0_joined 9 = .ok (.iload_n 2, 1) := by decide +kernel
theorem dX0_joined_10 : decode cX0_joined 10 = .ok (.invokevirtual 60, 3) := by decide +kernel
theorem dX0_joined_13 : decode cX0_joined 13 = .ok (.ifCond .eq 19, 3) := by decide +kernel
theorem dX0_joined_16 : decode cX0_joined 16 = .ok (.aload_n 0, 1) := by decide +kernel
theorem dX0_joined_17 : decode cX0_joined 17 = .ok (.getfield 19, 3) := by decide +kernel
theorem dX0_joined_20 : decode cX0_joined 20 = .ok (.iload_n 1, 1) := by decide +kernel
theorem dX0_joined_21 : decode cX0_joined 21 = .ok (.iload_n 2, 1) := by decide +kernel
theorem dX0_joined_22 : decode cX0_joined 22 = .ok (.invokevirtual 64, 3) := by decide +kernel
theorem dX0_joined_25 : decode cX0_joined 25 = .ok (.ifCond .eq 7, 3) := by decide +kernel
theorem dX0_joined_28 : decode cX0_joined 28 = .ok (.iconst 1, 1) := by decide +kernel
theorem dX0_joined_29 : decode cX0_joined 29 = .ok (.goto 4, 3) := by decide +kernel
theorem dX0_joined_32 : decode cX0_joined 32 = .ok (.iconst 0, 1) := by decide +kernel
theorem dX0_joined_33 : decode cX0_joined 33 = .ok (.ireturn, 1) := by decide +kernel
abbrev cX0_degree : ByteArray := prog_1_method_14_code
def yX0_degree : MethodName := ⟨RX0, "degree", "(I)I"⟩
theorem dX0_degree_0 : decode cX0_degree 0 = .ok (.aload_n 0, 1) := by decide +kernel
theorem dX0_degree_1 : decode cX0_degree 1 = .ok (.iload_n 1, 1) := by decide +kernel
theorem dX0_degree_2 : decode cX0_degree 2 = .ok (.invokevirtual 60, 3) := by decide +kernel
theorem dX0_degree_5 : decode cX0_degree 5 = .ok (.ifCond .eq 12, 3) := by decide +kernel
theorem dX0_degree_8 : decode cX0_degree 8 = .ok (.aload_n 0, 1) := by decide +kernel
theorem dX0_degree_9 : decode cX0_degree 9 = .ok (.getfield 37, 3) := by decide +kernel
theorem dX0_degree_12 : decode cX0_degree 12 = .ok (.iload_n 1, 1) := by decide +kernel
theorem dX0_degree_13 : decode cX0_degree 13 = .ok (.iaload, 1) := by decide +kernel
theorem dX0_degree_14 : decode cX0_degree 14 = .ok (.goto 4, 3) := by decide +kernel
theorem dX0_degree_17 : decode cX0_degree 17 = .ok (.iconst (-1), 1) := by decide +kernel
theorem dX0_degree_18 : decode cX0_degree 18 = .ok (.ireturn, 1) := by decide +kernel
abbrev cX0_strays : ByteArray := prog_1_method_15_code
def yX0_strays : MethodName := ⟨RX0, "strays", "()I"⟩
theorem dX0_strays_0 : decode cX0_strays 0 = .ok (.iconst 0, 1) := by decide +kernel
theorem dX0_strays_1 : decode cX0_strays 1 = .ok (.ireturn, 1) := by decide +kernel
theorem q10 : (Jvm.Cond.initialized "PointColours") ∈ lw_all := lw_g (lw_at lw_m1 1 rfl) rfl
theorem q15 : (Jvm.Cond.instantiable "PointColours" (12 : Nat)) ∈ lw_all := lw_g (lw_at lw_m1 6 rfl) rfl
theorem q17 : (Jvm.Cond.instanceMethod ({ cls := "PointColours", name := "<init>", desc := "()V" } : Jvm.MethodName)) ∈ lw_all := lw_g (lw_at lw_m1 8 rfl) rfl
theorem q18 : (Jvm.Cond.code ({ cls := "PointColours", name := "<init>", desc := "()V" } : Jvm.MethodName) prog_1_method_1_code (1 : Nat) (Option.none : Option Jvm.ClassFile.FieldType)) ∈ lw_all := lw_g (lw_at lw_m1 9 rfl) rfl
theorem q19 : (Jvm.Cond.methodLink "PointColours" (1 : Nat) ({ cls := "java/lang/Object", name := "<init>", desc := "()V" } : Jvm.MethodName)) ∈ lw_all := lw_g (lw_at lw_m1 10 rfl) rfl
theorem q22 : (Jvm.Cond.classLink "PointColours" (16 : Nat) "PointColours$Edges") ∈ lw_all := lw_g (lw_at lw_m1 13 rfl) rfl
theorem q24 : (Jvm.Cond.methodLinkNest "PointColours" (18 : Nat) ({ cls := "PointColours$Edges", name := "<init>", desc := "()V" } : Jvm.MethodName) "PointColours") ∈ lw_tbl := lw_at lw_m1 15 rfl
theorem q33 : (Jvm.Cond.classLink "PointColours" (23 : Nat) "PointColours$Heap") ∈ lw_all := lw_g (lw_at lw_m1 24 rfl) rfl
theorem q35 : (Jvm.Cond.methodLinkNest "PointColours" (25 : Nat) ({ cls := "PointColours$Heap", name := "<init>", desc := "()V" } : Jvm.MethodName) "PointColours") ∈ lw_tbl := lw_at lw_m1 26 rfl
theorem q46 : (Jvm.Cond.fieldLink "PointColours" (7 : Nat) "PointColours" "points" "I") ∈ lw_all := lw_g (lw_at lw_m1 37 rfl) rfl
theorem q47 : (Jvm.Cond.fieldLink "PointColours" (13 : Nat) "PointColours" "colours" "I") ∈ lw_all := lw_g (lw_at lw_m1 38 rfl) rfl
theorem q48 : (Jvm.Cond.fieldLink "PointColours" (19 : Nat) "PointColours" "edges" "LPointColours$Edges;") ∈ lw_all := lw_g (lw_at lw_m1 39 rfl) rfl
theorem q49 : (Jvm.Cond.fieldLink "PointColours" (26 : Nat) "PointColours" "few" "LPointColours$Heap;") ∈ lw_all := lw_g (lw_at lw_m1 40 rfl) rfl
theorem q50 : (Jvm.Cond.fieldLink "PointColours" (30 : Nat) "PointColours" "cost" "[I") ∈ lw_all := lw_g (lw_at lw_m1 41 rfl) rfl
theorem q51 : (Jvm.Cond.fieldLink "PointColours" (34 : Nat) "PointColours" "wish" "[I") ∈ lw_all := lw_g (lw_at lw_m1 42 rfl) rfl
theorem q52 : (Jvm.Cond.fieldLink "PointColours" (37 : Nat) "PointColours" "degree" "[I") ∈ lw_all := lw_g (lw_at lw_m1 43 rfl) rfl
theorem q53 : (Jvm.Cond.fieldLink "PointColours" (40 : Nat) "PointColours" "left" "[I") ∈ lw_all := lw_g (lw_at lw_m1 44 rfl) rfl
theorem q54 : (Jvm.Cond.fieldLink "PointColours" (43 : Nat) "PointColours" "isOut" "[Z") ∈ lw_all := lw_g (lw_at lw_m1 45 rfl) rfl
theorem q55 : (Jvm.Cond.fieldLink "PointColours" (47 : Nat) "PointColours" "order" "[I") ∈ lw_all := lw_g (lw_at lw_m1 46 rfl) rfl
theorem q56 : (Jvm.Cond.fieldLink "PointColours" (50 : Nat) "PointColours" "colour" "[I") ∈ lw_all := lw_g (lw_at lw_m1 47 rfl) rfl
theorem q57 : (Jvm.Cond.fieldLink "PointColours" (56 : Nat) "PointColours" "isGiven" "Z") ∈ lw_all := lw_g (lw_at lw_m1 48 rfl) rfl
theorem q58 : (Jvm.Cond.lays "PointColours" "PointColours" "points" "I") ∈ lw_all := lw_g (lw_at lw_m1 49 rfl) rfl
theorem q59 : (Jvm.Cond.soleField "PointColours" "points") ∈ lw_all := lw_g (lw_at lw_m1 50 rfl) rfl
theorem q60 : (Jvm.Cond.lays "PointColours" "PointColours" "colours" "I") ∈ lw_all := lw_g (lw_at lw_m1 51 rfl) rfl
theorem q61 : (Jvm.Cond.soleField "PointColours" "colours") ∈ lw_all := lw_g (lw_at lw_m1 52 rfl) rfl
theorem q62 : (Jvm.Cond.laysFinal "PointColours" "PointColours" "edges" "LPointColours$Edges;") ∈ lw_all := lw_g (lw_at lw_m1 53 rfl) rfl
theorem q63 : (Jvm.Cond.soleField "PointColours" "edges") ∈ lw_all := lw_g (lw_at lw_m1 54 rfl) rfl
theorem q64 : (Jvm.Cond.laysFinal "PointColours" "PointColours" "few" "LPointColours$Heap;") ∈ lw_all := lw_g (lw_at lw_m1 55 rfl) rfl
theorem q65 : (Jvm.Cond.soleField "PointColours" "few") ∈ lw_all := lw_g (lw_at lw_m1 56 rfl) rfl
theorem q66 : (Jvm.Cond.laysFinal "PointColours" "PointColours" "cost" "[I") ∈ lw_all := lw_g (lw_at lw_m1 57 rfl) rfl
theorem q67 : (Jvm.Cond.soleField "PointColours" "cost") ∈ lw_all := lw_g (lw_at lw_m1 58 rfl) rfl
theorem q68 : (Jvm.Cond.laysFinal "PointColours" "PointColours" "wish" "[I") ∈ lw_all := lw_g (lw_at lw_m1 59 rfl) rfl
theorem q69 : (Jvm.Cond.soleField "PointColours" "wish") ∈ lw_all := lw_g (lw_at lw_m1 60 rfl) rfl
theorem q70 : (Jvm.Cond.laysFinal "PointColours" "PointColours" "degree" "[I") ∈ lw_all := lw_g (lw_at lw_m1 61 rfl) rfl
theorem q71 : (Jvm.Cond.soleField "PointColours" "degree") ∈ lw_all := lw_g (lw_at lw_m1 62 rfl) rfl
theorem q72 : (Jvm.Cond.laysFinal "PointColours" "PointColours" "left" "[I") ∈ lw_all := lw_g (lw_at lw_m1 63 rfl) rfl
theorem q73 : (Jvm.Cond.soleField "PointColours" "left") ∈ lw_all := lw_g (lw_at lw_m1 64 rfl) rfl
theorem q74 : (Jvm.Cond.laysFinal "PointColours" "PointColours" "isOut" "[Z") ∈ lw_all := lw_g (lw_at lw_m1 65 rfl) rfl
theorem q75 : (Jvm.Cond.soleField "PointColours" "isOut") ∈ lw_all := lw_g (lw_at lw_m1 66 rfl) rfl
theorem q76 : (Jvm.Cond.laysFinal "PointColours" "PointColours" "order" "[I") ∈ lw_all := lw_g (lw_at lw_m1 67 rfl) rfl
theorem q77 : (Jvm.Cond.soleField "PointColours" "order") ∈ lw_all := lw_g (lw_at lw_m1 68 rfl) rfl
theorem q78 : (Jvm.Cond.laysFinal "PointColours" "PointColours" "colour" "[I") ∈ lw_all := lw_g (lw_at lw_m1 69 rfl) rfl
theorem q79 : (Jvm.Cond.soleField "PointColours" "colour") ∈ lw_all := lw_g (lw_at lw_m1 70 rfl) rfl
theorem q80 : (Jvm.Cond.lays "PointColours" "PointColours" "isGiven" "Z") ∈ lw_all := lw_g (lw_at lw_m1 71 rfl) rfl
theorem q81 : (Jvm.Cond.soleField "PointColours" "isGiven") ∈ lw_all := lw_g (lw_at lw_m1 72 rfl) rfl
theorem q82 : (Jvm.Cond.superclass "PointColours" "java/lang/Object") ∈ lw_all := lw_g (lw_at lw_m1 73 rfl) rfl
theorem q85 : (Jvm.Cond.instanceMethod ({ cls := "PointColours", name := "begin", desc := "(II)Z" } : Jvm.MethodName)) ∈ lw_all := lw_g (lw_at lw_m1 76 rfl) rfl
theorem q86 : (Jvm.Cond.selects "PointColours" ({ cls := "PointColours", name := "begin", desc := "(II)Z" } : Jvm.MethodName) ({ cls := "PointColours", name := "begin", desc := "(II)Z" } : Jvm.MethodName)) ∈ lw_all := lw_g (lw_at lw_m1 77 rfl) rfl
theorem q87 : (Jvm.Cond.code ({ cls := "PointColours", name := "begin", desc := "(II)Z" } : Jvm.MethodName) prog_1_method_2_code (4 : Nat) (Option.some Jvm.ClassFile.FieldType.boolean)) ∈ lw_all := lw_g (lw_at lw_m1 78 rfl) rfl
theorem q88 : (Jvm.Cond.methodLink "PointColours" (53 : Nat) ({ cls := "PointColours$Edges", name := "clear", desc := "()V" } : Jvm.MethodName)) ∈ lw_all := lw_g (lw_at lw_m1 79 rfl) rfl
theorem q93 : (Jvm.Cond.instanceMethod ({ cls := "PointColours", name := "join", desc := "(II)Z" } : Jvm.MethodName)) ∈ lw_all := lw_g (lw_at lw_m1 84 rfl) rfl
theorem q94 : (Jvm.Cond.selects "PointColours" ({ cls := "PointColours", name := "join", desc := "(II)Z" } : Jvm.MethodName) ({ cls := "PointColours", name := "join", desc := "(II)Z" } : Jvm.MethodName)) ∈ lw_all := lw_g (lw_at lw_m1 85 rfl) rfl
theorem q95 : (Jvm.Cond.code ({ cls := "PointColours", name := "join", desc := "(II)Z" } : Jvm.MethodName) prog_1_method_4_code (3 : Nat) (Option.some Jvm.ClassFile.FieldType.boolean)) ∈ lw_all := lw_g (lw_at lw_m1 86 rfl) rfl
theorem q96 : (Jvm.Cond.methodLink "PointColours" (60 : Nat) ({ cls := "PointColours", name := "isPoint", desc := "(I)Z" } : Jvm.MethodName)) ∈ lw_all := lw_g (lw_at lw_m1 87 rfl) rfl
theorem q97 : (Jvm.Cond.privateMethod ({ cls := "PointColours", name := "isPoint", desc := "(I)Z" } : Jvm.MethodName)) ∈ lw_tbl := lw_at lw_m1 88 rfl
theorem q98 : (Jvm.Cond.instanceMethod ({ cls := "PointColours", name := "isPoint", desc := "(I)Z" } : Jvm.MethodName)) ∈ lw_all := lw_g (lw_at lw_m1 89 rfl) rfl
theorem q99 : (Jvm.Cond.code ({ cls := "PointColours", name := "isPoint", desc := "(I)Z" } : Jvm.MethodName) prog_1_method_3_code (2 : Nat) (Option.some Jvm.ClassFile.FieldType.boolean)) ∈ lw_all := lw_g (lw_at lw_m1 90 rfl) rfl
theorem q100 : (Jvm.Cond.methodLink "PointColours" (64 : Nat) ({ cls := "PointColours$Edges", name := "has", desc := "(II)Z" } : Jvm.MethodName)) ∈ lw_all := lw_g (lw_at lw_m1 91 rfl) rfl
theorem q104 : (Jvm.Cond.methodLink "PointColours" (68 : Nat) ({ cls := "PointColours$Edges", name := "put", desc := "(II)V" } : Jvm.MethodName)) ∈ lw_all := lw_g (lw_at lw_m1 95 rfl) rfl
theorem q109 : (Jvm.Cond.instanceMethod ({ cls := "PointColours", name := "cost", desc := "(II)Z" } : Jvm.MethodName)) ∈ lw_all := lw_g (lw_at lw_m1 100 rfl) rfl
theorem q110 : (Jvm.Cond.selects "PointColours" ({ cls := "PointColours", name := "cost", desc := "(II)Z" } : Jvm.MethodName) ({ cls := "PointColours", name := "cost", desc := "(II)Z" } : Jvm.MethodName)) ∈ lw_all := lw_g (lw_at lw_m1 101 rfl) rfl
theorem q111 : (Jvm.Cond.code ({ cls := "PointColours", name := "cost", desc := "(II)Z" } : Jvm.MethodName) prog_1_method_5_code (3 : Nat) (Option.some Jvm.ClassFile.FieldType.boolean)) ∈ lw_all := lw_g (lw_at lw_m1 102 rfl) rfl
theorem q112 : (Jvm.Cond.constant "PointColours" (72 : Nat) (1000000 : Int32)) ∈ lw_all := lw_g (lw_at lw_m1 103 rfl) rfl
theorem q114 : (Jvm.Cond.instanceMethod ({ cls := "PointColours", name := "wish", desc := "(II)Z" } : Jvm.MethodName)) ∈ lw_all := lw_g (lw_at lw_m1 105 rfl) rfl
theorem q115 : (Jvm.Cond.selects "PointColours" ({ cls := "PointColours", name := "wish", desc := "(II)Z" } : Jvm.MethodName) ({ cls := "PointColours", name := "wish", desc := "(II)Z" } : Jvm.MethodName)) ∈ lw_all := lw_g (lw_at lw_m1 106 rfl) rfl
theorem q116 : (Jvm.Cond.code ({ cls := "PointColours", name := "wish", desc := "(II)Z" } : Jvm.MethodName) prog_1_method_6_code (3 : Nat) (Option.some Jvm.ClassFile.FieldType.boolean)) ∈ lw_all := lw_g (lw_at lw_m1 107 rfl) rfl
theorem q118 : (Jvm.Cond.instanceMethod ({ cls := "PointColours", name := "give", desc := "()I" } : Jvm.MethodName)) ∈ lw_all := lw_g (lw_at lw_m1 109 rfl) rfl
theorem q119 : (Jvm.Cond.selects "PointColours" ({ cls := "PointColours", name := "give", desc := "()I" } : Jvm.MethodName) ({ cls := "PointColours", name := "give", desc := "()I" } : Jvm.MethodName)) ∈ lw_all := lw_g (lw_at lw_m1 110 rfl) rfl
theorem q120 : (Jvm.Cond.code ({ cls := "PointColours", name := "give", desc := "()I" } : Jvm.MethodName) prog_1_method_7_code (3 : Nat) (Option.some Jvm.ClassFile.FieldType.int)) ∈ lw_all := lw_g (lw_at lw_m1 111 rfl) rfl
theorem q121 : (Jvm.Cond.methodLink "PointColours" (73 : Nat) ({ cls := "PointColours$Heap", name := "clear", desc := "()V" } : Jvm.MethodName)) ∈ lw_all := lw_g (lw_at lw_m1 112 rfl) rfl
theorem q125 : (Jvm.Cond.methodLink "PointColours" (74 : Nat) ({ cls := "PointColours$Heap", name := "put", desc := "(I)V" } : Jvm.MethodName)) ∈ lw_all := lw_g (lw_at lw_m1 116 rfl) rfl
theorem q129 : (Jvm.Cond.methodLink "PointColours" (77 : Nat) ({ cls := "PointColours$Heap", name := "isEmpty", desc := "()Z" } : Jvm.MethodName)) ∈ lw_all := lw_g (lw_at lw_m1 120 rfl) rfl
theorem q133 : (Jvm.Cond.methodLink "PointColours" (81 : Nat) ({ cls := "PointColours", name := "cheapest", desc := "()I" } : Jvm.MethodName)) ∈ lw_all := lw_g (lw_at lw_m1 124 rfl) rfl
theorem q134 : (Jvm.Cond.privateMethod ({ cls := "PointColours", name := "cheapest", desc := "()I" } : Jvm.MethodName)) ∈ lw_tbl := lw_at lw_m1 125 rfl
theorem q135 : (Jvm.Cond.instanceMethod ({ cls := "PointColours", name := "cheapest", desc := "()I" } : Jvm.MethodName)) ∈ lw_all := lw_g (lw_at lw_m1 126 rfl) rfl
theorem q136 : (Jvm.Cond.code ({ cls := "PointColours", name := "cheapest", desc := "()I" } : Jvm.MethodName) prog_1_method_8_code (3 : Nat) (Option.some Jvm.ClassFile.FieldType.int)) ∈ lw_all := lw_g (lw_at lw_m1 127 rfl) rfl
theorem q137 : (Jvm.Cond.methodLink "PointColours" (85 : Nat) ({ cls := "PointColours$Heap", name := "take", desc := "()I" } : Jvm.MethodName)) ∈ lw_all := lw_g (lw_at lw_m1 128 rfl) rfl
theorem q141 : (Jvm.Cond.methodLink "PointColours" (88 : Nat) ({ cls := "PointColours", name := "takeOut", desc := "(II)V" } : Jvm.MethodName)) ∈ lw_all := lw_g (lw_at lw_m1 132 rfl) rfl
theorem q142 : (Jvm.Cond.privateMethod ({ cls := "PointColours", name := "takeOut", desc := "(II)V" } : Jvm.MethodName)) ∈ lw_tbl := lw_at lw_m1 133 rfl
theorem q143 : (Jvm.Cond.instanceMethod ({ cls := "PointColours", name := "takeOut", desc := "(II)V" } : Jvm.MethodName)) ∈ lw_all := lw_g (lw_at lw_m1 134 rfl) rfl
theorem q144 : (Jvm.Cond.code ({ cls := "PointColours", name := "takeOut", desc := "(II)V" } : Jvm.MethodName) prog_1_method_9_code (4 : Nat) (Option.none : Option Jvm.ClassFile.FieldType)) ∈ lw_all := lw_g (lw_at lw_m1 135 rfl) rfl
theorem q145 : (Jvm.Cond.methodLink "PointColours" (94 : Nat) ({ cls := "PointColours$Edges", name := "next", desc := "(II)I" } : Jvm.MethodName)) ∈ lw_all := lw_g (lw_at lw_m1 136 rfl) rfl
theorem q149 : (Jvm.Cond.methodLink "PointColours" (91 : Nat) ({ cls := "PointColours", name := "paint", desc := "(I)V" } : Jvm.MethodName)) ∈ lw_all := lw_g (lw_at lw_m1 140 rfl) rfl
theorem q150 : (Jvm.Cond.privateMethod ({ cls := "PointColours", name := "paint", desc := "(I)V" } : Jvm.MethodName)) ∈ lw_tbl := lw_at lw_m1 141 rfl
theorem q151 : (Jvm.Cond.instanceMethod ({ cls := "PointColours", name := "paint", desc := "(I)V" } : Jvm.MethodName)) ∈ lw_all := lw_g (lw_at lw_m1 142 rfl) rfl
theorem q152 : (Jvm.Cond.code ({ cls := "PointColours", name := "paint", desc := "(I)V" } : Jvm.MethodName) prog_1_method_10_code (5 : Nat) (Option.none : Option Jvm.ClassFile.FieldType)) ∈ lw_all := lw_g (lw_at lw_m1 143 rfl) rfl
theorem q154 : (Jvm.Cond.instanceMethod ({ cls := "PointColours", name := "colour", desc := "(I)I" } : Jvm.MethodName)) ∈ lw_all := lw_g (lw_at lw_m1 145 rfl) rfl
theorem q155 : (Jvm.Cond.selects "PointColours" ({ cls := "PointColours", name := "colour", desc := "(I)I" } : Jvm.MethodName) ({ cls := "PointColours", name := "colour", desc := "(I)I" } : Jvm.MethodName)) ∈ lw_all := lw_g (lw_at lw_m1 146 rfl) rfl
theorem q156 : (Jvm.Cond.code ({ cls := "PointColours", name := "colour", desc := "(I)I" } : Jvm.MethodName) prog_1_method_11_code (2 : Nat) (Option.some Jvm.ClassFile.FieldType.int)) ∈ lw_all := lw_g (lw_at lw_m1 147 rfl) rfl
theorem q158 : (Jvm.Cond.instanceMethod ({ cls := "PointColours", name := "taken", desc := "(I)I" } : Jvm.MethodName)) ∈ lw_all := lw_g (lw_at lw_m1 149 rfl) rfl
theorem q159 : (Jvm.Cond.selects "PointColours" ({ cls := "PointColours", name := "taken", desc := "(I)I" } : Jvm.MethodName) ({ cls := "PointColours", name := "taken", desc := "(I)I" } : Jvm.MethodName)) ∈ lw_all := lw_g (lw_at lw_m1 150 rfl) rfl
theorem q160 : (Jvm.Cond.code ({ cls := "PointColours", name := "taken", desc := "(I)I" } : Jvm.MethodName) prog_1_method_12_code (2 : Nat) (Option.some Jvm.ClassFile.FieldType.int)) ∈ lw_all := lw_g (lw_at lw_m1 151 rfl) rfl
theorem q162 : (Jvm.Cond.instanceMethod ({ cls := "PointColours", name := "joined", desc := "(II)Z" } : Jvm.MethodName)) ∈ lw_all := lw_g (lw_at lw_m1 153 rfl) rfl
theorem q163 : (Jvm.Cond.selects "PointColours" ({ cls := "PointColours", name := "joined", desc := "(II)Z" } : Jvm.MethodName) ({ cls := "PointColours", name := "joined", desc := "(II)Z" } : Jvm.MethodName)) ∈ lw_all := lw_g (lw_at lw_m1 154 rfl) rfl
theorem q164 : (Jvm.Cond.code ({ cls := "PointColours", name := "joined", desc := "(II)Z" } : Jvm.MethodName) prog_1_method_13_code (3 : Nat) (Option.some Jvm.ClassFile.FieldType.boolean)) ∈ lw_all := lw_g (lw_at lw_m1 155 rfl) rfl
theorem q166 : (Jvm.Cond.instanceMethod ({ cls := "PointColours", name := "degree", desc := "(I)I" } : Jvm.MethodName)) ∈ lw_all := lw_g (lw_at lw_m1 157 rfl) rfl
theorem q167 : (Jvm.Cond.selects "PointColours" ({ cls := "PointColours", name := "degree", desc := "(I)I" } : Jvm.MethodName) ({ cls := "PointColours", name := "degree", desc := "(I)I" } : Jvm.MethodName)) ∈ lw_all := lw_g (lw_at lw_m1 158 rfl) rfl
theorem q168 : (Jvm.Cond.code ({ cls := "PointColours", name := "degree", desc := "(I)I" } : Jvm.MethodName) prog_1_method_14_code (2 : Nat) (Option.some Jvm.ClassFile.FieldType.int)) ∈ lw_all := lw_g (lw_at lw_m1 159 rfl) rfl
theorem q170 : (Jvm.Cond.instanceMethod ({ cls := "PointColours", name := "strays", desc := "()I" } : Jvm.MethodName)) ∈ lw_all := lw_g (lw_at lw_m1 161 rfl) rfl
theorem q171 : (Jvm.Cond.selects "PointColours" ({ cls := "PointColours", name := "strays", desc := "()I" } : Jvm.MethodName) ({ cls := "PointColours", name := "strays", desc := "()I" } : Jvm.MethodName)) ∈ lw_all := lw_g (lw_at lw_m1 162 rfl) rfl
theorem q172 : (Jvm.Cond.code ({ cls := "PointColours", name := "strays", desc := "()I" } : Jvm.MethodName) prog_1_method_15_code (1 : Nat) (Option.some Jvm.ClassFile.FieldType.int)) ∈ lw_all := lw_g (lw_at lw_m1 163 rfl) rfl
theorem in_X0 : ∀ w ∈ wsX00, w ∈ lw_all := lw_in wsX00 [58, 60, 62, 64, 66, 68, 70, 72, 74, 76, 78, 80] (by decide +kernel) (by decide +kernel)
end
section
/-! PointColoursModel -/
set_option maxRecDepth 100000
def RX3 : String := "PointColoursModel"
def TX3 : u_T := fun k => match k with
  | 0 => ("PointColoursModel", "pairs", "[Z", true)
  | 1 => ("PointColoursModel", "costs", "[I", true)
  | 2 => ("PointColoursModel", "wishes", "[I", true)
  | 3 => ("PointColoursModel", "colours", "[I", true)
  | 4 => ("PointColoursModel", "row", "[I", true)
  | 5 => ("PointColoursModel", "in", "[Z", true)
  | 6 => ("PointColoursModel", "n", "I", false)
  | 7 => ("PointColoursModel", "k", "I", false)
  | _ => ("PointColoursModel", "given", "Z", false)
def tyX3 : Nat → FieldType := fun k => match k with
  | 0 => .array .boolean
  | 1 => .array .int
  | 2 => .array .int
  | 3 => .array .int
  | 4 => .array .int
  | 5 => .array .boolean
  | 6 => .int
  | 7 => .int
  | _ => .boolean
abbrev wsX30 : List Cond := u_ws RX3 TX3 9
theorem nmX3 : ∀ a, a < 9 → ∀ b, b < 9 → a ≠ b → (TX3 a).2.1 ≠ (TX3 b).2.1 := by decide +kernel
theorem tyX3_ok : ∀ k, k < 9 → parseFieldDescriptor (TX3 k).2.2.1 = some (tyX3 k) := by decide +kernel
abbrev cX3_init : ByteArray := prog_5_method_1_code
def yX3_init : MethodName := ⟨RX3, "<init>", "()V"⟩
theorem dX3_init_0 : decode cX3_init 0 = .ok (.aload_n 0, 1) := by decide +kernel
theorem dX3_init_1 : decode cX3_init 1 = .ok (.invokespecial 1, 3) := by decide +kernel
theorem dX3_init_4 : decode cX3_init 4 = .ok (.aload_n 0, 1) := by decide +kernel
theorem dX3_init_5 : decode cX3_init 5 = .ok (.ldc 9, 2) := by decide +kernel
theorem dX3_init_7 : decode cX3_init 7 = .ok (.newarray .boolean, 2) := by decide +kernel
theorem dX3_init_9 : decode cX3_init 9 = .ok (.putfield 10, 3) := by decide +kernel
theorem dX3_init_12 : decode cX3_init 12 = .ok (.aload_n 0, 1) := by decide +kernel
theorem dX3_init_13 : decode cX3_init 13 = .ok (.sipush 200, 3) := by decide +kernel
theorem dX3_init_16 : decode cX3_init 16 = .ok (.newarray .int, 2) := by decide +kernel
theorem dX3_init_18 : decode cX3_init 18 = .ok (.putfield 14, 3) := by decide +kernel
theorem dX3_init_21 : decode cX3_init 21 = .ok (.aload_n 0, 1) := by decide +kernel
theorem dX3_init_22 : decode cX3_init 22 = .ok (.sipush 200, 3) := by decide +kernel
theorem dX3_init_25 : decode cX3_init 25 = .ok (.newarray .int, 2) := by decide +kernel
theorem dX3_init_27 : decode cX3_init 27 = .ok (.putfield 18, 3) := by decide +kernel
theorem dX3_init_30 : decode cX3_init 30 = .ok (.aload_n 0, 1) := by decide +kernel
theorem dX3_init_31 : decode cX3_init 31 = .ok (.sipush 200, 3) := by decide +kernel
theorem dX3_init_34 : decode cX3_init 34 = .ok (.newarray .int, 2) := by decide +kernel
theorem dX3_init_36 : decode cX3_init 36 = .ok (.putfield 21, 3) := by decide +kernel
theorem dX3_init_39 : decode cX3_init 39 = .ok (.aload_n 0, 1) := by decide +kernel
theorem dX3_init_40 : decode cX3_init 40 = .ok (.sipush 200, 3) := by decide +kernel
theorem dX3_init_43 : decode cX3_init 43 = .ok (.newarray .int, 2) := by decide +kernel
theorem dX3_init_45 : decode cX3_init 45 = .ok (.putfield 24, 3) := by decide +kernel
theorem dX3_init_48 : decode cX3_init 48 = .ok (.aload_n 0, 1) := by decide +kernel
theorem dX3_init_49 : decode cX3_init 49 = .ok (.sipush 200, 3) := by decide +kernel
theorem dX3_init_52 : decode cX3_init 52 = .ok (.newarray .boolean, 2) := by decide +kernel
theorem dX3_init_54 : decode cX3_init 54 = .ok (.putfield 27, 3) := by decide +kernel
theorem dX3_init_57 : decode cX3_init 57 = .ok (.aload_n 0, 1) := by decide +kernel
theorem dX3_init_58 : decode cX3_init 58 = .ok (.iconst 1, 1) := by decide +kernel
theorem dX3_init_59 : decode cX3_init 59 = .ok (.iconst 1, 1) := by decide +kernel
theorem dX3_init_60 : decode cX3_init 60 = .ok (.invokevirtual 30, 3) := by decide +kernel
theorem dX3_init_63 : decode cX3_init 63 = .ok (.istore_n 1, 1) := by decide +kernel
theorem dX3_init_64 : decode cX3_init 64 = .ok (.return_, 1) := by decide +kernel
abbrev cX3_begin : ByteArray := prog_5_method_4_code
def yX3_begin : MethodName := ⟨RX3, "begin", "(II)Z"⟩
theorem dX3_begin_0 : decode cX3_begin 0 = .ok (.iload_n 1, 1) := by decide +kernel
theorem dX3_begin_1 : decode cX3_begin 1 = .ok (.iconst 1, 1) := by decide +kernel
theorem dX3_begin_2 : decode cX3_begin 2 = .ok (.if_icmp .lt 21, 3) := by decide +kernel
theorem dX3_begin_5 : decode cX3_begin 5 = .ok (.iload_n 1, 1) := by decide +kernel
theorem dX3_begin_6 : decode cX3_begin 6 = .ok (.sipush 200, 3) := by decide +kernel
theorem dX3_begin_9 : decode cX3_begin 9 = .ok (.if_icmp .gt 14, 3) := by decide +kernel
theorem dX3_begin_12 : decode cX3_begin 12 = .ok (.iload_n 2, 1) := by decide +kernel
theorem dX3_begin_13 : decode cX3_begin 13 = .ok (.iconst 1, 1) := by decide +kernel
theorem dX3_begin_14 : decode cX3_begin 14 = .ok (.if_icmp .lt 9, 3) := by decide +kernel
theorem dX3_begin_17 : decode cX3_begin 17 = .ok (.iload_n 2, 1) := by decide +kernel
theorem dX3_begin_18 : decode cX3_begin 18 = .ok (.bipush 30, 2) := by decide +kernel
theorem dX3_begin_20 : decode cX3_begin 20 = .ok (.if_icmp .le 5, 3) := by decide +kernel
theorem dX3_begin_23 : decode cX3_begin 23 = .ok (.iconst 0, 1) := by decide +kernel
theorem dX3_begin_24 : decode cX3_begin 24 = .ok (.ireturn, 1) := by decide +kernel
theorem dX3_begin_25 : decode cX3_begin 25 = .ok (.aload_n 0, 1) := by decide +kernel
theorem dX3_begin_26 : decode cX3_begin 26 = .ok (.iload_n 1, 1) := by decide +kernel
theorem dX3_begin_27 : decode cX3_begin 27 = .ok (.putfield 34, 3) := by decide +kernel
theorem dX3_begin_30 : decode cX3_begin 30 = .ok (.aload_n 0, 1) := by decide +kernel
theorem dX3_begin_31 : decode cX3_begin 31 = .ok (.iload_n 2, 1) := by decide +kernel
theorem dX3_begin_32 : decode cX3_begin 32 = .ok (.putfield 38, 3) := by decide +kernel
theorem dX3_begin_35 : decode cX3_begin 35 = .ok (.aload_n 0, 1) := by decide +kernel
theorem dX3_begin_36 : decode cX3_begin 36 = .ok (.iconst 0, 1) := by decide +kernel
theorem dX3_begin_37 : decode cX3_begin 37 = .ok (.putfield 41, 3) := by decide +kernel
theorem dX3_begin_40 : decode cX3_begin 40 = .ok (.iconst 0, 1) := by decide +kernel
theorem dX3_begin_41 : decode cX3_begin 41 = .ok (.istore_n 3, 1) := by decide +kernel
theorem dX3_begin_42 : decode cX3_begin 42 = .ok (.iload_n 3, 1) := by decide +kernel
theorem dX3_begin_43 : decode cX3_begin 43 = .ok (.sipush 200, 3) := by decide +kernel
theorem dX3_begin_46 : decode cX3_begin 46 = .ok (.if_icmp .ge 54, 3) := by decide +kernel
theorem dX3_begin_49 : decode cX3_begin 49 = .ok (.aload_n 0, 1) := by decide +kernel
theorem dX3_begin_50 : decode cX3_begin 50 = .ok (.getfield 14, 3) := by decide +kernel
theorem dX3_begin_53 : decode cX3_begin 53 = .ok (.iload_n 3, 1) := by decide +kernel
theorem dX3_begin_54 : decode cX3_begin 54 = .ok (.iconst 0, 1) := by decide +kernel
theorem dX3_begin_55 : decode cX3_begin 55 = .ok (.iastore, 1) := by decide +kernel
theorem dX3_begin_56 : decode cX3_begin 56 = .ok (.aload_n 0, 1) := by decide +kernel
theorem dX3_begin_57 : decode cX3_begin 57 = .ok (.getfield 18, 3) := by decide +kernel
theorem dX3_begin_60 : decode cX3_begin 60 = .ok (.iload_n 3, 1) := by decide +kernel
theorem dX3_begin_61 : decode cX3_begin 61 = .ok (.iload_n 3, 1) := by decide +kernel
theorem dX3_begin_62 : decode cX3_begin 62 = .ok (.iastore, 1) := by decide +kernel
theorem dX3_begin_63 : decode cX3_begin 63 = .ok (.iconst 0, 1) := by decide +kernel
theorem dX3_begin_64 : decode cX3_begin 64 = .ok (.istore 4, 2) := by decide +kernel
theorem dX3_begin_66 : decode cX3_begin 66 = .ok (.iload 4, 2) := by decide +kernel
theorem dX3_begin_68 : decode cX3_begin 68 = .ok (.sipush 200, 3) := by decide +kernel
theorem dX3_begin_71 : decode cX3_begin 71 = .ok (.if_icmp .ge 23, 3) := by decide +kernel
theorem dX3_begin_74 : decode cX3_begin 74 = .ok (.aload_n 0, 1) := by decide +kernel
theorem dX3_begin_75 : decode cX3_begin 75 = .ok (.getfield 10, 3) := by decide +kernel
theorem dX3_begin_78 : decode cX3_begin 78 = .ok (.sipush 200, 3) := by decide +kernel
theorem dX3_begin_81 : decode cX3_begin 81 = .ok (.iload_n 3, 1) := by decide +kernel
theorem dX3_begin_82 : decode cX3_begin 82 = .ok (.imul, 1) := by decide +kernel
theorem dX3_begin_83 : decode cX3_begin 83 = .ok (.iload 4, 2) := by decide +kernel
theorem dX3_begin_85 : decode cX3_begin 85 = .ok (.iadd, 1) := by decide +kernel
theorem dX3_begin_86 : decode cX3_begin 86 = .ok (.iconst 0, 1) := by decide +kernel
theorem dX3_begin_87 : decode cX3_begin 87 = .ok (.bastore, 1) := by decide +kernel
theorem dX3_begin_88 : decode cX3_begin 88 = .ok (.iinc 4 1, 3) := by decide +kernel
theorem dX3_begin_91 : decode cX3_begin 91 = .ok (.goto (-25), 3) := by decide +kernel
theorem dX3_begin_94 : decode cX3_begin 94 = .ok (.iinc 3 1, 3) := by decide +kernel
theorem dX3_begin_97 : decode cX3_begin 97 = .ok (.goto (-55), 3) := by decide +kernel
theorem dX3_begin_100 : decode cX3_begin 100 = .ok (.iconst 1, 1) := by decide +kernel
theorem dX3_begin_101 : decode cX3_begin 101 = .ok (.ireturn, 1) := by decide +kernel
abbrev cX3_join : ByteArray := prog_5_method_5_code
def yX3_join : MethodName := ⟨RX3, "join", "(II)Z"⟩
theorem dX3_join_0 : decode cX3_join 0 = .ok (.aload_n 0, 1) := by decide +kernel
theorem dX3_join_1 : decode cX3_join 1 = .ok (.iload_n 1, 1) := by decide +kernel
theorem dX3_join_2 : decode cX3_join 2 = .ok (.invokevirtual 45, 3) := by decide +kernel
theorem dX3_join_5 : decode cX3_join 5 = .ok (.ifCond .eq 31, 3) := by decide +kernel
theorem dX3_join_8 : decode cX3_join 8 = .ok (.aload_n 0, 1) := by decide +kernel
theorem dX3_join_9 : decode cX3_join 9 = .ok (.iload_n 2, 1) := by decide +kernel
theorem dX3_join_10 : decode cX3_join 10 = .ok (.invokevirtual 45, 3) := by decide +kernel
theorem dX3_join_13 : decode cX3_join 13 = .ok (.ifCond .eq 23, 3) := by decide +kernel
theorem dX3_join_16 : decode cX3_join 16 = .ok (.iload_n 1, 1) := by decide +kernel
theorem dX3_join_17 : decode cX3_join 17 = .ok (.iload_n 2, 1) := by decide +kernel
theorem dX3_join_18 : decode cX3_join 18 = .ok (.if_icmp .eq 18, 3) := by decide +kernel
theorem dX3_join_21 : decode cX3_join 21 = .ok (.aload_n 0, 1) := by decide +kernel
theorem dX3_join_22 : decode cX3_join 22 = .ok (.getfield 10, 3) := by decide +kernel
theorem dX3_join_25 : decode cX3_join 25 = .ok (.sipush 200, 3) := by decide +kernel
theorem dX3_join_28 : decode cX3_join 28 = .ok (.iload_n 1, 1) := by decide +kernel
theorem dX3_join_29 : decode cX3_join 29 = .ok (.imul, 1) := by decide +kernel
theorem dX3_join_30 : decode cX3_join 30 = .ok (.iload_n 2, 1) := by decide +kernel
theorem dX3_join_31 : decode cX3_join 31 = .ok (.iadd, 1) := by decide +kernel
theorem dX3_join_32 : decode cX3_join 32 = .ok (.baload, 1) := by decide +kernel
theorem dX3_join_33 : decode cX3_join 33 = .ok (.ifCond .eq 5, 3) := by decide +kernel
theorem dX3_join_36 : decode cX3_join 36 = .ok (.iconst 0, 1) := by decide +kernel
theorem dX3_join_37 : decode cX3_join 37 = .ok (.ireturn, 1) := by decide +kernel
theorem dX3_join_38 : decode cX3_join 38 = .ok (.aload_n 0, 1) := by decide +kernel
theorem dX3_join_39 : decode cX3_join 39 = .ok (.getfield 10, 3) := by decide +kernel
theorem dX3_join_42 : decode cX3_join 42 = .ok (.sipush 200, 3) := by decide +kernel
theorem dX3_join_45 : decode cX3_join 45 = .ok (.iload_n 1, 1) := by decide +kernel
theorem dX3_join_46 : decode cX3_join 46 = .ok (.imul, 1) := by decide +kernel
theorem dX3_join_47 : decode cX3_join 47 = .ok (.iload_n 2, 1) := by decide +kernel
theorem dX3_join_48 : decode cX3_join 48 = .ok (.iadd, 1) := by decide +kernel
theorem dX3_join_49 : decode cX3_join 49 = .ok (.iconst 1, 1) := by decide +kernel
theorem dX3_join_50 : decode cX3_join 50 = .ok (.bastore, 1) := by decide +kernel
theorem dX3_join_51 : decode cX3_join 51 = .ok (.aload_n 0, 1) := by decide +kernel
theorem dX3_join_52 : decode cX3_join 52 = .ok (.getfield 10, 3) := by decide +kernel
theorem dX3_join_55 : decode cX3_join 55 = .ok (.sipush 200, 3) := by decide +kernel
theorem dX3_join_58 : decode cX3_join 58 = .ok (.iload_n 2, 1) := by decide +kernel
theorem dX3_join_59 : decode cX3_join 59 = .ok (.imul, 1) := by decide +kernel
theorem dX3_join_60 : decode cX3_join 60 = .ok (.iload_n 1, 1) := by decide +kernel
theorem dX3_join_61 : decode cX3_join 61 = .ok (.iadd, 1) := by decide +kernel
theorem dX3_join_62 : decode cX3_join 62 = .ok (.iconst 1, 1) := by decide +kernel
theorem dX3_join_63 : decode cX3_join 63 = .ok (.bastore, 1) := by decide +kernel
theorem dX3_join_64 : decode cX3_join 64 = .ok (.aload_n 0, 1) := by decide +kernel
theorem dX3_join_65 : decode cX3_join 65 = .ok (.iconst 0, 1) := by decide +kernel
theorem dX3_join_66 : decode cX3_join 66 = .ok (.putfield 41, 3) := by decide +kernel
theorem dX3_join_69 : decode cX3_join 69 = .ok (.iconst 1, 1) := by decide +kernel
theorem dX3_join_70 : decode cX3_join 70 = .ok (.ireturn, 1) := by decide +kernel
abbrev cX3_isPoint : ByteArray := prog_5_method_3_code
def yX3_isPoint : MethodName := ⟨RX3, "isPoint", "(I)Z"⟩
theorem dX3_isPoint_0 : decode cX3_isPoint 0 = .ok (.iload_n 1, 1) := by decide +kernel
theorem dX3_isPoint_1 : decode cX3_isPoint 1 = .ok (.ifCond .lt 15, 3) := by decide +kernel
theorem dX3_isPoint_4 : decode cX3_isPoint 4 = .ok (.iload_n 1, 1) := by decide +kernel
theorem dX3_isPoint_5 : decode cX3_isPoint 5 = .ok (.aload_n 0, 1) := by decide +kernel
theorem dX3_isPoint_6 : decode cX3_isPoint 6 = .ok (.getfield 34, 3) := by decide +kernel
theorem dX3_isPoint_9 : decode cX3_isPoint 9 = .ok (.if_icmp .ge 7, 3) := by decide +kernel
theorem dX3_isPoint_12 : decode cX3_isPoint 12 = .ok (.iconst 1, 1) := by decide +kernel
theorem dX3_isPoint_13 : decode cX3_isPoint 13 = .ok (.goto 4, 3) := by decide +kernel
theorem dX3_isPoint_16 : decode cX3_isPoint 16 = .ok (.iconst 0, 1) := by decide +kernel
theorem dX3_isPoint_17 : decode cX3_isPoint 17 = .ok (.ireturn, 1) := by decide +kernel
abbrev cX3_cost : ByteArray := prog_5_method_6_code
def yX3_cost : MethodName := ⟨RX3, "cost", "(II)Z"⟩
theorem dX3_cost_0 : decode cX3_cost 0 = .ok (.aload_n 0, 1) := by decide +kernel
theorem dX3_cost_1 : decode cX3_cost 1 = .ok (.iload_n 1, 1) := by decide +kernel
theorem dX3_cost_2 : decode cX3_cost 2 = .ok (.invokevirtual 45, 3) := by decide +kernel
theorem dX3_cost_5 : decode cX3_cost 5 = .ok (.ifCond .eq 13, 3) := by decide +kernel
theorem dX3_cost_8 : decode cX3_cost 8 = .ok (.iload_n 2, 1) := by decide +kernel
theorem dX3_cost_9 : decode cX3_cost 9 = .ok (.ifCond .lt 9, 3) := by decide +kernel
theorem dX3_cost_12 : decode cX3_cost 12 = .ok (.iload_n 2, 1) := by decide +kernel
theorem dX3_cost_13 : decode cX3_cost 13 = .ok (.ldc 49, 2) := by decide +kernel
theorem dX3_cost_15 : decode cX3_cost 15 = .ok (.if_icmp .le 5, 3) := by decide +kernel
theorem dX3_cost_18 : decode cX3_cost 18 = .ok (.iconst 0, 1) := by decide +kernel
theorem dX3_cost_19 : decode cX3_cost 19 = .ok (.ireturn, 1) := by decide +kernel
theorem dX3_cost_20 : decode cX3_cost 20 = .ok (.aload_n 0, 1) := by decide +kernel
theorem dX3_cost_21 : decode cX3_cost 21 = .ok (.getfield 14, 3) := by decide +kernel
theorem dX3_cost_24 : decode cX3_cost 24 = .ok (.iload_n 1, 1) := by decide +kernel
theorem dX3_cost_25 : decode cX3_cost 25 = .ok (.iload_n 2, 1) := by decide +kernel
theorem dX3_cost_26 : decode cX3_cost 26 = .ok (.iastore, 1) := by decide +kernel
theorem dX3_cost_27 : decode cX3_cost 27 = .ok (.aload_n 0, 1) := by decide +kernel
theorem dX3_cost_28 : decode cX3_cost 28 = .ok (.iconst 0, 1) := by decide +kernel
theorem dX3_cost_29 : decode cX3_cost 29 = .ok (.putfield 41, 3) := by decide +kernel
theorem dX3_cost_32 : decode cX3_cost 32 = .ok (.iconst 1, 1) := by decide +kernel
theorem dX3_cost_33 : decode cX3_cost 33 = .ok (.ireturn, 1) := by decide +kernel
abbrev cX3_wish : ByteArray := prog_5_method_7_code
def yX3_wish : MethodName := ⟨RX3, "wish", "(II)Z"⟩
theorem dX3_wish_0 : decode cX3_wish 0 = .ok (.aload_n 0, 1) := by decide +kernel
theorem dX3_wish_1 : decode cX3_wish 1 = .ok (.iload_n 1, 1) := by decide +kernel
theorem dX3_wish_2 : decode cX3_wish 2 = .ok (.invokevirtual 45, 3) := by decide +kernel
theorem dX3_wish_5 : decode cX3_wish 5 = .ok (.ifCond .eq 11, 3) := by decide +kernel
theorem dX3_wish_8 : decode cX3_wish 8 = .ok (.aload_n 0, 1) := by decide +kernel
theorem dX3_wish_9 : decode cX3_wish 9 = .ok (.iload_n 2, 1) := by decide +kernel
theorem dX3_wish_10 : decode cX3_wish 10 = .ok (.invokevirtual 45, 3) := by decide +kernel
theorem dX3_wish_13 : decode cX3_wish 13 = .ok (.ifCond .ne 5, 3) := by decide +kernel
theorem dX3_wish_16 : decode cX3_wish 16 = .ok (.iconst 0, 1) := by decide +kernel
theorem dX3_wish_17 : decode cX3_wish 17 = .ok (.ireturn, 1) := by decide +kernel
theorem dX3_wish_18 : decode cX3_wish 18 = .ok (.aload_n 0, 1) := by decide +kernel
theorem dX3_wish_19 : decode cX3_wish 19 = .ok (.getfield 18, 3) := by decide +kernel
theorem dX3_wish_22 : decode cX3_wish 22 = .ok (.iload_n 1, 1) := by decide +kernel
theorem dX3_wish_23 : decode cX3_wish 23 = .ok (.iload_n 2, 1) := by decide +kernel
theorem dX3_wish_24 : decode cX3_wish 24 = .ok (.iastore, 1) := by decide +kernel
theorem dX3_wish_25 : decode cX3_wish 25 = .ok (.aload_n 0, 1) := by decide +kernel
theorem dX3_wish_26 : decode cX3_wish 26 = .ok (.iconst 0, 1) := by decide +kernel
theorem dX3_wish_27 : decode cX3_wish 27 = .ok (.putfield 41, 3) := by decide +kernel
theorem dX3_wish_30 : decode cX3_wish 30 = .ok (.iconst 1, 1) := by decide +kernel
theorem dX3_wish_31 : decode cX3_wish 31 = .ok (.ireturn, 1) := by decide +kernel
abbrev cX3_give : ByteArray := prog_5_method_12_code
def yX3_give : MethodName := ⟨RX3, "give", "()I"⟩
theorem dX3_give_0 : decode cX3_give 0 = .ok (.iconst 0, 1) := by decide +kernel
theorem dX3_give_1 : decode cX3_give 1 = .ok (.istore_n 1, 1) := by decide +kernel
theorem dX3_give_2 : decode cX3_give 2 = .ok (.iload_n 1, 1) := by decide +kernel
theorem dX3_give_3 : decode cX3_give 3 = .ok (.aload_n 0, 1) := by decide +kernel
theorem dX3_give_4 : decode cX3_give 4 = .ok (.getfield 34, 3) := by decide +kernel
theorem dX3_give_7 : decode cX3_give 7 = .ok (.if_icmp .ge 23, 3) := by decide +kernel
theorem dX3_give_10 : decode cX3_give 10 = .ok (.aload_n 0, 1) := by decide +kernel
theorem dX3_give_11 : decode cX3_give 11 = .ok (.getfield 27, 3) := by decide +kernel
theorem dX3_give_14 : decode cX3_give 14 = .ok (.iload_n 1, 1) := by decide +kernel
theorem dX3_give_15 : decode cX3_give 15 = .ok (.iconst 1, 1) := by decide +kernel
theorem dX3_give_16 : decode cX3_give 16 = .ok (.bastore, 1) := by decide +kernel
theorem dX3_give_17 : decode cX3_give 17 = .ok (.aload_n 0, 1) := by decide +kernel
theorem dX3_give_18 : decode cX3_give 18 = .ok (.getfield 21, 3) := by decide +kernel
theorem dX3_give_21 : decode cX3_give 21 = .ok (.iload_n 1, 1) := by decide +kernel
theorem dX3_give_22 : decode cX3_give 22 = .ok (.iconst (-1), 1) := by decide +kernel
theorem dX3_give_23 : decode cX3_give 23 = .ok (.iastore, 1) := by decide +kernel
theorem dX3_give_24 : decode cX3_give 24 = .ok (.iinc 1 1, 3) := by decide +kernel
theorem dX3_give_27 : decode cX3_give 27 = .ok (.goto (-25), 3) := by decide +kernel
theorem dX3_give_30 : decode cX3_give 30 = .ok (.iconst 0, 1) := by decide +kernel
theorem dX3_give_31 : decode cX3_give 31 = .ok (.istore_n 1, 1) := by decide +kernel
theorem dX3_give_32 : decode cX3_give 32 = .ok (.iload_n 1, 1) := by decide +kernel
theorem dX3_give_33 : decode cX3_give 33 = .ok (.aload_n 0, 1) := by decide +kernel
theorem dX3_give_34 : decode cX3_give 34 = .ok (.getfield 34, 3) := by decide +kernel
theorem dX3_give_37 : decode cX3_give 37 = .ok (.if_icmp .ge 31, 3) := by decide +kernel
theorem dX3_give_40 : decode cX3_give 40 = .ok (.aload_n 0, 1) := by decide +kernel
theorem dX3_give_41 : decode cX3_give 41 = .ok (.getfield 24, 3) := by decide +kernel
theorem dX3_give_44 : decode cX3_give 44 = .ok (.iload_n 1, 1) := by decide +kernel
theorem dX3_give_45 : decode cX3_give 45 = .ok (.aload_n 0, 1) := by decide +kernel
theorem dX3_give_46 : decode cX3_give 46 = .ok (.invokevirtual 57, 3) := by decide +kernel
theorem dX3_give_49 : decode cX3_give 49 = .ok (.iastore, 1) := by decide +kernel
theorem dX3_give_50 : decode cX3_give 50 = .ok (.aload_n 0, 1) := by decide +kernel
theorem dX3_give_51 : decode cX3_give 51 = .ok (.getfield 27, 3) := by decide +kernel
theorem dX3_give_54 : decode cX3_give 54 = .ok (.aload_n 0, 1) := by decide +kernel
theorem dX3_give_55 : decode cX3_give 55 = .ok (.getfield 24, 3) := by decide +kernel
theorem dX3_give_58 : decode cX3_give 58 = .ok (.iload_n 1, 1) := by decide +kernel
theorem dX3_give_59 : decode cX3_give 59 = .ok (.iaload, 1) := by decide +kernel
theorem dX3_give_60 : decode cX3_give 60 = .ok (.iconst 0, 1) := by decide +kernel
theorem dX3_give_61 : decode cX3_give 61 = .ok (.bastore, 1) := by decide +kernel
theorem dX3_give_62 : decode cX3_give 62 = .ok (.iinc 1 1, 3) := by decide +kernel
theorem dX3_give_65 : decode cX3_give 65 = .ok (.goto (-33), 3) := by decide +kernel
theorem dX3_give_68 : decode cX3_give 68 = .ok (.iconst 0, 1) := by decide +kernel
theorem dX3_give_69 : decode cX3_give 69 = .ok (.istore_n 1, 1) := by decide +kernel
theorem dX3_give_70 : decode cX3_give 70 = .ok (.aload_n 0, 1) := by decide +kernel
theorem dX3_give_71 : decode cX3_give 71 = .ok (.getfield 34, 3) := by decide +kernel
theorem dX3_give_74 : decode cX3_give 74 = .ok (.iconst 1, 1) := by decide +kernel
theorem dX3_give_75 : decode cX3_give 75 = .ok (.isub, 1) := by decide +kernel
theorem dX3_give_76 : decode cX3_give 76 = .ok (.istore_n 2, 1) := by decide +kernel
theorem dX3_give_77 : decode cX3_give 77 = .ok (.iload_n 2, 1) := by decide +kernel
theorem dX3_give_78 : decode cX3_give 78 = .ok (.ifCond .lt 47, 3) := by decide +kernel
theorem dX3_give_81 : decode cX3_give 81 = .ok (.aload_n 0, 1) := by decide +kernel
theorem dX3_give_82 : decode cX3_give 82 = .ok (.getfield 21, 3) := by decide +kernel
theorem dX3_give_85 : decode cX3_give 85 = .ok (.aload_n 0, 1) := by decide +kernel
theorem dX3_give_86 : decode cX3_give 86 = .ok (.getfield 24, 3) := by decide +kernel
theorem dX3_give_89 : decode cX3_give 89 = .ok (.iload_n 2, 1) := by decide +kernel
theorem dX3_give_90 : decode cX3_give 90 = .ok (.iaload, 1) := by decide +kernel
theorem dX3_give_91 : decode cX3_give 91 = .ok (.aload_n 0, 1) := by decide +kernel
theorem dX3_give_92 : decode cX3_give 92 = .ok (.aload_n 0, 1) := by decide +kernel
theorem dX3_give_93 : decode cX3_give 93 = .ok (.getfield 24, 3) := by decide +kernel
theorem dX3_give_96 : decode cX3_give 96 = .ok (.iload_n 2, 1) := by decide +kernel
theorem dX3_give_97 : decode cX3_give 97 = .ok (.iaload, 1) := by decide +kernel
theorem dX3_give_98 : decode cX3_give 98 = .ok (.invokevirtual 61, 3) := by decide +kernel
theorem dX3_give_101 : decode cX3_give 101 = .ok (.iastore, 1) := by decide +kernel
theorem dX3_give_102 : decode cX3_give 102 = .ok (.aload_n 0, 1) := by decide +kernel
theorem dX3_give_103 : decode cX3_give 103 = .ok (.getfield 21, 3) := by decide +kernel
theorem dX3_give_106 : decode cX3_give 106 = .ok (.aload_n 0, 1) := by decide +kernel
theorem dX3_give_107 : decode cX3_give 107 = .ok (.getfield 24, 3) := by decide +kernel
theorem dX3_give_110 : decode cX3_give 110 = .ok (.iload_n 2, 1) := by decide +kernel
theorem dX3_give_111 : decode cX3_give 111 = .ok (.iaload, 1) := by decide +kernel
theorem dX3_give_112 : decode cX3_give 112 = .ok (.iaload, 1) := by decide +kernel
theorem dX3_give_113 : decode cX3_give 113 = .ok (.ifCond .ge 6, 3) := by decide +kernel
theorem dX3_give_116 : decode cX3_give 116 = .ok (.iinc 1 1, 3) := by decide +kernel
theorem dX3_give_119 : decode cX3_give 119 = .ok (.iinc 2 (-1), 3) := by decide +kernel
theorem dX3_give_122 : decode cX3_give 122 = .ok (.goto (-45), 3) := by decide +kernel
theorem dX3_give_125 : decode cX3_give 125 = .ok (.aload_n 0, 1) := by decide +kernel
theorem dX3_give_126 : decode cX3_give 126 = .ok (.iconst 1, 1) := by decide +kernel
theorem dX3_give_127 : decode cX3_give 127 = .ok (.putfield 41, 3) := by decide +kernel
theorem dX3_give_130 : decode cX3_give 130 = .ok (.iload_n 1, 1) := by decide +kernel
theorem dX3_give_131 : decode cX3_give 131 = .ok (.ireturn, 1) := by decide +kernel
abbrev cX3_next : ByteArray := prog_5_method_9_code
def yX3_next : MethodName := ⟨RX3, "next", "()I"⟩
theorem dX3_next_0 : decode cX3_next 0 = .ok (.iconst 0, 1) := by decide +kernel
theorem dX3_next_1 : decode cX3_next 1 = .ok (.istore_n 1, 1) := by decide +kernel
theorem dX3_next_2 : decode cX3_next 2 = .ok (.iload_n 1, 1) := by decide +kernel
theorem dX3_next_3 : decode cX3_next 3 = .ok (.aload_n 0, 1) := by decide +kernel
theorem dX3_next_4 : decode cX3_next 4 = .ok (.getfield 34, 3) := by decide +kernel
theorem dX3_next_7 : decode cX3_next 7 = .ok (.if_icmp .ge 32, 3) := by decide +kernel
theorem dX3_next_10 : decode cX3_next 10 = .ok (.aload_n 0, 1) := by decide +kernel
theorem dX3_next_11 : decode cX3_next 11 = .ok (.getfield 27, 3) := by decide +kernel
theorem dX3_next_14 : decode cX3_next 14 = .ok (.iload_n 1, 1) := by decide +kernel
theorem dX3_next_15 : decode cX3_next 15 = .ok (.baload, 1) := by decide +kernel
theorem dX3_next_16 : decode cX3_next 16 = .ok (.ifCond .eq 17, 3) := by decide +kernel
theorem dX3_next_19 : decode cX3_next 19 = .ok (.aload_n 0, 1) := by decide +kernel
theorem dX3_next_20 : decode cX3_next 20 = .ok (.iload_n 1, 1) := by decide +kernel
theorem dX3_next_21 : decode cX3_next 21 = .ok (.invokevirtual 50, 3) := by decide +kernel
theorem dX3_next_24 : decode cX3_next 24 = .ok (.aload_n 0, 1) := by decide +kernel
theorem dX3_next_25 : decode cX3_next 25 = .ok (.getfield 38, 3) := by decide +kernel
theorem dX3_next_28 : decode cX3_next 28 = .ok (.if_icmp .ge 5, 3) := by decide +kernel
theorem dX3_next_31 : decode cX3_next 31 = .ok (.iload_n 1, 1) := by decide +kernel
theorem dX3_next_32 : decode cX3_next 32 = .ok (.ireturn, 1) := by decide +kernel
theorem dX3_next_33 : decode cX3_next 33 = .ok (.iinc 1 1, 3) := by decide +kernel
theorem dX3_next_36 : decode cX3_next 36 = .ok (.goto (-34), 3) := by decide +kernel
theorem dX3_next_39 : decode cX3_next 39 = .ok (.iconst (-1), 1) := by decide +kernel
theorem dX3_next_40 : decode cX3_next 40 = .ok (.istore_n 1, 1) := by decide +kernel
theorem dX3_next_41 : decode cX3_next 41 = .ok (.iconst 0, 1) := by decide +kernel
theorem dX3_next_42 : decode cX3_next 42 = .ok (.istore_n 2, 1) := by decide +kernel
theorem dX3_next_43 : decode cX3_next 43 = .ok (.iload_n 2, 1) := by decide +kernel
theorem dX3_next_44 : decode cX3_next 44 = .ok (.aload_n 0, 1) := by decide +kernel
theorem dX3_next_45 : decode cX3_next 45 = .ok (.getfield 34, 3) := by decide +kernel
theorem dX3_next_48 : decode cX3_next 48 = .ok (.if_icmp .ge 54, 3) := by decide +kernel
theorem dX3_next_51 : decode cX3_next 51 = .ok (.aload_n 0, 1) := by decide +kernel
theorem dX3_next_52 : decode cX3_next 52 = .ok (.getfield 27, 3) := by decide +kernel
theorem dX3_next_55 : decode cX3_next 55 = .ok (.iload_n 2, 1) := by decide +kernel
theorem dX3_next_56 : decode cX3_next 56 = .ok (.baload, 1) := by decide +kernel
theorem dX3_next_57 : decode cX3_next 57 = .ok (.ifCond .ne 6, 3) := by decide +kernel
theorem dX3_next_60 : decode cX3_next 60 = .ok (.goto 36, 3) := by decide +kernel
theorem dX3_next_63 : decode cX3_next 63 = .ok (.iload_n 1, 1) := by decide +kernel
theorem dX3_next_64 : decode cX3_next 64 = .ok (.ifCond .lt 30, 3) := by decide +kernel
theorem dX3_next_67 : decode cX3_next 67 = .ok (.aload_n 0, 1) := by decide +kernel
theorem dX3_next_68 : decode cX3_next 68 = .ok (.getfield 14, 3) := by decide +kernel
theorem dX3_next_71 : decode cX3_next 71 = .ok (.iload_n 2, 1) := by decide +kernel
theorem dX3_next_72 : decode cX3_next 72 = .ok (.iaload, 1) := by decide +kernel
theorem dX3_next_73 : decode cX3_next 73 = .ok (.aload_n 0, 1) := by decide +kernel
theorem dX3_next_74 : decode cX3_next 74 = .ok (.iload_n 1, 1) := by decide +kernel
theorem dX3_next_75 : decode cX3_next 75 = .ok (.invokevirtual 50, 3) := by decide +kernel
theorem dX3_next_78 : decode cX3_next 78 = .ok (.imul, 1) := by decide +kernel
theorem dX3_next_79 : decode cX3_next 79 = .ok (.aload_n 0, 1) := by decide +kernel
theorem dX3_next_80 : decode cX3_next 80 = .ok (.getfield 14, 3) := by decide +kernel
theorem dX3_next_83 : decode cX3_next 83 = .ok (.iload_n 1, 1) := by decide +kernel
theorem dX3_next_84 : decode cX3_next 84 = .ok (.iaload, 1) := by decide +kernel
theorem dX3_next_85 : decode cX3_next 85 = .ok (.aload_n 0, 1) := by decide +kernel
theorem dX3_next_86 : decode cX3_next 86 = .ok (.iload_n 2, 1) := by decide +kernel
theorem dX3_next_87 : decode cX3_next 87 = .ok (.invokevirtual 50, 3) := by decide +kernel
theorem dX3_next_90 : decode cX3_next 90 = .ok (.imul, 1) := by decide +kernel
theorem dX3_next_91 : decode cX3_next 91 = .ok (.if_icmp .ge 5, 3) := by decide +kernel
theorem dX3_next_94 : decode cX3_next 94 = .ok (.iload_n 2, 1) := by decide +kernel
theorem dX3_next_95 : decode cX3_next 95 = .ok (.istore_n 1, 1) := by decide +kernel
theorem dX3_next_96 : decode cX3_next 96 = .ok (.iinc 2 1, 3) := by decide +kernel
theorem dX3_next_99 : decode cX3_next 99 = .ok (.goto (-56), 3) := by decide +kernel
theorem dX3_next_102 : decode cX3_next 102 = .ok (.iload_n 1, 1) := by decide +kernel
theorem dX3_next_103 : decode cX3_next 103 = .ok (.ireturn, 1) := by decide +kernel
abbrev cX3_left : ByteArray := prog_5_method_8_code
def yX3_left : MethodName := ⟨RX3, "left", "(I)I"⟩
theorem dX3_left_0 : decode cX3_left 0 = .ok (.iconst 0, 1) := by decide +kernel
theorem dX3_left_1 : decode cX3_left 1 = .ok (.istore_n 2, 1) := by decide +kernel
theorem dX3_left_2 : decode cX3_left 2 = .ok (.iconst 0, 1) := by decide +kernel
theorem dX3_left_3 : decode cX3_left 3 = .ok (.istore_n 3, 1) := by decide +kernel
theorem dX3_left_4 : decode cX3_left 4 = .ok (.iload_n 3, 1) := by decide +kernel
theorem dX3_left_5 : decode cX3_left 5 = .ok (.aload_n 0, 1) := by decide +kernel
theorem dX3_left_6 : decode cX3_left 6 = .ok (.getfield 34, 3) := by decide +kernel
theorem dX3_left_9 : decode cX3_left 9 = .ok (.if_icmp .ge 36, 3) := by decide +kernel
theorem dX3_left_12 : decode cX3_left 12 = .ok (.aload_n 0, 1) := by decide +kernel
theorem dX3_left_13 : decode cX3_left 13 = .ok (.getfield 27, 3) := by decide +kernel
theorem dX3_left_16 : decode cX3_left 16 = .ok (.iload_n 3, 1) := by decide +kernel
theorem dX3_left_17 : decode cX3_left 17 = .ok (.baload, 1) := by decide +kernel
theorem dX3_left_18 : decode cX3_left 18 = .ok (.ifCond .eq 21, 3) := by decide +kernel
theorem dX3_left_21 : decode cX3_left 21 = .ok (.aload_n 0, 1) := by decide +kernel
theorem dX3_left_22 : decode cX3_left 22 = .ok (.getfield 10, 3) := by decide +kernel
theorem dX3_left_25 : decode cX3_left 25 = .ok (.sipush 200, 3) := by decide +kernel
theorem dX3_left_28 : decode cX3_left 28 = .ok (.iload_n 1, 1) := by decide +kernel
theorem dX3_left_29 : decode cX3_left 29 = .ok (.imul, 1) := by decide +kernel
theorem dX3_left_30 : decode cX3_left 30 = .ok (.iload_n 3, 1) := by decide +kernel
theorem dX3_left_31 : decode cX3_left 31 = .ok (.iadd, 1) := by decide +kernel
theorem dX3_left_32 : decode cX3_left 32 = .ok (.baload, 1) := by decide +kernel
theorem dX3_left_33 : decode cX3_left 33 = .ok (.ifCond .eq 6, 3) := by decide +kernel
theorem dX3_left_36 : decode cX3_left 36 = .ok (.iinc 2 1, 3) := by decide +kernel
theorem dX3_left_39 : decode cX3_left 39 = .ok (.iinc 3 1, 3) := by decide +kernel
theorem dX3_left_42 : decode cX3_left 42 = .ok (.goto (-38), 3) := by decide +kernel
theorem dX3_left_45 : decode cX3_left 45 = .ok (.iload_n 2, 1) := by decide +kernel
theorem dX3_left_46 : decode cX3_left 46 = .ok (.ireturn, 1) := by decide +kernel
abbrev cX3_colourFor : ByteArray := prog_5_method_11_code
def yX3_colourFor : MethodName := ⟨RX3, "colourFor", "(I)I"⟩
theorem dX3_colourFor_0 : decode cX3_colourFor 0 = .ok (.aload_n 0, 1) := by decide +kernel
theorem dX3_colourFor_1 : decode cX3_colourFor 1 = .ok (.getfield 18, 3) := by decide +kernel
theorem dX3_colourFor_4 : decode cX3_colourFor 4 = .ok (.iload_n 1, 1) := by decide +kernel
theorem dX3_colourFor_5 : decode cX3_colourFor 5 = .ok (.iaload, 1) := by decide +kernel
theorem dX3_colourFor_6 : decode cX3_colourFor 6 = .ok (.istore_n 2, 1) := by decide +kernel
theorem dX3_colourFor_7 : decode cX3_colourFor 7 = .ok (.iload_n 2, 1) := by decide +kernel
theorem dX3_colourFor_8 : decode cX3_colourFor 8 = .ok (.iload_n 1, 1) := by decide +kernel
theorem dX3_colourFor_9 : decode cX3_colourFor 9 = .ok (.if_icmp .eq 33, 3) := by decide +kernel
theorem dX3_colourFor_12 : decode cX3_colourFor 12 = .ok (.aload_n 0, 1) := by decide +kernel
theorem dX3_colourFor_13 : decode cX3_colourFor 13 = .ok (.getfield 21, 3) := by decide +kernel
theorem dX3_colourFor_16 : decode cX3_colourFor 16 = .ok (.iload_n 2, 1) := by decide +kernel
theorem dX3_colourFor_17 : decode cX3_colourFor 17 = .ok (.iaload, 1) := by decide +kernel
theorem dX3_colourFor_18 : decode cX3_colourFor 18 = .ok (.ifCond .lt 24, 3) := by decide +kernel
theorem dX3_colourFor_21 : decode cX3_colourFor 21 = .ok (.aload_n 0, 1) := by decide +kernel
theorem dX3_colourFor_22 : decode cX3_colourFor 22 = .ok (.iload_n 1, 1) := by decide +kernel
theorem dX3_colourFor_23 : decode cX3_colourFor 23 = .ok (.aload_n 0, 1) := by decide +kernel
theorem dX3_colourFor_24 : decode cX3_colourFor 24 = .ok (.getfield 21, 3) := by decide +kernel
theorem dX3_colourFor_27 : decode cX3_colourFor 27 = .ok (.iload_n 2, 1) := by decide +kernel
theorem dX3_colourFor_28 : decode cX3_colourFor 28 = .ok (.iaload, 1) := by decide +kernel
theorem dX3_colourFor_29 : decode cX3_colourFor 29 = .ok (.invokevirtual 54, 3) := by decide +kernel
theorem dX3_colourFor_32 : decode cX3_colourFor 32 = .ok (.ifCond .eq 10, 3) := by decide +kernel
theorem dX3_colourFor_35 : decode cX3_colourFor 35 = .ok (.aload_n 0, 1) := by decide +kernel
theorem dX3_colourFor_36 : decode cX3_colourFor 36 = .ok (.getfield 21, 3) := by decide +kernel
theorem dX3_colourFor_39 : decode cX3_colourFor 39 = .ok (.iload_n 2, 1) := by decide +kernel
theorem dX3_colourFor_40 : decode cX3_colourFor 40 = .ok (.iaload, 1) := by decide +kernel
theorem dX3_colourFor_41 : decode cX3_colourFor 41 = .ok (.ireturn, 1) := by decide +kernel
theorem dX3_colourFor_42 : decode cX3_colourFor 42 = .ok (.iconst 0, 1) := by decide +kernel
theorem dX3_colourFor_43 : decode cX3_colourFor 43 = .ok (.istore_n 3, 1) := by decide +kernel
theorem dX3_colourFor_44 : decode cX3_colourFor 44 = .ok (.iload_n 3, 1) := by decide +kernel
theorem dX3_colourFor_45 : decode cX3_colourFor 45 = .ok (.aload_n 0, 1) := by decide +kernel
theorem dX3_colourFor_46 : decode cX3_colourFor 46 = .ok (.getfield 38, 3) := by decide +kernel
theorem dX3_colourFor_49 : decode cX3_colourFor 49 = .ok (.if_icmp .ge 20, 3) := by decide +kernel
theorem dX3_colourFor_52 : decode cX3_colourFor 52 = .ok (.aload_n 0, 1) := by decide +kernel
theorem dX3_colourFor_53 : decode cX3_colourFor 53 = .ok (.iload_n 1, 1) := by decide +kernel
theorem dX3_colourFor_54 : decode cX3_colourFor 54 = .ok (.iload_n 3, 1) := by decide +kernel
theorem dX3_colourFor_55 : decode cX3_colourFor 55 = .ok (.invokevirtual 54, 3) := by decide +kernel
theorem dX3_colourFor_58 : decode cX3_colourFor 58 = .ok (.ifCond .eq 5, 3) := by decide +kernel
theorem dX3_colourFor_61 : decode cX3_colourFor 61 = .ok (.iload_n 3, 1) := by decide +kernel
theorem dX3_colourFor_62 : decode cX3_colourFor 62 = .ok (.ireturn, 1) := by decide +kernel
theorem dX3_colourFor_63 : decode cX3_colourFor 63 = .ok (.iinc 3 1, 3) := by decide +kernel
theorem dX3_colourFor_66 : decode cX3_colourFor 66 = .ok (.goto (-22), 3) := by decide +kernel
theorem dX3_colourFor_69 : decode cX3_colourFor 69 = .ok (.iconst (-1), 1) := by decide +kernel
theorem dX3_colourFor_70 : decode cX3_colourFor 70 = .ok (.ireturn, 1) := by decide +kernel
abbrev cX3_isFree : ByteArray := prog_5_method_10_code
def yX3_isFree : MethodName := ⟨RX3, "isFree", "(II)Z"⟩
theorem dX3_isFree_0 : decode cX3_isFree 0 = .ok (.iconst 0, 1) := by decide +kernel
theorem dX3_isFree_1 : decode cX3_isFree 1 = .ok (.istore_n 3, 1) := by decide +kernel
theorem dX3_isFree_2 : decode cX3_isFree 2 = .ok (.iload_n 3, 1) := by decide +kernel
theorem dX3_isFree_3 : decode cX3_isFree 3 = .ok (.aload_n 0, 1) := by decide +kernel
theorem dX3_isFree_4 : decode cX3_isFree 4 = .ok (.getfield 34, 3) := by decide +kernel
theorem dX3_isFree_7 : decode cX3_isFree 7 = .ok (.if_icmp .ge 36, 3) := by decide +kernel
theorem dX3_isFree_10 : decode cX3_isFree 10 = .ok (.aload_n 0, 1) := by decide +kernel
theorem dX3_isFree_11 : decode cX3_isFree 11 = .ok (.getfield 10, 3) := by decide +kernel
theorem dX3_isFree_14 : decode cX3_isFree 14 = .ok (.sipush 200, 3) := by decide +kernel
theorem dX3_isFree_17 : decode cX3_isFree 17 = .ok (.iload_n 1, 1) := by decide +kernel
theorem dX3_isFree_18 : decode cX3_isFree 18 = .ok (.imul, 1) := by decide +kernel
theorem dX3_isFree_19 : decode cX3_isFree 19 = .ok (.iload_n 3, 1) := by decide +kernel
theorem dX3_isFree_20 : decode cX3_isFree 20 = .ok (.iadd, 1) := by decide +kernel
theorem dX3_isFree_21 : decode cX3_isFree 21 = .ok (.baload, 1) := by decide +kernel
theorem dX3_isFree_22 : decode cX3_isFree 22 = .ok (.ifCond .eq 15, 3) := by decide +kernel
theorem dX3_isFree_25 : decode cX3_isFree 25 = .ok (.aload_n 0, 1) := by decide +kernel
theorem dX3_isFree_26 : decode cX3_isFree 26 = .ok (.getfield 21, 3) := by decide +kernel
theorem dX3_isFree_29 : decode cX3_isFree 29 = .ok (.iload_n 3, 1) := by decide +kernel
theorem dX3_isFree_30 : decode cX3_isFree 30 = .ok (.iaload, 1) := by decide +kernel
theorem dX3_isFree_31 : decode cX3_isFree 31 = .ok (.iload_n 2, 1) := by decide +kernel
theorem dX3_isFree_32 : decode cX3_isFree 32 = .ok (.if_icmp .ne 5, 3) := by decide +kernel
theorem dX3_isFree_35 : decode cX3_isFree 35 = .ok (.iconst 0, 1) := by decide +kernel
theorem dX3_isFree_36 : decode cX3_isFree 36 = .ok (.ireturn, 1) := by decide +kernel
theorem dX3_isFree_37 : decode cX3_isFree 37 = .ok (.iinc 3 1, 3) := by decide +kernel
theorem dX3_isFree_40 : decode cX3_isFree 40 = .ok (.goto (-38), 3) := by decide +kernel
theorem dX3_isFree_43 : decode cX3_isFree 43 = .ok (.iconst 1, 1) := by decide +kernel
theorem dX3_isFree_44 : decode cX3_isFree 44 = .ok (.ireturn, 1) := by decide +kernel
abbrev cX3_colour : ByteArray := prog_5_method_13_code
def yX3_colour : MethodName := ⟨RX3, "colour", "(I)I"⟩
theorem dX3_colour_0 : decode cX3_colour 0 = .ok (.aload_n 0, 1) := by decide +kernel
theorem dX3_colour_1 : decode cX3_colour 1 = .ok (.getfield 41, 3) := by decide +kernel
theorem dX3_colour_4 : decode cX3_colour 4 = .ok (.ifCond .eq 20, 3) := by decide +kernel
theorem dX3_colour_7 : decode cX3_colour 7 = .ok (.aload_n 0, 1) := by decide +kernel
theorem dX3_colour_8 : decode cX3_colour 8 = .ok (.iload_n 1, 1) := by decide +kernel
theorem dX3_colour_9 : decode cX3_colour 9 = .ok (.invokevirtual 45, 3) := by decide +kernel
theorem dX3_colour_12 : decode cX3_colour 12 = .ok (.ifCond .eq 12, 3) := by decide +kernel
theorem dX3_colour_15 : decode cX3_colour 15 = .ok (.aload_n 0, 1) := by decide +kernel
theorem dX3_colour_16 : decode cX3_colour 16 = .ok (.getfield 21, 3) := by decide +kernel
theorem dX3_colour_19 : decode cX3_colour 19 = .ok (.iload_n 1, 1) := by decide +kernel
theorem dX3_colour_20 : decode cX3_colour 20 = .ok (.iaload, 1) := by decide +kernel
theorem dX3_colour_21 : decode cX3_colour 21 = .ok (.goto 4, 3) := by decide +kernel
theorem dX3_colour_24 : decode cX3_colour 24 = .ok (.iconst (-1), 1) := by decide +kernel
theorem dX3_colour_25 : decode cX3_colour 25 = .ok (.ireturn, 1) := by decide +kernel
abbrev cX3_taken : ByteArray := prog_5_method_14_code
def yX3_taken : MethodName := ⟨RX3, "taken", "(I)I"⟩
theorem dX3_taken_0 : decode cX3_taken 0 = .ok (.aload_n 0, 1) := by decide +kernel
theorem dX3_taken_1 : decode cX3_taken 1 = .ok (.getfield 41, 3) := by decide +kernel
theorem dX3_taken_4 : decode cX3_taken 4 = .ok (.ifCond .eq 20, 3) := by decide +kernel
theorem dX3_taken_7 : decode cX3_taken 7 = .ok (.aload_n 0, 1) := by decide +kernel
theorem dX3_taken_8 : decode cX3_taken 8 = .ok (.iload_n 1, 1) := by decide +kernel
theorem dX3_taken_9 : decode cX3_taken 9 = .ok (.invokevirtual 45, 3) := by decide +kernel
theorem dX3_taken_12 : decode cX3_taken 12 = .ok (.ifCond .eq 12, 3) := by decide +kernel
theorem dX3_taken_15 : decode cX3_taken 15 = .ok (.aload_n 0, 1) := by decide +kernel
theorem dX3_taken_16 : decode cX3_taken 16 = .ok (.getfield 24, 3) := by decide +kernel
theorem dX3_taken_19 : decode cX3_taken 19 = .ok (.iload_n 1, 1) := by decide +kernel
theorem dX3_taken_20 : decode cX3_taken 20 = .ok (.iaload, 1) := by decide +kernel
theorem dX3_taken_21 : decode cX3_taken 21 = .ok (.goto 4, 3) := by decide +kernel
theorem dX3_taken_24 : decode cX3_taken 24 = .ok (.iconst (-1), 1) := by decide +kernel
theorem dX3_taken_25 : decode cX3_taken 25 = .ok (.ireturn, 1) := by decide +kernel
abbrev cX3_joined : ByteArray := prog_5_method_15_code
def yX3_joined : MethodName := ⟨RX3, "joined", "(II)Z"⟩
theorem dX3_joined_0 : decode cX3_joined 0 = .ok (.aload_n 0, 1) := by decide +kernel
theorem dX3_joined_1 : decode cX3_joined 1 = .ok (.iload_n 1, 1) := by decide +kernel
theorem dX3_joined_2 : decode cX3_joined 2 = .ok (.invokevirtual 45, 3) := by decide +kernel
theorem dX3_joined_5 : decode cX3_joined 5 = .ok (.ifCond .eq 30, 3) := by decide +kernel
theorem dX3_joined_8 : decode cX3_joined 8 = .ok (.aload_n 0, 1) := by decide +kernel
theorem dX3_joined_9 : decode cX3_joined 9 = .ok (.iload_n 2, 1) := by decide +kernel
theorem dX3_joined_10 : decode cX3_joined 10 = .ok (.invokevirtual 45, 3) := by decide +kernel
theorem dX3_joined_13 : decode cX3_joined 13 = .ok (.ifCond .eq 22, 3) := by decide +kernel
theorem dX3_joined_16 : decode cX3_joined 16 = .ok (.aload_n 0, 1) := by decide +kernel
theorem dX3_joined_17 : decode cX3_joined 17 = .ok (.getfield 10, 3) := by decide +kernel
theorem dX3_joined_20 : decode cX3_joined 20 = .ok (.sipush 200, 3) := by decide +kernel
theorem dX3_joined_23 : decode cX3_joined 23 = .ok (.iload_n 1, 1) := by decide +kernel
theorem dX3_joined_24 : decode cX3_joined 24 = .ok (.imul, 1) := by decide +kernel
theorem dX3_joined_25 : decode cX3_joined 25 = .ok (.iload_n 2, 1) := by decide +kernel
theorem dX3_joined_26 : decode cX3_joined 26 = .ok (.iadd, 1) := by decide +kernel
theorem dX3_joined_27 : decode cX3_joined 27 = .ok (.baload, 1) := by decide +kernel
theorem dX3_joined_28 : decode cX3_joined 28 = .ok (.ifCond .eq 7, 3) := by decide +kernel
theorem dX3_joined_31 : decode cX3_joined 31 = .ok (.iconst 1, 1) := by decide +kernel
theorem dX3_joined_32 : decode cX3_joined 32 = .ok (.goto 4, 3) := by decide +kernel
theorem dX3_joined_35 : decode cX3_joined 35 = .ok (.iconst 0, 1) := by decide +kernel
theorem dX3_joined_36 : decode cX3_joined 36 = .ok (.ireturn, 1) := by decide +kernel
abbrev cX3_degree : ByteArray := prog_5_method_16_code
def yX3_degree : MethodName := ⟨RX3, "degree", "(I)I"⟩
theorem dX3_degree_0 : decode cX3_degree 0 = .ok (.aload_n 0, 1) := by decide +kernel
theorem dX3_degree_1 : decode cX3_degree 1 = .ok (.iload_n 1, 1) := by decide +kernel
theorem dX3_degree_2 : decode cX3_degree 2 = .ok (.invokevirtual 45, 3) := by decide +kernel
theorem dX3_degree_5 : decode cX3_degree 5 = .ok (.ifCond .ne 5, 3) := by decide +kernel
theorem dX3_degree_8 : decode cX3_degree 8 = .ok (.iconst (-1), 1) := by decide +kernel
theorem dX3_degree_9 : decode cX3_degree 9 = .ok (.ireturn, 1) := by decide +kernel
theorem dX3_degree_10 : decode cX3_degree 10 = .ok (.iconst 0, 1) := by decide +kernel
theorem dX3_degree_11 : decode cX3_degree 11 = .ok (.istore_n 2, 1) := by decide +kernel
theorem dX3_degree_12 : decode cX3_degree 12 = .ok (.iconst 0, 1) := by decide +kernel
theorem dX3_degree_13 : decode cX3_degree 13 = .ok (.istore_n 3, 1) := by decide +kernel
theorem dX3_degree_14 : decode cX3_degree 14 = .ok (.iload_n 3, 1) := by decide +kernel
theorem dX3_degree_15 : decode cX3_degree 15 = .ok (.aload_n 0, 1) := by decide +kernel
theorem dX3_degree_16 : decode cX3_degree 16 = .ok (.getfield 34, 3) := by decide +kernel
theorem dX3_degree_19 : decode cX3_degree 19 = .ok (.if_icmp .ge 27, 3) := by decide +kernel
theorem dX3_degree_22 : decode cX3_degree 22 = .ok (.aload_n 0, 1) := by decide +kernel
theorem dX3_degree_23 : decode cX3_degree 23 = .ok (.getfield 10, 3) := by decide +kernel
theorem dX3_degree_26 : decode cX3_degree 26 = .ok (.sipush 200, 3) := by decide +kernel
theorem dX3_degree_29 : decode cX3_degree 29 = .ok (.iload_n 1, 1) := by decide +kernel
theorem dX3_degree_30 : decode cX3_degree 30 = .ok (.imul, 1) := by decide +kernel
theorem dX3_degree_31 : decode cX3_degree 31 = .ok (.iload_n 3, 1) := by decide +kernel
theorem dX3_degree_32 : decode cX3_degree 32 = .ok (.iadd, 1) := by decide +kernel
theorem dX3_degree_33 : decode cX3_degree 33 = .ok (.baload, 1) := by decide +kernel
theorem dX3_degree_34 : decode cX3_degree 34 = .ok (.ifCond .eq 6, 3) := by decide +kernel
theorem dX3_degree_37 : decode cX3_degree 37 = .ok (.iinc 2 1, 3) := by decide +kernel
theorem dX3_degree_40 : decode cX3_degree 40 = .ok (.iinc 3 1, 3) := by decide +kernel
theorem dX3_degree_43 : decode cX3_degree 43 = .ok (.goto (-29), 3) := by decide +kernel
theorem dX3_degree_46 : decode cX3_degree 46 = .ok (.iload_n 2, 1) := by decide +kernel
theorem dX3_degree_47 : decode cX3_degree 47 = .ok (.ireturn, 1) := by decide +kernel
abbrev cX3_strays : ByteArray := prog_5_method_17_code
def yX3_strays : MethodName := ⟨RX3, "strays", "()I"⟩
theorem dX3_strays_0 : decode cX3_strays 0 = .ok (.iconst 0, 1) := by decide +kernel
theorem dX3_strays_1 : decode cX3_strays 1 = .ok (.istore_n 1, 1) := by decide +kernel
theorem dX3_strays_2 : decode cX3_strays 2 = .ok (.iconst 0, 1) := by decide +kernel
theorem dX3_strays_3 : decode cX3_strays 3 = .ok (.istore_n 2, 1) := by decide +kernel
theorem dX3_strays_4 : decode cX3_strays 4 = .ok (.iload_n 2, 1) := by decide +kernel
theorem dX3_strays_5 : decode cX3_strays 5 = .ok (.aload_n 0, 1) := by decide +kernel
theorem dX3_strays_6 : decode cX3_strays 6 = .ok (.getfield 34, 3) := by decide +kernel
theorem dX3_strays_9 : decode cX3_strays 9 = .ok (.if_icmp .ge 76, 3) := by decide +kernel
theorem dX3_strays_12 : decode cX3_strays 12 = .ok (.aload_n 0, 1) := by decide +kernel
theorem dX3_strays_13 : decode cX3_strays 13 = .ok (.getfield 41, 3) := by decide +kernel
theorem dX3_strays_16 : decode cX3_strays 16 = .ok (.ifCond .eq 69, 3) := by decide +kernel
theorem dX3_strays_19 : decode cX3_strays 19 = .ok (.iload_n 2, 1) := by decide +kernel
theorem dX3_strays_20 : decode cX3_strays 20 = .ok (.iconst 1, 1) := by decide +kernel
theorem dX3_strays_21 : decode cX3_strays 21 = .ok (.iadd, 1) := by decide +kernel
theorem dX3_strays_22 : decode cX3_strays 22 = .ok (.istore_n 3, 1) := by decide +kernel
theorem dX3_strays_23 : decode cX3_strays 23 = .ok (.iload_n 3, 1) := by decide +kernel
theorem dX3_strays_24 : decode cX3_strays 24 = .ok (.aload_n 0, 1) := by decide +kernel
theorem dX3_strays_25 : decode cX3_strays 25 = .ok (.getfield 34, 3) := by decide +kernel
theorem dX3_strays_28 : decode cX3_strays 28 = .ok (.if_icmp .ge 51, 3) := by decide +kernel
theorem dX3_strays_31 : decode cX3_strays 31 = .ok (.aload_n 0, 1) := by decide +kernel
theorem dX3_strays_32 : decode cX3_strays 32 = .ok (.getfield 10, 3) := by decide +kernel
theorem dX3_strays_35 : decode cX3_strays 35 = .ok (.sipush 200, 3) := by decide +kernel
theorem dX3_strays_38 : decode cX3_strays 38 = .ok (.iload_n 2, 1) := by decide +kernel
theorem dX3_strays_39 : decode cX3_strays 39 = .ok (.imul, 1) := by decide +kernel
theorem dX3_strays_40 : decode cX3_strays 40 = .ok (.iload_n 3, 1) := by decide +kernel
theorem dX3_strays_41 : decode cX3_strays 41 = .ok (.iadd, 1) := by decide +kernel
theorem dX3_strays_42 : decode cX3_strays 42 = .ok (.baload, 1) := by decide +kernel
theorem dX3_strays_43 : decode cX3_strays 43 = .ok (.ifCond .eq 30, 3) := by decide +kernel
theorem dX3_strays_46 : decode cX3_strays 46 = .ok (.aload_n 0, 1) := by decide +kernel
theorem dX3_strays_47 : decode cX3_strays 47 = .ok (.getfield 21, 3) := by decide +kernel
theorem dX3_strays_50 : decode cX3_strays 50 = .ok (.iload_n 2, 1) := by decide +kernel
theorem dX3_strays_51 : decode cX3_strays 51 = .ok (.iaload, 1) := by decide +kernel
theorem dX3_strays_52 : decode cX3_strays 52 = .ok (.ifCond .lt 21, 3) := by decide +kernel
theorem dX3_strays_55 : decode cX3_strays 55 = .ok (.aload_n 0, 1) := by decide +kernel
theorem dX3_strays_56 : decode cX3_strays 56 = .ok (.getfield 21, 3) := by decide +kernel
theorem dX3_strays_59 : decode cX3_strays 59 = .ok (.iload_n 2, 1) := by decide +kernel
theorem dX3_strays_60 : decode cX3_strays 60 = .ok (.iaload, 1) := by decide +kernel
theorem dX3_strays_61 : decode cX3_strays 61 = .ok (.aload_n 0, 1) := by decide +kernel
theorem dX3_strays_62 : decode cX3_strays 62 = .ok (.getfield 21, 3) := by decide +kernel
theorem dX3_strays_65 : decode cX3_strays 65 = .ok (.iload_n 3, 1) := by decide +kernel
theorem dX3_strays_66 : decode cX3_strays 66 = .ok (.iaload, 1) := by decide +kernel
theorem dX3_strays_67 : decode cX3_strays 67 = .ok (.if_icmp .ne 6, 3) := by decide +kernel
theorem dX3_strays_70 : decode cX3_strays 70 = .ok (.iinc 1 1, 3) := by decide +kernel
theorem dX3_strays_73 : decode cX3_strays 73 = .ok (.iinc 3 1, 3) := by decide +kernel
theorem dX3_strays_76 : decode cX3_strays 76 = .ok (.goto (-53), 3) := by decide +kernel
theorem dX3_strays_79 : decode cX3_strays 79 = .ok (.iinc 2 1, 3) := by decide +kernel
theorem dX3_strays_82 : decode cX3_strays 82 = .ok (.goto (-78), 3) := by decide +kernel
theorem dX3_strays_85 : decode cX3_strays 85 = .ok (.iload_n 1, 1) := by decide +kernel
theorem dX3_strays_86 : decode cX3_strays 86 = .ok (.ireturn, 1) := by decide +kernel
theorem q13 : (Jvm.Cond.initialized "PointColoursModel") ∈ lw_all := lw_g (lw_at lw_m1 4 rfl) rfl
theorem q174 : (Jvm.Cond.instantiable "PointColoursModel" (9 : Nat)) ∈ lw_all := lw_g (lw_at lw_m1 165 rfl) rfl
theorem q176 : (Jvm.Cond.instanceMethod ({ cls := "PointColoursModel", name := "<init>", desc := "()V" } : Jvm.MethodName)) ∈ lw_all := lw_g (lw_at lw_m1 167 rfl) rfl
theorem q177 : (Jvm.Cond.code ({ cls := "PointColoursModel", name := "<init>", desc := "()V" } : Jvm.MethodName) prog_5_method_1_code (2 : Nat) (Option.none : Option Jvm.ClassFile.FieldType)) ∈ lw_all := lw_g (lw_at lw_m1 168 rfl) rfl
theorem q178 : (Jvm.Cond.methodLink "PointColoursModel" (1 : Nat) ({ cls := "java/lang/Object", name := "<init>", desc := "()V" } : Jvm.MethodName)) ∈ lw_all := lw_g (lw_at lw_m1 169 rfl) rfl
theorem q179 : (Jvm.Cond.constant "PointColoursModel" (9 : Nat) (40000 : Int32)) ∈ lw_all := lw_g (lw_at lw_m1 170 rfl) rfl
theorem q180 : (Jvm.Cond.methodLink "PointColoursModel" (30 : Nat) ({ cls := "PointColoursModel", name := "begin", desc := "(II)Z" } : Jvm.MethodName)) ∈ lw_all := lw_g (lw_at lw_m1 171 rfl) rfl
theorem q181 : (Jvm.Cond.instanceMethod ({ cls := "PointColoursModel", name := "begin", desc := "(II)Z" } : Jvm.MethodName)) ∈ lw_all := lw_g (lw_at lw_m1 172 rfl) rfl
theorem q182 : (Jvm.Cond.selects "PointColoursModel" ({ cls := "PointColoursModel", name := "begin", desc := "(II)Z" } : Jvm.MethodName) ({ cls := "PointColoursModel", name := "begin", desc := "(II)Z" } : Jvm.MethodName)) ∈ lw_all := lw_g (lw_at lw_m1 173 rfl) rfl
theorem q183 : (Jvm.Cond.code ({ cls := "PointColoursModel", name := "begin", desc := "(II)Z" } : Jvm.MethodName) prog_5_method_4_code (5 : Nat) (Option.some Jvm.ClassFile.FieldType.boolean)) ∈ lw_all := lw_g (lw_at lw_m1 174 rfl) rfl
theorem q184 : (Jvm.Cond.fieldLink "PointColoursModel" (10 : Nat) "PointColoursModel" "pairs" "[Z") ∈ lw_all := lw_g (lw_at lw_m1 175 rfl) rfl
theorem q185 : (Jvm.Cond.fieldLink "PointColoursModel" (14 : Nat) "PointColoursModel" "costs" "[I") ∈ lw_all := lw_g (lw_at lw_m1 176 rfl) rfl
theorem q186 : (Jvm.Cond.fieldLink "PointColoursModel" (18 : Nat) "PointColoursModel" "wishes" "[I") ∈ lw_all := lw_g (lw_at lw_m1 177 rfl) rfl
theorem q187 : (Jvm.Cond.fieldLink "PointColoursModel" (21 : Nat) "PointColoursModel" "colours" "[I") ∈ lw_all := lw_g (lw_at lw_m1 178 rfl) rfl
theorem q188 : (Jvm.Cond.fieldLink "PointColoursModel" (24 : Nat) "PointColoursModel" "row" "[I") ∈ lw_all := lw_g (lw_at lw_m1 179 rfl) rfl
theorem q189 : (Jvm.Cond.fieldLink "PointColoursModel" (27 : Nat) "PointColoursModel" "in" "[Z") ∈ lw_all := lw_g (lw_at lw_m1 180 rfl) rfl
theorem q190 : (Jvm.Cond.fieldLink "PointColoursModel" (34 : Nat) "PointColoursModel" "n" "I") ∈ lw_all := lw_g (lw_at lw_m1 181 rfl) rfl
theorem q191 : (Jvm.Cond.fieldLink "PointColoursModel" (38 : Nat) "PointColoursModel" "k" "I") ∈ lw_all := lw_g (lw_at lw_m1 182 rfl) rfl
theorem q192 : (Jvm.Cond.fieldLink "PointColoursModel" (41 : Nat) "PointColoursModel" "given" "Z") ∈ lw_all := lw_g (lw_at lw_m1 183 rfl) rfl
theorem q193 : (Jvm.Cond.laysFinal "PointColoursModel" "PointColoursModel" "pairs" "[Z") ∈ lw_all := lw_g (lw_at lw_m1 184 rfl) rfl
theorem q194 : (Jvm.Cond.soleField "PointColoursModel" "pairs") ∈ lw_all := lw_g (lw_at lw_m1 185 rfl) rfl
theorem q195 : (Jvm.Cond.laysFinal "PointColoursModel" "PointColoursModel" "costs" "[I") ∈ lw_all := lw_g (lw_at lw_m1 186 rfl) rfl
theorem q196 : (Jvm.Cond.soleField "PointColoursModel" "costs") ∈ lw_all := lw_g (lw_at lw_m1 187 rfl) rfl
theorem q197 : (Jvm.Cond.laysFinal "PointColoursModel" "PointColoursModel" "wishes" "[I") ∈ lw_all := lw_g (lw_at lw_m1 188 rfl) rfl
theorem q198 : (Jvm.Cond.soleField "PointColoursModel" "wishes") ∈ lw_all := lw_g (lw_at lw_m1 189 rfl) rfl
theorem q199 : (Jvm.Cond.laysFinal "PointColoursModel" "PointColoursModel" "colours" "[I") ∈ lw_all := lw_g (lw_at lw_m1 190 rfl) rfl
theorem q200 : (Jvm.Cond.soleField "PointColoursModel" "colours") ∈ lw_all := lw_g (lw_at lw_m1 191 rfl) rfl
theorem q201 : (Jvm.Cond.laysFinal "PointColoursModel" "PointColoursModel" "row" "[I") ∈ lw_all := lw_g (lw_at lw_m1 192 rfl) rfl
theorem q202 : (Jvm.Cond.soleField "PointColoursModel" "row") ∈ lw_all := lw_g (lw_at lw_m1 193 rfl) rfl
theorem q203 : (Jvm.Cond.laysFinal "PointColoursModel" "PointColoursModel" "in" "[Z") ∈ lw_all := lw_g (lw_at lw_m1 194 rfl) rfl
theorem q204 : (Jvm.Cond.soleField "PointColoursModel" "in") ∈ lw_all := lw_g (lw_at lw_m1 195 rfl) rfl
theorem q205 : (Jvm.Cond.lays "PointColoursModel" "PointColoursModel" "n" "I") ∈ lw_all := lw_g (lw_at lw_m1 196 rfl) rfl
theorem q206 : (Jvm.Cond.soleField "PointColoursModel" "n") ∈ lw_all := lw_g (lw_at lw_m1 197 rfl) rfl
theorem q207 : (Jvm.Cond.lays "PointColoursModel" "PointColoursModel" "k" "I") ∈ lw_all := lw_g (lw_at lw_m1 198 rfl) rfl
theorem q208 : (Jvm.Cond.soleField "PointColoursModel" "k") ∈ lw_all := lw_g (lw_at lw_m1 199 rfl) rfl
theorem q209 : (Jvm.Cond.lays "PointColoursModel" "PointColoursModel" "given" "Z") ∈ lw_all := lw_g (lw_at lw_m1 200 rfl) rfl
theorem q210 : (Jvm.Cond.soleField "PointColoursModel" "given") ∈ lw_all := lw_g (lw_at lw_m1 201 rfl) rfl
theorem q211 : (Jvm.Cond.superclass "PointColoursModel" "java/lang/Object") ∈ lw_all := lw_g (lw_at lw_m1 202 rfl) rfl
theorem q214 : (Jvm.Cond.instanceMethod ({ cls := "PointColoursModel", name := "join", desc := "(II)Z" } : Jvm.MethodName)) ∈ lw_all := lw_g (lw_at lw_m1 205 rfl) rfl
theorem q215 : (Jvm.Cond.selects "PointColoursModel" ({ cls := "PointColoursModel", name := "join", desc := "(II)Z" } : Jvm.MethodName) ({ cls := "PointColoursModel", name := "join", desc := "(II)Z" } : Jvm.MethodName)) ∈ lw_all := lw_g (lw_at lw_m1 206 rfl) rfl
theorem q216 : (Jvm.Cond.code ({ cls := "PointColoursModel", name := "join", desc := "(II)Z" } : Jvm.MethodName) prog_5_method_5_code (3 : Nat) (Option.some Jvm.ClassFile.FieldType.boolean)) ∈ lw_all := lw_g (lw_at lw_m1 207 rfl) rfl
theorem q217 : (Jvm.Cond.methodLink "PointColoursModel" (45 : Nat) ({ cls := "PointColoursModel", name := "isPoint", desc := "(I)Z" } : Jvm.MethodName)) ∈ lw_all := lw_g (lw_at lw_m1 208 rfl) rfl
theorem q218 : (Jvm.Cond.privateMethod ({ cls := "PointColoursModel", name := "isPoint", desc := "(I)Z" } : Jvm.MethodName)) ∈ lw_tbl := lw_at lw_m1 209 rfl
theorem q219 : (Jvm.Cond.instanceMethod ({ cls := "PointColoursModel", name := "isPoint", desc := "(I)Z" } : Jvm.MethodName)) ∈ lw_all := lw_g (lw_at lw_m1 210 rfl) rfl
theorem q220 : (Jvm.Cond.code ({ cls := "PointColoursModel", name := "isPoint", desc := "(I)Z" } : Jvm.MethodName) prog_5_method_3_code (2 : Nat) (Option.some Jvm.ClassFile.FieldType.boolean)) ∈ lw_all := lw_g (lw_at lw_m1 211 rfl) rfl
theorem q222 : (Jvm.Cond.instanceMethod ({ cls := "PointColoursModel", name := "cost", desc := "(II)Z" } : Jvm.MethodName)) ∈ lw_all := lw_g (lw_at lw_m1 213 rfl) rfl
theorem q223 : (Jvm.Cond.selects "PointColoursModel" ({ cls := "PointColoursModel", name := "cost", desc := "(II)Z" } : Jvm.MethodName) ({ cls := "PointColoursModel", name := "cost", desc := "(II)Z" } : Jvm.MethodName)) ∈ lw_all := lw_g (lw_at lw_m1 214 rfl) rfl
theorem q224 : (Jvm.Cond.code ({ cls := "PointColoursModel", name := "cost", desc := "(II)Z" } : Jvm.MethodName) prog_5_method_6_code (3 : Nat) (Option.some Jvm.ClassFile.FieldType.boolean)) ∈ lw_all := lw_g (lw_at lw_m1 215 rfl) rfl
theorem q225 : (Jvm.Cond.constant "PointColoursModel" (49 : Nat) (1000000 : Int32)) ∈ lw_all := lw_g (lw_at lw_m1 216 rfl) rfl
theorem q227 : (Jvm.Cond.instanceMethod ({ cls := "PointColoursModel", name := "wish", desc := "(II)Z" } : Jvm.MethodName)) ∈ lw_all := lw_g (lw_at lw_m1 218 rfl) rfl
theorem q228 : (Jvm.Cond.selects "PointColoursModel" ({ cls := "PointColoursModel", name := "wish", desc := "(II)Z" } : Jvm.MethodName) ({ cls := "PointColoursModel", name := "wish", desc := "(II)Z" } : Jvm.MethodName)) ∈ lw_all := lw_g (lw_at lw_m1 219 rfl) rfl
theorem q229 : (Jvm.Cond.code ({ cls := "PointColoursModel", name := "wish", desc := "(II)Z" } : Jvm.MethodName) prog_5_method_7_code (3 : Nat) (Option.some Jvm.ClassFile.FieldType.boolean)) ∈ lw_all := lw_g (lw_at lw_m1 220 rfl) rfl
theorem q231 : (Jvm.Cond.instanceMethod ({ cls := "PointColoursModel", name := "give", desc := "()I" } : Jvm.MethodName)) ∈ lw_all := lw_g (lw_at lw_m1 222 rfl) rfl
theorem q232 : (Jvm.Cond.selects "PointColoursModel" ({ cls := "PointColoursModel", name := "give", desc := "()I" } : Jvm.MethodName) ({ cls := "PointColoursModel", name := "give", desc := "()I" } : Jvm.MethodName)) ∈ lw_all := lw_g (lw_at lw_m1 223 rfl) rfl
theorem q233 : (Jvm.Cond.code ({ cls := "PointColoursModel", name := "give", desc := "()I" } : Jvm.MethodName) prog_5_method_12_code (3 : Nat) (Option.some Jvm.ClassFile.FieldType.int)) ∈ lw_all := lw_g (lw_at lw_m1 224 rfl) rfl
theorem q234 : (Jvm.Cond.methodLink "PointColoursModel" (57 : Nat) ({ cls := "PointColoursModel", name := "next", desc := "()I" } : Jvm.MethodName)) ∈ lw_all := lw_g (lw_at lw_m1 225 rfl) rfl
theorem q235 : (Jvm.Cond.privateMethod ({ cls := "PointColoursModel", name := "next", desc := "()I" } : Jvm.MethodName)) ∈ lw_tbl := lw_at lw_m1 226 rfl
theorem q236 : (Jvm.Cond.instanceMethod ({ cls := "PointColoursModel", name := "next", desc := "()I" } : Jvm.MethodName)) ∈ lw_all := lw_g (lw_at lw_m1 227 rfl) rfl
theorem q237 : (Jvm.Cond.code ({ cls := "PointColoursModel", name := "next", desc := "()I" } : Jvm.MethodName) prog_5_method_9_code (3 : Nat) (Option.some Jvm.ClassFile.FieldType.int)) ∈ lw_all := lw_g (lw_at lw_m1 228 rfl) rfl
theorem q238 : (Jvm.Cond.methodLink "PointColoursModel" (50 : Nat) ({ cls := "PointColoursModel", name := "left", desc := "(I)I" } : Jvm.MethodName)) ∈ lw_all := lw_g (lw_at lw_m1 229 rfl) rfl
theorem q239 : (Jvm.Cond.privateMethod ({ cls := "PointColoursModel", name := "left", desc := "(I)I" } : Jvm.MethodName)) ∈ lw_tbl := lw_at lw_m1 230 rfl
theorem q240 : (Jvm.Cond.instanceMethod ({ cls := "PointColoursModel", name := "left", desc := "(I)I" } : Jvm.MethodName)) ∈ lw_all := lw_g (lw_at lw_m1 231 rfl) rfl
theorem q241 : (Jvm.Cond.code ({ cls := "PointColoursModel", name := "left", desc := "(I)I" } : Jvm.MethodName) prog_5_method_8_code (4 : Nat) (Option.some Jvm.ClassFile.FieldType.int)) ∈ lw_all := lw_g (lw_at lw_m1 232 rfl) rfl
theorem q242 : (Jvm.Cond.methodLink "PointColoursModel" (61 : Nat) ({ cls := "PointColoursModel", name := "colourFor", desc := "(I)I" } : Jvm.MethodName)) ∈ lw_all := lw_g (lw_at lw_m1 233 rfl) rfl
theorem q243 : (Jvm.Cond.privateMethod ({ cls := "PointColoursModel", name := "colourFor", desc := "(I)I" } : Jvm.MethodName)) ∈ lw_tbl := lw_at lw_m1 234 rfl
theorem q244 : (Jvm.Cond.instanceMethod ({ cls := "PointColoursModel", name := "colourFor", desc := "(I)I" } : Jvm.MethodName)) ∈ lw_all := lw_g (lw_at lw_m1 235 rfl) rfl
theorem q245 : (Jvm.Cond.code ({ cls := "PointColoursModel", name := "colourFor", desc := "(I)I" } : Jvm.MethodName) prog_5_method_11_code (4 : Nat) (Option.some Jvm.ClassFile.FieldType.int)) ∈ lw_all := lw_g (lw_at lw_m1 236 rfl) rfl
theorem q246 : (Jvm.Cond.methodLink "PointColoursModel" (54 : Nat) ({ cls := "PointColoursModel", name := "isFree", desc := "(II)Z" } : Jvm.MethodName)) ∈ lw_all := lw_g (lw_at lw_m1 237 rfl) rfl
theorem q247 : (Jvm.Cond.privateMethod ({ cls := "PointColoursModel", name := "isFree", desc := "(II)Z" } : Jvm.MethodName)) ∈ lw_tbl := lw_at lw_m1 238 rfl
theorem q248 : (Jvm.Cond.instanceMethod ({ cls := "PointColoursModel", name := "isFree", desc := "(II)Z" } : Jvm.MethodName)) ∈ lw_all := lw_g (lw_at lw_m1 239 rfl) rfl
theorem q249 : (Jvm.Cond.code ({ cls := "PointColoursModel", name := "isFree", desc := "(II)Z" } : Jvm.MethodName) prog_5_method_10_code (4 : Nat) (Option.some Jvm.ClassFile.FieldType.boolean)) ∈ lw_all := lw_g (lw_at lw_m2 0 rfl) rfl
theorem q251 : (Jvm.Cond.instanceMethod ({ cls := "PointColoursModel", name := "colour", desc := "(I)I" } : Jvm.MethodName)) ∈ lw_all := lw_g (lw_at lw_m2 2 rfl) rfl
theorem q252 : (Jvm.Cond.selects "PointColoursModel" ({ cls := "PointColoursModel", name := "colour", desc := "(I)I" } : Jvm.MethodName) ({ cls := "PointColoursModel", name := "colour", desc := "(I)I" } : Jvm.MethodName)) ∈ lw_all := lw_g (lw_at lw_m2 3 rfl) rfl
theorem q253 : (Jvm.Cond.code ({ cls := "PointColoursModel", name := "colour", desc := "(I)I" } : Jvm.MethodName) prog_5_method_13_code (2 : Nat) (Option.some Jvm.ClassFile.FieldType.int)) ∈ lw_all := lw_g (lw_at lw_m2 4 rfl) rfl
theorem q255 : (Jvm.Cond.instanceMethod ({ cls := "PointColoursModel", name := "taken", desc := "(I)I" } : Jvm.MethodName)) ∈ lw_all := lw_g (lw_at lw_m2 6 rfl) rfl
theorem q256 : (Jvm.Cond.selects "PointColoursModel" ({ cls := "PointColoursModel", name := "taken", desc := "(I)I" } : Jvm.MethodName) ({ cls := "PointColoursModel", name := "taken", desc := "(I)I" } : Jvm.MethodName)) ∈ lw_all := lw_g (lw_at lw_m2 7 rfl) rfl
theorem q257 : (Jvm.Cond.code ({ cls := "PointColoursModel", name := "taken", desc := "(I)I" } : Jvm.MethodName) prog_5_method_14_code (2 : Nat) (Option.some Jvm.ClassFile.FieldType.int)) ∈ lw_all := lw_g (lw_at lw_m2 8 rfl) rfl
theorem q259 : (Jvm.Cond.instanceMethod ({ cls := "PointColoursModel", name := "joined", desc := "(II)Z" } : Jvm.MethodName)) ∈ lw_all := lw_g (lw_at lw_m2 10 rfl) rfl
theorem q260 : (Jvm.Cond.selects "PointColoursModel" ({ cls := "PointColoursModel", name := "joined", desc := "(II)Z" } : Jvm.MethodName) ({ cls := "PointColoursModel", name := "joined", desc := "(II)Z" } : Jvm.MethodName)) ∈ lw_all := lw_g (lw_at lw_m2 11 rfl) rfl
theorem q261 : (Jvm.Cond.code ({ cls := "PointColoursModel", name := "joined", desc := "(II)Z" } : Jvm.MethodName) prog_5_method_15_code (3 : Nat) (Option.some Jvm.ClassFile.FieldType.boolean)) ∈ lw_all := lw_g (lw_at lw_m2 12 rfl) rfl
theorem q263 : (Jvm.Cond.instanceMethod ({ cls := "PointColoursModel", name := "degree", desc := "(I)I" } : Jvm.MethodName)) ∈ lw_all := lw_g (lw_at lw_m2 14 rfl) rfl
theorem q264 : (Jvm.Cond.selects "PointColoursModel" ({ cls := "PointColoursModel", name := "degree", desc := "(I)I" } : Jvm.MethodName) ({ cls := "PointColoursModel", name := "degree", desc := "(I)I" } : Jvm.MethodName)) ∈ lw_all := lw_g (lw_at lw_m2 15 rfl) rfl
theorem q265 : (Jvm.Cond.code ({ cls := "PointColoursModel", name := "degree", desc := "(I)I" } : Jvm.MethodName) prog_5_method_16_code (4 : Nat) (Option.some Jvm.ClassFile.FieldType.int)) ∈ lw_all := lw_g (lw_at lw_m2 16 rfl) rfl
theorem q267 : (Jvm.Cond.instanceMethod ({ cls := "PointColoursModel", name := "strays", desc := "()I" } : Jvm.MethodName)) ∈ lw_all := lw_g (lw_at lw_m2 18 rfl) rfl
theorem q268 : (Jvm.Cond.selects "PointColoursModel" ({ cls := "PointColoursModel", name := "strays", desc := "()I" } : Jvm.MethodName) ({ cls := "PointColoursModel", name := "strays", desc := "()I" } : Jvm.MethodName)) ∈ lw_all := lw_g (lw_at lw_m2 19 rfl) rfl
theorem q269 : (Jvm.Cond.code ({ cls := "PointColoursModel", name := "strays", desc := "()I" } : Jvm.MethodName) prog_5_method_17_code (4 : Nat) (Option.some Jvm.ClassFile.FieldType.int)) ∈ lw_all := lw_g (lw_at lw_m2 20 rfl) rfl
theorem in_X3 : ∀ w ∈ wsX30, w ∈ lw_all := lw_in wsX30 [193, 195, 197, 199, 201, 203, 205, 207, 209] (by decide +kernel) (by decide +kernel)
end
section
theorem q9 : (Jvm.Cond.initialized "PointColoursLaw") ∈ lw_all := lw_g (lw_at lw_m1 0 rfl) rfl
set_option maxRecDepth 100000
theorem q14 : (Jvm.Cond.classLink "PointColoursLaw" (7 : Nat) "PointColours") ∈ lw_all := lw_g (lw_at lw_m1 5 rfl) rfl
theorem q16 : (Jvm.Cond.methodLink "PointColoursLaw" (9 : Nat) ({ cls := "PointColours", name := "<init>", desc := "()V" } : Jvm.MethodName)) ∈ lw_all := lw_g (lw_at lw_m1 7 rfl) rfl
theorem q84 : (Jvm.Cond.methodLink "PointColoursLaw" (13 : Nat) ({ cls := "PointColours", name := "begin", desc := "(II)Z" } : Jvm.MethodName)) ∈ lw_all := lw_g (lw_at lw_m1 75 rfl) rfl
theorem q92 : (Jvm.Cond.methodLink "PointColoursLaw" (18 : Nat) ({ cls := "PointColours", name := "join", desc := "(II)Z" } : Jvm.MethodName)) ∈ lw_all := lw_g (lw_at lw_m1 83 rfl) rfl
theorem q108 : (Jvm.Cond.methodLink "PointColoursLaw" (22 : Nat) ({ cls := "PointColours", name := "cost", desc := "(II)Z" } : Jvm.MethodName)) ∈ lw_all := lw_g (lw_at lw_m1 99 rfl) rfl
theorem q113 : (Jvm.Cond.methodLink "PointColoursLaw" (26 : Nat) ({ cls := "PointColours", name := "wish", desc := "(II)Z" } : Jvm.MethodName)) ∈ lw_all := lw_g (lw_at lw_m1 104 rfl) rfl
theorem q117 : (Jvm.Cond.methodLink "PointColoursLaw" (30 : Nat) ({ cls := "PointColours", name := "give", desc := "()I" } : Jvm.MethodName)) ∈ lw_all := lw_g (lw_at lw_m1 108 rfl) rfl
theorem q153 : (Jvm.Cond.methodLink "PointColoursLaw" (35 : Nat) ({ cls := "PointColours", name := "colour", desc := "(I)I" } : Jvm.MethodName)) ∈ lw_all := lw_g (lw_at lw_m1 144 rfl) rfl
theorem q157 : (Jvm.Cond.methodLink "PointColoursLaw" (40 : Nat) ({ cls := "PointColours", name := "taken", desc := "(I)I" } : Jvm.MethodName)) ∈ lw_all := lw_g (lw_at lw_m1 148 rfl) rfl
theorem q161 : (Jvm.Cond.methodLink "PointColoursLaw" (44 : Nat) ({ cls := "PointColours", name := "joined", desc := "(II)Z" } : Jvm.MethodName)) ∈ lw_all := lw_g (lw_at lw_m1 152 rfl) rfl
theorem q165 : (Jvm.Cond.methodLink "PointColoursLaw" (48 : Nat) ({ cls := "PointColours", name := "degree", desc := "(I)I" } : Jvm.MethodName)) ∈ lw_all := lw_g (lw_at lw_m1 156 rfl) rfl
theorem q169 : (Jvm.Cond.methodLink "PointColoursLaw" (52 : Nat) ({ cls := "PointColours", name := "strays", desc := "()I" } : Jvm.MethodName)) ∈ lw_all := lw_g (lw_at lw_m1 160 rfl) rfl
theorem q173 : (Jvm.Cond.classLink "PointColoursLaw" (10 : Nat) "PointColoursModel") ∈ lw_all := lw_g (lw_at lw_m1 164 rfl) rfl
theorem q175 : (Jvm.Cond.methodLink "PointColoursLaw" (12 : Nat) ({ cls := "PointColoursModel", name := "<init>", desc := "()V" } : Jvm.MethodName)) ∈ lw_all := lw_g (lw_at lw_m1 166 rfl) rfl
theorem q212 : (Jvm.Cond.methodLink "PointColoursLaw" (17 : Nat) ({ cls := "PointColoursModel", name := "begin", desc := "(II)Z" } : Jvm.MethodName)) ∈ lw_all := lw_g (lw_at lw_m1 203 rfl) rfl
theorem q213 : (Jvm.Cond.methodLink "PointColoursLaw" (21 : Nat) ({ cls := "PointColoursModel", name := "join", desc := "(II)Z" } : Jvm.MethodName)) ∈ lw_all := lw_g (lw_at lw_m1 204 rfl) rfl
theorem q221 : (Jvm.Cond.methodLink "PointColoursLaw" (25 : Nat) ({ cls := "PointColoursModel", name := "cost", desc := "(II)Z" } : Jvm.MethodName)) ∈ lw_all := lw_g (lw_at lw_m1 212 rfl) rfl
theorem q226 : (Jvm.Cond.methodLink "PointColoursLaw" (29 : Nat) ({ cls := "PointColoursModel", name := "wish", desc := "(II)Z" } : Jvm.MethodName)) ∈ lw_all := lw_g (lw_at lw_m1 217 rfl) rfl
theorem q230 : (Jvm.Cond.methodLink "PointColoursLaw" (34 : Nat) ({ cls := "PointColoursModel", name := "give", desc := "()I" } : Jvm.MethodName)) ∈ lw_all := lw_g (lw_at lw_m1 221 rfl) rfl
theorem q250 : (Jvm.Cond.methodLink "PointColoursLaw" (39 : Nat) ({ cls := "PointColoursModel", name := "colour", desc := "(I)I" } : Jvm.MethodName)) ∈ lw_all := lw_g (lw_at lw_m2 1 rfl) rfl
theorem q254 : (Jvm.Cond.methodLink "PointColoursLaw" (43 : Nat) ({ cls := "PointColoursModel", name := "taken", desc := "(I)I" } : Jvm.MethodName)) ∈ lw_all := lw_g (lw_at lw_m2 5 rfl) rfl
theorem q258 : (Jvm.Cond.methodLink "PointColoursLaw" (47 : Nat) ({ cls := "PointColoursModel", name := "joined", desc := "(II)Z" } : Jvm.MethodName)) ∈ lw_all := lw_g (lw_at lw_m2 9 rfl) rfl
theorem q262 : (Jvm.Cond.methodLink "PointColoursLaw" (51 : Nat) ({ cls := "PointColoursModel", name := "degree", desc := "(I)I" } : Jvm.MethodName)) ∈ lw_all := lw_g (lw_at lw_m2 13 rfl) rfl
theorem q266 : (Jvm.Cond.methodLink "PointColoursLaw" (55 : Nat) ({ cls := "PointColoursModel", name := "strays", desc := "()I" } : Jvm.MethodName)) ∈ lw_all := lw_g (lw_at lw_m2 17 rfl) rfl
/-! the law's own entry -/
set_option maxRecDepth 100000
abbrev cL_law : ByteArray := code
theorem dL_law_0 : decode cL_law 0 = .ok (.new 7, 3) := by decide +kernel
theorem dL_law_3 : decode cL_law 3 = .ok (.dup, 1) := by decide +kernel
theorem dL_law_4 : decode cL_law 4 = .ok (.invokespecial 9, 3) := by decide +kernel
theorem dL_law_7 : decode cL_law 7 = .ok (.astore_n 1, 1) := by decide +kernel
theorem dL_law_8 : decode cL_law 8 = .ok (.new 10, 3) := by decide +kernel
theorem dL_law_11 : decode cL_law 11 = .ok (.dup, 1) := by decide +kernel
theorem dL_law_12 : decode cL_law 12 = .ok (.invokespecial 12, 3) := by decide +kernel
theorem dL_law_15 : decode cL_law 15 = .ok (.astore_n 2, 1) := by decide +kernel
theorem dL_law_16 : decode cL_law 16 = .ok (.iconst 0, 1) := by decide +kernel
theorem dL_law_17 : decode cL_law 17 = .ok (.istore_n 3, 1) := by decide +kernel
theorem dL_law_18 : decode cL_law 18 = .ok (.iload_n 3, 1) := by decide +kernel
theorem dL_law_19 : decode cL_law 19 = .ok (.aload_n 0, 1) := by decide +kernel
theorem dL_law_20 : decode cL_law 20 = .ok (.arraylength, 1) := by decide +kernel
theorem dL_law_21 : decode cL_law 21 = .ok (.iconst 3, 1) := by decide +kernel
theorem dL_law_22 : decode cL_law 22 = .ok (.isub, 1) := by decide +kernel
theorem dL_law_23 : decode cL_law 23 = .ok (.if_icmp .gt 331, 3) := by decide +kernel
theorem dL_law_26 : decode cL_law 26 = .ok (.aload_n 0, 1) := by decide +kernel
theorem dL_law_27 : decode cL_law 27 = .ok (.iload_n 3, 1) := by decide +kernel
theorem dL_law_28 : decode cL_law 28 = .ok (.iaload, 1) := by decide +kernel
theorem dL_law_29 : decode cL_law 29 = .ok (.bipush 15, 2) := by decide +kernel
theorem dL_law_31 : decode cL_law 31 = .ok (.iand, 1) := by decide +kernel
theorem dL_law_32 : decode cL_law 32 = .ok (.tableswitch 316 0 9 #[56, 89, 122, 155, 188, 201, 224, 247, 280, 303], 56) := by decide +kernel
theorem dL_law_88 : decode cL_law 88 = .ok (.aload_n 1, 1) := by decide +kernel
theorem dL_law_89 : decode cL_law 89 = .ok (.aload_n 0, 1) := by decide +kernel
theorem dL_law_90 : decode cL_law 90 = .ok (.iload_n 3, 1) := by decide +kernel
theorem dL_law_91 : decode cL_law 91 = .ok (.iconst 1, 1) := by decide +kernel
theorem dL_law_92 : decode cL_law 92 = .ok (.iadd, 1) := by decide +kernel
theorem dL_law_93 : decode cL_law 93 = .ok (.iaload, 1) := by decide +kernel
theorem dL_law_94 : decode cL_law 94 = .ok (.aload_n 0, 1) := by decide +kernel
theorem dL_law_95 : decode cL_law 95 = .ok (.iload_n 3, 1) := by decide +kernel
theorem dL_law_96 : decode cL_law 96 = .ok (.iconst 2, 1) := by decide +kernel
theorem dL_law_97 : decode cL_law 97 = .ok (.iadd, 1) := by decide +kernel
theorem dL_law_98 : decode cL_law 98 = .ok (.iaload, 1) := by decide +kernel
theorem dL_law_99 : decode cL_law 99 = .ok (.invokevirtual 13, 3) := by decide +kernel
theorem dL_law_102 : decode cL_law 102 = .ok (.aload_n 2, 1) := by decide +kernel
theorem dL_law_103 : decode cL_law 103 = .ok (.aload_n 0, 1) := by decide +kernel
theorem dL_law_104 : decode cL_law 104 = .ok (.iload_n 3, 1) := by decide +kernel
theorem dL_law_105 : decode cL_law 105 = .ok (.iconst 1, 1) := by decide +kernel
theorem dL_law_106 : decode cL_law 106 = .ok (.iadd, 1) := by decide +kernel
theorem dL_law_107 : decode cL_law 107 = .ok (.iaload, 1) := by decide +kernel
theorem dL_law_108 : decode cL_law 108 = .ok (.aload_n 0, 1) := by decide +kernel
theorem dL_law_109 : decode cL_law 109 = .ok (.iload_n 3, 1) := by decide +kernel
theorem dL_law_110 : decode cL_law 110 = .ok (.iconst 2, 1) := by decide +kernel
theorem dL_law_111 : decode cL_law 111 = .ok (.iadd, 1) := by decide +kernel
theorem dL_law_112 : decode cL_law 112 = .ok (.iaload, 1) := by decide +kernel
theorem dL_law_113 : decode cL_law 113 = .ok (.invokevirtual 17, 3) := by decide +kernel
theorem dL_law_116 : decode cL_law 116 = .ok (.if_icmp .eq 232, 3) := by decide +kernel
theorem dL_law_119 : decode cL_law 119 = .ok (.iconst 0, 1) := by decide +kernel
theorem dL_law_120 : decode cL_law 120 = .ok (.ireturn, 1) := by decide +kernel
theorem dL_law_121 : decode cL_law 121 = .ok (.aload_n 1, 1) := by decide +kernel
theorem dL_law_122 : decode cL_law 122 = .ok (.aload_n 0, 1) := by decide +kernel
theorem dL_law_123 : decode cL_law 123 = .ok (.iload_n 3, 1) := by decide +kernel
theorem dL_law_124 : decode cL_law 124 = .ok (.iconst 1, 1) := by decide +kernel
theorem dL_law_125 : decode cL_law 125 = .ok (.iadd, 1) := by decide +kernel
theorem dL_law_126 : decode cL_law 126 = .ok (.iaload, 1) := by decide +kernel
theorem dL_law_127 : decode cL_law 127 = .ok (.aload_n 0, 1) := by decide +kernel
theorem dL_law_128 : decode cL_law 128 = .ok (.iload_n 3, 1) := by decide +kernel
theorem dL_law_129 : decode cL_law 129 = .ok (.iconst 2, 1) := by decide +kernel
theorem dL_law_130 : decode cL_law 130 = .ok (.iadd, 1) := by decide +kernel
theorem dL_law_131 : decode cL_law 131 = .ok (.iaload, 1) := by decide +kernel
theorem dL_law_132 : decode cL_law 132 = .ok (.invokevirtual 18, 3) := by decide +kernel
theorem dL_law_135 : decode cL_law 135 = .ok (.aload_n 2, 1) := by decide +kernel
theorem dL_law_136 : decode cL_law 136 = .ok (.aload_n 0, 1) := by decide +kernel
theorem dL_law_137 : decode cL_law 137 = .ok (.iload_n 3, 1) := by decide +kernel
theorem dL_law_138 : decode cL_law 138 = .ok (.iconst 1, 1) := by decide +kernel
theorem dL_law_139 : decode cL_law 139 = .ok (.iadd, 1) := by decide +kernel
theorem dL_law_140 : decode cL_law 140 = .ok (.iaload, 1) := by decide +kernel
theorem dL_law_141 : decode cL_law 141 = .ok (.aload_n 0, 1) := by decide +kernel
theorem dL_law_142 : decode cL_law 142 = .ok (.iload_n 3, 1) := by decide +kernel
theorem dL_law_143 : decode cL_law 143 = .ok (.iconst 2, 1) := by decide +kernel
theorem dL_law_144 : decode cL_law 144 = .ok (.iadd, 1) := by decide +kernel
theorem dL_law_145 : decode cL_law 145 = .ok (.iaload, 1) := by decide +kernel
theorem dL_law_146 : decode cL_law 146 = .ok (.invokevirtual 21, 3) := by decide +kernel
theorem dL_law_149 : decode cL_law 149 = .ok (.if_icmp .eq 199, 3) := by decide +kernel
theorem dL_law_152 : decode cL_law 152 = .ok (.iconst 0, 1) := by decide +kernel
theorem dL_law_153 : decode cL_law 153 = .ok (.ireturn, 1) := by decide +kernel
theorem dL_law_154 : decode cL_law 154 = .ok (.aload_n 1, 1) := by decide +kernel
theorem dL_law_155 : decode cL_law 155 = .ok (.aload_n 0, 1) := by decide +kernel
theorem dL_law_156 : decode cL_law 156 = .ok (.iload_n 3, 1) := by decide +kernel
theorem dL_law_157 : decode cL_law 157 = .ok (.iconst 1, 1) := by decide +kernel
theorem dL_law_158 : decode cL_law 158 = .ok (.iadd, 1) := by decide +kernel
theorem dL_law_159 : decode cL_law 159 = .ok (.iaload, 1) := by decide +kernel
theorem dL_law_160 : decode cL_law 160 = .ok (.aload_n 0, 1) := by decide +kernel
theorem dL_law_161 : decode cL_law 161 = .ok (.iload_n 3, 1) := by decide +kernel
theorem dL_law_162 : decode cL_law 162 = .ok (.iconst 2, 1) := by decide +kernel
theorem dL_law_163 : decode cL_law 163 = .ok (.iadd, 1) := by decide +kernel
theorem dL_law_164 : decode cL_law 164 = .ok (.iaload, 1) := by decide +kernel
theorem dL_law_165 : decode cL_law 165 = .ok (.invokevirtual 22, 3) := by decide +kernel
theorem dL_law_168 : decode cL_law 168 = .ok (.aload_n 2, 1) := by decide +kernel
theorem dL_law_169 : decode cL_law 169 = .ok (.aload_n 0, 1) := by decide +kernel
theorem dL_law_170 : decode cL_law 170 = .ok (.iload_n 3, 1) := by decide +kernel
theorem dL_law_171 : decode cL_law 171 = .ok (.iconst 1, 1) := by decide +kernel
theorem dL_law_172 : decode cL_law 172 = .ok (.iadd, 1) := by decide +kernel
theorem dL_law_173 : decode cL_law 173 = .ok (.iaload, 1) := by decide +kernel
theorem dL_law_174 : decode cL_law 174 = .ok (.aload_n 0, 1) := by decide +kernel
theorem dL_law_175 : decode cL_law 175 = .ok (.iload_n 3, 1) := by decide +kernel
theorem dL_law_176 : decode cL_law 176 = .ok (.iconst 2, 1) := by decide +kernel
theorem dL_law_177 : decode cL_law 177 = .ok (.iadd, 1) := by decide +kernel
theorem dL_law_178 : decode cL_law 178 = .ok (.iaload, 1) := by decide +kernel
theorem dL_law_179 : decode cL_law 179 = .ok (.invokevirtual 25, 3) := by decide +kernel
theorem dL_law_182 : decode cL_law 182 = .ok (.if_icmp .eq 166, 3) := by decide +kernel
theorem dL_law_185 : decode cL_law 185 = .ok (.iconst 0, 1) := by decide +kernel
theorem dL_law_186 : decode cL_law 186 = .ok (.ireturn, 1) := by decide +kernel
theorem dL_law_187 : decode cL_law 187 = .ok (.aload_n 1, 1) := by decide +kernel
theorem dL_law_188 : decode cL_law 188 = .ok (.aload_n 0, 1) := by decide +kernel
theorem dL_law_189 : decode cL_law 189 = .ok (.iload_n 3, 1) := by decide +kernel
theorem dL_law_190 : decode cL_law 190 = .ok (.iconst 1, 1) := by decide +kernel
theorem dL_law_191 : decode cL_law 191 = .ok (.iadd, 1) := by decide +kernel
theorem dL_law_192 : decode cL_law 192 = .ok (.iaload, 1) := by decide +kernel
theorem dL_law_193 : decode cL_law 193 = .ok (.aload_n 0, 1) := by decide +kernel
theorem dL_law_194 : decode cL_law 194 = .ok (.iload_n 3, 1) := by decide +kernel
theorem dL_law_195 : decode cL_law 195 = .ok (.iconst 2, 1) := by decide +kernel
theorem dL_law_196 : decode cL_law 196 = .ok (.iadd, 1) := by decide +kernel
theorem dL_law_197 : decode cL_law 197 = .ok (.iaload, 1) := by decide +kernel
theorem dL_law_198 : decode cL_law 198 = .ok (.invokevirtual 26, 3) := by decide +kernel
theorem dL_law_201 : decode cL_law 201 = .ok (.aload_n 2, 1) := by decide +kernel
theorem dL_law_202 : decode cL_law 202 = .ok (.aload_n 0, 1) := by decide +kernel
theorem dL_law_203 : decode cL_law 203 = .ok (.iload_n 3, 1) := by decide +kernel
theorem dL_law_204 : decode cL_law 204 = .ok (.iconst 1, 1) := by decide +kernel
theorem dL_law_205 : decode cL_law 205 = .ok (.iadd, 1) := by decide +kernel
theorem dL_law_206 : decode cL_law 206 = .ok (.iaload, 1) := by decide +kernel
theorem dL_law_207 : decode cL_law 207 = .ok (.aload_n 0, 1) := by decide +kernel
theorem dL_law_208 : decode cL_law 208 = .ok (.iload_n 3, 1) := by decide +kernel
theorem dL_law_209 : decode cL_law 209 = .ok (.iconst 2, 1) := by decide +kernel
theorem dL_law_210 : decode cL_law 210 = .ok (.iadd, 1) := by decide +kernel
theorem dL_law_211 : decode cL_law 211 = .ok (.iaload, 1) := by decide +kernel
theorem dL_law_212 : decode cL_law 212 = .ok (.invokevirtual 29, 3) := by decide +kernel
theorem dL_law_215 : decode cL_law 215 = .ok (.if_icmp .eq 133, 3) := by decide +kernel
theorem dL_law_218 : decode cL_law 218 = .ok (.iconst 0, 1) := by decide +kernel
theorem dL_law_219 : decode cL_law 219 = .ok (.ireturn, 1) := by decide +kernel
theorem dL_law_220 : decode cL_law 220 = .ok (.aload_n 1, 1) := by decide +kernel
theorem dL_law_221 : decode cL_law 221 = .ok (.invokevirtual 30, 3) := by decide +kernel
theorem dL_law_224 : decode cL_law 224 = .ok (.aload_n 2, 1) := by decide +kernel
theorem dL_law_225 : decode cL_law 225 = .ok (.invokevirtual 34, 3) := by decide +kernel
theorem dL_law_228 : decode cL_law 228 = .ok (.if_icmp .eq 120, 3) := by decide +kernel
theorem dL_law_231 : decode cL_law 231 = .ok (.iconst 0, 1) := by decide +kernel
theorem dL_law_232 : decode cL_law 232 = .ok (.ireturn, 1) := by decide +kernel
theorem dL_law_233 : decode cL_law 233 = .ok (.aload_n 1, 1) := by decide +kernel
theorem dL_law_234 : decode cL_law 234 = .ok (.aload_n 0, 1) := by decide +kernel
theorem dL_law_235 : decode cL_law 235 = .ok (.iload_n 3, 1) := by decide +kernel
theorem dL_law_236 : decode cL_law 236 = .ok (.iconst 1, 1) := by decide +kernel
theorem dL_law_237 : decode cL_law 237 = .ok (.iadd, 1) := by decide +kernel
theorem dL_law_238 : decode cL_law 238 = .ok (.iaload, 1) := by decide +kernel
theorem dL_law_239 : decode cL_law 239 = .ok (.invokevirtual 35, 3) := by decide +kernel
theorem dL_law_242 : decode cL_law 242 = .ok (.aload_n 2, 1) := by decide +kernel
theorem dL_law_243 : decode cL_law 243 = .ok (.aload_n 0, 1) := by decide +kernel
theorem dL_law_244 : decode cL_law 244 = .ok (.iload_n 3, 1) := by decide +kernel
theorem dL_law_245 : decode cL_law 245 = .ok (.iconst 1, 1) := by decide +kernel
theorem dL_law_246 : decode cL_law 246 = .ok (.iadd, 1) := by decide +kernel
theorem dL_law_247 : decode cL_law 247 = .ok (.iaload, 1) := by decide +kernel
theorem dL_law_248 : decode cL_law 248 = .ok (.invokevirtual 39, 3) := by decide +kernel
theorem dL_law_251 : decode cL_law 251 = .ok (.if_icmp .eq 97, 3) := by decide +kernel
theorem dL_law_254 : decode cL_law 254 = .ok (.iconst 0, 1) := by decide +kernel
theorem dL_law_255 : decode cL_law 255 = .ok (.ireturn, 1) := by decide +kernel
theorem dL_law_256 : decode cL_law 256 = .ok (.aload_n 1, 1) := by decide +kernel
theorem dL_law_257 : decode cL_law 257 = .ok (.aload_n 0, 1) := by decide +kernel
theorem dL_law_258 : decode cL_law 258 = .ok (.iload_n 3, 1) := by decide +kernel
theorem dL_law_259 : decode cL_law 259 = .ok (.iconst 1, 1) := by decide +kernel
theorem dL_law_260 : decode cL_law 260 = .ok (.iadd, 1) := by decide +kernel
theorem dL_law_261 : decode cL_law 261 = .ok (.iaload, 1) := by decide +kernel
theorem dL_law_262 : decode cL_law 262 = .ok (.invokevirtual 40, 3) := by decide +kernel
theorem dL_law_265 : decode cL_law 265 = .ok (.aload_n 2, 1) := by decide +kernel
theorem dL_law_266 : decode cL_law 266 = .ok (.aload_n 0, 1) := by decide +kernel
theorem dL_law_267 : decode cL_law 267 = .ok (.iload_n 3, 1) := by decide +kernel
theorem dL_law_268 : decode cL_law 268 = .ok (.iconst 1, 1) := by decide +kernel
theorem dL_law_269 : decode cL_law 269 = .ok (.iadd, 1) := by decide +kernel
theorem dL_law_270 : decode cL_law 270 = .ok (.iaload, 1) := by decide +kernel
theorem dL_law_271 : decode cL_law 271 = .ok (.invokevirtual 43, 3) := by decide +kernel
theorem dL_law_274 : decode cL_law 274 = .ok (.if_icmp .eq 74, 3) := by decide +kernel
theorem dL_law_277 : decode cL_law 277 = .ok (.iconst 0, 1) := by decide +kernel
theorem dL_law_278 : decode cL_law 278 = .ok (.ireturn, 1) := by decide +kernel
theorem dL_law_279 : decode cL_law 279 = .ok (.aload_n 1, 1) := by decide +kernel
theorem dL_law_280 : decode cL_law 280 = .ok (.aload_n 0, 1) := by decide +kernel
theorem dL_law_281 : decode cL_law 281 = .ok (.iload_n 3, 1) := by decide +kernel
theorem dL_law_282 : decode cL_law 282 = .ok (.iconst 1, 1) := by decide +kernel
theorem dL_law_283 : decode cL_law 283 = .ok (.iadd, 1) := by decide +kernel
theorem dL_law_284 : decode cL_law 284 = .ok (.iaload, 1) := by decide +kernel
theorem dL_law_285 : decode cL_law 285 = .ok (.aload_n 0, 1) := by decide +kernel
theorem dL_law_286 : decode cL_law 286 = .ok (.iload_n 3, 1) := by decide +kernel
theorem dL_law_287 : decode cL_law 287 = .ok (.iconst 2, 1) := by decide +kernel
theorem dL_law_288 : decode cL_law 288 = .ok (.iadd, 1) := by decide +kernel
theorem dL_law_289 : decode cL_law 289 = .ok (.iaload, 1) := by decide +kernel
theorem dL_law_290 : decode cL_law 290 = .ok (.invokevirtual 44, 3) := by decide +kernel
theorem dL_law_293 : decode cL_law 293 = .ok (.aload_n 2, 1) := by decide +kernel
theorem dL_law_294 : decode cL_law 294 = .ok (.aload_n 0, 1) := by decide +kernel
theorem dL_law_295 : decode cL_law 295 = .ok (.iload_n 3, 1) := by decide +kernel
theorem dL_law_296 : decode cL_law 296 = .ok (.iconst 1, 1) := by decide +kernel
theorem dL_law_297 : decode cL_law 297 = .ok (.iadd, 1) := by decide +kernel
theorem dL_law_298 : decode cL_law 298 = .ok (.iaload, 1) := by decide +kernel
theorem dL_law_299 : decode cL_law 299 = .ok (.aload_n 0, 1) := by decide +kernel
theorem dL_law_300 : decode cL_law 300 = .ok (.iload_n 3, 1) := by decide +kernel
theorem dL_law_301 : decode cL_law 301 = .ok (.iconst 2, 1) := by decide +kernel
theorem dL_law_302 : decode cL_law 302 = .ok (.iadd, 1) := by decide +kernel
theorem dL_law_303 : decode cL_law 303 = .ok (.iaload, 1) := by decide +kernel
theorem dL_law_304 : decode cL_law 304 = .ok (.invokevirtual 47, 3) := by decide +kernel
theorem dL_law_307 : decode cL_law 307 = .ok (.if_icmp .eq 41, 3) := by decide +kernel
theorem dL_law_310 : decode cL_law 310 = .ok (.iconst 0, 1) := by decide +kernel
theorem dL_law_311 : decode cL_law 311 = .ok (.ireturn, 1) := by decide +kernel
theorem dL_law_312 : decode cL_law 312 = .ok (.aload_n 1, 1) := by decide +kernel
theorem dL_law_313 : decode cL_law 313 = .ok (.aload_n 0, 1) := by decide +kernel
theorem dL_law_314 : decode cL_law 314 = .ok (.iload_n 3, 1) := by decide +kernel
theorem dL_law_315 : decode cL_law 315 = .ok (.iconst 1, 1) := by decide +kernel
theorem dL_law_316 : decode cL_law 316 = .ok (.iadd, 1) := by decide +kernel
theorem dL_law_317 : decode cL_law 317 = .ok (.iaload, 1) := by decide +kernel
theorem dL_law_318 : decode cL_law 318 = .ok (.invokevirtual 48, 3) := by decide +kernel
theorem dL_law_321 : decode cL_law 321 = .ok (.aload_n 2, 1) := by decide +kernel
theorem dL_law_322 : decode cL_law 322 = .ok (.aload_n 0, 1) := by decide +kernel
theorem dL_law_323 : decode cL_law 323 = .ok (.iload_n 3, 1) := by decide +kernel
theorem dL_law_324 : decode cL_law 324 = .ok (.iconst 1, 1) := by decide +kernel
theorem dL_law_325 : decode cL_law 325 = .ok (.iadd, 1) := by decide +kernel
theorem dL_law_326 : decode cL_law 326 = .ok (.iaload, 1) := by decide +kernel
theorem dL_law_327 : decode cL_law 327 = .ok (.invokevirtual 51, 3) := by decide +kernel
theorem dL_law_330 : decode cL_law 330 = .ok (.if_icmp .eq 18, 3) := by decide +kernel
theorem dL_law_333 : decode cL_law 333 = .ok (.iconst 0, 1) := by decide +kernel
theorem dL_law_334 : decode cL_law 334 = .ok (.ireturn, 1) := by decide +kernel
theorem dL_law_335 : decode cL_law 335 = .ok (.aload_n 1, 1) := by decide +kernel
theorem dL_law_336 : decode cL_law 336 = .ok (.invokevirtual 52, 3) := by decide +kernel
theorem dL_law_339 : decode cL_law 339 = .ok (.aload_n 2, 1) := by decide +kernel
theorem dL_law_340 : decode cL_law 340 = .ok (.invokevirtual 55, 3) := by decide +kernel
theorem dL_law_343 : decode cL_law 343 = .ok (.if_icmp .eq 5, 3) := by decide +kernel
theorem dL_law_346 : decode cL_law 346 = .ok (.iconst 0, 1) := by decide +kernel
theorem dL_law_347 : decode cL_law 347 = .ok (.ireturn, 1) := by decide +kernel
theorem dL_law_348 : decode cL_law 348 = .ok (.iinc 3 3, 3) := by decide +kernel
theorem dL_law_351 : decode cL_law 351 = .ok (.goto (-333), 3) := by decide +kernel
theorem dL_law_354 : decode cL_law 354 = .ok (.iconst 1, 1) := by decide +kernel
theorem dL_law_355 : decode cL_law 355 = .ok (.ireturn, 1) := by decide +kernel
end
section
/-! own helper rows: tops named by equations, arrays by Nat places, branches by Nat, read-only contracts -/
set_option maxRecDepth 100000
def b2i (b : Bool) : Int32 := if b then 1 else 0
theorem b2i_t : b2i true = 1 := rfl
theorem b2i_f : b2i false = 0 := rfl
theorem b2i_inj {a b : Bool} (h : b2i a = b2i b) : a = b := by
  cases a <;> cases b <;> first | rfl | (exact absurd h (by decide))
theorem b2i_zn (b : Bool) : narrow .boolean (.int (b2i b)) = .int (b2i b) := by cases b <;> rfl
theorem b2i_nar (b : Bool) : vp_nar .boolean (b2i b) = b2i b := by cases b <;> rfl
theorem b2i_fit (b : Bool) : fits .boolean (.int (b2i b)) = true := by cases b <;> rfl
section YR
variable {p : Program} {l : Launch} {e : Env} {R : Room} {s : State} {m : MethodId} {args : Array Value} {below : List Frame} {meth : Method} {c : Code} {H : Heap} {locs : List Loc} {cells slots : Nat} {Q : State → Prop}
variable {cc : ByteArray} {pc : Nat} {ls : Array Slot} {rest : List Value} {D : va_G} {cl : List vw_C} {A : Nat → Prop} {a : Nat} {tys : List (ClassId × FieldType)} {ws : va_W} {H0 : Heap}
theorem y_ti {x y : Int32} (h : x = y) (k : W p l e R s m args below meth c H locs cells slots Q (F0 m pc ls (.int y :: rest))) : W p l e R s m args below meth c H locs cells slots Q (F0 m pc ls (.int x :: rest)) := by
  subst h
  exact k
theorem y_tl {x y : Int64} (h : x = y) (k : W p l e R s m args below meth c H locs cells slots Q (F0 m pc ls (.long y :: rest))) : W p l e R s m args below meth c H locs cells slots Q (F0 m pc ls (.long x :: rest)) := by
  subst h
  exact k
theorem y_iald (hexec : p.tables.exec = Jvm.exec) (hb : c.code = cc) (hK : va_K D cl tys s) (hP : va_P D cl ws H) (q0 t0 : Nat) {cA : ClassId} {n : Nat} {f : Nat → Int32} (ha : ws[q0]? = some (a, .inl (cA, n, .inl f))) (ht : tys[t0]? = some (cA, .int)) {i : Int32} {j : Nat} (hi : i = nI j) (hj : j < n) (hn : n < 2 ^ 31) (hdg : decode cc pc = .ok (.iaload, 1))
    (kk : W p l e R s m args below meth c H locs cells slots Q (F0 m (pc + 1) ls (.int (f j) :: rest))) : W p l e R s m args below meth c H locs cells slots Q (F0 m pc ls (.int i :: .ref a :: rest)) := by
  subst hi
  refine va_iald hexec hb hK hP q0 t0 ha ht (vp_in_nI hj hn) hdg ?_
  rw [nI_clamp (Nat.lt_trans hj hn)]
  exact kk
theorem y_zald (hexec : p.tables.exec = Jvm.exec) (hb : c.code = cc) (hK : va_K D cl tys s) (hP : va_P D cl ws H) (q0 t0 : Nat) {cA : ClassId} {n : Nat} {f : Nat → Int32} (ha : ws[q0]? = some (a, .inl (cA, n, .inl f))) (ht : tys[t0]? = some (cA, .boolean)) {i : Int32} {j : Nat} (hi : i = nI j) (hj : j < n) (hn : n < 2 ^ 31) (hdg : decode cc pc = .ok (.baload, 1))
    (kk : W p l e R s m args below meth c H locs cells slots Q (F0 m (pc + 1) ls (.int (f j) :: rest))) : W p l e R s m args below meth c H locs cells slots Q (F0 m pc ls (.int i :: .ref a :: rest)) := by
  subst hi
  refine va_zald hexec hb hK hP q0 t0 ha ht (vp_in_nI hj hn) hdg ?_
  rw [nI_clamp (Nat.lt_trans hj hn)]
  exact kk
theorem y_iast (hexec : p.tables.exec = Jvm.exec) (hb : c.code = cc) (hK : va_K D cl tys s) (hP : va_P D cl ws H) (hD : va_D A ws) (hS : va_S A H0 H locs) (q0 t0 : Nat) {cA : ClassId} {n : Nat} {f : Nat → Int32} (ha : ws[q0]? = some (a, .inl (cA, n, .inl f))) (ht : tys[t0]? = some (cA, .int)) {i : Int32} {x : Int32} {j : Nat} (hi : i = nI j) (hj : j < n) (hn : n < 2 ^ 31) (hdg : decode cc pc = .ok (.iastore, 1))
    (kk : ∀ (H1 : Heap) (locs1 : List Loc), va_P D cl (ws.set q0 (a, .inl (cA, n, .inl (upd f j x)))) H1 → va_D A (ws.set q0 (a, .inl (cA, n, .inl (upd f j x)))) → va_S A H0 H1 locs1 → W p l e R s m args below meth c H1 locs1 cells slots Q (F0 m (pc + 1) ls rest)) : W p l e R s m args below meth c H locs cells slots Q (F0 m pc ls (.int x :: .int i :: .ref a :: rest)) := by
  subst hi
  have he := nI_clamp (Nat.lt_trans hj hn)
  refine va_iast hexec hb hK hP hD hS q0 t0 ha ht (vp_in_nI hj hn) hdg ?_
  rw [he]
  exact kk
theorem y_zast (hexec : p.tables.exec = Jvm.exec) (hb : c.code = cc) (hK : va_K D cl tys s) (hP : va_P D cl ws H) (hD : va_D A ws) (hS : va_S A H0 H locs) (q0 t0 : Nat) {cA : ClassId} {n : Nat} {f : Nat → Int32} (ha : ws[q0]? = some (a, .inl (cA, n, .inl f))) (ht : tys[t0]? = some (cA, .boolean)) {i : Int32} {x v : Int32} (hv : vp_nar .boolean x = v) {j : Nat} (hi : i = nI j) (hj : j < n) (hn : n < 2 ^ 31) (hdg : decode cc pc = .ok (.bastore, 1))
    (kk : ∀ (H1 : Heap) (locs1 : List Loc), va_P D cl (ws.set q0 (a, .inl (cA, n, .inl (upd f j v)))) H1 → va_D A (ws.set q0 (a, .inl (cA, n, .inl (upd f j v)))) → va_S A H0 H1 locs1 → W p l e R s m args below meth c H1 locs1 cells slots Q (F0 m (pc + 1) ls rest)) : W p l e R s m args below meth c H locs cells slots Q (F0 m pc ls (.int x :: .int i :: .ref a :: rest)) := by
  subst hi
  subst hv
  have he := nI_clamp (Nat.lt_trans hj hn)
  refine va_zast hexec hb hK hP hD hS q0 t0 ha ht (vp_in_nI hj hn) hdg ?_
  rw [he]
  exact kk
theorem y_cge (hexec : p.tables.exec = Jvm.exec) (hb : c.code = cc) {x y : Int32} {off : Int} {tgt : Nat} {i j : Nat} (hx : x = nI i) (hy : y = nI j) (hi : i < 2 ^ 31) (hj : j < 2 ^ 31) (hdg : decode cc pc = .ok (.if_icmp .ge off, 3)) (ht : (pc : Int) + off = (tgt : Int))
    (kt : j ≤ i → W p l e R s m args below meth c H locs cells slots Q (F0 m tgt ls rest)) (kf : i < j → W p l e R s m args below meth c H locs cells slots Q (F0 m (pc + 3) ls rest)) : W p l e R s m args below meth c H locs cells slots Q (F0 m pc ls (.int y :: .int x :: rest)) := by
  subst hx; subst hy
  exact lv_icmp_ge hexec hb hdg ht (fun h => kt ((nI_leI hj hi).mp h)) (fun h => kf (Nat.lt_of_not_le fun q => h ((nI_leI hj hi).mpr q)))
theorem y_cle (hexec : p.tables.exec = Jvm.exec) (hb : c.code = cc) {x y : Int32} {off : Int} {tgt : Nat} {i j : Nat} (hx : x = nI i) (hy : y = nI j) (hi : i < 2 ^ 31) (hj : j < 2 ^ 31) (hdg : decode cc pc = .ok (.if_icmp .le off, 3)) (ht : (pc : Int) + off = (tgt : Int))
    (kt : i ≤ j → W p l e R s m args below meth c H locs cells slots Q (F0 m tgt ls rest)) (kf : j < i → W p l e R s m args below meth c H locs cells slots Q (F0 m (pc + 3) ls rest)) : W p l e R s m args below meth c H locs cells slots Q (F0 m pc ls (.int y :: .int x :: rest)) := by
  subst hx; subst hy
  exact lv_icmp_le hexec hb hdg ht (fun h => kt ((nI_leI hi hj).mp h)) (fun h => kf (Nat.lt_of_not_le fun q => h ((nI_leI hi hj).mpr q)))
theorem y_clt (hexec : p.tables.exec = Jvm.exec) (hb : c.code = cc) {x y : Int32} {off : Int} {tgt : Nat} {i j : Nat} (hx : x = nI i) (hy : y = nI j) (hi : i < 2 ^ 31) (hj : j < 2 ^ 31) (hdg : decode cc pc = .ok (.if_icmp .lt off, 3)) (ht : (pc : Int) + off = (tgt : Int))
    (kt : i < j → W p l e R s m args below meth c H locs cells slots Q (F0 m tgt ls rest)) (kf : j ≤ i → W p l e R s m args below meth c H locs cells slots Q (F0 m (pc + 3) ls rest)) : W p l e R s m args below meth c H locs cells slots Q (F0 m pc ls (.int y :: .int x :: rest)) := by
  subst hx; subst hy
  exact lv_icmp_lt hexec hb hdg ht (fun h => kt ((nI_ltI hi hj).mp h)) (fun h => kf (Nat.le_of_not_lt fun q => h ((nI_ltI hi hj).mpr q)))
theorem y_cgt (hexec : p.tables.exec = Jvm.exec) (hb : c.code = cc) {x y : Int32} {off : Int} {tgt : Nat} {i j : Nat} (hx : x = nI i) (hy : y = nI j) (hi : i < 2 ^ 31) (hj : j < 2 ^ 31) (hdg : decode cc pc = .ok (.if_icmp .gt off, 3)) (ht : (pc : Int) + off = (tgt : Int))
    (kt : j < i → W p l e R s m args below meth c H locs cells slots Q (F0 m tgt ls rest)) (kf : i ≤ j → W p l e R s m args below meth c H locs cells slots Q (F0 m (pc + 3) ls rest)) : W p l e R s m args below meth c H locs cells slots Q (F0 m pc ls (.int y :: .int x :: rest)) := by
  subst hx; subst hy
  exact lv_icmp_gt hexec hb hdg ht (fun h => kt ((nI_ltI hj hi).mp h)) (fun h => kf (Nat.le_of_not_lt fun q => h ((nI_ltI hj hi).mpr q)))
theorem y_ceq (hexec : p.tables.exec = Jvm.exec) (hb : c.code = cc) {x y : Int32} {off : Int} {tgt : Nat} {i j : Nat} (hx : x = nI i) (hy : y = nI j) (hi : i < 2 ^ 31) (hj : j < 2 ^ 31) (hdg : decode cc pc = .ok (.if_icmp .eq off, 3)) (ht : (pc : Int) + off = (tgt : Int))
    (kt : i = j → W p l e R s m args below meth c H locs cells slots Q (F0 m tgt ls rest)) (kf : ¬ i = j → W p l e R s m args below meth c H locs cells slots Q (F0 m (pc + 3) ls rest)) : W p l e R s m args below meth c H locs cells slots Q (F0 m pc ls (.int y :: .int x :: rest)) := by
  subst hx; subst hy
  exact lv_icmp_eq hexec hb hdg ht (fun h => kt ((nI_eq hi hj).mp h)) (fun h => kf (fun q => h ((nI_eq hi hj).mpr q)))
theorem y_cne (hexec : p.tables.exec = Jvm.exec) (hb : c.code = cc) {x y : Int32} {off : Int} {tgt : Nat} {i j : Nat} (hx : x = nI i) (hy : y = nI j) (hi : i < 2 ^ 31) (hj : j < 2 ^ 31) (hdg : decode cc pc = .ok (.if_icmp .ne off, 3)) (ht : (pc : Int) + off = (tgt : Int))
    (kt : ¬ i = j → W p l e R s m args below meth c H locs cells slots Q (F0 m tgt ls rest)) (kf : i = j → W p l e R s m args below meth c H locs cells slots Q (F0 m (pc + 3) ls rest)) : W p l e R s m args below meth c H locs cells slots Q (F0 m pc ls (.int y :: .int x :: rest)) := by
  subst hx; subst hy
  exact lv_icmp_ne hexec hb hdg ht (fun h => kt (fun q => h ((nI_eq hi hj).mpr q))) (fun h => kf ((nI_eq hi hj).mp h))
theorem y_ifeq (hexec : p.tables.exec = Jvm.exec) (hb : c.code = cc) {x : Int32} {off : Int} {tgt : Nat} {b : Bool} (hx : x = b2i b) (hdg : decode cc pc = .ok (.ifCond .eq off, 3)) (ht : (pc : Int) + off = (tgt : Int))
    (kt : b = false → W p l e R s m args below meth c H locs cells slots Q (F0 m tgt ls rest)) (kf : b = true → W p l e R s m args below meth c H locs cells slots Q (F0 m (pc + 3) ls rest)) : W p l e R s m args below meth c H locs cells slots Q (F0 m pc ls (.int x :: rest)) := by
  subst hx
  cases b
  · exact lv_if_eq hexec hb hdg ht (fun _ => kt rfl) (fun h => absurd b2i_f h)
  · exact lv_if_eq hexec hb hdg ht (fun h => absurd h (by decide)) (fun _ => kf rfl)
theorem y_ifne (hexec : p.tables.exec = Jvm.exec) (hb : c.code = cc) {x : Int32} {off : Int} {tgt : Nat} {b : Bool} (hx : x = b2i b) (hdg : decode cc pc = .ok (.ifCond .ne off, 3)) (ht : (pc : Int) + off = (tgt : Int))
    (kt : b = true → W p l e R s m args below meth c H locs cells slots Q (F0 m tgt ls rest)) (kf : b = false → W p l e R s m args below meth c H locs cells slots Q (F0 m (pc + 3) ls rest)) : W p l e R s m args below meth c H locs cells slots Q (F0 m pc ls (.int x :: rest)) := by
  subst hx
  cases b
  · exact lv_if_ne hexec hb hdg ht (fun h => absurd b2i_f h) (fun _ => kf rfl)
  · exact lv_if_ne hexec hb hdg ht (fun _ => kt rfl) (fun h => absurd h (by decide))
/-- ends of a read-only method -/
theorem y_iretR {post : Int32 → Prop} {v : Int32} (hexec : p.tables.exec = Jvm.exec) (hb : c.code = cc) (hr : meth.sig.returnType = some .int) (hlocks : meth.locks = false) (hp : post v) (hdg : decode cc pc = .ok (.ireturn, 1)) : W p l e R s m args below meth c s.heap [] 0 0 (MQ below (vp_Si post) args s 0 0 (fun _ => False)) (F0 m pc ls [.int v]) :=
  W.iret hexec hb hr (fun _ ht _ => ⟨v, rfl, hp, ht⟩) (fun _ h => by cases h) hdg hlocks
theorem y_zretR {post : Int32 → Prop} {b : Bool} {v : Int32} (hv : v = b2i b) (hexec : p.tables.exec = Jvm.exec) (hb : c.code = cc) (hr : meth.sig.returnType = some .boolean) (hlocks : meth.locks = false) (hp : post (b2i b)) (hdg : decode cc pc = .ok (.ireturn, 1)) : W p l e R s m args below meth c s.heap [] 0 0 (MQ below (vp_Si post) args s 0 0 (fun _ => False)) (F0 m pc ls [.int v]) := by
  subst hv
  exact W.zret hexec hb hr (b2i_zn b) (fun _ ht _ => ⟨b2i b, rfl, hp, ht⟩) (fun _ h => by cases h) hdg hlocks
/-- the start of a read-only call -/
theorem y_preR {b ci q0 : Nat} {q : vw_C} {fs As : List Value} (hK : va_K D cl tys s) (hP : va_P D cl ws H) (hc : cl[ci]? = some q) (he : ws[q0]? = some (b, .inr (ci, fs))) : PreV s H q.1 b (va_Pc (.ref b :: As) (fun U => va_P D cl ws U.heap ∧ va_K D cl tys U)) As :=
  ⟨fun a U g mk z => by obtain ⟨q0, qP, qK⟩ := z; exact ⟨q0, qP, va_K.moved (u := U) (U := U.calling g mk a) (Vm.Alike.refl U.vm) qK⟩, va_recv hK hP hc he, fun U hU hW => ⟨rfl, by rw [hU]; exact hP, va_K.moved hW.alike hK⟩⟩
/-- the start of a call that writes -/
theorem y_preW {b ci q0 : Nat} {q : vw_C} {fs As : List Value} (hK : va_K D cl tys s) (hP : va_P D cl ws H) (hD : va_D A ws) (hc : cl[ci]? = some q) (he : ws[q0]? = some (b, .inr (ci, fs))) : PreV s H q.1 b (va_Pc (.ref b :: As) (fun U => U.heap.size = H.size ∧ va_P D cl ws U.heap ∧ va_K D cl tys U ∧ va_D (fun _ => True) ws)) As :=
  ⟨fun a U g mk z => by obtain ⟨q0, q1, qP, qK, qD⟩ := z; exact ⟨q0, q1, qP, va_K.moved (u := U) (U := U.calling g mk a) (Vm.Alike.refl U.vm) qK, qD⟩, va_recv hK hP hc he, fun U hU hW => ⟨rfl, by rw [hU], by rw [hU]; exact hP, va_K.moved hW.alike hK, hD.weaken (fun _ _ _ _ => trivial)⟩⟩
/-- the start of a constructor's call -/
theorem y_preI {b : Nat} {As : List Value} (hK : va_K D cl tys s) (hP : va_P D cl ws H) (hD : va_D A ws) : PreS s H (va_Pc (.ref b :: As) (fun U => U.heap.size = H.size ∧ va_P D cl ws U.heap ∧ va_K D cl tys U ∧ va_D (fun _ => True) ws)) (.ref b :: As) :=
  ⟨fun a U g mk z => by obtain ⟨q0, q1, qP, qK, qD⟩ := z; exact ⟨q0, q1, qP, va_K.moved (u := U) (U := U.calling g mk a) (Vm.Alike.refl U.vm) qK, qD⟩, fun U hU hW => ⟨rfl, by rw [hU], by rw [hU]; exact hP, va_K.moved hW.alike hK, hD.weaken (fun _ _ _ _ => trivial)⟩⟩
end YR
/-- one array kind, one number -/
theorem y_oneI {D : va_G} {cl : List vw_C} {tys : List (ClassId × FieldType)} {U : State} {i j : Nat} {c1 c2 : ClassId} (hK : va_K D cl tys U) (h1 : tys[i]? = some (c1, .int)) (h2 : tys[j]? = some (c2, .int)) : c1 = c2 := by
  have e1 : U.vm.findClass ("[" ++ (FieldType.int).toString) = some c1 := (hK.2 i _ h1).2
  have e2 : U.vm.findClass ("[" ++ (FieldType.int).toString) = some c2 := (hK.2 j _ h2).2
  rw [e1] at e2
  exact Option.some.inj e2
theorem y_oneZ {D : va_G} {cl : List vw_C} {tys : List (ClassId × FieldType)} {U : State} {i j : Nat} {c1 c2 : ClassId} (hK : va_K D cl tys U) (h1 : tys[i]? = some (c1, .boolean)) (h2 : tys[j]? = some (c2, .boolean)) : c1 = c2 := by
  have e1 : U.vm.findClass ("[" ++ (FieldType.boolean).toString) = some c1 := (hK.2 i _ h1).2
  have e2 : U.vm.findClass ("[" ++ (FieldType.boolean).toString) = some c2 := (hK.2 j _ h2).2
  rw [e1] at e2
  exact Option.some.inj e2
/-! the worlds -/
abbrev vwCl : List vw_C := [(RX0, TX0, 12), (RX1, TX1, 1), (RX2, TX2, 2), (RX3, TX3, 9)]
abbrev tyK (cI cZ : ClassId) : List (ClassId × FieldType) := [(cI, .int), (cZ, .boolean)]
abbrev wE (a b : Nat) (cI : ClassId) (bits : Nat → Int32) : va_W := [(a, .inr (1, [.ref b])), (b, .inl (cI, 1400, .inl bits))]
abbrev wH (a b : Nat) (cI : ClassId) (cnt : Int32) (row : Nat → Int32) : va_W := [(a, .inr (2, [.ref b, .int cnt])), (b, .inl (cI, 200, .inl row))]
abbrev wC (ad : Nat → Nat) (cI cZ : ClassId) (pts cls giv cnt : Int32) (bits row cost wish degree left isOut order colour : Nat → Int32) : va_W :=
  [(ad 0, .inr (0, [.int pts, .int cls, .ref (ad 1), .ref (ad 3), .ref (ad 5), .ref (ad 6), .ref (ad 7), .ref (ad 8), .ref (ad 9), .ref (ad 10), .ref (ad 11), .int giv])),
   (ad 1, .inr (1, [.ref (ad 2)])), (ad 2, .inl (cI, 1400, .inl bits)), (ad 3, .inr (2, [.ref (ad 4), .int cnt])), (ad 4, .inl (cI, 200, .inl row)),
   (ad 5, .inl (cI, 200, .inl cost)), (ad 6, .inl (cI, 200, .inl wish)), (ad 7, .inl (cI, 200, .inl degree)), (ad 8, .inl (cI, 200, .inl left)), (ad 9, .inl (cZ, 200, .inl isOut)), (ad 10, .inl (cI, 200, .inl order)), (ad 11, .inl (cI, 200, .inl colour))]
/-- the component's world without its edges / without its heap -/
abbrev wCe (ad : Nat → Nat) (cI cZ : ClassId) (pts cls giv cnt : Int32) (row cost wish degree left isOut order colour : Nat → Int32) : va_W :=
  [(ad 0, .inr (0, [.int pts, .int cls, .ref (ad 1), .ref (ad 3), .ref (ad 5), .ref (ad 6), .ref (ad 7), .ref (ad 8), .ref (ad 9), .ref (ad 10), .ref (ad 11), .int giv])),
   (ad 3, .inr (2, [.ref (ad 4), .int cnt])), (ad 4, .inl (cI, 200, .inl row)),
   (ad 5, .inl (cI, 200, .inl cost)), (ad 6, .inl (cI, 200, .inl wish)), (ad 7, .inl (cI, 200, .inl degree)), (ad 8, .inl (cI, 200, .inl left)), (ad 9, .inl (cZ, 200, .inl isOut)), (ad 10, .inl (cI, 200, .inl order)), (ad 11, .inl (cI, 200, .inl colour))]
abbrev wCh (ad : Nat → Nat) (cI cZ : ClassId) (pts cls giv : Int32) (bits cost wish degree left isOut order colour : Nat → Int32) : va_W :=
  [(ad 0, .inr (0, [.int pts, .int cls, .ref (ad 1), .ref (ad 3), .ref (ad 5), .ref (ad 6), .ref (ad 7), .ref (ad 8), .ref (ad 9), .ref (ad 10), .ref (ad 11), .int giv])),
   (ad 1, .inr (1, [.ref (ad 2)])), (ad 2, .inl (cI, 1400, .inl bits)),
   (ad 5, .inl (cI, 200, .inl cost)), (ad 6, .inl (cI, 200, .inl wish)), (ad 7, .inl (cI, 200, .inl degree)), (ad 8, .inl (cI, 200, .inl left)), (ad 9, .inl (cZ, 200, .inl isOut)), (ad 10, .inl (cI, 200, .inl order)), (ad 11, .inl (cI, 200, .inl colour))]
abbrev wM (bd : Nat → Nat) (cI cZ : ClassId) (mn mk mg : Int32) (pairs costs wishes colours mrow mins : Nat → Int32) : va_W :=
  [(bd 0, .inr (3, [.ref (bd 1), .ref (bd 2), .ref (bd 3), .ref (bd 4), .ref (bd 5), .ref (bd 6), .int mn, .int mk, .int mg])),
   (bd 1, .inl (cZ, 40000, .inl pairs)), (bd 2, .inl (cI, 200, .inl costs)), (bd 3, .inl (cI, 200, .inl wishes)), (bd 4, .inl (cI, 200, .inl colours)), (bd 5, .inl (cI, 200, .inl mrow)), (bd 6, .inl (cZ, 200, .inl mins))]
end
section
/-! ===== Int32 by its bits: bt x i ===== -/
def bt (x : Int32) (i : Nat) : Bool := x.toBitVec.getLsbD i
theorem b_ext {x y : Int32} (h : ∀ i, i < 32 → bt x i = bt y i) : x = y := Int32.toBitVec_inj.mp (BitVec.eq_of_getLsbD_eq (fun i hi => h i hi))
theorem b_or (x y : Int32) (i : Nat) : bt (x ||| y) i = (bt x i || bt y i) := by unfold bt; rw [Int32.toBitVec_or, BitVec.getLsbD_or]
theorem b_and (x y : Int32) (i : Nat) : bt (x &&& y) i = (bt x i && bt y i) := by unfold bt; rw [Int32.toBitVec_and, BitVec.getLsbD_and]
theorem b_xor (x y : Int32) (i : Nat) : bt (x ^^^ y) i = (bt x i ^^ bt y i) := by unfold bt; rw [Int32.toBitVec_xor, BitVec.getLsbD_xor]
theorem b_big {x : Int32} {i : Nat} (h : 32 ≤ i) : bt x i = false := BitVec.getLsbD_of_ge _ _ h
theorem b_255 (i : Nat) : bt 255 i = decide (i < 8) := by
  rcases Nat.lt_or_ge i 32 with h | h
  · exact (by decide +kernel : ∀ i, i < 32 → bt 255 i = decide (i < 8)) i h
  · rw [b_big h, decide_eq_false (by omega)]
theorem b_65535 (i : Nat) : bt 65535 i = decide (i < 16) := by
  rcases Nat.lt_or_ge i 32 with h | h
  · exact (by decide +kernel : ∀ i, i < 32 → bt 65535 i = decide (i < 16)) i h
  · rw [b_big h, decide_eq_false (by omega)]
theorem b_m1 : ∀ i, i < 32 → bt (-1) i = true := by decide +kernel
theorem b_0 (i : Nat) : bt 0 i = false := BitVec.getLsbD_zero
theorem s_l : ∀ n, n < 32 → ((nI n &&& 31).toBitVec.smod 32).toNat = n := by decide +kernel
theorem s_u : ∀ n, n < 32 → (((nI n).toUInt32 &&& Int32.toUInt32 31).toBitVec % 32).toNat = n := by decide +kernel
theorem b_shl (n : Nat) (hn : n < 32) (x : Int32) {i : Nat} (hi : i < 32) : bt (x <<< (nI n &&& 31)) i = (decide (n ≤ i) && bt x (i - n)) := by
  unfold bt
  rw [Int32.toBitVec_shiftLeft]
  show (x.toBitVec <<< ((nI n &&& 31).toBitVec.smod 32).toNat).getLsbD i = _
  rw [s_l n hn, BitVec.getLsbD_shiftLeft]
  rcases Nat.lt_or_ge i n with h | h
  · simp [h, Nat.not_le.mpr h]
  · simp [hi, h, Nat.not_lt.mpr h]
theorem b_ushr (n : Nat) (hn : n < 32) (x : Int32) (i : Nat) : bt ((x.toUInt32 >>> ((nI n).toUInt32 &&& Int32.toUInt32 31)).toInt32) i = bt x (n + i) := by
  show (x.toUInt32 >>> ((nI n).toUInt32 &&& Int32.toUInt32 31)).toBitVec.getLsbD i = x.toUInt32.toBitVec.getLsbD (n + i)
  rw [UInt32.toBitVec_shiftRight]
  show (x.toUInt32.toBitVec >>> (((nI n).toUInt32 &&& Int32.toUInt32 31).toBitVec % 32).toNat).getLsbD i = _
  rw [s_u n hn, BitVec.getLsbD_ushiftRight]
theorem b_sshr (n : Nat) (hn : n < 32) (x : Int32) {i : Nat} (hi : i < 32) : bt (x >>> (nI n &&& 31)) i = if n + i < 32 then bt x (n + i) else bt x 31 := by
  unfold bt
  rw [Int32.toBitVec_shiftRight]
  show (x.toBitVec.sshiftRight ((nI n &&& 31).toBitVec.smod 32).toNat).getLsbD i = _
  rw [s_l n hn, BitVec.getLsbD_sshiftRight, BitVec.msb_eq_getLsbD_last]
  simp [hi]
/-! ===== how many places have a property ===== -/
def fb_ct (p : Nat → Bool) : Nat → Nat
  | 0 => 0
  | n + 1 => fb_ct p n + (if p n then 1 else 0)
theorem fb_ct_succ (p : Nat → Bool) (n : Nat) : fb_ct p (n + 1) = fb_ct p n + (if p n then 1 else 0) := rfl
theorem fb_ct_le (p : Nat → Bool) : ∀ n, fb_ct p n ≤ n
  | 0 => Nat.le_refl _
  | n + 1 => by
    have h := fb_ct_le p n
    rw [fb_ct_succ]
    split <;> omega
theorem fb_ct_step (p : Nat → Bool) (m : Nat) : ∀ n, fb_ct p m ≤ fb_ct p (m + n)
  | 0 => Nat.le_refl _
  | n + 1 => by
    have h := fb_ct_step p m n
    show fb_ct p m ≤ fb_ct p (m + n + 1)
    rw [fb_ct_succ]
    omega
theorem fb_ct_mono (p : Nat → Bool) {m n : Nat} (h : m ≤ n) : fb_ct p m ≤ fb_ct p n := by
  have := fb_ct_step p m (n - m)
  rwa [Nat.add_sub_cancel' h] at this
theorem fb_ct_cong {p q : Nat → Bool} : ∀ {n : Nat}, (∀ k, k < n → p k = q k) → fb_ct p n = fb_ct q n
  | 0, _ => rfl
  | n + 1, h => by
    rw [fb_ct_succ, fb_ct_succ, fb_ct_cong (fun k hk => h k (by omega)), h n (by omega)]
/-- one place changed -/
theorem fb_ct_out (p : Nat → Bool) (b : Bool) {i n : Nat} (h : n ≤ i) : fb_ct (fun k => if k = i then b else p k) n = fb_ct p n :=
  fb_ct_cong fun k hk => if_neg (by omega)
theorem fb_ct_upd (p : Nat → Bool) (b : Bool) {i : Nat} : ∀ {n : Nat}, i < n → fb_ct (fun k => if k = i then b else p k) n + (if p i then 1 else 0) = fb_ct p n + (if b then 1 else 0)
  | 0, h => absurd h (Nat.not_lt_zero i)
  | n + 1, h => by
    rw [fb_ct_succ, fb_ct_succ]
    rcases Nat.lt_or_ge i n with q | q
    · have := fb_ct_upd p b q
      have e : (if n = i then b else p n) = p n := if_neg (by omega)
      rw [e]
      omega
    · have e : i = n := by omega
      subst e
      rw [fb_ct_out p b (Nat.le_refl _)]
      simp only [if_true]
      omega
theorem fb_ct_sub {p q : Nat → Bool} : ∀ {n : Nat}, (∀ k, k < n → p k = true → q k = true) → fb_ct p n ≤ fb_ct q n
  | 0, _ => Nat.le_refl _
  | n + 1, h => by
    have h1 := fb_ct_sub (n := n) (p := p) (q := q) (fun k hk => h k (by omega))
    have h2 := h n (by omega)
    rw [fb_ct_succ, fb_ct_succ]
    cases hp : p n <;> cases hq : q n <;> simp_all <;> omega
theorem fb_ct_or {p q : Nat → Bool} : ∀ {n : Nat}, (∀ k, k < n → ¬ (p k = true ∧ q k = true)) → fb_ct (fun k => p k || q k) n = fb_ct p n + fb_ct q n
  | 0, _ => rfl
  | n + 1, h => by
    have h1 := fb_ct_or (n := n) (p := p) (q := q) (fun k hk => h k (by omega))
    have h2 := h n (by omega)
    rw [fb_ct_succ, fb_ct_succ, fb_ct_succ, h1]
    cases hp : p n <;> cases hq : q n <;> simp_all <;> omega
theorem fb_ct_not (p : Nat → Bool) : ∀ n, fb_ct p n + fb_ct (fun k => !p k) n = n
  | 0 => rfl
  | n + 1 => by
    have h := fb_ct_not p n
    rw [fb_ct_succ, fb_ct_succ]
    cases p n <;> simp <;> omega
theorem fb_ct_split (p : Nat → Bool) (m : Nat) : ∀ n, fb_ct p (m + n) = fb_ct p m + fb_ct (fun k => p (m + k)) n
  | 0 => rfl
  | n + 1 => by
    have h := fb_ct_split p m n
    show fb_ct p (m + n + 1) = _
    rw [fb_ct_succ, fb_ct_succ, h, Nat.add_assoc]
theorem fb_ct_zero {p : Nat → Bool} : ∀ {n : Nat}, fb_ct p n = 0 ↔ ∀ k, k < n → p k = false
  | 0 => ⟨fun _ k hk => absurd hk (Nat.not_lt_zero k), fun _ => rfl⟩
  | n + 1 => by
    have h := fb_ct_zero (p := p) (n := n)
    rw [fb_ct_succ]
    constructor
    · intro e k hk
      have e1 : fb_ct p n = 0 := by omega
      rcases Nat.lt_or_ge k n with q | q
      · exact h.mp e1 k q
      · have ek : k = n := by omega
        subst ek
        cases hp : p k
        · rfl
        · simp [hp] at e
    · intro a
      rw [h.mpr (fun k hk => a k (by omega)), a n (by omega)]
      rfl
theorem fb_ct_pos {p : Nat → Bool} {n : Nat} : 0 < fb_ct p n ↔ ∃ k, k < n ∧ p k = true := by
  constructor
  · intro h
    refine Classical.byContradiction fun hx => ?_
    have := fb_ct_zero.mpr (fun k hk => by
      cases hp : p k
      · rfl
      · exact absurd ⟨k, hk, hp⟩ hx : ∀ k, k < n → p k = false)
    omega
  · rintro ⟨k, hk, hp⟩
    rcases Nat.eq_zero_or_pos (fb_ct p n) with e | e
    · have := fb_ct_zero.mp e k hk
      rw [this] at hp
      cases hp
    · exact e
theorem fb_ct_all {p : Nat → Bool} {n : Nat} : fb_ct p n = n ↔ ∀ k, k < n → p k = true := by
  have h := fb_ct_not p n
  constructor
  · intro e k hk
    have z : fb_ct (fun k => !p k) n = 0 := by omega
    have := fb_ct_zero.mp z k hk
    cases hp : p k
    · simp [hp] at this
    · rfl
  · intro a
    have z : fb_ct (fun k => !p k) n = 0 := fb_ct_zero.mpr (fun k hk => by simp [a k hk])
    omega
/-! ===== order of ints, in all its forms, and through longs ===== -/
theorem fa_lt (a b : Int32) : a < b ↔ a.toInt < b.toInt := Int32.lt_iff_toInt_lt
theorem fa_le (a b : Int32) : a ≤ b ↔ a.toInt ≤ b.toInt := Int32.le_iff_toInt_le
theorem fa_eq (a b : Int32) : a = b ↔ a.toInt = b.toInt := Int32.toInt_inj.symm
theorem fa_lt64 (a b : Int64) : a < b ↔ a.toInt < b.toInt := Int64.lt_iff_toInt_lt
theorem fa_le64 (a b : Int64) : a ≤ b ↔ a.toInt ≤ b.toInt := Int64.le_iff_toInt_le
theorem fa_eq64 (a b : Int64) : a = b ↔ a.toInt = b.toInt := Int64.toInt_inj.symm
/-- a comparison of two ints taken as longs -/
theorem fa_wide_lt (a b : Int32) : a.toInt64 < b.toInt64 ↔ a < b := by rw [fa_lt64, fa_lt, Int32.toInt_toInt64, Int32.toInt_toInt64]
theorem fa_wide_le (a b : Int32) : a.toInt64 ≤ b.toInt64 ↔ a ≤ b := by rw [fa_le64, fa_le, Int32.toInt_toInt64, Int32.toInt_toInt64]
theorem fa_wide_eq (a b : Int32) : a.toInt64 = b.toInt64 ↔ a = b := by rw [fa_eq64, fa_eq, Int32.toInt_toInt64, Int32.toInt_toInt64]
/-- one strict comparison gives all the others -/
theorem fa_of_lt {a b : Int32} (h : a < b) : a ≤ b ∧ ¬ b ≤ a ∧ ¬ b < a ∧ a ≠ b ∧ b ≠ a := by
  rw [fa_lt] at h
  refine ⟨?_, ?_, ?_, ?_, ?_⟩
  · rw [fa_le]; omega
  · rw [fa_le]; omega
  · rw [fa_lt]; omega
  · intro e; rw [fa_eq] at e; omega
  · intro e; rw [fa_eq] at e; omega
theorem fa_of_nlt {a b : Int32} (h : ¬ a < b) : b ≤ a := by
  rw [fa_lt] at h
  rw [fa_le]
  omega
theorem fa_of_nle {a b : Int32} (h : ¬ a ≤ b) : b < a := by
  rw [fa_le] at h
  rw [fa_lt]
  omega
theorem fa_le_ne {a b : Int32} (h : a ≤ b) (h2 : a ≠ b) : a < b := by
  rw [fa_le] at h
  rw [fa_lt]
  have h3 : a.toInt ≠ b.toInt := fun e => h2 ((fa_eq a b).mpr e)
  omega
theorem fa_three (a b : Int32) : a < b ∨ a = b ∨ b < a := by
  rw [fa_lt, fa_lt, fa_eq]
  omega
theorem fa_trans {a b c : Int32} (h : a < b) (h2 : b ≤ c) : a < c := by
  rw [fa_lt] at *
  rw [fa_le] at h2
  omega
/-! ===== small literals as numbers ===== -/
theorem fa_lit (n : Nat) : (OfNat.ofNat n : Int32) = nI n := rfl
theorem fa_litL (n : Nat) : (OfNat.ofNat n : Int64) = lN n := rfl
/-! ===== the first index with a property; a count ===== -/
/-- the first k < n with p k, n if there is none -/
def fa_first (p : Nat → Bool) : Nat → Nat
  | 0 => 0
  | n + 1 => if fa_first p n < n then fa_first p n else if p n then n else n + 1
theorem fa_first_le (p : Nat → Bool) : ∀ n, fa_first p n ≤ n
  | 0 => Nat.le_refl 0
  | n + 1 => by
    have ih := fa_first_le p n
    unfold fa_first
    split
    · omega
    · split
      · omega
      · omega
theorem fa_first_no (p : Nat → Bool) : ∀ n k, k < fa_first p n → p k = false
  | 0, k, h => absurd h (Nat.not_lt_zero k)
  | n + 1, k, h => by
    have ih := fa_first_no p n
    have hl := fa_first_le p n
    unfold fa_first at h
    split at h
    · exact ih k h
    · rename_i h1
      split at h
      · exact ih k (by omega)
      · rename_i h2
        by_cases e : k = n
        · subst e
          exact Bool.eq_false_iff.mpr h2
        · exact ih k (by omega)
theorem fa_first_yes (p : Nat → Bool) : ∀ n, fa_first p n < n → p (fa_first p n) = true
  | 0, h => absurd h (Nat.not_lt_zero _)
  | n + 1, h => by
    have ih := fa_first_yes p n
    have hl := fa_first_le p n
    unfold fa_first at h ⊢
    split at h
    · rename_i h1
      rw [if_pos h1]
      exact ih h1
    · rename_i h1
      rw [if_neg h1]
      split at h
      · rename_i h2
        rw [if_pos h2]
        exact h2
      · omega
end
section
/-! plain mathematics: counts, the point that goes out next, the order, the colours -/
theorem nI_ne_m1 {c : Nat} (h : c < 2 ^ 31) : ¬ nI c = -1 := by
  intro e
  have h1 := congrArg Int32.toInt e
  rw [nI_toInt h] at h1
  have h2 : (-1 : Int32).toInt = -1 := by decide
  rw [h2] at h1
  omega
theorem first_eq {p : Nat → Bool} {n a : Nat} (ha : a < n) (hp : p a = true) (hm : ∀ j, j < a → p j = false) : fa_first p n = a := by
  have h1 := fa_first_no p n
  have h2 := fa_first_yes p n
  rcases Nat.lt_trichotomy (fa_first p n) a with q | q | q
  · have h3 := hm _ q
    rw [h2 (by omega)] at h3
    cases h3
  · exact q
  · have h3 := h1 a q
    rw [hp] at h3
    cases h3
theorem first_none {p : Nat → Bool} {n : Nat} (h : ∀ j, j < n → p j = false) : fa_first p n = n := by
  have h1 := fa_first_le p n
  have h2 := fa_first_yes p n
  rcases Nat.lt_or_ge (fa_first p n) n with q | q
  · have h3 := h _ q
    rw [h2 q] at h3
    cases h3
  · omega
theorem ct_add {f g : Nat → Bool} {n a : Nat} (ha : a < n) (hf : f a = false) (hg : g a = true) (ho : ∀ j, j < n → j ≠ a → g j = f j) : fb_ct g n = fb_ct f n + 1 := by
  have h := fb_ct_upd f true ha
  have e : fb_ct (fun k => if k = a then true else f k) n = fb_ct g n := fb_ct_cong (fun k hk => by
    by_cases q : k = a
    · subst q
      simp [hg]
    · simp [q, ho k hk q])
  rw [e, hf] at h
  simpa using h
def dg (E : Nat → Nat → Bool) (n a : Nat) : Nat := fb_ct (fun b => E a b) n
def lf (E : Nat → Nat → Bool) (n : Nat) (inn : Nat → Bool) (a : Nat) : Nat := fb_ct (fun b => inn b && E a b) n
theorem dg_le (E : Nat → Nat → Bool) (n a : Nat) : dg E n a ≤ n := fb_ct_le _ _
theorem lf_le (E : Nat → Nat → Bool) (n : Nat) (inn : Nat → Bool) (a : Nat) : lf E n inn a ≤ n := fb_ct_le _ _
theorem lf_all {E : Nat → Nat → Bool} {n : Nat} {inn : Nat → Bool} (h : ∀ b, b < n → inn b = true) (a : Nat) : lf E n inn a = dg E n a :=
  fb_ct_cong (fun k hk => by simp [h k hk])
theorem lf_del {E : Nat → Nat → Bool} {n : Nat} {inn inn' : Nat → Bool} {x : Nat} (hx : x < n) (hin : inn x = true) (hx' : inn' x = false) (ho : ∀ j, j < n → j ≠ x → inn' j = inn j) (a : Nat) : lf E n inn a = lf E n inn' a + (if E a x then 1 else 0) := by
  cases h : E a x
  · have e : lf E n inn a = lf E n inn' a := fb_ct_cong (fun k hk => by
      by_cases q : k = x
      · subst q
        simp [h]
      · simp [ho k hk q])
    simpa using e
  · have e : lf E n inn a = lf E n inn' a + 1 := ct_add hx (by simp [hx']) (by simp [hin, h]) (fun j hj q => by simp [ho j hj q])
    simpa using e
/-- the best of the first i that are in -/
def bst (inn : Nat → Bool) (co l : Nat → Nat) : Nat → Option Nat
  | 0 => none
  | i + 1 => if inn i then (match bst inn co l i with
      | none => some i
      | some b => if co i * l b < co b * l i then some i else some b) else bst inn co l i
theorem bst_out {inn : Nat → Bool} {co l : Nat → Nat} {i : Nat} (h : inn i = false) : bst inn co l (i + 1) = bst inn co l i := by simp [bst, h]
theorem bst_new {inn : Nat → Bool} {co l : Nat → Nat} {i : Nat} (h : inn i = true) (hb : bst inn co l i = none) : bst inn co l (i + 1) = some i := by simp [bst, h, hb]
theorem bst_up {inn : Nat → Bool} {co l : Nat → Nat} {i b : Nat} (h : inn i = true) (hb : bst inn co l i = some b) (hc : co i * l b < co b * l i) : bst inn co l (i + 1) = some i := by simp [bst, h, hb, hc]
theorem bst_keep {inn : Nat → Bool} {co l : Nat → Nat} {i b : Nat} (h : inn i = true) (hb : bst inn co l i = some b) (hc : ¬ co i * l b < co b * l i) : bst inn co l (i + 1) = some b := by simp [bst, h, hb, hc]
theorem bst_some {inn : Nat → Bool} {co l : Nat → Nat} : ∀ (i b : Nat), bst inn co l i = some b → b < i ∧ inn b = true := by
  intro i
  induction i with
  | zero =>
    intro b h
    simp [bst] at h
  | succ i ih =>
    intro b h
    cases hi : inn i
    · rw [bst_out hi] at h
      have := ih b h
      exact ⟨by omega, this.2⟩
    · cases hb : bst inn co l i with
      | none =>
        rw [bst_new hi hb] at h
        cases h
        exact ⟨by omega, hi⟩
      | some b' =>
        have h' := ih b' hb
        by_cases hc : co i * l b' < co b' * l i
        · rw [bst_up hi hb hc] at h
          cases h
          exact ⟨by omega, hi⟩
        · rw [bst_keep hi hb hc] at h
          cases h
          exact ⟨by omega, h'.2⟩
theorem bst_none {inn : Nat → Bool} {co l : Nat → Nat} : ∀ (i : Nat), bst inn co l i = none → ∀ j, j < i → inn j = false := by
  intro i
  induction i with
  | zero =>
    intro _ j hj
    exact absurd hj (Nat.not_lt_zero j)
  | succ i ih =>
    intro h j hj
    cases hi : inn i
    · rw [bst_out hi] at h
      by_cases e : j = i
      · subst e
        exact hi
      · exact ih h j (by omega)
    · cases hb : bst inn co l i with
      | none =>
        rw [bst_new hi hb] at h
        cases h
      | some b' =>
        by_cases hc : co i * l b' < co b' * l i
        · rw [bst_up hi hb hc] at h
          cases h
        · rw [bst_keep hi hb hc] at h
          cases h
theorem bst_cong {inn : Nat → Bool} {co l co' l' : Nat → Nat} : ∀ (i : Nat), (∀ j, j < i → inn j = true → co j = co' j ∧ l j = l' j) → bst inn co l i = bst inn co' l' i := by
  intro i
  induction i with
  | zero =>
    intro _
    rfl
  | succ i ih =>
    intro h
    have ih' := ih (fun j hj => h j (by omega))
    cases hi : inn i
    · rw [bst_out hi, bst_out hi, ih']
    · cases hb : bst inn co l i with
      | none => rw [bst_new hi hb, bst_new hi (ih' ▸ hb)]
      | some b =>
        have hb' : bst inn co' l' i = some b := ih' ▸ hb
        have h1 := bst_some i b hb
        have e1 := h i (by omega) hi
        have e2 := h b (by omega) h1.2
        by_cases hc : co i * l b < co b * l i
        · rw [bst_up hi hb hc, bst_up hi hb' (by rw [← e1.1, ← e1.2, ← e2.1, ← e2.2]; exact hc)]
        · rw [bst_keep hi hb hc, bst_keep hi hb' (by rw [← e1.1, ← e1.2, ← e2.1, ← e2.2]; exact hc)]
def bI (o : Option Nat) : Int32 := match o with
  | none => -1
  | some b => nI b
def fewB (n k : Nat) (E : Nat → Nat → Bool) (inn : Nat → Bool) (a : Nat) : Bool := inn a && decide (lf E n inn a < k)
/-- the point that goes out next -/
def nxt (n k : Nat) (E : Nat → Nat → Bool) (co : Nat → Nat) (inn : Nat → Bool) : Nat :=
  if fa_first (fewB n k E inn) n < n then fa_first (fewB n k E inn) n else (bst inn co (lf E n inn) n).getD 0
theorem nxt_few {n k : Nat} {E : Nat → Nat → Bool} {co : Nat → Nat} {inn : Nat → Bool} {a : Nat} (ha : a < n) (h : fewB n k E inn a = true) (hm : ∀ j, j < a → fewB n k E inn j = false) : nxt n k E co inn = a := by
  have e := first_eq ha h hm
  unfold nxt
  rw [e, if_pos ha]
theorem nxt_bst {n k : Nat} {E : Nat → Nat → Bool} {co : Nat → Nat} {inn : Nat → Bool} {a : Nat} (h : ∀ j, j < n → fewB n k E inn j = false) (hb : bst inn co (lf E n inn) n = some a) : nxt n k E co inn = a := by
  have e := first_none h
  unfold nxt
  rw [e, if_neg (Nat.lt_irrefl n), hb]
  rfl
theorem nxt_in {n k : Nat} {E : Nat → Nat → Bool} {co : Nat → Nat} {inn : Nat → Bool} (hex : ∃ a, a < n ∧ inn a = true) : nxt n k E co inn < n ∧ inn (nxt n k E co inn) = true := by
  by_cases hf : fa_first (fewB n k E inn) n < n
  · have h1 := fa_first_yes _ n hf
    unfold nxt
    rw [if_pos hf]
    refine ⟨hf, ?_⟩
    unfold fewB at h1 ⊢
    simp only [Bool.and_eq_true] at h1
    exact h1.1
  · cases hb : bst inn co (lf E n inn) n with
    | none =>
      obtain ⟨a, ha, hi⟩ := hex
      rw [bst_none n hb a ha] at hi
      cases hi
    | some b =>
      have h1 := bst_some n b hb
      unfold nxt
      rw [if_neg hf, hb]
      exact h1
def inS (n k : Nat) (E : Nat → Nat → Bool) (co : Nat → Nat) : Nat → (Nat → Bool)
  | 0 => fun a => decide (a < n)
  | i + 1 => fun a => inS n k E co i a && !decide (a = nxt n k E co (inS n k E co i))
def ordF (n k : Nat) (E : Nat → Nat → Bool) (co : Nat → Nat) (i : Nat) : Nat := nxt n k E co (inS n k E co i)
section INS
variable {n k : Nat} {E : Nat → Nat → Bool} {co : Nat → Nat}
theorem inS_0 (a : Nat) : inS n k E co 0 a = decide (a < n) := rfl
theorem inS_s (i a : Nat) : inS n k E co (i + 1) a = (inS n k E co i a && !decide (a = ordF n k E co i)) := rfl
theorem inS_lt : ∀ (i a : Nat), inS n k E co i a = true → a < n := by
  intro i
  induction i with
  | zero =>
    intro a h
    rw [inS_0] at h
    exact of_decide_eq_true h
  | succ i ih =>
    intro a h
    rw [inS_s] at h
    simp only [Bool.and_eq_true] at h
    exact ih a h.1
theorem inS_self (i : Nat) : inS n k E co (i + 1) (ordF n k E co i) = false := by rw [inS_s]; simp
theorem inS_ne {i a : Nat} (h : a ≠ ordF n k E co i) : inS n k E co (i + 1) a = inS n k E co i a := by rw [inS_s]; simp [h]
theorem inS_ct : ∀ (i : Nat), i ≤ n → fb_ct (inS n k E co i) n = n - i := by
  intro i
  induction i with
  | zero =>
    intro _
    have := (fb_ct_all (p := inS n k E co 0) (n := n)).mpr (fun j hj => by rw [inS_0]; exact decide_eq_true hj)
    omega
  | succ i ih =>
    intro hi
    have h1 := ih (by omega)
    have hex : ∃ a, a < n ∧ inS n k E co i a = true := fb_ct_pos.mp (by omega)
    have h2 := nxt_in (k := k) (E := E) (co := co) hex
    have h3 : fb_ct (inS n k E co i) n = fb_ct (inS n k E co (i + 1)) n + 1 := ct_add h2.1 (inS_self i) h2.2 (fun j _ q => (inS_ne q).symm)
    omega
theorem inS_ex {i : Nat} (hi : i < n) : ∃ a, a < n ∧ inS n k E co i a = true := fb_ct_pos.mp (by have := inS_ct (n := n) (k := k) (E := E) (co := co) i (by omega); omega)
theorem ordF_in {i : Nat} (hi : i < n) : ordF n k E co i < n ∧ inS n k E co i (ordF n k E co i) = true := nxt_in (inS_ex hi)
theorem inS_mono {i : Nat} : ∀ (d a : Nat), inS n k E co (i + d) a = true → inS n k E co i a = true := by
  intro d
  induction d with
  | zero =>
    intro a h
    exact h
  | succ d ih =>
    intro a h
    have h : inS n k E co (i + d + 1) a = true := h
    rw [inS_s] at h
    simp only [Bool.and_eq_true] at h
    exact ih a h.1
theorem ordF_inj {i j : Nat} (hij : i < j) (hj : j < n) : ordF n k E co i ≠ ordF n k E co j := by
  intro e
  have h1 := (ordF_in (k := k) (E := E) (co := co) hj).2
  have h2 : inS n k E co (i + 1) (ordF n k E co j) = true := inS_mono (j - (i + 1)) _ (by rw [show i + 1 + (j - (i + 1)) = j by omega]; exact h1)
  rw [← e, inS_self] at h2
  cases h2
end INS
/-- no neighbour of a has the colour c -/
def freeC (E : Nat → Nat → Bool) (n : Nat) (col : Nat → Int32) (a : Nat) (c : Int32) : Bool := decide (fa_first (fun b => E a b && decide (col b = c)) n = n)
section FREE
variable {E : Nat → Nat → Bool} {n : Nat} {col : Nat → Int32} {a : Nat} {c : Int32}
theorem free_yes (h : ∀ b, b < n → E a b = true → ¬ col b = c) : freeC E n col a c = true := by
  unfold freeC
  refine decide_eq_true (first_none (fun j hj => ?_))
  cases hE : E a j
  · rfl
  · simp [h j hj hE]
theorem free_use (h : freeC E n col a c = true) {b : Nat} (hb : b < n) (hE : E a b = true) : ¬ col b = c := by
  intro e
  have h1 : fa_first (fun b => E a b && decide (col b = c)) n = n := of_decide_eq_true h
  have h2 := fa_first_no (fun b => E a b && decide (col b = c)) n b (by rw [h1]; exact hb)
  simp [hE, e] at h2
theorem free_no {b : Nat} (hb : b < n) (hE : E a b = true) (hc : col b = c) : freeC E n col a c = false := by
  cases h : freeC E n col a c
  · rfl
  · exact absurd hc (free_use h hb hE)
end FREE
/-- the colour that a gets -/
def pnt (n k : Nat) (E : Nat → Nat → Bool) (wi : Nat → Nat) (col : Nat → Int32) (a : Nat) : Int32 :=
  if col (wi a) ≠ -1 ∧ freeC E n col a (col (wi a)) = true then col (wi a)
  else if fa_first (fun c => freeC E n col a (nI c)) k < k then nI (fa_first (fun c => freeC E n col a (nI c)) k) else -1
section PNT
variable {n k : Nat} {E : Nat → Nat → Bool} {wi : Nat → Nat} {col : Nat → Int32} {a : Nat}
theorem pnt_wish (h1 : ¬ col (wi a) = -1) (h2 : freeC E n col a (col (wi a)) = true) : pnt n k E wi col a = col (wi a) := by
  unfold pnt
  rw [if_pos ⟨h1, h2⟩]
theorem pnt_first {c : Nat} (h : ¬ (col (wi a) ≠ -1 ∧ freeC E n col a (col (wi a)) = true)) (hc : c < k) (h1 : freeC E n col a (nI c) = true) (h2 : ∀ j, j < c → freeC E n col a (nI j) = false) : pnt n k E wi col a = nI c := by
  have e := first_eq (p := fun c => freeC E n col a (nI c)) hc h1 h2
  unfold pnt
  rw [if_neg h, e, if_pos hc]
theorem pnt_none (h : ¬ (col (wi a) ≠ -1 ∧ freeC E n col a (col (wi a)) = true)) (h2 : ∀ j, j < k → freeC E n col a (nI j) = false) : pnt n k E wi col a = -1 := by
  have e := first_none (p := fun c => freeC E n col a (nI c)) h2
  unfold pnt
  rw [if_neg h, e, if_neg (Nat.lt_irrefl k)]
theorem pnt_free (h : ¬ pnt n k E wi col a = -1) : freeC E n col a (pnt n k E wi col a) = true := by
  by_cases h1 : col (wi a) ≠ -1 ∧ freeC E n col a (col (wi a)) = true
  · rw [pnt_wish h1.1 h1.2]
    exact h1.2
  · by_cases h2 : fa_first (fun c => freeC E n col a (nI c)) k < k
    · have h3 := fa_first_yes _ k h2
      have e : pnt n k E wi col a = nI (fa_first (fun c => freeC E n col a (nI c)) k) := by
        unfold pnt
        rw [if_neg h1, if_pos h2]
      rw [e]
      exact h3
    · exfalso
      apply h
      unfold pnt
      rw [if_neg h1, if_neg h2]
theorem pnt_val : pnt n k E wi col a = -1 ∨ pnt n k E wi col a = col (wi a) ∨ ∃ c, c < k ∧ pnt n k E wi col a = nI c := by
  by_cases h1 : col (wi a) ≠ -1 ∧ freeC E n col a (col (wi a)) = true
  · exact Or.inr (Or.inl (pnt_wish h1.1 h1.2))
  · by_cases h2 : fa_first (fun c => freeC E n col a (nI c)) k < k
    · refine Or.inr (Or.inr ⟨_, h2, ?_⟩)
      unfold pnt
      rw [if_neg h1, if_pos h2]
    · refine Or.inl ?_
      unfold pnt
      rw [if_neg h1, if_neg h2]
end PNT
def colS (n k : Nat) (E : Nat → Nat → Bool) (co wi : Nat → Nat) : Nat → (Nat → Int32)
  | 0 => fun _ => -1
  | j + 1 => upd (colS n k E co wi j) (ordF n k E co (n - 1 - j)) (pnt n k E wi (colS n k E co wi j) (ordF n k E co (n - 1 - j)))
def woS (n k : Nat) (E : Nat → Nat → Bool) (co wi : Nat → Nat) : Nat → Nat
  | 0 => 0
  | j + 1 => woS n k E co wi j + (if pnt n k E wi (colS n k E co wi j) (ordF n k E co (n - 1 - j)) = -1 then 1 else 0)
section COL
variable {n k : Nat} {E : Nat → Nat → Bool} {co wi : Nat → Nat}
theorem colS_s (j : Nat) : colS n k E co wi (j + 1) = upd (colS n k E co wi j) (ordF n k E co (n - 1 - j)) (pnt n k E wi (colS n k E co wi j) (ordF n k E co (n - 1 - j))) := rfl
theorem woS_le : ∀ j, woS n k E co wi j ≤ j := by
  intro j
  induction j with
  | zero => exact Nat.le_refl 0
  | succ j ih =>
    show woS n k E co wi j + (if _ then 1 else 0) ≤ j + 1
    split <;> omega
theorem colS_val : ∀ (j a : Nat), colS n k E co wi j a = -1 ∨ ∃ c, c < k ∧ colS n k E co wi j a = nI c := by
  intro j
  induction j with
  | zero =>
    intro a
    exact Or.inl rfl
  | succ j ih =>
    intro a
    rw [colS_s]
    by_cases e : a = ordF n k E co (n - 1 - j)
    · subst e
      rw [pk_us]
      rcases pnt_val (n := n) (k := k) (E := E) (wi := wi) (col := colS n k E co wi j) (a := ordF n k E co (n - 1 - j)) with h | h | h
      · exact Or.inl h
      · rw [h]
        exact ih _
      · exact Or.inr h
    · rw [pk_un e]
      exact ih a
theorem colS_new : ∀ (j : Nat), j ≤ n → ∀ a, ¬ colS n k E co wi j a = -1 → ∃ i, n - j ≤ i ∧ i < n ∧ a = ordF n k E co i := by
  intro j
  induction j with
  | zero =>
    intro _ a h
    exact absurd rfl h
  | succ j ih =>
    intro hj a h
    rw [colS_s] at h
    by_cases e : a = ordF n k E co (n - 1 - j)
    · exact ⟨n - 1 - j, by omega, by omega, e⟩
    · rw [pk_un e] at h
      obtain ⟨i, h1, h2, h3⟩ := ih (by omega) a h
      exact ⟨i, by omega, h2, h3⟩
theorem colS_cur {j : Nat} (hj : j < n) : colS n k E co wi j (ordF n k E co (n - 1 - j)) = -1 := by
  refine Classical.byContradiction fun h => ?_
  obtain ⟨i, h1, h2, h3⟩ := colS_new j (by omega) _ h
  exact ordF_inj (n := n) (k := k) (E := E) (co := co) (i := n - 1 - j) (j := i) (by omega) h2 h3
theorem colS_proper (hs : ∀ a b, E a b = E b a) (hr : ∀ a, E a a = false) (hlt : ∀ a b, E a b = true → a < n ∧ b < n) : ∀ (j : Nat), j ≤ n → ∀ a b, E a b = true → ¬ colS n k E co wi j a = -1 → ¬ colS n k E co wi j a = colS n k E co wi j b := by
  intro j
  induction j with
  | zero =>
    intro _ a b _ h
    exact absurd rfl h
  | succ j ih =>
    intro hj a b hE h
    have ih' := ih (by omega)
    have hab : a ≠ b := fun e => by
      subst e
      rw [hr] at hE
      cases hE
    rw [colS_s] at h ⊢
    by_cases e : a = ordF n k E co (n - 1 - j)
    · subst e
      rw [pk_us] at h ⊢
      rw [pk_un (Ne.symm hab)]
      intro e2
      exact free_use (pnt_free h) (hlt _ _ hE).2 hE e2.symm
    · rw [pk_un e] at h ⊢
      by_cases e2 : b = ordF n k E co (n - 1 - j)
      · subst e2
        rw [pk_us]
        intro e3
        have h4 : ¬ pnt n k E wi (colS n k E co wi j) (ordF n k E co (n - 1 - j)) = -1 := by rw [← e3]; exact h
        exact free_use (pnt_free h4) (hlt _ _ hE).1 (by rw [← hs]; exact hE) e3
      · rw [pk_un e2]
        exact ih' a b hE h
end COL
/-! the state that both sides hold, and what the calls do to it -/
abbrev AS : Type := Nat × Nat × (Nat → Nat → Bool) × (Nat → Nat) × (Nat → Nat) × Bool
def okA (n k : Nat) (E : Nat → Nat → Bool) (co wi : Nat → Nat) : Prop := (1 ≤ n ∧ n ≤ 200) ∧ (1 ≤ k ∧ k ≤ 30) ∧ (∀ a b, E a b = true → a < n ∧ b < n) ∧ (∀ a b, E a b = E b a) ∧ (∀ a, E a a = false) ∧ (∀ a, a < n → co a ≤ 1000000) ∧ (∀ a, a < n → wi a < n)
def okS (st : AS) : Prop := okA st.1 st.2.1 st.2.2.1 st.2.2.2.1 st.2.2.2.2.1
def ptB (n : Nat) (x : Int32) : Bool := decide (¬ x < 0) && decide (¬ nI n ≤ x)
theorem ptB_t {n : Nat} {x : Int32} (hn : n < 2 ^ 31) (h : ptB n x = true) : ∃ j, j < n ∧ x = nI j := by
  unfold ptB at h
  simp only [Bool.and_eq_true, decide_eq_true_eq] at h
  rcases pk_ix x hn with q | q | q
  · exact absurd q h.1
  · exact absurd q h.2
  · exact q
theorem ptB_nI {n j : Nat} (hn : n < 2 ^ 31) (hj : j < n) : ptB n (nI j) = true := by
  unfold ptB
  simp only [Bool.and_eq_true, decide_eq_true_eq]
  exact ⟨nI_pos (by omega), fun h => by rw [nI_leI hn (by omega)] at h; omega⟩
def okB (x y : Int32) : Bool := decide (¬ x < 1) && decide (¬ 200 < x) && decide (¬ y < 1) && decide (¬ 30 < y)
def begS (st : AS) (x y : Int32) : AS := if okB x y then (x.toNatClampNeg, y.toNatClampNeg, fun _ _ => false, fun _ => 0, fun a => a, false) else st
def setE (E : Nat → Nat → Bool) (i j : Nat) : Nat → Nat → Bool := fun a b => E a b || (decide (a = i) && decide (b = j))
def okJ (st : AS) (x y : Int32) : Bool := ptB st.1 x && ptB st.1 y && !decide (x = y) && !st.2.2.1 x.toNatClampNeg y.toNatClampNeg
def joinS (st : AS) (x y : Int32) : AS := if okJ st x y then (st.1, st.2.1, setE (setE st.2.2.1 x.toNatClampNeg y.toNatClampNeg) y.toNatClampNeg x.toNatClampNeg, st.2.2.2.1, st.2.2.2.2.1, false) else st
def okC (st : AS) (x y : Int32) : Bool := ptB st.1 x && decide (¬ y < 0) && decide (¬ 1000000 < y)
def costS (st : AS) (x y : Int32) : AS := if okC st x y then (st.1, st.2.1, st.2.2.1, va_up st.2.2.2.1 x.toNatClampNeg y.toNatClampNeg, st.2.2.2.2.1, false) else st
def okW (st : AS) (x y : Int32) : Bool := ptB st.1 x && ptB st.1 y
def wishS (st : AS) (x y : Int32) : AS := if okW st x y then (st.1, st.2.1, st.2.2.1, st.2.2.2.1, va_up st.2.2.2.2.1 x.toNatClampNeg y.toNatClampNeg, false) else st
def giveS (st : AS) : AS := (st.1, st.2.1, st.2.2.1, st.2.2.2.1, st.2.2.2.2.1, true)
def giveA (st : AS) : Int32 := nI (woS st.1 st.2.1 st.2.2.1 st.2.2.2.1 st.2.2.2.2.1 st.1)
def colA (st : AS) (x : Int32) : Int32 := if st.2.2.2.2.2 && ptB st.1 x then colS st.1 st.2.1 st.2.2.1 st.2.2.2.1 st.2.2.2.2.1 st.1 x.toNatClampNeg else -1
def takA (st : AS) (x : Int32) : Int32 := if st.2.2.2.2.2 && ptB st.1 x then nI (ordF st.1 st.2.1 st.2.2.1 st.2.2.2.1 x.toNatClampNeg) else -1
def jndA (st : AS) (x y : Int32) : Bool := ptB st.1 x && ptB st.1 y && st.2.2.1 x.toNatClampNeg y.toNatClampNeg
def degA (st : AS) (x : Int32) : Int32 := if ptB st.1 x then nI (dg st.2.2.1 st.1 x.toNatClampNeg) else -1
end
section
/-! plain mathematics 2: the calls keep the state sound; rows of bits; the heap -/
theorem rng_t {x : Int32} {M : Nat} (hM : M < 2 ^ 30) (h1 : ¬ x < 1) (h2 : ¬ nI M < x) : ∃ j, 1 ≤ j ∧ j ≤ M ∧ x = nI j := by
  rw [fa_lt] at h1 h2
  rw [nI_toInt (by omega)] at h2
  have e1 : (1 : Int32).toInt = 1 := by decide
  rw [e1] at h1
  rcases pk_ix x (n := M + 1) (by omega) with q | q | ⟨j, q1, q2⟩
  · rw [fa_lt] at q
    have e0 : (0 : Int32).toInt = 0 := by decide
    rw [e0] at q
    omega
  · rw [fa_le, nI_toInt (by omega)] at q
    omega
  · subst q2
    rw [nI_toInt (by omega)] at h1
    exact ⟨j, by omega, by omega, rfl⟩
theorem rng_0 {x : Int32} {M : Nat} (hM : M < 2 ^ 30) (h1 : ¬ x < 0) (h2 : ¬ nI M < x) : ∃ j, j ≤ M ∧ x = nI j := by
  rw [fa_lt, nI_toInt (by omega)] at h2
  rcases pk_ix x (n := M + 1) (by omega) with q | q | ⟨j, q1, q2⟩
  · exact absurd q h1
  · rw [fa_le, nI_toInt (by omega)] at q
    omega
  · exact ⟨j, by omega, q2⟩
theorem okB_t {x y : Int32} (h : okB x y = true) : ∃ n k, x = nI n ∧ y = nI k ∧ (1 ≤ n ∧ n ≤ 200) ∧ (1 ≤ k ∧ k ≤ 30) := by
  unfold okB at h
  simp only [Bool.and_eq_true, decide_eq_true_eq] at h
  obtain ⟨n, h1, h2, h3⟩ := rng_t (M := 200) (by decide) h.1.1.1 h.1.1.2
  obtain ⟨k, h4, h5, h6⟩ := rng_t (M := 30) (by decide) h.1.2 h.2
  exact ⟨n, k, h3, h6, ⟨h1, h2⟩, ⟨h4, h5⟩⟩
theorem setE_or (E : Nat → Nat → Bool) (i j a b : Nat) : setE E i j a b = (E a b || (decide (a = i) && decide (b = j))) := rfl
theorem okJ_t {st : AS} {x y : Int32} (hn : st.1 ≤ 200) (h : okJ st x y = true) : ∃ i j, x = nI i ∧ y = nI j ∧ i < st.1 ∧ j < st.1 ∧ i ≠ j ∧ st.2.2.1 i j = false := by
  unfold okJ at h
  simp only [Bool.and_eq_true, Bool.not_eq_true'] at h
  obtain ⟨i, h1, h2⟩ := ptB_t (by omega) h.1.1.1
  obtain ⟨j, h3, h4⟩ := ptB_t (by omega) h.1.1.2
  subst h2; subst h4
  have h5 := h.1.2
  have h6 := h.2
  rw [nI_clamp (by omega), nI_clamp (by omega)] at h6
  refine ⟨i, j, rfl, rfl, h1, h3, fun e => ?_, h6⟩
  subst e
  simp at h5
theorem okJ_nI {st : AS} {i j : Nat} (hn : st.1 ≤ 200) (hi : i < st.1) (hj : j < st.1) (hij : i ≠ j) : okJ st (nI i) (nI j) = !st.2.2.1 i j := by
  unfold okJ
  rw [ptB_nI (by omega) hi, ptB_nI (by omega) hj, nI_clamp (by omega), nI_clamp (by omega)]
  have h : ¬ nI i = nI j := fun e => hij ((nI_eq (by omega) (by omega)).mp e)
  simp [h]
theorem joinS_nI {st : AS} {i j : Nat} (hn : st.1 ≤ 200) (hi : i < st.1) (hj : j < st.1) (hij : i ≠ j) (hE : st.2.2.1 i j = false) : joinS st (nI i) (nI j) = (st.1, st.2.1, setE (setE st.2.2.1 i j) j i, st.2.2.2.1, st.2.2.2.2.1, false) := by
  unfold joinS
  rw [okJ_nI hn hi hj hij, hE, nI_clamp (by omega), nI_clamp (by omega)]
  rfl
theorem ok_beg {st : AS} {x y : Int32} (h : okS st) : okS (begS st x y) := by
  unfold begS
  cases hb : okB x y
  · exact h
  · obtain ⟨n, k, h1, h2, h3, h4⟩ := okB_t hb
    subst h1; subst h2
    rw [nI_clamp (by omega), nI_clamp (by omega), if_pos rfl]
    exact ⟨h3, h4, fun a b q => (by cases q), fun _ _ => rfl, fun _ => rfl, fun _ _ => Nat.zero_le _, fun a q => q⟩
theorem ok_join {st : AS} {x y : Int32} (h : okS st) : okS (joinS st x y) := by
  cases hb : okJ st x y
  · unfold joinS
    rw [hb]
    exact h
  · have h' := h
    obtain ⟨h1, h2, h3, h4, h5, h6, h7⟩ := h
    obtain ⟨i, j, rfl, rfl, hi, hj, hij, hE⟩ := okJ_t h1.2 hb
    rw [joinS_nI h1.2 hi hj hij hE]
    refine ⟨h1, h2, fun a b q => ?_, fun a b => ?_, fun a => ?_, h6, h7⟩
    · simp only [setE_or, Bool.or_eq_true, Bool.and_eq_true, decide_eq_true_eq] at q
      rcases q with (q | q) | q
      · exact h3 a b q
      · rw [q.1, q.2]
        exact ⟨hi, hj⟩
      · rw [q.1, q.2]
        exact ⟨hj, hi⟩
    · simp only [setE_or]
      rw [h4 a b]
      cases st.2.2.1 b a <;> by_cases e1 : a = i <;> by_cases e2 : b = j <;> by_cases e3 : a = j <;> by_cases e4 : b = i <;> simp [e1, e2, e3, e4]
    · simp only [setE_or]
      rw [h5 a]
      by_cases e1 : a = i
      · subst e1
        simp [hij]
      · simp [e1]
theorem ok_cost {st : AS} {x y : Int32} (h : okS st) : okS (costS st x y) := by
  unfold costS
  cases hb : okC st x y
  · exact h
  · obtain ⟨h1, h2, h3, h4, h5, h6, h7⟩ := h
    unfold okC at hb
    simp only [Bool.and_eq_true, decide_eq_true_eq] at hb
    obtain ⟨j, h8, h9⟩ := rng_0 (M := 1000000) (by decide) hb.1.2 hb.2
    subst h9
    rw [nI_clamp (by omega)]
    refine ⟨h1, h2, h3, h4, h5, fun a ha => ?_, h7⟩
    show va_up st.2.2.2.1 _ j a ≤ 1000000
    unfold va_up
    split
    · exact h8
    · exact h6 a ha
theorem ok_wish {st : AS} {x y : Int32} (h : okS st) : okS (wishS st x y) := by
  unfold wishS
  cases hb : okW st x y
  · exact h
  · obtain ⟨h1, h2, h3, h4, h5, h6, h7⟩ := h
    unfold okW at hb
    simp only [Bool.and_eq_true] at hb
    obtain ⟨j, h8, h9⟩ := ptB_t (by omega) hb.2
    subst h9
    rw [nI_clamp (by omega)]
    refine ⟨h1, h2, h3, h4, h5, h6, fun a ha => ?_⟩
    show va_up st.2.2.2.2.1 _ j a < st.1
    unfold va_up
    split
    · exact h8
    · exact h7 a ha
theorem ok_give {st : AS} (h : okS st) : okS (giveS st) := h
theorem dg_join {E : Nat → Nat → Bool} {n i j : Nat} (hs : ∀ a b, E a b = E b a) (hi : i < n) (hj : j < n) (hij : i ≠ j) (hE : E i j = false) (a : Nat) : dg (setE (setE E i j) j i) n a = dg E n a + (if a = i ∨ a = j then 1 else 0) := by
  have hE2 : E j i = false := by rw [hs]; exact hE
  by_cases e1 : a = i
  · subst e1
    rw [if_pos (Or.inl rfl)]
    refine ct_add hj hE ?_ (fun b _ q => ?_)
    · simp [setE_or]
    · simp [setE_or, q, hij]
  · by_cases e2 : a = j
    · subst e2
      rw [if_pos (Or.inr rfl)]
      refine ct_add hi hE2 ?_ (fun b _ q => ?_)
      · simp [setE_or]
      · simp [setE_or, q, e1]
    · rw [if_neg (fun h => h.elim e1 e2), Nat.add_zero]
      refine fb_ct_cong (fun b _ => ?_)
      simp [setE_or, e1, e2]
theorem dg_none (n a : Nat) : dg (fun _ _ => false) n a = 0 := fb_ct_zero.mpr (fun _ _ => rfl)
/-! rows of bits -/
theorem bt_1 : ∀ i, i < 32 → bt 1 i = decide (i = 0) := by decide +kernel
theorem bt_b2i (b : Bool) {i : Nat} (hi : i < 32) : bt (b2i b) i = (b && decide (i = 0)) := by
  cases b
  · rw [b2i_f, b_0]; rfl
  · rw [b2i_t, bt_1 i hi]; simp
theorem bt_shr {x : Int32} {t : Nat} (ht : t < 32) : (x >>> (nI t &&& 31)) &&& 1 = b2i (bt x t) := by
  refine b_ext (fun i hi => ?_)
  rw [b_and, bt_1 i hi, bt_b2i _ hi]
  by_cases e : i = 0
  · subst e
    rw [b_sshr t ht x hi, if_pos (by omega)]
    simp
  · simp [e]
theorem bt_ushr {x : Int32} {t : Nat} (ht : t < 32) : ((x.toUInt32 >>> ((nI t).toUInt32 &&& Int32.toUInt32 31)).toInt32) &&& 1 = b2i (bt x t) := by
  refine b_ext (fun i hi => ?_)
  rw [b_and, bt_1 i hi, bt_b2i _ hi]
  by_cases e : i = 0
  · subst e
    rw [b_ushr t ht]
    simp
  · simp [e]
theorem bt_cut {x : Int32} {t : Nat} (ht : t < 32) {i : Nat} (hi : i < 32) : bt (((x.toUInt32 >>> ((nI t).toUInt32 &&& Int32.toUInt32 31)).toInt32) <<< (nI t &&& 31)) i = (decide (t ≤ i) && bt x i) := by
  rw [b_shl t ht _ hi]
  by_cases e : t ≤ i
  · rw [b_ushr t ht, show t + (i - t) = i by omega]
  · simp [e]
theorem bt_one {t i : Nat} (ht : t < 32) (hi : i < 32) : bt ((1 : Int32) <<< (nI t &&& 31)) i = decide (i = t) := by
  rw [b_shl t ht _ hi, bt_1 _ (by omega)]
  by_cases e : t ≤ i
  · by_cases e2 : i = t
    · subst e2
      simp
    · simp [e, e2]
      omega
  · simp [e]
    omega
theorem bt_zero {x : Int32} (h : ∀ i, i < 32 → bt x i = false) : x = 0 := b_ext (fun i hi => by rw [h i hi, b_0])
theorem bt_nz {x : Int32} (h : ¬ x = 0) : ∃ i, i < 32 ∧ bt x i = true := by
  refine Classical.byContradiction fun hx => h (bt_zero (fun i hi => ?_))
  cases hb : bt x i
  · rfl
  · exact absurd ⟨i, hi, hb⟩ hx
def bitsR (bits : Nat → Int32) (E : Nat → Nat → Bool) : Prop := ∀ a b, a < 200 → b < 224 → bt (bits (a * 7 + b / 32)) (b % 32) = E a b
theorem bits_put {bits : Nat → Int32} {E : Nat → Nat → Bool} (h : bitsR bits E) {i j : Nat} (hi : i < 200) (hj : j < 224) : bitsR (upd bits (i * 7 + j / 32) (bits (i * 7 + j / 32) ||| ((1 : Int32) <<< (nI (j % 32) &&& 31)))) (setE E i j) := by
  intro a b ha hb
  rw [setE_or]
  by_cases e : a * 7 + b / 32 = i * 7 + j / 32
  · rw [e, pk_us, b_or, bt_one (by omega) (by omega)]
    have e1 : a = i := by omega
    have e2 : b / 32 = j / 32 := by omega
    have h1 := h a b ha hb
    rw [e] at h1
    rw [h1]
    subst e1
    congr 1
    by_cases e3 : b = j
    · subst e3
      simp
    · have : ¬ b % 32 = j % 32 := by omega
      simp [e3, this]
  · rw [pk_un e, h a b ha hb]
    have : ¬ (a = i ∧ b = j) := fun q => e (by rw [q.1, q.2])
    by_cases e1 : a = i
    · have e2 : ¬ b = j := fun q => this ⟨e1, q⟩
      simp [e2]
    · simp [e1]
theorem bits_none {bits : Nat → Int32} (h : ∀ k, k < 1400 → bits k = 0) : bitsR bits (fun _ _ => false) := by
  intro a b ha hb
  rw [h _ (by omega), b_0]
/-! the heap -/
def hpM (u : Nat → Nat) (m : Nat) (S : Nat → Bool) : Prop := (∀ i, i < m → u i < 200 ∧ S (u i) = true) ∧ (∀ x, S x = true → ∃ i, i < m ∧ u i = x) ∧ (∀ i j, i < m → j < m → u i = u j → i = j)
def hpN (u : Nat → Nat) (m : Nat) (S : Nat → Bool) : Prop := m = fb_ct S 200 ∧ hpM u m S ∧ ∀ i, 0 < i → i < m → u ((i - 1) / 2) ≤ u i
def hpR (row : Nat → Int32) (m : Nat) (S : Nat → Bool) : Prop := ∃ u : Nat → Nat, (∀ i, i < m → row i = nI (u i)) ∧ hpN u m S
def swp (u : Nat → Nat) (k p : Nat) : Nat → Nat := fun i => if i = k then u p else if i = p then u k else u i
theorem swp_k (u : Nat → Nat) (k p : Nat) : swp u k p k = u p := by unfold swp; rw [if_pos rfl]
theorem swp_p (u : Nat → Nat) {k p : Nat} (h : p ≠ k) : swp u k p p = u k := by unfold swp; rw [if_neg h, if_pos rfl]
theorem swp_o (u : Nat → Nat) {k p i : Nat} (h1 : i ≠ k) (h2 : i ≠ p) : swp u k p i = u i := by unfold swp; rw [if_neg h1, if_neg h2]
theorem swp_at (u : Nat → Nat) (k p m : Nat) (hk : k < m) (hp : p < m) (i : Nat) (hi : i < m) : ∃ j, j < m ∧ swp u k p i = u j ∧ swp u k p j = u i := by
  by_cases e1 : i = k
  · subst e1
    refine ⟨p, hp, swp_k u i p, ?_⟩
    by_cases e2 : p = i
    · subst e2
      exact swp_k u p p
    · exact swp_p u e2
  · by_cases e2 : i = p
    · subst e2
      exact ⟨k, hk, swp_p u e1, swp_k u k i⟩
    · exact ⟨i, hi, swp_o u e1 e2, swp_o u e1 e2⟩
theorem swp_inj (u : Nat → Nat) {k p m : Nat} (hk : k < m) (hp : p < m) (h : ∀ i j, i < m → j < m → u i = u j → i = j) : ∀ i j, i < m → j < m → swp u k p i = swp u k p j → i = j := by
  intro i j hi hj e
  unfold swp at e
  split at e
  · rename_i e1
    split at e
    · rename_i e2
      omega
    · rename_i e2
      split at e
      · rename_i e3
        have := h _ _ hp hk e
        omega
      · rename_i e3
        have := h _ _ hp hj e
        omega
  · rename_i e1
    split at e
    · rename_i e4
      split at e
      · rename_i e2
        have := h _ _ hk hp e
        omega
      · rename_i e2
        split at e
        · rename_i e3
          omega
        · rename_i e3
          have := h _ _ hk hj e
          omega
    · rename_i e4
      split at e
      · rename_i e2
        have := h _ _ hi hp e
        omega
      · rename_i e2
        split at e
        · rename_i e3
          have := h _ _ hi hk e
          omega
        · exact h _ _ hi hj e
theorem hpM_swp {u : Nat → Nat} {k p m : Nat} {S : Nat → Bool} (hk : k < m) (hp : p < m) (h : hpM u m S) : hpM (swp u k p) m S := by
  obtain ⟨h1, h2, h3⟩ := h
  refine ⟨fun i hi => ?_, fun x hx => ?_, swp_inj u hk hp h3⟩
  · obtain ⟨j, hj, e, -⟩ := swp_at u k p m hk hp i hi
    rw [e]
    exact h1 j hj
  · obtain ⟨i, hi, e⟩ := h2 x hx
    obtain ⟨j, hj, -, e2⟩ := swp_at u k p m hk hp i hi
    exact ⟨j, hj, e2.trans e⟩
theorem heap_min {u : Nat → Nat} {m : Nat} (h : ∀ i, 0 < i → i < m → u ((i - 1) / 2) ≤ u i) : ∀ i, i < m → u 0 ≤ u i := by
  intro i
  induction i using Nat.strongRecOn with
  | _ i ih =>
    intro hi
    by_cases e : i = 0
    · subst e
      exact Nat.le_refl _
    · exact Nat.le_trans (ih ((i - 1) / 2) (by omega) (by omega)) (h i (by omega) hi)
/-- put: the hole is at k -/
def putI (u : Nat → Nat) (m : Nat) (S : Nat → Bool) (k : Nat) : Prop := hpM u m S ∧ (∀ i, 0 < i → i < m → i ≠ k → u ((i - 1) / 2) ≤ u i) ∧ (∀ i, 0 < i → i < m → (i - 1) / 2 = k → 0 < k → u ((k - 1) / 2) ≤ u i)
theorem put_start {u : Nat → Nat} {m a : Nat} {S S' : Nat → Bool} (h : hpN u m S) (ha : a < 200) (hS : S a = false) (hS' : S' a = true) (ho : ∀ x, x ≠ a → S' x = S x) : putI (va_up u m a) (m + 1) S' m ∧ m + 1 = fb_ct S' 200 := by
  obtain ⟨hc, ⟨h1, h2, h3⟩, h4⟩ := h
  have e0 : va_up u m a m = a := va_up_self u m a
  have e1 : ∀ i, i < m → va_up u m a i = u i := fun i hi => va_up_ne u a (by omega)
  have hna : ∀ i, i < m → u i ≠ a := fun i hi e => by
    have := (h1 i hi).2
    rw [e, hS] at this
    cases this
  refine ⟨⟨⟨fun i hi => ?_, fun x hx => ?_, fun i j hi hj e => ?_⟩, fun i h5 h6 h7 => ?_, fun i h5 h6 h7 => by omega⟩, ?_⟩
  · by_cases e : i = m
    · subst e
      rw [e0]
      exact ⟨ha, hS'⟩
    · rw [e1 i (by omega)]
      have := h1 i (by omega)
      exact ⟨this.1, by rw [ho _ (hna i (by omega))]; exact this.2⟩
  · by_cases e : x = a
    · exact ⟨m, by omega, by rw [e0, e]⟩
    · rw [ho x e] at hx
      obtain ⟨i, h5, h6⟩ := h2 x hx
      exact ⟨i, by omega, by rw [e1 i h5]; exact h6⟩
  · by_cases ei : i = m
    · by_cases ej : j = m
      · omega
      · rw [ei, e0, e1 j (by omega)] at e
        exact absurd e.symm (hna j (by omega))
    · by_cases ej : j = m
      · rw [ej, e0, e1 i (by omega)] at e
        exact absurd e (hna i (by omega))
      · rw [e1 i (by omega), e1 j (by omega)] at e
        exact h3 i j (by omega) (by omega) e
  · rw [e1 i (by omega), e1 _ (by omega)]
    exact h4 i h5 (by omega)
  · rw [hc]
    exact (ct_add ha hS hS' (fun j _ q => ho j q)).symm
theorem put_step {u : Nat → Nat} {m k : Nat} {S : Nat → Bool} (hk : k < m) (h0 : 0 < k) (h : putI u m S k) (hlt : u k < u ((k - 1) / 2)) : putI (swp u k ((k - 1) / 2)) m S ((k - 1) / 2) := by
  obtain ⟨hM, h1, h2⟩ := h
  have hpk : (k - 1) / 2 ≠ k := by omega
  generalize hp : (k - 1) / 2 = p at *
  refine ⟨hpM_swp hk (by omega) hM, fun i q1 q2 q3 => ?_, fun i q1 q2 q3 q4 => ?_⟩
  · by_cases e1 : i = k
    · subst e1
      rw [hp, swp_k, swp_p u hpk]
      omega
    · rw [swp_o u e1 q3]
      by_cases e2 : (i - 1) / 2 = k
      · rw [e2, swp_k]
        exact h2 i q1 q2 e2 h0
      · by_cases e3 : (i - 1) / 2 = p
        · rw [e3, swp_p u hpk]
          have := h1 i q1 q2 e1
          rw [e3] at this
          omega
        · rw [swp_o u e2 e3]
          exact h1 i q1 q2 e1
  · have e5 : (p - 1) / 2 ≠ k := by omega
    have e6 : (p - 1) / 2 ≠ p := by omega
    rw [swp_o u e5 e6]
    have h7 := h1 p q4 (by omega) hpk
    by_cases e1 : i = k
    · subst e1
      rw [swp_k]
      exact h7
    · rw [swp_o u e1 (by omega)]
      have := h1 i q1 q2 e1
      rw [q3] at this
      omega
theorem put_end {u : Nat → Nat} {m k : Nat} {S : Nat → Bool} (hc : m = fb_ct S 200) (h : putI u m S k) (he : k = 0 ∨ u ((k - 1) / 2) ≤ u k) : hpN u m S := by
  refine ⟨hc, h.1, fun i q1 q2 => ?_⟩
  by_cases e : i = k
  · rcases he with he | he
    · omega
    · rw [e]
      exact he
  · exact h.2.1 i q1 q2 e
/-- take: the hole is at k -/
def takI (u : Nat → Nat) (m : Nat) (S : Nat → Bool) (k : Nat) : Prop := hpM u m S ∧ (∀ i, 0 < i → i < m → (i - 1) / 2 ≠ k → u ((i - 1) / 2) ≤ u i) ∧ (∀ i, 0 < i → i < m → (i - 1) / 2 = k → 0 < k → u ((k - 1) / 2) ≤ u i)
theorem tak_start {u : Nat → Nat} {m : Nat} {S S' : Nat → Bool} (h : hpN u (m + 1) S) (hS' : S' (u 0) = false) (ho : ∀ x, x ≠ u 0 → S' x = S x) : takI (va_up u 0 (u m)) m S' 0 ∧ m = fb_ct S' 200 ∧ u 0 < 200 ∧ S (u 0) = true ∧ ∀ x, x < u 0 → S x = false := by
  obtain ⟨hc, ⟨h1, h2, h3⟩, h4⟩ := h
  have h00 := h1 0 (by omega)
  refine ⟨⟨⟨fun i hi => ?_, fun x hx => ?_, fun i j hi hj e => ?_⟩, fun i q1 q2 q3 => ?_, fun i _ _ _ q => absurd q (Nat.lt_irrefl 0)⟩, ?_, h00.1, h00.2, fun x hx => ?_⟩
  · by_cases e : i = 0
    · subst e
      rw [va_up_self]
      have := h1 m (by omega)
      refine ⟨this.1, ?_⟩
      rw [ho _ (fun q => by have := h3 m 0 (by omega) (by omega) q; omega)]
      exact this.2
    · rw [va_up_ne u _ e]
      have := h1 i (by omega)
      refine ⟨this.1, ?_⟩
      rw [ho _ (fun q => by have := h3 i 0 (by omega) (by omega) q; omega)]
      exact this.2
  · have hx0 : x ≠ u 0 := fun e => by
      rw [e, hS'] at hx
      cases hx
    rw [ho x hx0] at hx
    obtain ⟨i, q1, q2⟩ := h2 x hx
    have hi0 : i ≠ 0 := fun e => hx0 (by rw [← q2, e])
    by_cases e : i = m
    · exact ⟨0, by omega, by rw [va_up_self, ← e, q2]⟩
    · exact ⟨i, by omega, by rw [va_up_ne u _ hi0]; exact q2⟩
  · by_cases ei : i = 0
    · by_cases ej : j = 0
      · omega
      · rw [ei, va_up_self, va_up_ne u _ ej] at e
        have := h3 m j (by omega) (by omega) e
        omega
    · by_cases ej : j = 0
      · rw [ej, va_up_self, va_up_ne u _ ei] at e
        have := h3 i m (by omega) (by omega) e
        omega
      · rw [va_up_ne u _ ei, va_up_ne u _ ej] at e
        exact h3 i j (by omega) (by omega) e
  · rw [va_up_ne u _ q3, va_up_ne u _ (by omega)]
    exact h4 i q1 (by omega)
  · have h5 : fb_ct S 200 = fb_ct S' 200 + 1 := ct_add h00.1 hS' h00.2 (fun j _ q => (ho j q).symm)
    omega
  · cases hb : S x
    · rfl
    · obtain ⟨i, q1, q2⟩ := h2 x hb
      have := heap_min h4 i q1
      omega
theorem tak_step {u : Nat → Nat} {m k c : Nat} {S : Nat → Bool} (hk : k < m) (hc : c < m) (h : takI u m S k) (hck : (c - 1) / 2 = k) (h0 : 0 < c) (hlt : u c < u k) (hmin : ∀ i, 0 < i → i < m → (i - 1) / 2 = k → u c ≤ u i) : takI (swp u k c) m S c := by
  obtain ⟨hM, h1, h2⟩ := h
  have hne : c ≠ k := by omega
  refine ⟨hpM_swp hk hc hM, fun i q1 q2 q3 => ?_, fun i q1 q2 q3 q4 => ?_⟩
  · by_cases e1 : i = c
    · subst e1
      rw [hck, swp_k, swp_p u hne]
      omega
    · by_cases e2 : i = k
      · subst e2
        rw [swp_k, swp_o u (by omega) (by omega)]
        exact h2 c h0 hc hck q1
      · rw [swp_o u e2 e1]
        by_cases e3 : (i - 1) / 2 = k
        · rw [e3, swp_k]
          exact hmin i q1 q2 e3
        · rw [swp_o u e3 q3]
          exact h1 i q1 q2 e3
  · rw [hck, swp_k, swp_o u (by omega) (by omega)]
    have := h1 i q1 q2 (by omega)
    rw [q3] at this
    exact this
theorem tak_end {u : Nat → Nat} {m k : Nat} {S : Nat → Bool} (hc : m = fb_ct S 200) (h : takI u m S k) (he : ∀ i, 0 < i → i < m → (i - 1) / 2 = k → u k ≤ u i) : hpN u m S := by
  refine ⟨hc, h.1, fun i q1 q2 => ?_⟩
  by_cases e : (i - 1) / 2 = k
  · rw [e]
    exact he i q1 q2 e
  · exact h.2.1 i q1 q2 e
theorem b2i_eq1 {b : Bool} (h : b2i b = nI 1) : b = true := by
  cases b
  · exact absurd h (by decide)
  · rfl
theorem b2i_ne1 {b : Bool} (h : ¬ b2i b = nI 1) : b = false := by
  cases b
  · rfl
  · exact absurd rfl h
/-- the next neighbour of i from b0 on -/
def nbrP (E : Nat → Nat → Bool) (i b0 : Nat) (r : Int32) : Prop := (∃ c, r = nI c ∧ b0 ≤ c ∧ c < 224 ∧ E i c = true ∧ ∀ d, b0 ≤ d → d < c → E i d = false) ∨ (r = -1 ∧ ∀ d, b0 ≤ d → d < 224 → E i d = false)
def wrdP (E : Nat → Nat → Bool) (i b0 w : Nat) (v : Int32) : Prop := b0 / 32 ≤ w ∧ (∀ d, b0 ≤ d → d < 32 * w → E i d = false) ∧ ∀ t, t < 32 → bt v t = (decide (b0 ≤ 32 * w + t) && E i (32 * w + t))
theorem wrd_start {bits : Nat → Int32} {E : Nat → Nat → Bool} (hE : bitsR bits E) {i b0 : Nat} (hi : i < 200) (hb : b0 ≤ 200) {v : Int32} (hv : v = (((bits (i * 7 + b0 / 32)).toUInt32 >>> ((nI (b0 % 32)).toUInt32 &&& Int32.toUInt32 31)).toInt32) <<< (nI (b0 % 32) &&& 31)) : wrdP E i b0 (b0 / 32) v := by
  refine ⟨Nat.le_refl _, fun d h1 h2 => by omega, fun t ht => ?_⟩
  have h := hE i (32 * (b0 / 32) + t) hi (by omega)
  rw [show (32 * (b0 / 32) + t) / 32 = b0 / 32 by omega, show (32 * (b0 / 32) + t) % 32 = t by omega] at h
  rw [hv, bt_cut (by omega) ht, h]
  congr 1
  exact decide_eq_decide.mpr (by omega)
theorem wrd_next {bits : Nat → Int32} {E : Nat → Nat → Bool} (hE : bitsR bits E) {i b0 w : Nat} (hi : i < 200) (hw : w + 1 < 7) (h : wrdP E i b0 w 0) : wrdP E i b0 (w + 1) (bits (i * 7 + (w + 1))) := by
  obtain ⟨h1, h2, h3⟩ := h
  refine ⟨by omega, fun d q1 q2 => ?_, fun t ht => ?_⟩
  · by_cases e : d < 32 * w
    · exact h2 d q1 e
    · have q := h3 (d - 32 * w) (by omega)
      rw [b_0, show 32 * w + (d - 32 * w) = d by omega] at q
      simpa [q1] using q.symm
  · have q := hE i (32 * (w + 1) + t) hi (by omega)
    rw [show (32 * (w + 1) + t) / 32 = w + 1 by omega, show (32 * (w + 1) + t) % 32 = t by omega] at q
    rw [q]
    have e : b0 ≤ 32 * (w + 1) + t := by omega
    simp [e]
theorem wrd_none {E : Nat → Nat → Bool} {i b0 w : Nat} (hw : 7 ≤ w + 1) (h : wrdP E i b0 w 0) : nbrP E i b0 (-1) := by
  obtain ⟨h1, h2, h3⟩ := h
  refine Or.inr ⟨rfl, fun d q1 q2 => ?_⟩
  by_cases e : d < 32 * w
  · exact h2 d q1 e
  · have q := h3 (d - 32 * w) (by omega)
    rw [b_0, show 32 * w + (d - 32 * w) = d by omega] at q
    simpa [q1] using q.symm
theorem wrd_found {E : Nat → Nat → Bool} {i b0 w t : Nat} {v : Int32} (hw : w < 7) (h : wrdP E i b0 w v) (ht : t < 32) (h0 : ∀ j, j < t → bt v j = false) (h1 : bt v t = true) : nbrP E i b0 (nI (32 * w + t)) := by
  obtain ⟨h2, h3, h4⟩ := h
  have q := h4 t ht
  rw [h1] at q
  have q' := q.symm
  simp only [Bool.and_eq_true, decide_eq_true_eq] at q'
  refine Or.inl ⟨32 * w + t, rfl, q'.1, by omega, q'.2, fun d q1 q2 => ?_⟩
  by_cases e : d < 32 * w
  · exact h3 d q1 e
  · have q3 := h4 (d - 32 * w) (by omega)
    rw [h0 _ (by omega), show 32 * w + (d - 32 * w) = d by omega] at q3
    simpa [q1] using q3.symm
abbrev rmZ : Room := { frames := 0, cells := 0, slots := 0, locals := 0 }
abbrev rmA : Room := { frames := 1, cells := 0, slots := 0, locals := 30 }
abbrev rmB : Room := { frames := 2, cells := 0, slots := 0, locals := 60 }
end
section
/-! Edges -/
set_option maxHeartbeats 4000000 in
set_option maxRecDepth 100000 in
theorem metE_has (l : Launch) (dC : Nat → ClassId) (dI : Nat → Nat → Nat) (cI cZ : ClassId) (a b i j : Nat) (bits : Nat → Int32) (E : Nat → Nat → Bool) (hE : bitsR bits E) (hi : i < 200) (hj : j < 200) : Met l yX1_has (ws_ yX1_has cX1_has 3 (some .boolean)) rmZ (va_Pc [.ref a, .int (nI i), .int (nI j)] (fun U => va_P (dC, dI) vwCl (wE a b cI bits) U.heap ∧ va_K (dC, dI) vwCl (tyK cI cZ) U)) (vp_Si (fun r => r = b2i (E i j))) 0 0 (fun _ => False) := by
  refine Met.ofW (cc := cX1_has) (maxL := 3) (ret := (some .boolean)) (by decide) rfl ?_
  intro p e s m args below meth c s₁ B hml hv
  obtain ⟨rfl, hP, hK⟩ := hv
  have hx := B.exec
  have hb := B.bytes
  have hr := B.returns
  have hlk := B.notSynchronized
  have hts := atoms_spec (ws := ws_ yX1_has cX1_has 3 (some .boolean)) B.pre
  have hts : ∀ w ∈ lw_all, w.before _ s = true := fun w h => hts w (List.mem_cons_of_mem _ h)
  have hown : s.vm.findClass RX1 = some m.cls := findClass_of_methodNamed B.named
  have hl := lv_entry ([.ref a, .int (nI i), .int (nI j)]) (n := 3) (Nat.le_of_ble_eq_true rfl)
  rw [lg_entry_eq]
  generalize (lg_sl ([.ref a, .int (nI i), .int (nI j)]) ++ List.replicate (3 - (lg_sl ([.ref a, .int (nI i), .int (nI j)])).length) Slot.unset).toArray = ls at hl ⊢
  have hl : lv_has ls 3 [(0, .ref a), (1, .int (nI i)), (2, .int (nI j))] := hl
  refine lv_aload_n hx hb dX1_has_0 rfl (lv_at hl 0 rfl) ?_
  refine va_get (D := (dC, dI)) (ci := 1) (v := .ref b) (C := RX1) (T := TX1) (N := 1) hx hb hts in_X1 hown hK hP 0 rfl rfl 0 (by decide) (hts _ q28) (fun _ h9 => h9) rfl dX1_has_1 ?_
  refine lv_iload_n hx hb dX1_has_4 rfl (lv_at hl 1 rfl) ?_
  refine lv_bipush (v := nI 7) hx hb dX1_has_5 (by decide) ?_
  refine lv_imul hx hb dX1_has_7 ?_
  refine y_ti (y := nI (i * 7)) (pk_mul i 7) ?_
  refine lv_iload_n hx hb dX1_has_8 rfl (lv_at hl 2 rfl) ?_
  refine lv_iconst (v := nI 5) hx hb dX1_has_9 (by decide) ?_
  refine lv_ishr hx hb dX1_has_10 ?_
  refine y_ti (y := nI (j / 32)) (pk_shrN (by omega) (nI 5 &&& 31) 5 (by decide)) ?_
  refine lv_iadd hx hb dX1_has_11 ?_
  refine y_ti (y := nI (i * 7 + j / 32)) (nI_add (i * 7) (j / 32)) ?_
  refine y_iald (j := i * 7 + j / 32) hx hb hK hP 1 0 rfl rfl (rfl) (by omega) (by decide) dX1_has_12 ?_
  refine lv_iload_n hx hb dX1_has_13 rfl (lv_at hl 2 rfl) ?_
  refine lv_bipush (v := nI 31) hx hb dX1_has_14 (by decide) ?_
  refine lv_iand hx hb dX1_has_16 ?_
  refine y_ti (y := nI (j % 32)) (pk_andN (by omega) 5 (by decide)) ?_
  refine lv_ishr hx hb dX1_has_17 ?_
  refine lv_iconst (v := nI 1) hx hb dX1_has_18 (by decide) ?_
  refine lv_iand hx hb dX1_has_19 ?_
  refine y_ti (y := b2i (E i j)) ((bt_shr (by omega)).trans (congrArg b2i (hE i j hi (by omega)))) ?_
  refine lv_iconst (v := nI 1) hx hb dX1_has_20 (by decide) ?_
  refine lv_icmp_ne (tgt := 28) hx hb dX1_has_21 (by decide) (fun c21 => ?_) (fun c21 => ?_)
  · refine lv_iconst (v := b2i false) hx hb dX1_has_28 (by decide) ?_
    exact y_zretR (b := false) rfl hx hb hr hlk (by rw [b2i_ne1 c21]) dX1_has_29
  · refine lv_iconst (v := b2i true) hx hb dX1_has_24 (by decide) ?_
    refine lv_goto (tgt := 29) hx hb dX1_has_25 (by decide) ?_
    exact y_zretR (b := true) rfl hx hb hr hlk (by rw [b2i_eq1 c21]) dX1_has_29
set_option maxHeartbeats 4000000 in
set_option maxRecDepth 100000 in
theorem metE_put (l : Launch) (dC : Nat → ClassId) (dI : Nat → Nat → Nat) (cI cZ : ClassId) (sz : Nat) (a b i j : Nat) (bits : Nat → Int32) (E : Nat → Nat → Bool) (hE : bitsR bits E) (hi : i < 200) (hj : j < 200) : Met l yX1_put (ws_ yX1_put cX1_put 3 (none)) rmZ (va_Pc [.ref a, .int (nI i), .int (nI j)] (fun U => U.heap.size = sz ∧ va_P (dC, dI) vwCl (wE a b cI bits) U.heap ∧ va_K (dC, dI) vwCl (tyK cI cZ) U ∧ va_D (fun _ => True) (wE a b cI bits))) (va_Qv (fun bits2 : Nat → Int32 => bitsR bits2 (setE E i j)) (fun bits2 t => va_P (dC, dI) vwCl (wE a b cI bits2) t.heap ∧ va_K (dC, dI) vwCl (tyK cI cZ) t ∧ va_D (va_A (wE a b cI bits) sz) (wE a b cI bits2)) (va_A (wE a b cI bits) sz)) 0 0 (va_A (wE a b cI bits) sz) := by
  refine Met.ofW (cc := cX1_put) (maxL := 3) (ret := none) (by decide) rfl ?_
  intro p e s m args below meth c s₁ B hml hv
  obtain ⟨rfl, hsz, hP, hK, hD0⟩ := hv
  have hx := B.exec
  have hb := B.bytes
  have hr := B.returns
  have hlk := B.notSynchronized
  have hts := atoms_spec (ws := ws_ yX1_put cX1_put 3 (none)) B.pre
  have hts : ∀ w ∈ lw_all, w.before _ s = true := fun w h => hts w (List.mem_cons_of_mem _ h)
  have hown : s.vm.findClass RX1 = some m.cls := findClass_of_methodNamed B.named
  subst hsz
  have hD := hD0.self (sz := s.heap.size)
  generalize hAe : va_A (wE a b cI bits) s.heap.size = A at hD ⊢
  have hA : ∀ q : Nat, s.heap.size ≤ q → A q := fun q h => by rw [← hAe]; exact Or.inr h
  have hS : va_S A s.heap s.heap [] := va_S.rf
  have hl := lv_entry ([.ref a, .int (nI i), .int (nI j)]) (n := 3) (Nat.le_of_ble_eq_true rfl)
  rw [lg_entry_eq]
  generalize (lg_sl ([.ref a, .int (nI i), .int (nI j)]) ++ List.replicate (3 - (lg_sl ([.ref a, .int (nI i), .int (nI j)])).length) Slot.unset).toArray = ls at hl ⊢
  have hl : lv_has ls 3 [(0, .ref a), (1, .int (nI i)), (2, .int (nI j))] := hl
  refine lv_aload_n hx hb dX1_put_0 rfl (lv_at hl 0 rfl) ?_
  refine va_get (D := (dC, dI)) (ci := 1) (v := .ref b) (C := RX1) (T := TX1) (N := 1) hx hb hts in_X1 hown hK hP 0 rfl rfl 0 (by decide) (hts _ q28) (fun _ h9 => h9) rfl dX1_put_1 ?_
  refine lv_iload_n hx hb dX1_put_4 rfl (lv_at hl 1 rfl) ?_
  refine lv_bipush (v := nI 7) hx hb dX1_put_5 (by decide) ?_
  refine lv_imul hx hb dX1_put_7 ?_
  refine y_ti (y := nI (i * 7)) (pk_mul i 7) ?_
  refine lv_iload_n hx hb dX1_put_8 rfl (lv_at hl 2 rfl) ?_
  refine lv_iconst (v := nI 5) hx hb dX1_put_9 (by decide) ?_
  refine lv_ishr hx hb dX1_put_10 ?_
  refine y_ti (y := nI (j / 32)) (pk_shrN (by omega) (nI 5 &&& 31) 5 (by decide)) ?_
  refine lv_iadd hx hb dX1_put_11 ?_
  refine y_ti (y := nI (i * 7 + j / 32)) (nI_add (i * 7) (j / 32)) ?_
  refine lv_dup2_11 hx hb dX1_put_12 rfl rfl ?_
  refine y_iald (j := i * 7 + j / 32) hx hb hK hP 1 0 rfl rfl (rfl) (by omega) (by decide) dX1_put_13 ?_
  refine lv_iconst (v := nI 1) hx hb dX1_put_14 (by decide) ?_
  refine lv_iload_n hx hb dX1_put_15 rfl (lv_at hl 2 rfl) ?_
  refine lv_bipush (v := nI 31) hx hb dX1_put_16 (by decide) ?_
  refine lv_iand hx hb dX1_put_18 ?_
  refine y_ti (y := nI (j % 32)) (pk_andN (by omega) 5 (by decide)) ?_
  refine lv_ishl hx hb dX1_put_19 ?_
  refine lv_ior hx hb dX1_put_20 ?_
  refine y_iast (j := i * 7 + j / 32) hx hb hK hP hD hS 1 0 rfl rfl (rfl) (by omega) (by decide) dX1_put_21 (fun H locs hP hD hS => ?_)
  have hP : va_P (dC, dI) vwCl (wE a b cI (upd bits (i * 7 + j / 32) ((bits (i * 7 + j / 32)) ||| ((nI 1) <<< ((nI (j % 32)) &&& 31))))) H := hP
  have hD : va_D A (wE a b cI (upd bits (i * 7 + j / 32) ((bits (i * 7 + j / 32)) ||| ((nI 1) <<< ((nI (j % 32)) &&& 31))))) := hD
  exact W.vret hx hb hr (fun t ht hW => ⟨⟨_, rfl, bits_put hE hi (by omega), by rw [ht]; exact hP, va_K.moved hW.alike hK, hD⟩, hS.F ht⟩) hS.2.2 dX1_put_22
set_option maxHeartbeats 4000000 in
set_option maxRecDepth 100000 in
theorem lpE_clear {p : Program} {l : Launch} {e : Env} {R : Room} {s : State} {m : MethodId} {args : Array Value} {below : List Frame} {meth : Method} {c : Code} {Q : State → Prop} {dC : Nat → ClassId} {dI : Nat → Nat → Nat} {cI cZ : ClassId} {A : Nat → Prop} (hx : p.tables.exec = Jvm.exec) (hb : c.code = cX1_clear) (hml : c.maxLocals = 2) (hown : s.vm.findClass RX1 = some m.cls) (hts : ∀ w ∈ lw_all, w.before args s = true) (hK : va_K (dC, dI) vwCl (tyK cI cZ) s) (hA : ∀ q : Nat, s.heap.size ≤ q → A q) {a b : Nat} (k : ∀ (bits : Nat → Int32) (H : Heap) (locs : List Loc) (ls : Array Slot), (∀ j, j < 1400 → bits j = 0) → va_P (dC, dI) vwCl (wE a b cI bits) H → va_D A (wE a b cI bits) → va_S A s.heap H locs → lv_has ls 2 [(0, .ref a)] → W p l e R s m args below meth c H locs 0 0 Q (F0 m 24 ls [])) : ∀ (n i : Nat) (bits : Nat → Int32) (H : Heap) (locs : List Loc) (ls : Array Slot), i ≤ 1400 → 1401 ≤ i + n → (∀ j, j < i → bits j = 0) → va_P (dC, dI) vwCl (wE a b cI bits) H → va_D A (wE a b cI bits) → va_S A s.heap H locs → lv_has ls 2 [(1, .int (nI i)), (0, .ref a)] → W p l e R s m args below meth c H locs 0 0 Q (F0 m 2 ls []) := by
  intro n
  induction n with
  | zero =>
    intro i bits H locs ls h1 h2
    exact absurd h2 (by omega)
  | succ n ih =>
    intro i bits H locs ls hi hin hz hP hD hS hl
    refine lv_iload_n hx hb dX1_clear_2 rfl (lv_at hl 0 rfl) ?_
    refine lv_aload_n hx hb dX1_clear_3 rfl (lv_at hl 1 rfl) ?_
    refine va_get (D := (dC, dI)) (ci := 1) (v := .ref b) (C := RX1) (T := TX1) (N := 1) hx hb hts in_X1 hown hK hP 0 rfl rfl 0 (by decide) (hts _ q28) (fun _ h9 => h9) rfl dX1_clear_4 ?_
    refine va_alen (v := nI 1400) hx hb hK hP 1 0 rfl rfl rfl dX1_clear_7 ?_
    refine y_cge (i := i) (j := 1400) (tgt := 24) hx hb (rfl) (rfl) (by omega) (by omega) dX1_clear_8 (by decide) (fun c8 => ?_) (fun c8 => ?_)
    · exact k bits H locs ls (fun j hj => hz j (by omega)) hP hD hS (lv_sub hl [1] rfl)
    · refine lv_aload_n hx hb dX1_clear_11 rfl (lv_at hl 1 rfl) ?_
      refine va_get (D := (dC, dI)) (ci := 1) (v := .ref b) (C := RX1) (T := TX1) (N := 1) hx hb hts in_X1 hown hK hP 0 rfl rfl 0 (by decide) (hts _ q28) (fun _ h9 => h9) rfl dX1_clear_12 ?_
      refine lv_iload_n hx hb dX1_clear_15 rfl (lv_at hl 0 rfl) ?_
      refine lv_iconst (v := nI 0) hx hb dX1_clear_16 (by decide) ?_
      refine y_iast (j := i) hx hb hK hP hD hS 1 0 rfl rfl (rfl) (by omega) (by decide) dX1_clear_17 (fun H locs hP hD hS => ?_)
      have hP : va_P (dC, dI) vwCl (wE a b cI (upd bits i (nI 0))) H := hP
      have hD : va_D A (wE a b cI (upd bits i (nI 0))) := hD
      refine lv_iinc (v := nI (i + 1)) (lv' := [(1, .int (nI (i + 1))), (0, .ref a)]) hx hb dX1_clear_18 hl (k := 0) rfl (nI_1 i) (by decide) rfl (fun ls hl => ?_)
      refine lv_goto (tgt := 2) hx hb dX1_clear_21 (by decide) ?_
      exact ih (i + 1) _ _ _ _ (by omega) (by omega) (fun j hj => by
        by_cases e : j = i
        · subst e
          rw [pk_us]
          rfl
        · rw [pk_un e]
          exact hz j (by omega)) hP hD hS (lv_sub hl [0, 1] rfl)
set_option maxHeartbeats 4000000 in
set_option maxRecDepth 100000 in
theorem metE_clear (l : Launch) (dC : Nat → ClassId) (dI : Nat → Nat → Nat) (cI cZ : ClassId) (sz : Nat) (a b : Nat) (bits : Nat → Int32) : Met l yX1_clear (ws_ yX1_clear cX1_clear 2 (none)) rmZ (va_Pc [.ref a] (fun U => U.heap.size = sz ∧ va_P (dC, dI) vwCl (wE a b cI bits) U.heap ∧ va_K (dC, dI) vwCl (tyK cI cZ) U ∧ va_D (fun _ => True) (wE a b cI bits))) (va_Qv (fun bits2 : Nat → Int32 => bitsR bits2 (fun _ _ => false)) (fun bits2 t => va_P (dC, dI) vwCl (wE a b cI bits2) t.heap ∧ va_K (dC, dI) vwCl (tyK cI cZ) t ∧ va_D (va_A (wE a b cI bits) sz) (wE a b cI bits2)) (va_A (wE a b cI bits) sz)) 0 0 (va_A (wE a b cI bits) sz) := by
  refine Met.ofW (cc := cX1_clear) (maxL := 2) (ret := none) (by decide) rfl ?_
  intro p e s m args below meth c s₁ B hml hv
  obtain ⟨rfl, hsz, hP, hK, hD0⟩ := hv
  have hx := B.exec
  have hb := B.bytes
  have hr := B.returns
  have hlk := B.notSynchronized
  have hts := atoms_spec (ws := ws_ yX1_clear cX1_clear 2 (none)) B.pre
  have hts : ∀ w ∈ lw_all, w.before _ s = true := fun w h => hts w (List.mem_cons_of_mem _ h)
  have hown : s.vm.findClass RX1 = some m.cls := findClass_of_methodNamed B.named
  subst hsz
  have hD := hD0.self (sz := s.heap.size)
  generalize hAe : va_A (wE a b cI bits) s.heap.size = A at hD ⊢
  have hA : ∀ q : Nat, s.heap.size ≤ q → A q := fun q h => by rw [← hAe]; exact Or.inr h
  have hS : va_S A s.heap s.heap [] := va_S.rf
  have hl := lv_entry ([.ref a]) (n := 2) (Nat.le_of_ble_eq_true rfl)
  rw [lg_entry_eq]
  generalize (lg_sl ([.ref a]) ++ List.replicate (2 - (lg_sl ([.ref a])).length) Slot.unset).toArray = ls at hl ⊢
  have hl : lv_has ls 2 [(0, .ref a)] := hl
  refine lv_iconst (v := nI 0) hx hb dX1_clear_0 (by decide) ?_
  refine lv_istore_n (lv' := [(1, .int (nI 0)), (0, .ref a)]) hx hb dX1_clear_1 rfl hl (by decide) rfl (fun ls hl => ?_)
  refine lpE_clear hx hb hml hown hts hK hA ?_ 1401 0 bits s.heap [] ls (by omega) (by omega) (fun j hj => absurd hj (Nat.not_lt_zero j)) hP hD hS (lv_sub hl [0, 1] rfl)
  intro bits H locs ls hz hP hD hS hl
  exact W.vret hx hb hr (fun t ht hW => ⟨⟨bits, rfl, bits_none hz, by rw [ht]; exact hP, va_K.moved hW.alike hK, hD⟩, hS.F ht⟩) hS.2.2 dX1_clear_24
set_option maxHeartbeats 4000000 in
set_option maxRecDepth 100000 in
theorem lpE_bit {p : Program} {l : Launch} {e : Env} {R : Room} {s : State} {m : MethodId} {args : Array Value} {below : List Frame} {meth : Method} {c : Code} {dC : Nat → ClassId} {dI : Nat → Nat → Nat} {cI cZ : ClassId} (hx : p.tables.exec = Jvm.exec) (hb : c.code = cX1_next) (hml : c.maxLocals = 7) (hown : s.vm.findClass RX1 = some m.cls) (hts : ∀ w ∈ lw_all, w.before args s = true) (hK : va_K (dC, dI) vwCl (tyK cI cZ) s) (hr : meth.sig.returnType = some .int) (hlk : meth.locks = false) {a b i b0 : Nat} {bits : Nat → Int32} {E : Nat → Nat → Bool} (hE : bitsR bits E) (hi : i < 200) (hP : va_P (dC, dI) vwCl (wE a b cI bits) s.heap) {w : Nat} {v : Int32} (hw : w < 7) (hv : wrdP E i b0 w v) {t0 : Nat} (ht0 : t0 < 32) (hbt0 : bt v t0 = true) : ∀ (n t : Nat) (ls : Array Slot), t < 32 → 32 ≤ t + n → (∀ j, j < t → bt v j = false) → lv_has ls 7 [(6, .int (nI t)), (5, .int v), (4, .int (nI w)), (0, .ref a), (1, .int (nI i))] → W p l e R s m args below meth c s.heap [] 0 0 (MQ below (vp_Si (fun r => nbrP E i b0 r)) args s 0 0 (fun _ => False)) (F0 m 81 ls []) := by
  intro n
  induction n with
  | zero =>
    intro t ls h1 h2
    exact absurd h2 (by omega)
  | succ n ih =>
    intro t ls ht htn hz hl
    refine lv_iload hx hb dX1_next_81 (lv_at hl 1 rfl) ?_
    refine lv_iload hx hb dX1_next_83 (lv_at hl 0 rfl) ?_
    refine lv_iushr (v := (v.toUInt32 >>> ((nI t).toUInt32 &&& Int32.toUInt32 31)).toInt32) hx hb dX1_next_85 (rfl) ?_
    refine lv_iconst (v := nI 1) hx hb dX1_next_86 (by decide) ?_
    refine lv_iand hx hb dX1_next_87 ?_
    refine y_ti (y := b2i (bt v t)) (bt_ushr ht) ?_
    refine y_ifne (b := bt v t) (tgt := 97) hx hb (rfl) dX1_next_88 (by decide) (fun c88 => ?_) (fun c88 => ?_)
    · refine lv_bipush (v := nI 32) hx hb dX1_next_97 (by decide) ?_
      refine lv_iload hx hb dX1_next_99 (lv_at hl 2 rfl) ?_
      refine lv_imul hx hb dX1_next_101 ?_
      refine y_ti (y := nI (32 * w)) (pk_mul 32 w) ?_
      refine lv_iload hx hb dX1_next_102 (lv_at hl 0 rfl) ?_
      refine lv_iadd hx hb dX1_next_104 ?_
      refine y_ti (y := nI (32 * w + t)) (nI_add (32 * w) t) ?_
      exact y_iretR hx hb hr hlk (wrd_found hw hv ht hz c88) dX1_next_105
    · refine lv_iinc (v := nI (t + 1)) (lv' := [(6, .int (nI (t + 1))), (5, .int v), (4, .int (nI w)), (0, .ref a), (1, .int (nI i))]) hx hb dX1_next_91 hl (k := 0) rfl (nI_1 t) (by decide) rfl (fun ls hl => ?_)
      refine lv_goto (tgt := 81) hx hb dX1_next_94 (by decide) ?_
      have hlt : t < t0 := by
        rcases Nat.lt_trichotomy t t0 with q | q | q
        · exact q
        · rw [q, hbt0] at c88
          cases c88
        · rw [hz t0 q] at hbt0
          cases hbt0
      exact ih (t + 1) ls (by omega) (by omega) (fun j hj => by
        by_cases e : j = t
        · rw [e]
          exact c88
        · exact hz j (by omega)) hl
set_option maxHeartbeats 4000000 in
set_option maxRecDepth 100000 in
theorem lpE_word {p : Program} {l : Launch} {e : Env} {R : Room} {s : State} {m : MethodId} {args : Array Value} {below : List Frame} {meth : Method} {c : Code} {dC : Nat → ClassId} {dI : Nat → Nat → Nat} {cI cZ : ClassId} (hx : p.tables.exec = Jvm.exec) (hb : c.code = cX1_next) (hml : c.maxLocals = 7) (hown : s.vm.findClass RX1 = some m.cls) (hts : ∀ w ∈ lw_all, w.before args s = true) (hK : va_K (dC, dI) vwCl (tyK cI cZ) s) (hr : meth.sig.returnType = some .int) (hlk : meth.locks = false) {a b i b0 : Nat} {bits : Nat → Int32} {E : Nat → Nat → Bool} (hE : bitsR bits E) (hi : i < 200) (hP : va_P (dC, dI) vwCl (wE a b cI bits) s.heap) : ∀ (n w : Nat) (v : Int32) (ls : Array Slot), w < 7 → 7 ≤ w + n → wrdP E i b0 w v → lv_has ls 7 [(5, .int v), (4, .int (nI w)), (0, .ref a), (1, .int (nI i))] → W p l e R s m args below meth c s.heap [] 0 0 (MQ below (vp_Si (fun r => nbrP E i b0 r)) args s 0 0 (fun _ => False)) (F0 m 44 ls []) := by
  intro n
  induction n with
  | zero =>
    intro w v ls h1 h2
    exact absurd h2 (by omega)
  | succ n ih =>
    intro w v ls hw hwn hv hl
    refine lv_iload hx hb dX1_next_44 (lv_at hl 0 rfl) ?_
    refine lv_if_ne (tgt := 78) hx hb dX1_next_46 (by decide) (fun c46 => ?_) (fun c46 => ?_)
    · refine lv_iconst (v := nI 0) hx hb dX1_next_78 (by decide) ?_
      refine lv_istore (lv' := [(6, .int (nI 0)), (5, .int v), (4, .int (nI w)), (0, .ref a), (1, .int (nI i))]) hx hb dX1_next_79 hl (by decide) rfl (fun ls hl => ?_)
      obtain ⟨t0, ht0, hbt0⟩ := bt_nz c46
      exact lpE_bit hx hb hml hown hts hK hr hlk hE hi hP hw hv ht0 hbt0 32 0 ls (by omega) (by omega) (fun j hj => absurd hj (Nat.not_lt_zero j)) (lv_sub hl [0, 1, 2, 3, 4] rfl)
    · rw [c46] at hv
      refine lv_iinc (v := nI (w + 1)) (lv' := [(4, .int (nI (w + 1))), (5, .int v), (0, .ref a), (1, .int (nI i))]) hx hb dX1_next_49 hl (k := 1) rfl (nI_1 w) (by decide) rfl (fun ls hl => ?_)
      refine lv_iload hx hb dX1_next_52 (lv_at hl 0 rfl) ?_
      refine lv_bipush (v := nI 7) hx hb dX1_next_54 (by decide) ?_
      refine y_clt (i := w + 1) (j := 7) (tgt := 61) hx hb (rfl) (rfl) (by omega) (by omega) dX1_next_56 (by decide) (fun c56 => ?_) (fun c56 => ?_)
      · refine lv_aload_n hx hb dX1_next_61 rfl (lv_at hl 2 rfl) ?_
        refine va_get (D := (dC, dI)) (ci := 1) (v := .ref b) (C := RX1) (T := TX1) (N := 1) hx hb hts in_X1 hown hK hP 0 rfl rfl 0 (by decide) (hts _ q28) (fun _ h9 => h9) rfl dX1_next_62 ?_
        refine lv_iload_n hx hb dX1_next_65 rfl (lv_at hl 3 rfl) ?_
        refine lv_bipush (v := nI 7) hx hb dX1_next_66 (by decide) ?_
        refine lv_imul hx hb dX1_next_68 ?_
        refine y_ti (y := nI (i * 7)) (pk_mul i 7) ?_
        refine lv_iload hx hb dX1_next_69 (lv_at hl 0 rfl) ?_
        refine lv_iadd hx hb dX1_next_71 ?_
        refine y_ti (y := nI (i * 7 + w + 1)) (nI_add (i * 7) (w + 1)) ?_
        refine y_iald (j := i * 7 + w + 1) hx hb hK hP 1 0 rfl rfl (rfl) (by omega) (by decide) dX1_next_72 ?_
        refine lv_istore (lv' := [(5, .int (bits (i * 7 + w + 1))), (4, .int (nI (w + 1))), (0, .ref a), (1, .int (nI i))]) hx hb dX1_next_73 hl (by decide) rfl (fun ls hl => ?_)
        refine lv_goto (tgt := 44) hx hb dX1_next_75 (by decide) ?_
        exact ih (w + 1) _ ls (by omega) (by omega) (wrd_next hE hi (by omega) hv) (lv_sub hl [0, 1, 2, 3] rfl)
      · refine lv_iconst (v := -1) hx hb dX1_next_59 (by decide) ?_
        exact y_iretR hx hb hr hlk (wrd_none (by omega) hv) dX1_next_60
set_option maxHeartbeats 4000000 in
set_option maxRecDepth 100000 in
theorem metE_next (l : Launch) (dC : Nat → ClassId) (dI : Nat → Nat → Nat) (cI cZ : ClassId) (a b i b0 : Nat) (x : Int32) (bits : Nat → Int32) (E : Nat → Nat → Bool) (hE : bitsR bits E) (hi : i < 200) (hb0 : b0 ≤ 200) (hx0 : x + 1 = nI b0) : Met l yX1_next (ws_ yX1_next cX1_next 7 (some .int)) rmZ (va_Pc [.ref a, .int (nI i), .int x] (fun U => va_P (dC, dI) vwCl (wE a b cI bits) U.heap ∧ va_K (dC, dI) vwCl (tyK cI cZ) U)) (vp_Si (fun r => nbrP E i b0 r)) 0 0 (fun _ => False) := by
  refine Met.ofW (cc := cX1_next) (maxL := 7) (ret := (some .int)) (by decide) rfl ?_
  intro p e s m args below meth c s₁ B hml hv
  obtain ⟨rfl, hP, hK⟩ := hv
  have hx := B.exec
  have hb := B.bytes
  have hr := B.returns
  have hlk := B.notSynchronized
  have hts := atoms_spec (ws := ws_ yX1_next cX1_next 7 (some .int)) B.pre
  have hts : ∀ w ∈ lw_all, w.before _ s = true := fun w h => hts w (List.mem_cons_of_mem _ h)
  have hown : s.vm.findClass RX1 = some m.cls := findClass_of_methodNamed B.named
  have hl := lv_entry ([.ref a, .int (nI i), .int x]) (n := 7) (Nat.le_of_ble_eq_true rfl)
  rw [lg_entry_eq]
  generalize (lg_sl ([.ref a, .int (nI i), .int x]) ++ List.replicate (7 - (lg_sl ([.ref a, .int (nI i), .int x])).length) Slot.unset).toArray = ls at hl ⊢
  have hl : lv_has ls 7 [(0, .ref a), (1, .int (nI i)), (2, .int x)] := hl
  refine lv_iload_n hx hb dX1_next_0 rfl (lv_at hl 2 rfl) ?_
  refine lv_iconst (v := nI 1) hx hb dX1_next_1 (by decide) ?_
  refine lv_iadd hx hb dX1_next_2 ?_
  refine y_ti (y := nI b0) (hx0) ?_
  refine lv_istore_n (lv' := [(3, .int (nI b0)), (0, .ref a), (1, .int (nI i)), (2, .int x)]) hx hb dX1_next_3 rfl hl (by decide) rfl (fun ls hl => ?_)
  refine lv_iload_n hx hb dX1_next_4 rfl (lv_at hl 0 rfl) ?_
  refine lv_iconst (v := nI 5) hx hb dX1_next_5 (by decide) ?_
  refine lv_ishr hx hb dX1_next_6 ?_
  refine y_ti (y := nI (b0 / 32)) (pk_shrN (by omega) (nI 5 &&& 31) 5 (by decide)) ?_
  refine lv_istore (lv' := [(4, .int (nI (b0 / 32))), (3, .int (nI b0)), (0, .ref a), (1, .int (nI i)), (2, .int x)]) hx hb dX1_next_7 hl (by decide) rfl (fun ls hl => ?_)
  refine lv_iload hx hb dX1_next_9 (lv_at hl 0 rfl) ?_
  refine lv_bipush (v := nI 7) hx hb dX1_next_11 (by decide) ?_
  refine y_cge (i := b0 / 32) (j := 7) (tgt := 41) hx hb (rfl) (rfl) (by omega) (by omega) dX1_next_13 (by decide) (fun c13 => ?_) (fun c13 => ?_)
  · exact absurd c13 (by omega)
  · refine lv_aload_n hx hb dX1_next_16 rfl (lv_at hl 2 rfl) ?_
    refine va_get (D := (dC, dI)) (ci := 1) (v := .ref b) (C := RX1) (T := TX1) (N := 1) hx hb hts in_X1 hown hK hP 0 rfl rfl 0 (by decide) (hts _ q28) (fun _ h9 => h9) rfl dX1_next_17 ?_
    refine lv_iload_n hx hb dX1_next_20 rfl (lv_at hl 3 rfl) ?_
    refine lv_bipush (v := nI 7) hx hb dX1_next_21 (by decide) ?_
    refine lv_imul hx hb dX1_next_23 ?_
    refine y_ti (y := nI (i * 7)) (pk_mul i 7) ?_
    refine lv_iload hx hb dX1_next_24 (lv_at hl 0 rfl) ?_
    refine lv_iadd hx hb dX1_next_26 ?_
    refine y_ti (y := nI (i * 7 + b0 / 32)) (nI_add (i * 7) (b0 / 32)) ?_
    refine y_iald (j := i * 7 + b0 / 32) hx hb hK hP 1 0 rfl rfl (rfl) (by omega) (by decide) dX1_next_27 ?_
    refine lv_iload_n hx hb dX1_next_28 rfl (lv_at hl 1 rfl) ?_
    refine lv_bipush (v := nI 31) hx hb dX1_next_29 (by decide) ?_
    refine lv_iand hx hb dX1_next_31 ?_
    refine y_ti (y := nI (b0 % 32)) (pk_andN (by omega) 5 (by decide)) ?_
    refine lv_iushr (v := ((bits (i * 7 + b0 / 32)).toUInt32 >>> ((nI (b0 % 32)).toUInt32 &&& Int32.toUInt32 31)).toInt32) hx hb dX1_next_32 (rfl) ?_
    refine lv_iload_n hx hb dX1_next_33 rfl (lv_at hl 1 rfl) ?_
    refine lv_bipush (v := nI 31) hx hb dX1_next_34 (by decide) ?_
    refine lv_iand hx hb dX1_next_36 ?_
    refine y_ti (y := nI (b0 % 32)) (pk_andN (by omega) 5 (by decide)) ?_
    refine lv_ishl hx hb dX1_next_37 ?_
    refine lv_goto (tgt := 42) hx hb dX1_next_38 (by decide) ?_
    refine lv_topi (fun v ev => ?_)
    refine lv_istore (lv' := [(5, .int v), (4, .int (nI (b0 / 32))), (3, .int (nI b0)), (0, .ref a), (1, .int (nI i)), (2, .int x)]) hx hb dX1_next_42 hl (by decide) rfl (fun ls hl => ?_)
    exact lpE_word hx hb hml hown hts hK hr hlk hE hi hP 7 (b0 / 32) v ls (by omega) (by omega) (wrd_start hE hi hb0 ev) (lv_sub hl [0, 1, 3, 4] rfl)
end
section
/-! Heap -/
theorem hp_empty (row : Nat → Int32) : hpR row 0 (fun _ => false) :=
  ⟨fun _ => 0, fun i hi => absurd hi (Nat.not_lt_zero i), (fb_ct_zero.mpr (fun _ _ => rfl)).symm, ⟨fun i hi => absurd hi (Nat.not_lt_zero i), fun x hx => (by cases hx), fun i j hi => absurd hi (Nat.not_lt_zero i)⟩, fun i _ hi => absurd hi (Nat.not_lt_zero i)⟩
theorem hp_le {row : Nat → Int32} {mm : Nat} {S : Nat → Bool} (h : hpR row mm S) : mm ≤ 200 := by
  obtain ⟨u, -, hc, -⟩ := h
  rw [hc]
  exact fb_ct_le _ _
theorem hp_zero {row : Nat → Int32} {S : Nat → Bool} (h : hpR row 0 S) (x : Nat) : S x = false := by
  obtain ⟨u, -, -, hM, -⟩ := h
  cases hb : S x
  · rfl
  · obtain ⟨i, hi, -⟩ := hM.2.1 x hb
    exact absurd hi (Nat.not_lt_zero i)
theorem hp_cong {row : Nat → Int32} {mm : Nat} {S S2 : Nat → Bool} (h : hpR row mm S) (e : ∀ x, S2 x = S x) : hpR row mm S2 := by
  have e2 : S2 = S := funext e
  rw [e2]
  exact h
set_option maxHeartbeats 4000000 in
set_option maxRecDepth 100000 in
theorem metH_clear (l : Launch) (dC : Nat → ClassId) (dI : Nat → Nat → Nat) (cI cZ : ClassId) (sz : Nat) (a b : Nat) (cnt : Int32) (row : Nat → Int32) : Met l yX2_clear (ws_ yX2_clear cX2_clear 1 (none)) rmZ (va_Pc [.ref a] (fun U => U.heap.size = sz ∧ va_P (dC, dI) vwCl (wH a b cI cnt row) U.heap ∧ va_K (dC, dI) vwCl (tyK cI cZ) U ∧ va_D (fun _ => True) (wH a b cI cnt row))) (va_Qv (fun row2 : Nat → Int32 => hpR row2 0 (fun _ => false)) (fun row2 t => va_P (dC, dI) vwCl (wH a b cI (nI 0) row2) t.heap ∧ va_K (dC, dI) vwCl (tyK cI cZ) t ∧ va_D (va_A (wH a b cI cnt row) sz) (wH a b cI (nI 0) row2)) (va_A (wH a b cI cnt row) sz)) 0 0 (va_A (wH a b cI cnt row) sz) := by
  refine Met.ofW (cc := cX2_clear) (maxL := 1) (ret := none) (by decide) rfl ?_
  intro p e s m args below meth c s₁ B hml hv
  obtain ⟨rfl, hsz, hP, hK, hD0⟩ := hv
  have hx := B.exec
  have hb := B.bytes
  have hr := B.returns
  have hlk := B.notSynchronized
  have hts := atoms_spec (ws := ws_ yX2_clear cX2_clear 1 (none)) B.pre
  have hts : ∀ w ∈ lw_all, w.before _ s = true := fun w h => hts w (List.mem_cons_of_mem _ h)
  have hown : s.vm.findClass RX2 = some m.cls := findClass_of_methodNamed B.named
  subst hsz
  have hD := hD0.self (sz := s.heap.size)
  generalize hAe : va_A (wH a b cI cnt row) s.heap.size = A at hD ⊢
  have hA : ∀ q : Nat, s.heap.size ≤ q → A q := fun q h => by rw [← hAe]; exact Or.inr h
  have hS : va_S A s.heap s.heap [] := va_S.rf
  have hl := lv_entry ([.ref a]) (n := 1) (Nat.le_of_ble_eq_true rfl)
  rw [lg_entry_eq]
  generalize (lg_sl ([.ref a]) ++ List.replicate (1 - (lg_sl ([.ref a])).length) Slot.unset).toArray = ls at hl ⊢
  have hl : lv_has ls 1 [(0, .ref a)] := hl
  refine lv_aload_n hx hb dX2_clear_0 rfl (lv_at hl 0 rfl) ?_
  refine lv_iconst (v := nI 0) hx hb dX2_clear_1 (by decide) ?_
  refine va_put (D := (dC, dI)) (ci := 2) (v := .int (nI 0)) (ty := .int) (C := RX2) (T := TX2) (N := 2) hx hb hts in_X2 tyX2 tyX2_ok nmX2 hown hK hP hD hS 0 rfl rfl 1 (by decide) (hts _ q40) (fun _ h9 => h9) rfl (by decide +kernel) rfl rfl (Nat.le_of_ble_eq_true rfl) dX2_clear_2 (fun H locs hP hD hS => ?_)
  have hP : va_P (dC, dI) vwCl (wH a b cI (nI 0) row) H := hP
  have hD : va_D A (wH a b cI (nI 0) row) := hD
  exact W.vret hx hb hr (fun t ht hW => ⟨⟨row, rfl, hp_empty row, by rw [ht]; exact hP, va_K.moved hW.alike hK, hD⟩, hS.F ht⟩) hS.2.2 dX2_clear_5
set_option maxHeartbeats 4000000 in
set_option maxRecDepth 100000 in
theorem metH_isEmpty (l : Launch) (dC : Nat → ClassId) (dI : Nat → Nat → Nat) (cI cZ : ClassId) (a b mm : Nat) (row : Nat → Int32) (hm : mm ≤ 200) : Met l yX2_isEmpty (ws_ yX2_isEmpty cX2_isEmpty 1 (some .boolean)) rmZ (va_Pc [.ref a] (fun U => va_P (dC, dI) vwCl (wH a b cI (nI mm) row) U.heap ∧ va_K (dC, dI) vwCl (tyK cI cZ) U)) (vp_Si (fun r => r = b2i (decide (mm = 0)))) 0 0 (fun _ => False) := by
  refine Met.ofW (cc := cX2_isEmpty) (maxL := 1) (ret := (some .boolean)) (by decide) rfl ?_
  intro p e s m args below meth c s₁ B hml hv
  obtain ⟨rfl, hP, hK⟩ := hv
  have hx := B.exec
  have hb := B.bytes
  have hr := B.returns
  have hlk := B.notSynchronized
  have hts := atoms_spec (ws := ws_ yX2_isEmpty cX2_isEmpty 1 (some .boolean)) B.pre
  have hts : ∀ w ∈ lw_all, w.before _ s = true := fun w h => hts w (List.mem_cons_of_mem _ h)
  have hown : s.vm.findClass RX2 = some m.cls := findClass_of_methodNamed B.named
  have hl := lv_entry ([.ref a]) (n := 1) (Nat.le_of_ble_eq_true rfl)
  rw [lg_entry_eq]
  generalize (lg_sl ([.ref a]) ++ List.replicate (1 - (lg_sl ([.ref a])).length) Slot.unset).toArray = ls at hl ⊢
  have hl : lv_has ls 1 [(0, .ref a)] := hl
  refine lv_aload_n hx hb dX2_isEmpty_0 rfl (lv_at hl 0 rfl) ?_
  refine va_get (D := (dC, dI)) (ci := 2) (v := .int (nI mm)) (C := RX2) (T := TX2) (N := 2) hx hb hts in_X2 hown hK hP 0 rfl rfl 1 (by decide) (hts _ q40) (fun _ h9 => h9) rfl dX2_isEmpty_1 ?_
  refine lv_if_ne (tgt := 11) hx hb dX2_isEmpty_4 (by decide) (fun c4 => ?_) (fun c4 => ?_)
  · refine lv_iconst (v := b2i false) hx hb dX2_isEmpty_11 (by decide) ?_
    exact y_zretR (b := false) rfl hx hb hr hlk (by rw [decide_eq_false (fun e : mm = 0 => c4 (by rw [e]; rfl))]) dX2_isEmpty_12
  · refine lv_iconst (v := b2i true) hx hb dX2_isEmpty_7 (by decide) ?_
    refine lv_goto (tgt := 12) hx hb dX2_isEmpty_8 (by decide) ?_
    have h0 : mm = 0 := Nat.eq_zero_of_not_pos (fun q => nI_ne0 q (by omega) c4)
    exact y_zretR (b := true) rfl hx hb hr hlk (by rw [decide_eq_true h0]) dX2_isEmpty_12
set_option maxHeartbeats 4000000 in
set_option maxRecDepth 100000 in
theorem lpH_put {p : Program} {l : Launch} {e : Env} {R : Room} {s : State} {m : MethodId} {args : Array Value} {below : List Frame} {meth : Method} {c : Code} {Q : State → Prop} {dC : Nat → ClassId} {dI : Nat → Nat → Nat} {cI cZ : ClassId} {A : Nat → Prop} (hx : p.tables.exec = Jvm.exec) (hb : c.code = cX2_put) (hml : c.maxLocals = 3) (hown : s.vm.findClass RX2 = some m.cls) (hts : ∀ w ∈ lw_all, w.before args s = true) (hK : va_K (dC, dI) vwCl (tyK cI cZ) s) (hA : ∀ q : Nat, s.heap.size ≤ q → A q) {a b M x : Nat} {S2 : Nat → Bool} (hM : M ≤ 200) (hx2 : x < 200) (hc : M = fb_ct S2 200) (kx : ∀ (k : Nat) (u : Nat → Nat) (row : Nat → Int32) (H : Heap) (locs : List Loc) (ls : Array Slot), k < M → hpN u M S2 → u k = x → (∀ i, i < M → i ≠ k → row i = nI (u i)) → va_P (dC, dI) vwCl (wH a b cI (nI M) row) H → va_D A (wH a b cI (nI M) row) → va_S A s.heap H locs → lv_has ls 3 [(2, .int (nI k)), (0, .ref a), (1, .int (nI x))] → W p l e R s m args below meth c H locs 0 0 Q (F0 m 58 ls [])) : ∀ (n k : Nat) (u : Nat → Nat) (row : Nat → Int32) (H : Heap) (locs : List Loc) (ls : Array Slot), k < n → k < M → putI u M S2 k → u k = x → (∀ i, i < M → i ≠ k → row i = nI (u i)) → va_P (dC, dI) vwCl (wH a b cI (nI M) row) H → va_D A (wH a b cI (nI M) row) → va_S A s.heap H locs → lv_has ls 3 [(2, .int (nI k)), (0, .ref a), (1, .int (nI x))] → W p l e R s m args below meth c H locs 0 0 Q (F0 m 15 ls []) := by
  intro n
  induction n with
  | zero =>
    intro k u row H locs ls h1
    exact absurd h1 (Nat.not_lt_zero k)
  | succ n ih =>
    intro k u row H locs ls hkn hkM hI huk hrow hP hD hS hl
    refine lv_iload_n hx hb dX2_put_15 rfl (lv_at hl 0 rfl) ?_
    refine lv_if_le (tgt := 58) hx hb dX2_put_16 (by decide) (fun c16 => ?_) (fun c16 => ?_)
    · have h0 : k = 0 := Nat.eq_zero_of_not_pos (fun q => nI_nle q (by omega) c16)
      exact kx k u row H locs ls hkM (put_end hc hI (Or.inl h0)) huk hrow hP hD hS hl
    · have h0 : 0 < k := Nat.pos_of_ne_zero (fun q => c16 (by rw [q]; decide))
      have hu := (hI.1.1 ((k - 1) / 2) (by omega)).1
      refine lv_aload_n hx hb dX2_put_19 rfl (lv_at hl 1 rfl) ?_
      refine va_get (D := (dC, dI)) (ci := 2) (v := .ref b) (C := RX2) (T := TX2) (N := 2) hx hb hts in_X2 hown hK hP 0 rfl rfl 0 (by decide) (hts _ q39) (fun _ h9 => h9) rfl dX2_put_20 ?_
      refine lv_iload_n hx hb dX2_put_23 rfl (lv_at hl 0 rfl) ?_
      refine lv_iconst (v := nI 1) hx hb dX2_put_24 (by decide) ?_
      refine lv_isub hx hb dX2_put_25 ?_
      refine y_ti (y := nI (k - 1)) (pk_sub (by omega)) ?_
      refine lv_iconst (v := nI 2) hx hb dX2_put_26 (by decide) ?_
      refine lv_idiv hx hb dX2_put_27 (by decide) ?_
      refine y_ti (y := nI ((k - 1) / 2)) (pk_div (by omega) (by omega) (by omega)) ?_
      refine y_iald (j := (k - 1) / 2) hx hb hK hP 1 0 rfl rfl (rfl) (by omega) (by decide) dX2_put_28 ?_
      refine y_ti (y := nI (u ((k - 1) / 2))) (hrow _ (by omega) (by omega)) ?_
      refine lv_iload_n hx hb dX2_put_29 rfl (lv_at hl 2 rfl) ?_
      refine y_cle (i := u ((k - 1) / 2)) (j := x) (tgt := 58) hx hb (rfl) (rfl) (by omega) (by omega) dX2_put_30 (by decide) (fun c30 => ?_) (fun c30 => ?_)
      · exact kx k u row H locs ls hkM (put_end hc hI (Or.inr (by rw [huk]; exact c30))) huk hrow hP hD hS hl
      · refine lv_aload_n hx hb dX2_put_33 rfl (lv_at hl 1 rfl) ?_
        refine va_get (D := (dC, dI)) (ci := 2) (v := .ref b) (C := RX2) (T := TX2) (N := 2) hx hb hts in_X2 hown hK hP 0 rfl rfl 0 (by decide) (hts _ q39) (fun _ h9 => h9) rfl dX2_put_34 ?_
        refine lv_iload_n hx hb dX2_put_37 rfl (lv_at hl 0 rfl) ?_
        refine lv_aload_n hx hb dX2_put_38 rfl (lv_at hl 1 rfl) ?_
        refine va_get (D := (dC, dI)) (ci := 2) (v := .ref b) (C := RX2) (T := TX2) (N := 2) hx hb hts in_X2 hown hK hP 0 rfl rfl 0 (by decide) (hts _ q39) (fun _ h9 => h9) rfl dX2_put_39 ?_
        refine lv_iload_n hx hb dX2_put_42 rfl (lv_at hl 0 rfl) ?_
        refine lv_iconst (v := nI 1) hx hb dX2_put_43 (by decide) ?_
        refine lv_isub hx hb dX2_put_44 ?_
        refine y_ti (y := nI (k - 1)) (pk_sub (by omega)) ?_
        refine lv_iconst (v := nI 2) hx hb dX2_put_45 (by decide) ?_
        refine lv_idiv hx hb dX2_put_46 (by decide) ?_
        refine y_ti (y := nI ((k - 1) / 2)) (pk_div (by omega) (by omega) (by omega)) ?_
        refine y_iald (j := (k - 1) / 2) hx hb hK hP 1 0 rfl rfl (rfl) (by omega) (by decide) dX2_put_47 ?_
        refine y_ti (y := nI (u ((k - 1) / 2))) (hrow _ (by omega) (by omega)) ?_
        refine y_iast (j := k) hx hb hK hP hD hS 1 0 rfl rfl (rfl) (by omega) (by decide) dX2_put_48 (fun H locs hP hD hS => ?_)
        have hP : va_P (dC, dI) vwCl (wH a b cI (nI M) (upd row k (nI (u ((k - 1) / 2))))) H := hP
        have hD : va_D A (wH a b cI (nI M) (upd row k (nI (u ((k - 1) / 2))))) := hD
        refine lv_iload_n hx hb dX2_put_49 rfl (lv_at hl 0 rfl) ?_
        refine lv_iconst (v := nI 1) hx hb dX2_put_50 (by decide) ?_
        refine lv_isub hx hb dX2_put_51 ?_
        refine y_ti (y := nI (k - 1)) (pk_sub (by omega)) ?_
        refine lv_iconst (v := nI 2) hx hb dX2_put_52 (by decide) ?_
        refine lv_idiv hx hb dX2_put_53 (by decide) ?_
        refine y_ti (y := nI ((k - 1) / 2)) (pk_div (by omega) (by omega) (by omega)) ?_
        refine lv_istore_n (lv' := [(2, .int (nI ((k - 1) / 2))), (0, .ref a), (1, .int (nI x))]) hx hb dX2_put_54 rfl hl (by decide) rfl (fun ls hl => ?_)
        refine lv_goto (tgt := 15) hx hb dX2_put_55 (by decide) ?_
        have hpk : (k - 1) / 2 ≠ k := by omega
        exact ih ((k - 1) / 2) (swp u k ((k - 1) / 2)) _ _ _ _ (by omega) (by omega) (put_step hkM h0 hI (by rw [huk]; exact c30)) (by rw [swp_p u hpk]; exact huk) (fun i h1 h2 => by
          by_cases e : i = k
          · subst e
            rw [pk_us, swp_k]
          · rw [pk_un e, swp_o u e h2]
            exact hrow i h1 e) hP hD hS hl
set_option maxHeartbeats 4000000 in
set_option maxRecDepth 100000 in
theorem metH_put (l : Launch) (dC : Nat → ClassId) (dI : Nat → Nat → Nat) (cI cZ : ClassId) (sz : Nat) (a b mm x : Nat) (row : Nat → Int32) (S : Nat → Bool) (hR : hpR row mm S) (hx2 : x < 200) (hSx : S x = false) : Met l yX2_put (ws_ yX2_put cX2_put 3 (none)) rmZ (va_Pc [.ref a, .int (nI x)] (fun U => U.heap.size = sz ∧ va_P (dC, dI) vwCl (wH a b cI (nI mm) row) U.heap ∧ va_K (dC, dI) vwCl (tyK cI cZ) U ∧ va_D (fun _ => True) (wH a b cI (nI mm) row))) (va_Qv (fun row2 : Nat → Int32 => hpR row2 (mm + 1) (va_up S x true)) (fun row2 t => va_P (dC, dI) vwCl (wH a b cI (nI (mm + 1)) row2) t.heap ∧ va_K (dC, dI) vwCl (tyK cI cZ) t ∧ va_D (va_A (wH a b cI (nI mm) row) sz) (wH a b cI (nI (mm + 1)) row2)) (va_A (wH a b cI (nI mm) row) sz)) 0 0 (va_A (wH a b cI (nI mm) row) sz) := by
  refine Met.ofW (cc := cX2_put) (maxL := 3) (ret := none) (by decide) rfl ?_
  intro p e s m args below meth c s₁ B hml hv
  obtain ⟨rfl, hsz, hP, hK, hD0⟩ := hv
  have hx := B.exec
  have hb := B.bytes
  have hr := B.returns
  have hlk := B.notSynchronized
  have hts := atoms_spec (ws := ws_ yX2_put cX2_put 3 (none)) B.pre
  have hts : ∀ w ∈ lw_all, w.before _ s = true := fun w h => hts w (List.mem_cons_of_mem _ h)
  have hown : s.vm.findClass RX2 = some m.cls := findClass_of_methodNamed B.named
  subst hsz
  have hD := hD0.self (sz := s.heap.size)
  generalize hAe : va_A (wH a b cI (nI mm) row) s.heap.size = A at hD ⊢
  have hA : ∀ q : Nat, s.heap.size ≤ q → A q := fun q h => by rw [← hAe]; exact Or.inr h
  have hS : va_S A s.heap s.heap [] := va_S.rf
  have hl := lv_entry ([.ref a, .int (nI x)]) (n := 3) (Nat.le_of_ble_eq_true rfl)
  rw [lg_entry_eq]
  generalize (lg_sl ([.ref a, .int (nI x)]) ++ List.replicate (3 - (lg_sl ([.ref a, .int (nI x)])).length) Slot.unset).toArray = ls at hl ⊢
  have hl : lv_has ls 3 [(0, .ref a), (1, .int (nI x))] := hl
  obtain ⟨u, hrow, hN⟩ := hR
  obtain ⟨hI, hc⟩ := put_start (S' := va_up S x true) hN hx2 hSx (va_up_self S x true) (fun y q => va_up_ne S true q)
  have hM : mm + 1 ≤ 200 := by rw [hc]; exact fb_ct_le _ _
  refine lv_aload_n hx hb dX2_put_0 rfl (lv_at hl 0 rfl) ?_
  refine va_get (D := (dC, dI)) (ci := 2) (v := .int (nI mm)) (C := RX2) (T := TX2) (N := 2) hx hb hts in_X2 hown hK hP 0 rfl rfl 1 (by decide) (hts _ q40) (fun _ h9 => h9) rfl dX2_put_1 ?_
  refine lv_istore_n (lv' := [(2, .int (nI mm)), (0, .ref a), (1, .int (nI x))]) hx hb dX2_put_4 rfl hl (by decide) rfl (fun ls hl => ?_)
  refine lv_aload_n hx hb dX2_put_5 rfl (lv_at hl 1 rfl) ?_
  refine lv_dup hx hb dX2_put_6 rfl ?_
  refine va_get (D := (dC, dI)) (ci := 2) (v := .int (nI mm)) (C := RX2) (T := TX2) (N := 2) hx hb hts in_X2 hown hK hP 0 rfl rfl 1 (by decide) (hts _ q40) (fun _ h9 => h9) rfl dX2_put_7 ?_
  refine lv_iconst (v := nI 1) hx hb dX2_put_10 (by decide) ?_
  refine lv_iadd hx hb dX2_put_11 ?_
  refine y_ti (y := nI (mm + 1)) (nI_add mm 1) ?_
  refine va_put (D := (dC, dI)) (ci := 2) (v := .int (nI (mm + 1))) (ty := .int) (C := RX2) (T := TX2) (N := 2) hx hb hts in_X2 tyX2 tyX2_ok nmX2 hown hK hP hD hS 0 rfl rfl 1 (by decide) (hts _ q40) (fun _ h9 => h9) rfl (by decide +kernel) rfl rfl (Nat.le_of_ble_eq_true rfl) dX2_put_12 (fun H locs hP hD hS => ?_)
  have hP : va_P (dC, dI) vwCl (wH a b cI (nI (mm + 1)) row) H := hP
  have hD : va_D A (wH a b cI (nI (mm + 1)) row) := hD
  refine lpH_put hx hb hml hown hts hK hA hM hx2 hc ?_ (mm + 1) mm (va_up u mm x) row _ _ ls (by omega) (by omega) hI (va_up_self u mm x) (fun i h1 h2 => by rw [va_up_ne u x h2]; exact hrow i (by omega)) hP hD hS (lv_sub hl [0, 1, 2] rfl)
  intro k u row H locs ls hkM hN huk hrow hP hD hS hl
  refine lv_aload_n hx hb dX2_put_58 rfl (lv_at hl 1 rfl) ?_
  refine va_get (D := (dC, dI)) (ci := 2) (v := .ref b) (C := RX2) (T := TX2) (N := 2) hx hb hts in_X2 hown hK hP 0 rfl rfl 0 (by decide) (hts _ q39) (fun _ h9 => h9) rfl dX2_put_59 ?_
  refine lv_iload_n hx hb dX2_put_62 rfl (lv_at hl 0 rfl) ?_
  refine lv_iload_n hx hb dX2_put_63 rfl (lv_at hl 2 rfl) ?_
  refine y_iast (j := k) hx hb hK hP hD hS 1 0 rfl rfl (rfl) (by omega) (by decide) dX2_put_64 (fun H locs hP hD hS => ?_)
  have hP : va_P (dC, dI) vwCl (wH a b cI (nI (mm + 1)) (upd row k (nI x))) H := hP
  have hD : va_D A (wH a b cI (nI (mm + 1)) (upd row k (nI x))) := hD
  have hR2 : hpR (upd row k (nI x)) (mm + 1) (va_up S x true) := ⟨u, fun i h1 => by
    by_cases e : i = k
    · subst e
      rw [pk_us, huk]
    · rw [pk_un e]
      exact hrow i h1 e, hN⟩
  exact W.vret hx hb hr (fun t ht hW => ⟨⟨_, rfl, hR2, by rw [ht]; exact hP, va_K.moved hW.alike hK, hD⟩, hS.F ht⟩) hS.2.2 dX2_put_65
set_option maxHeartbeats 4000000 in
set_option maxRecDepth 100000 in
theorem lpH_tail {p : Program} {l : Launch} {e : Env} {R : Room} {s : State} {m : MethodId} {args : Array Value} {below : List Frame} {meth : Method} {c : Code} {Q : State → Prop} {dC : Nat → ClassId} {dI : Nat → Nat → Nat} {cI cZ : ClassId} {A : Nat → Prop} (hx : p.tables.exec = Jvm.exec) (hb : c.code = cX2_take) (hml : c.maxLocals = 6) (hown : s.vm.findClass RX2 = some m.cls) (hts : ∀ w ∈ lw_all, w.before args s = true) (hK : va_K (dC, dI) vwCl (tyK cI cZ) s) (hA : ∀ q : Nat, s.heap.size ≤ q → A q) {a b mm x la : Nat} {S2 : Nat → Bool} (hm : mm < 200) (hla : la < 200) (hc : mm = fb_ct S2 200) {k cc : Nat} {u : Nat → Nat} {row : Nat → Int32} {H : Heap} {locs : List Loc} {ls : Array Slot} (hI : takI u mm S2 k) (huk : u k = la) (hrow : ∀ i, i < mm → i ≠ k → row i = nI (u i)) (hkm : k ≤ mm) (hcc : cc = 2 * k + 1 ∨ cc = 2 * k + 2) (hch : ∀ i, 0 < i → i < mm → (i - 1) / 2 = k → cc < mm ∧ u cc ≤ u i) (hP : va_P (dC, dI) vwCl (wH a b cI (nI mm) row) H) (hD : va_D A (wH a b cI (nI mm) row)) (hS : va_S A s.heap H locs) (hl : lv_has ls 6 [(5, .int (nI cc)), (4, .int (b2i true)), (3, .int (nI k)), (2, .int (nI la)), (1, .int (nI x)), (0, .ref a)]) (kx : hpN u mm S2 → ∀ (ls : Array Slot), lv_has ls 6 [(3, .int (nI k)), (2, .int (nI la)), (1, .int (nI x)), (0, .ref a)] → W p l e R s m args below meth c H locs 0 0 Q (F0 m 128 ls [])) (kl : ∀ (row : Nat → Int32) (H : Heap) (locs : List Loc) (ls : Array Slot), k < cc → cc < mm → takI (swp u k cc) mm S2 cc → (∀ i, i < mm → i ≠ cc → row i = nI (swp u k cc i)) → va_P (dC, dI) vwCl (wH a b cI (nI mm) row) H → va_D A (wH a b cI (nI mm) row) → va_S A s.heap H locs → lv_has ls 6 [(4, .int (b2i true)), (3, .int (nI cc)), (2, .int (nI la)), (1, .int (nI x)), (0, .ref a)] → W p l e R s m args below meth c H locs 0 0 Q (F0 m 32 ls [])) : W p l e R s m args below meth c H locs 0 0 Q (F0 m 77 ls []) := by
  refine lv_iload hx hb dX2_take_77 (lv_at hl 0 rfl) ?_
  refine lv_aload_n hx hb dX2_take_79 rfl (lv_at hl 5 rfl) ?_
  refine va_get (D := (dC, dI)) (ci := 2) (v := .int (nI mm)) (C := RX2) (T := TX2) (N := 2) hx hb hts in_X2 hown hK hP 0 rfl rfl 1 (by decide) (hts _ q40) (fun _ h9 => h9) rfl dX2_take_80 ?_
  refine y_cge (i := cc) (j := mm) (tgt := 101) hx hb (rfl) (rfl) (by omega) (by omega) dX2_take_83 (by decide) (fun c83 => ?_) (fun c83 => ?_)
  · have he : ∀ i, 0 < i → i < mm → (i - 1) / 2 = k → u k ≤ u i := fun i h1 h2 h3 => absurd (hch i h1 h2 h3).1 (by omega)
    refine lv_iconst (v := b2i false) hx hb dX2_take_101 (by decide) ?_
    refine lv_istore (lv' := [(4, .int (b2i false)), (5, .int (nI cc)), (3, .int (nI k)), (2, .int (nI la)), (1, .int (nI x)), (0, .ref a)]) hx hb dX2_take_102 hl (by decide) rfl (fun ls hl => ?_)
    refine lv_iload hx hb dX2_take_104 (lv_at hl 0 rfl) ?_
    refine y_ifeq (b := false) (tgt := 125) hx hb (rfl) dX2_take_106 (by decide) (fun c106 => ?_) (fun c106 => ?_)
    · refine lv_goto (tgt := 32) hx hb dX2_take_125 (by decide) ?_
      refine lv_iload hx hb dX2_take_32 (lv_at hl 0 rfl) ?_
      refine y_ifeq (b := false) (tgt := 128) hx hb (rfl) dX2_take_34 (by decide) (fun c34 => ?_) (fun c34 => ?_)
      · exact kx (tak_end hc hI he) ls (lv_sub hl [2, 3, 4, 5] rfl)
      · exact absurd c34 (by decide)
    · exact absurd c106 (by decide)
  · have hu := (hI.1.1 cc c83).1
    have hck : cc ≠ k := by omega
    refine lv_aload_n hx hb dX2_take_86 rfl (lv_at hl 5 rfl) ?_
    refine va_get (D := (dC, dI)) (ci := 2) (v := .ref b) (C := RX2) (T := TX2) (N := 2) hx hb hts in_X2 hown hK hP 0 rfl rfl 0 (by decide) (hts _ q39) (fun _ h9 => h9) rfl dX2_take_87 ?_
    refine lv_iload hx hb dX2_take_90 (lv_at hl 0 rfl) ?_
    refine y_iald (j := cc) hx hb hK hP 1 0 rfl rfl (rfl) (by omega) (by decide) dX2_take_92 ?_
    refine y_ti (y := nI (u cc)) (hrow cc c83 hck) ?_
    refine lv_iload_n hx hb dX2_take_93 rfl (lv_at hl 3 rfl) ?_
    refine y_cge (i := u cc) (j := la) (tgt := 101) hx hb (rfl) (rfl) (by omega) (by omega) dX2_take_94 (by decide) (fun c94 => ?_) (fun c94 => ?_)
    · have he : ∀ i, 0 < i → i < mm → (i - 1) / 2 = k → u k ≤ u i := fun i h1 h2 h3 => Nat.le_trans (by rw [huk]; exact c94) (hch i h1 h2 h3).2
      refine lv_iconst (v := b2i false) hx hb dX2_take_101 (by decide) ?_
      refine lv_istore (lv' := [(4, .int (b2i false)), (5, .int (nI cc)), (3, .int (nI k)), (2, .int (nI la)), (1, .int (nI x)), (0, .ref a)]) hx hb dX2_take_102 hl (by decide) rfl (fun ls hl => ?_)
      refine lv_iload hx hb dX2_take_104 (lv_at hl 0 rfl) ?_
      refine y_ifeq (b := false) (tgt := 125) hx hb (rfl) dX2_take_106 (by decide) (fun c106 => ?_) (fun c106 => ?_)
      · refine lv_goto (tgt := 32) hx hb dX2_take_125 (by decide) ?_
        refine lv_iload hx hb dX2_take_32 (lv_at hl 0 rfl) ?_
        refine y_ifeq (b := false) (tgt := 128) hx hb (rfl) dX2_take_34 (by decide) (fun c34 => ?_) (fun c34 => ?_)
        · exact kx (tak_end hc hI he) ls (lv_sub hl [2, 3, 4, 5] rfl)
        · exact absurd c34 (by decide)
      · exact absurd c106 (by decide)
    · refine lv_iconst (v := b2i true) hx hb dX2_take_97 (by decide) ?_
      refine lv_goto (tgt := 102) hx hb dX2_take_98 (by decide) ?_
      refine lv_istore (lv' := [(4, .int (b2i true)), (5, .int (nI cc)), (3, .int (nI k)), (2, .int (nI la)), (1, .int (nI x)), (0, .ref a)]) hx hb dX2_take_102 hl (by decide) rfl (fun ls hl => ?_)
      refine lv_iload hx hb dX2_take_104 (lv_at hl 0 rfl) ?_
      refine y_ifeq (b := true) (tgt := 125) hx hb (rfl) dX2_take_106 (by decide) (fun c106 => ?_) (fun c106 => ?_)
      · exact absurd c106 (by decide)
      · refine lv_aload_n hx hb dX2_take_109 rfl (lv_at hl 5 rfl) ?_
        refine va_get (D := (dC, dI)) (ci := 2) (v := .ref b) (C := RX2) (T := TX2) (N := 2) hx hb hts in_X2 hown hK hP 0 rfl rfl 0 (by decide) (hts _ q39) (fun _ h9 => h9) rfl dX2_take_110 ?_
        refine lv_iload_n hx hb dX2_take_113 rfl (lv_at hl 2 rfl) ?_
        refine lv_aload_n hx hb dX2_take_114 rfl (lv_at hl 5 rfl) ?_
        refine va_get (D := (dC, dI)) (ci := 2) (v := .ref b) (C := RX2) (T := TX2) (N := 2) hx hb hts in_X2 hown hK hP 0 rfl rfl 0 (by decide) (hts _ q39) (fun _ h9 => h9) rfl dX2_take_115 ?_
        refine lv_iload hx hb dX2_take_118 (lv_at hl 1 rfl) ?_
        refine y_iald (j := cc) hx hb hK hP 1 0 rfl rfl (rfl) (by omega) (by decide) dX2_take_120 ?_
        refine y_ti (y := nI (u cc)) (hrow cc c83 hck) ?_
        refine y_iast (j := k) hx hb hK hP hD hS 1 0 rfl rfl (rfl) (by omega) (by decide) dX2_take_121 (fun H locs hP hD hS => ?_)
        have hP : va_P (dC, dI) vwCl (wH a b cI (nI mm) (upd row k (nI (u cc)))) H := hP
        have hD : va_D A (wH a b cI (nI mm) (upd row k (nI (u cc)))) := hD
        refine lv_iload hx hb dX2_take_122 (lv_at hl 1 rfl) ?_
        refine lv_istore_n (lv' := [(3, .int (nI cc)), (4, .int (b2i true)), (5, .int (nI cc)), (2, .int (nI la)), (1, .int (nI x)), (0, .ref a)]) hx hb dX2_take_124 rfl hl (by decide) rfl (fun ls hl => ?_)
        refine lv_goto (tgt := 32) hx hb dX2_take_125 (by decide) ?_
        refine kl _ _ _ ls (by omega) c83 (tak_step (by omega) c83 hI (by omega) (by omega) (by rw [huk]; exact c94) (fun i h1 h2 h3 => (hch i h1 h2 h3).2)) (fun i h1 h2 => ?_) hP hD hS (lv_sub hl [1, 0, 3, 4, 5] rfl)
        by_cases e : i = k
        · subst e
          rw [pk_us, swp_k]
        · rw [pk_un e, swp_o u e h2]
          exact hrow i h1 e
set_option maxHeartbeats 4000000 in
set_option maxRecDepth 100000 in
theorem lpH_take {p : Program} {l : Launch} {e : Env} {R : Room} {s : State} {m : MethodId} {args : Array Value} {below : List Frame} {meth : Method} {c : Code} {Q : State → Prop} {dC : Nat → ClassId} {dI : Nat → Nat → Nat} {cI cZ : ClassId} {A : Nat → Prop} (hx : p.tables.exec = Jvm.exec) (hb : c.code = cX2_take) (hml : c.maxLocals = 6) (hown : s.vm.findClass RX2 = some m.cls) (hts : ∀ w ∈ lw_all, w.before args s = true) (hK : va_K (dC, dI) vwCl (tyK cI cZ) s) (hA : ∀ q : Nat, s.heap.size ≤ q → A q) {a b mm x la : Nat} {S2 : Nat → Bool} (hm : mm < 200) (hla : la < 200) (hc : mm = fb_ct S2 200) (kx : ∀ (k : Nat) (u : Nat → Nat) (row : Nat → Int32) (H : Heap) (locs : List Loc) (ls : Array Slot), k ≤ mm → hpN u mm S2 → u k = la → (∀ i, i < mm → i ≠ k → row i = nI (u i)) → va_P (dC, dI) vwCl (wH a b cI (nI mm) row) H → va_D A (wH a b cI (nI mm) row) → va_S A s.heap H locs → lv_has ls 6 [(3, .int (nI k)), (2, .int (nI la)), (1, .int (nI x)), (0, .ref a)] → W p l e R s m args below meth c H locs 0 0 Q (F0 m 128 ls [])) : ∀ (n k : Nat) (u : Nat → Nat) (row : Nat → Int32) (H : Heap) (locs : List Loc) (ls : Array Slot), k ≤ mm → mm + 1 ≤ k + n → takI u mm S2 k → u k = la → (∀ i, i < mm → i ≠ k → row i = nI (u i)) → va_P (dC, dI) vwCl (wH a b cI (nI mm) row) H → va_D A (wH a b cI (nI mm) row) → va_S A s.heap H locs → lv_has ls 6 [(4, .int (b2i true)), (3, .int (nI k)), (2, .int (nI la)), (1, .int (nI x)), (0, .ref a)] → W p l e R s m args below meth c H locs 0 0 Q (F0 m 32 ls []) := by
  intro n
  induction n with
  | zero =>
    intro k u row H locs ls h1 h2
    exact absurd h2 (by omega)
  | succ n ih =>
    intro k u row H locs ls hkm hkn hI huk hrow hP hD hS hl
    refine lv_iload hx hb dX2_take_32 (lv_at hl 0 rfl) ?_
    refine y_ifeq (b := true) (tgt := 128) hx hb (rfl) dX2_take_34 (by decide) (fun c34 => ?_) (fun c34 => ?_)
    · exact absurd c34 (by decide)
    · refine lv_iconst (v := nI 2) hx hb dX2_take_37 (by decide) ?_
      refine lv_iload_n hx hb dX2_take_38 rfl (lv_at hl 1 rfl) ?_
      refine lv_imul hx hb dX2_take_39 ?_
      refine y_ti (y := nI (2 * k)) (pk_mul 2 k) ?_
      refine lv_iconst (v := nI 1) hx hb dX2_take_40 (by decide) ?_
      refine lv_iadd hx hb dX2_take_41 ?_
      refine y_ti (y := nI (2 * k + 1)) (nI_add (2 * k) 1) ?_
      refine lv_istore (lv' := [(5, .int (nI (2 * k + 1))), (4, .int (b2i true)), (3, .int (nI k)), (2, .int (nI la)), (1, .int (nI x)), (0, .ref a)]) hx hb dX2_take_42 hl (by decide) rfl (fun ls hl => ?_)
      refine lv_iload hx hb dX2_take_44 (lv_at hl 0 rfl) ?_
      refine lv_iconst (v := nI 1) hx hb dX2_take_46 (by decide) ?_
      refine lv_iadd hx hb dX2_take_47 ?_
      refine y_ti (y := nI (2 * k + 1 + 1)) (nI_add (2 * k + 1) 1) ?_
      refine lv_aload_n hx hb dX2_take_48 rfl (lv_at hl 5 rfl) ?_
      refine va_get (D := (dC, dI)) (ci := 2) (v := .int (nI mm)) (C := RX2) (T := TX2) (N := 2) hx hb hts in_X2 hown hK hP 0 rfl rfl 1 (by decide) (hts _ q40) (fun _ h9 => h9) rfl dX2_take_49 ?_
      refine y_cge (i := 2 * k + 1 + 1) (j := mm) (tgt := 77) hx hb (rfl) (rfl) (by omega) (by omega) dX2_take_52 (by decide) (fun c52 => ?_) (fun c52 => ?_)
      · exact lpH_tail (cc := 2 * k + 1) hx hb hml hown hts hK hA hm hla hc hI huk hrow hkm (by omega) (fun i h1 h2 h3 => ⟨by omega, by rw [show i = 2 * k + 1 by omega]; exact Nat.le_refl _⟩) hP hD hS (lv_sub hl [0, 1, 2, 3, 4, 5] rfl) (fun hN ls hl => kx k u row _ _ ls hkm hN huk hrow hP hD hS hl) (fun row H locs ls h1 h2 h3 h4 h5 h6 h7 h8 => ih _ _ row H locs ls (by omega) (by omega) h3 (by rw [swp_p u (by omega)]; exact huk) h4 h5 h6 h7 h8)
      · have hu1 := (hI.1.1 (2 * k + 1) (by omega)).1
        have hu2 := (hI.1.1 (2 * k + 1 + 1) (by omega)).1
        refine lv_aload_n hx hb dX2_take_55 rfl (lv_at hl 5 rfl) ?_
        refine va_get (D := (dC, dI)) (ci := 2) (v := .ref b) (C := RX2) (T := TX2) (N := 2) hx hb hts in_X2 hown hK hP 0 rfl rfl 0 (by decide) (hts _ q39) (fun _ h9 => h9) rfl dX2_take_56 ?_
        refine lv_iload hx hb dX2_take_59 (lv_at hl 0 rfl) ?_
        refine lv_iconst (v := nI 1) hx hb dX2_take_61 (by decide) ?_
        refine lv_iadd hx hb dX2_take_62 ?_
        refine y_ti (y := nI (2 * k + 1 + 1)) (nI_add (2 * k + 1) 1) ?_
        refine y_iald (j := 2 * k + 1 + 1) hx hb hK hP 1 0 rfl rfl (rfl) (by omega) (by decide) dX2_take_63 ?_
        refine y_ti (y := nI (u (2 * k + 1 + 1))) (hrow _ (by omega) (by omega)) ?_
        refine lv_aload_n hx hb dX2_take_64 rfl (lv_at hl 5 rfl) ?_
        refine va_get (D := (dC, dI)) (ci := 2) (v := .ref b) (C := RX2) (T := TX2) (N := 2) hx hb hts in_X2 hown hK hP 0 rfl rfl 0 (by decide) (hts _ q39) (fun _ h9 => h9) rfl dX2_take_65 ?_
        refine lv_iload hx hb dX2_take_68 (lv_at hl 0 rfl) ?_
        refine y_iald (j := 2 * k + 1) hx hb hK hP 1 0 rfl rfl (rfl) (by omega) (by decide) dX2_take_70 ?_
        refine y_ti (y := nI (u (2 * k + 1))) (hrow _ (by omega) (by omega)) ?_
        refine y_cge (i := u (2 * k + 1 + 1)) (j := u (2 * k + 1)) (tgt := 77) hx hb (rfl) (rfl) (by omega) (by omega) dX2_take_71 (by decide) (fun c71 => ?_) (fun c71 => ?_)
        · exact lpH_tail (cc := 2 * k + 1) hx hb hml hown hts hK hA hm hla hc hI huk hrow hkm (by omega) (fun i h1 h2 h3 => ⟨by omega, by
            rcases (show i = 2 * k + 1 ∨ i = 2 * k + 1 + 1 by omega) with e | e
            · rw [e]; exact Nat.le_refl _
            · rw [e]; exact c71⟩) hP hD hS (lv_sub hl [0, 1, 2, 3, 4, 5] rfl) (fun hN ls hl => kx k u row _ _ ls hkm hN huk hrow hP hD hS hl) (fun row H locs ls h1 h2 h3 h4 h5 h6 h7 h8 => ih _ _ row H locs ls (by omega) (by omega) h3 (by rw [swp_p u (by omega)]; exact huk) h4 h5 h6 h7 h8)
        · refine lv_iinc (v := nI (2 * k + 1 + 1)) (lv' := [(5, .int (nI (2 * k + 1 + 1))), (4, .int (b2i true)), (3, .int (nI k)), (2, .int (nI la)), (1, .int (nI x)), (0, .ref a)]) hx hb dX2_take_74 hl (k := 0) rfl (nI_1 (2 * k + 1)) (by decide) rfl (fun ls hl => ?_)
          exact lpH_tail (cc := 2 * k + 1 + 1) hx hb hml hown hts hK hA hm hla hc hI huk hrow hkm (by omega) (fun i h1 h2 h3 => ⟨by omega, by
            rcases (show i = 2 * k + 1 ∨ i = 2 * k + 1 + 1 by omega) with e | e
            · rw [e]; exact Nat.le_of_lt c71
            · rw [e]; exact Nat.le_refl _⟩) hP hD hS (lv_sub hl [0, 1, 2, 3, 4, 5] rfl) (fun hN ls hl => kx k u row _ _ ls hkm hN huk hrow hP hD hS hl) (fun row H locs ls h1 h2 h3 h4 h5 h6 h7 h8 => ih _ _ row H locs ls (by omega) (by omega) h3 (by rw [swp_p u (by omega)]; exact huk) h4 h5 h6 h7 h8)
set_option maxHeartbeats 4000000 in
set_option maxRecDepth 100000 in
theorem metH_take (l : Launch) (dC : Nat → ClassId) (dI : Nat → Nat → Nat) (cI cZ : ClassId) (sz : Nat) (a b mm : Nat) (row : Nat → Int32) (S : Nat → Bool) (hR : hpR row (mm + 1) S) : Met l yX2_take (ws_ yX2_take cX2_take 6 (some .int)) rmZ (va_Pc [.ref a] (fun U => U.heap.size = sz ∧ va_P (dC, dI) vwCl (wH a b cI (nI (mm + 1)) row) U.heap ∧ va_K (dC, dI) vwCl (tyK cI cZ) U ∧ va_D (fun _ => True) (wH a b cI (nI (mm + 1)) row))) (va_Qi (fun (r : Int32) (row2 : Nat → Int32) => ∃ x, r = nI x ∧ x < 200 ∧ S x = true ∧ (∀ y, y < x → S y = false) ∧ hpR row2 mm (va_up S x false)) (fun row2 t => va_P (dC, dI) vwCl (wH a b cI (nI mm) row2) t.heap ∧ va_K (dC, dI) vwCl (tyK cI cZ) t ∧ va_D (va_A (wH a b cI (nI (mm + 1)) row) sz) (wH a b cI (nI mm) row2)) (va_A (wH a b cI (nI (mm + 1)) row) sz)) 0 0 (va_A (wH a b cI (nI (mm + 1)) row) sz) := by
  refine Met.ofW (cc := cX2_take) (maxL := 6) (ret := (some .int)) (by decide) rfl ?_
  intro p e s m args below meth c s₁ B hml hv
  obtain ⟨rfl, hsz, hP, hK, hD0⟩ := hv
  have hx := B.exec
  have hb := B.bytes
  have hr := B.returns
  have hlk := B.notSynchronized
  have hts := atoms_spec (ws := ws_ yX2_take cX2_take 6 (some .int)) B.pre
  have hts : ∀ w ∈ lw_all, w.before _ s = true := fun w h => hts w (List.mem_cons_of_mem _ h)
  have hown : s.vm.findClass RX2 = some m.cls := findClass_of_methodNamed B.named
  subst hsz
  have hD := hD0.self (sz := s.heap.size)
  generalize hAe : va_A (wH a b cI (nI (mm + 1)) row) s.heap.size = A at hD ⊢
  have hA : ∀ q : Nat, s.heap.size ≤ q → A q := fun q h => by rw [← hAe]; exact Or.inr h
  have hS : va_S A s.heap s.heap [] := va_S.rf
  have hl := lv_entry ([.ref a]) (n := 6) (Nat.le_of_ble_eq_true rfl)
  rw [lg_entry_eq]
  generalize (lg_sl ([.ref a]) ++ List.replicate (6 - (lg_sl ([.ref a])).length) Slot.unset).toArray = ls at hl ⊢
  have hl : lv_has ls 6 [(0, .ref a)] := hl
  have hM := hp_le hR
  obtain ⟨u, hrow, hN⟩ := hR
  obtain ⟨hI, hc, hx200, hSx, hmin⟩ := tak_start (S' := va_up S (u 0) false) hN (va_up_self S (u 0) false) (fun y q => va_up_ne S false q)
  have hla := (hN.2.1.1 mm (by omega)).1
  refine lv_aload_n hx hb dX2_take_0 rfl (lv_at hl 0 rfl) ?_
  refine va_get (D := (dC, dI)) (ci := 2) (v := .ref b) (C := RX2) (T := TX2) (N := 2) hx hb hts in_X2 hown hK hP 0 rfl rfl 0 (by decide) (hts _ q39) (fun _ h9 => h9) rfl dX2_take_1 ?_
  refine lv_iconst (v := nI 0) hx hb dX2_take_4 (by decide) ?_
  refine y_iald (j := 0) hx hb hK hP 1 0 rfl rfl (rfl) (by omega) (by decide) dX2_take_5 ?_
  refine y_ti (y := nI (u 0)) (hrow 0 (by omega)) ?_
  refine lv_istore_n (lv' := [(1, .int (nI (u 0))), (0, .ref a)]) hx hb dX2_take_6 rfl hl (by decide) rfl (fun ls hl => ?_)
  refine lv_aload_n hx hb dX2_take_7 rfl (lv_at hl 1 rfl) ?_
  refine lv_dup hx hb dX2_take_8 rfl ?_
  refine va_get (D := (dC, dI)) (ci := 2) (v := .int (nI (mm + 1))) (C := RX2) (T := TX2) (N := 2) hx hb hts in_X2 hown hK hP 0 rfl rfl 1 (by decide) (hts _ q40) (fun _ h9 => h9) rfl dX2_take_9 ?_
  refine lv_iconst (v := nI 1) hx hb dX2_take_12 (by decide) ?_
  refine lv_isub hx hb dX2_take_13 ?_
  refine y_ti (y := nI mm) (nI_pred mm) ?_
  refine va_put (D := (dC, dI)) (ci := 2) (v := .int (nI mm)) (ty := .int) (C := RX2) (T := TX2) (N := 2) hx hb hts in_X2 tyX2 tyX2_ok nmX2 hown hK hP hD hS 0 rfl rfl 1 (by decide) (hts _ q40) (fun _ h9 => h9) rfl (by decide +kernel) rfl rfl (Nat.le_of_ble_eq_true rfl) dX2_take_14 (fun H locs hP hD hS => ?_)
  have hP : va_P (dC, dI) vwCl (wH a b cI (nI mm) row) H := hP
  have hD : va_D A (wH a b cI (nI mm) row) := hD
  refine lv_aload_n hx hb dX2_take_17 rfl (lv_at hl 1 rfl) ?_
  refine va_get (D := (dC, dI)) (ci := 2) (v := .ref b) (C := RX2) (T := TX2) (N := 2) hx hb hts in_X2 hown hK hP 0 rfl rfl 0 (by decide) (hts _ q39) (fun _ h9 => h9) rfl dX2_take_18 ?_
  refine lv_aload_n hx hb dX2_take_21 rfl (lv_at hl 1 rfl) ?_
  refine va_get (D := (dC, dI)) (ci := 2) (v := .int (nI mm)) (C := RX2) (T := TX2) (N := 2) hx hb hts in_X2 hown hK hP 0 rfl rfl 1 (by decide) (hts _ q40) (fun _ h9 => h9) rfl dX2_take_22 ?_
  refine y_iald (j := mm) hx hb hK hP 1 0 rfl rfl (rfl) (by omega) (by decide) dX2_take_25 ?_
  refine y_ti (y := nI (u mm)) (hrow mm (by omega)) ?_
  refine lv_istore_n (lv' := [(2, .int (nI (u mm))), (1, .int (nI (u 0))), (0, .ref a)]) hx hb dX2_take_26 rfl hl (by decide) rfl (fun ls hl => ?_)
  refine lv_iconst (v := nI 0) hx hb dX2_take_27 (by decide) ?_
  refine lv_istore_n (lv' := [(3, .int (nI 0)), (2, .int (nI (u mm))), (1, .int (nI (u 0))), (0, .ref a)]) hx hb dX2_take_28 rfl hl (by decide) rfl (fun ls hl => ?_)
  refine lv_iconst (v := b2i true) hx hb dX2_take_29 (by decide) ?_
  refine lv_istore (lv' := [(4, .int (b2i true)), (3, .int (nI 0)), (2, .int (nI (u mm))), (1, .int (nI (u 0))), (0, .ref a)]) hx hb dX2_take_30 hl (by decide) rfl (fun ls hl => ?_)
  generalize hxe : u 0 = x at *
  generalize hlae : u mm = la at *
  refine lpH_take (x := x) hx hb hml hown hts hK hA (by omega) hla hc ?_ (mm + 1) 0 (va_up u 0 la) row _ _ ls (by omega) (by omega) hI (va_up_self u 0 la) (fun i h1 h2 => by rw [va_up_ne u la h2]; exact hrow i (by omega)) hP hD hS (lv_sub hl [0, 1, 2, 3, 4] rfl)
  intro k u row H locs ls hkm hN huk hrow hP hD hS hl
  refine lv_aload_n hx hb dX2_take_128 rfl (lv_at hl 3 rfl) ?_
  refine va_get (D := (dC, dI)) (ci := 2) (v := .ref b) (C := RX2) (T := TX2) (N := 2) hx hb hts in_X2 hown hK hP 0 rfl rfl 0 (by decide) (hts _ q39) (fun _ h9 => h9) rfl dX2_take_129 ?_
  refine lv_iload_n hx hb dX2_take_132 rfl (lv_at hl 0 rfl) ?_
  refine lv_iload_n hx hb dX2_take_133 rfl (lv_at hl 1 rfl) ?_
  refine y_iast (j := k) hx hb hK hP hD hS 1 0 rfl rfl (rfl) (by omega) (by decide) dX2_take_134 (fun H locs hP hD hS => ?_)
  have hP : va_P (dC, dI) vwCl (wH a b cI (nI mm) (upd row k (nI la))) H := hP
  have hD : va_D A (wH a b cI (nI mm) (upd row k (nI la))) := hD
  refine lv_iload_n hx hb dX2_take_135 rfl (lv_at hl 2 rfl) ?_
  have hR2 : hpR (upd row k (nI la)) mm (va_up S x false) := ⟨u, fun i h1 => by
    by_cases e : i = k
    · subst e
      rw [pk_us, huk]
    · rw [pk_un e]
      exact hrow i h1 e, hN⟩
  exact W.iret hx hb hr (fun t ht hW => ⟨⟨nI x, _, rfl, ⟨x, rfl, hx200, hSx, hmin, hR2⟩, by rw [ht]; exact hP, va_K.moved hW.alike hK, hD⟩, hS.F ht⟩) hS.2.2 dX2_take_136
end
section
/-! what the component's cells stand for -/
theorem ptB_neg {n : Nat} {x : Int32} (h : x < 0) : ptB n x = false := by
  unfold ptB
  rw [decide_eq_false (fun q => q h)]
  rfl
theorem ptB_ge {n : Nat} {x : Int32} (h : nI n ≤ x) : ptB n x = false := by
  unfold ptB
  rw [decide_eq_false (p := ¬ nI n ≤ x) (fun q => q h), Bool.and_false]
theorem ptB_in {n : Nat} {x : Int32} (h1 : ¬ x < 0) (h2 : ¬ nI n ≤ x) : ptB n x = true := by
  unfold ptB
  rw [decide_eq_true h1, decide_eq_true h2]
  rfl
section OPS
variable {n k : Nat} {E : Nat → Nat → Bool} {co wi : Nat → Nat} {g : Bool} {x y : Int32} {st : AS}
theorem okB_1 (h : x < 1) : okB x y = false := by
  unfold okB
  rw [decide_eq_false (p := ¬ x < 1) (fun q => q h)]
  rfl
theorem okB_2 (h : 200 < x) : okB x y = false := by
  unfold okB
  rw [decide_eq_false (p := ¬ 200 < x) (fun q => q h), Bool.and_false]
  rfl
theorem okB_3 (h : y < 1) : okB x y = false := by
  unfold okB
  rw [decide_eq_false (p := ¬ y < 1) (fun q => q h), Bool.and_false]
  rfl
theorem okB_4 (h : ¬ y ≤ 30) : okB x y = false := by
  unfold okB
  rw [decide_eq_false (p := ¬ 30 < y) (fun q => q (fa_of_nle h)), Bool.and_false]
theorem okB_in (h1 : ¬ x < 1) (h2 : ¬ 200 < x) (h3 : ¬ y < 1) (h4 : y ≤ 30) : okB x y = true := by
  have h5 : ¬ 30 < y := fun q => (fa_of_lt q).2.1 h4
  unfold okB
  rw [decide_eq_true h1, decide_eq_true h2, decide_eq_true h3, decide_eq_true h5]
  rfl
theorem begS_no (h : okB x y = false) : begS st x y = st := by
  unfold begS
  rw [h]
  rfl
theorem begS_nI {a b : Nat} (ha : a ≤ 200) (hb : b ≤ 30) (h : okB (nI a) (nI b) = true) : begS st (nI a) (nI b) = (a, b, fun _ _ => false, fun _ => 0, fun a => a, false) := by
  unfold begS
  rw [h, nI_clamp (by omega), nI_clamp (by omega)]
  rfl
theorem okJ_1 (h : ptB n x = false) : okJ (n, k, E, co, wi, g) x y = false := by
  unfold okJ
  simp [h]
theorem okJ_2 (h : ptB n y = false) : okJ (n, k, E, co, wi, g) x y = false := by
  unfold okJ
  simp [h]
theorem okJ_3 (h : x = y) : okJ (n, k, E, co, wi, g) x y = false := by
  unfold okJ
  simp [h]
theorem joinS_no (h : okJ st x y = false) : joinS st x y = st := by
  unfold joinS
  rw [h]
  rfl
theorem okC_1 (h : ptB n x = false) : okC (n, k, E, co, wi, g) x y = false := by
  unfold okC
  simp [h]
theorem okC_2 (h : y < 0) : okC (n, k, E, co, wi, g) x y = false := by
  unfold okC
  rw [decide_eq_false (p := ¬ y < 0) (fun q => q h), Bool.and_false]
  rfl
theorem okC_3 (h : ¬ y ≤ 1000000) : okC (n, k, E, co, wi, g) x y = false := by
  unfold okC
  rw [decide_eq_false (p := ¬ 1000000 < y) (fun q => q (fa_of_nle h)), Bool.and_false]
theorem okC_in (h : ptB n x = true) (h2 : ¬ y < 0) (h3 : y ≤ 1000000) : okC (n, k, E, co, wi, g) x y = true := by
  have h5 : ¬ 1000000 < y := fun q => (fa_of_lt q).2.1 h3
  unfold okC
  rw [decide_eq_true h2, decide_eq_true h5]
  simp [h]
theorem costS_no (h : okC st x y = false) : costS st x y = st := by
  unfold costS
  rw [h]
  rfl
theorem costS_nI {a b : Nat} (ha : a ≤ 200) (hb : b ≤ 1000000) (h : okC (n, k, E, co, wi, g) (nI a) (nI b) = true) : costS (n, k, E, co, wi, g) (nI a) (nI b) = (n, k, E, va_up co a b, wi, false) := by
  unfold costS
  rw [h, nI_clamp (by omega), nI_clamp (by omega)]
  rfl
theorem okW_1 (h : ptB n x = false) : okW (n, k, E, co, wi, g) x y = false := by
  unfold okW
  simp [h]
theorem okW_2 (h : ptB n y = false) : okW (n, k, E, co, wi, g) x y = false := by
  unfold okW
  simp [h]
theorem okW_in (h : ptB n x = true) (h2 : ptB n y = true) : okW (n, k, E, co, wi, g) x y = true := by
  unfold okW
  simp [h, h2]
theorem wishS_no (h : okW st x y = false) : wishS st x y = st := by
  unfold wishS
  rw [h]
  rfl
theorem wishS_nI {a b : Nat} (ha : a ≤ 200) (hb : b ≤ 200) (h : okW (n, k, E, co, wi, g) (nI a) (nI b) = true) : wishS (n, k, E, co, wi, g) (nI a) (nI b) = (n, k, E, co, va_up wi a b, false) := by
  unfold wishS
  rw [h, nI_clamp (by omega), nI_clamp (by omega)]
  rfl
theorem colA_1 (h : g = false) : colA (n, k, E, co, wi, g) x = -1 := by
  unfold colA
  simp [h]
theorem colA_2 (h : ptB n x = false) : colA (n, k, E, co, wi, g) x = -1 := by
  unfold colA
  simp [h]
theorem colA_nI {j : Nat} (hn : n ≤ 200) (hj : j < n) (h : g = true) : colA (n, k, E, co, wi, g) (nI j) = colS n k E co wi n j := by
  unfold colA
  rw [ptB_nI (by show n < 2 ^ 31; omega) hj, nI_clamp (by omega)]
  simp [h]
theorem takA_1 (h : g = false) : takA (n, k, E, co, wi, g) x = -1 := by
  unfold takA
  simp [h]
theorem takA_2 (h : ptB n x = false) : takA (n, k, E, co, wi, g) x = -1 := by
  unfold takA
  simp [h]
theorem takA_nI {j : Nat} (hn : n ≤ 200) (hj : j < n) (h : g = true) : takA (n, k, E, co, wi, g) (nI j) = nI (ordF n k E co j) := by
  unfold takA
  rw [ptB_nI (by show n < 2 ^ 31; omega) hj, nI_clamp (by omega)]
  simp [h]
theorem jndA_1 (h : ptB n x = false) : jndA (n, k, E, co, wi, g) x y = false := by
  unfold jndA
  simp [h]
theorem jndA_2 (h : ptB n y = false) : jndA (n, k, E, co, wi, g) x y = false := by
  unfold jndA
  simp [h]
theorem jndA_nI {i j : Nat} (hn : n ≤ 200) (hi : i < n) (hj : j < n) : jndA (n, k, E, co, wi, g) (nI i) (nI j) = E i j := by
  unfold jndA
  rw [ptB_nI (by show n < 2 ^ 31; omega) hi, ptB_nI (by show n < 2 ^ 31; omega) hj, nI_clamp (by omega), nI_clamp (by omega)]
  simp
theorem degA_1 (h : ptB n x = false) : degA (n, k, E, co, wi, g) x = -1 := by
  unfold degA
  simp [h]
theorem degA_nI {j : Nat} (hn : n ≤ 200) (hj : j < n) : degA (n, k, E, co, wi, g) (nI j) = nI (dg E n j) := by
  unfold degA
  rw [ptB_nI (by show n < 2 ^ 31; omega) hj, nI_clamp (by omega)]
  simp
end OPS
def CR (n k : Nat) (E : Nat → Nat → Bool) (co wi : Nat → Nat) (g : Bool) (bits cost wish degree order colour : Nat → Int32) : Prop :=
  bitsR bits E ∧ (∀ j, j < n → cost j = nI (co j)) ∧ (∀ j, j < n → wish j = nI (wi j)) ∧ (∀ j, j < n → degree j = nI (dg E n j)) ∧ (g = true → ∀ j, j < n → order j = nI (ordF n k E co j) ∧ colour j = colS n k E co wi n j)
def CW (D : va_G) (A : Nat → Prop) (ad : Nat → Nat) (cI cZ : ClassId) (st : AS) (t : State) : Prop :=
  ∃ (cnt : Int32) (bits row cost wish degree left isOut order colour : Nat → Int32), (va_P D vwCl (wC ad cI cZ (nI st.1) (nI st.2.1) (b2i st.2.2.2.2.2) cnt bits row cost wish degree left isOut order colour) t.heap ∧ va_K D vwCl (tyK cI cZ) t ∧ va_D A (wC ad cI cZ (nI st.1) (nI st.2.1) (b2i st.2.2.2.2.2) cnt bits row cost wish degree left isOut order colour)) ∧ CR st.1 st.2.1 st.2.2.1 st.2.2.2.1 st.2.2.2.2.1 st.2.2.2.2.2 bits cost wish degree order colour
theorem CW_mk {D : va_G} {A : Nat → Prop} {ad : Nat → Nat} {cI cZ : ClassId} {n k : Nat} {E : Nat → Nat → Bool} {co wi : Nat → Nat} {g : Bool} {t : State} {cnt : Int32} {bits row cost wish degree left isOut order colour : Nat → Int32} (hP : va_P D vwCl (wC ad cI cZ (nI n) (nI k) (b2i g) cnt bits row cost wish degree left isOut order colour) t.heap) (hK : va_K D vwCl (tyK cI cZ) t) (hD : va_D A (wC ad cI cZ (nI n) (nI k) (b2i g) cnt bits row cost wish degree left isOut order colour)) (h : CR n k E co wi g bits cost wish degree order colour) : CW D A ad cI cZ (n, k, E, co, wi, g) t :=
  ⟨cnt, bits, row, cost, wish, degree, left, isOut, order, colour, ⟨hP, hK, hD⟩, h⟩
theorem CW_at {D : va_G} {A : Nat → Prop} {ad : Nat → Nat} {cI cZ : ClassId} {st st2 : AS} {t : State} (e : st = st2) (h : CW D A ad cI cZ st2 t) : CW D A ad cI cZ st t := by rw [e]; exact h
end
section
/-! PointColours: the calls without give -/
set_option maxHeartbeats 4000000 in
set_option maxRecDepth 100000 in
theorem metC_isPoint (l : Launch) (dC : Nat → ClassId) (dI : Nat → Nat → Nat) (cI cZ : ClassId) (ad : Nat → Nat) (n : Nat) (cls giv cnt : Int32) (bits row cost wish degree left isOut order colour : Nat → Int32) (x : Int32) : Met l yX0_isPoint (ws_ yX0_isPoint cX0_isPoint 2 (some .boolean)) rmZ (va_Pc [.ref (ad 0), .int x] (fun U => va_P (dC, dI) vwCl (wC ad cI cZ (nI n) cls giv cnt bits row cost wish degree left isOut order colour) U.heap ∧ va_K (dC, dI) vwCl (tyK cI cZ) U)) (vp_Si (fun r => r = b2i (ptB n x))) 0 0 (fun _ => False) := by
  refine Met.ofW (cc := cX0_isPoint) (maxL := 2) (ret := (some .boolean)) (by decide) rfl ?_
  intro p e s m args below meth c s₁ B hml hv
  obtain ⟨rfl, hP, hK⟩ := hv
  have hx := B.exec
  have hb := B.bytes
  have hr := B.returns
  have hlk := B.notSynchronized
  have hts := atoms_spec (ws := ws_ yX0_isPoint cX0_isPoint 2 (some .boolean)) B.pre
  have hts : ∀ w ∈ lw_all, w.before _ s = true := fun w h => hts w (List.mem_cons_of_mem _ h)
  have hown : s.vm.findClass RX0 = some m.cls := findClass_of_methodNamed B.named
  have hl := lv_entry ([.ref (ad 0), .int x]) (n := 2) (Nat.le_of_ble_eq_true rfl)
  rw [lg_entry_eq]
  generalize (lg_sl ([.ref (ad 0), .int x]) ++ List.replicate (2 - (lg_sl ([.ref (ad 0), .int x])).length) Slot.unset).toArray = ls at hl ⊢
  have hl : lv_has ls 2 [(0, .ref (ad 0)), (1, .int x)] := hl
  refine lv_iload_n hx hb dX0_isPoint_0 rfl (lv_at hl 1 rfl) ?_
  refine lv_if_lt (tgt := 16) hx hb dX0_isPoint_1 (by decide) (fun c1 => ?_) (fun c1 => ?_)
  · refine lv_iconst (v := b2i false) hx hb dX0_isPoint_16 (by decide) ?_
    exact y_zretR (b := false) rfl hx hb hr hlk (by rw [ptB_neg c1]) dX0_isPoint_17
  · refine lv_iload_n hx hb dX0_isPoint_4 rfl (lv_at hl 1 rfl) ?_
    refine lv_aload_n hx hb dX0_isPoint_5 rfl (lv_at hl 0 rfl) ?_
    refine va_get (D := (dC, dI)) (ci := 0) (v := .int (nI n)) (C := RX0) (T := TX0) (N := 12) hx hb hts in_X0 hown hK hP 0 rfl rfl 0 (by decide) (hts _ q46) (fun _ h9 => h9) rfl dX0_isPoint_6 ?_
    refine lv_icmp_ge (tgt := 16) hx hb dX0_isPoint_9 (by decide) (fun c9 => ?_) (fun c9 => ?_)
    · refine lv_iconst (v := b2i false) hx hb dX0_isPoint_16 (by decide) ?_
      exact y_zretR (b := false) rfl hx hb hr hlk (by rw [ptB_ge c9]) dX0_isPoint_17
    · refine lv_iconst (v := b2i true) hx hb dX0_isPoint_12 (by decide) ?_
      refine lv_goto (tgt := 17) hx hb dX0_isPoint_13 (by decide) ?_
      exact y_zretR (b := true) rfl hx hb hr hlk (by rw [ptB_in c1 c9]) dX0_isPoint_17
set_option maxHeartbeats 4000000 in
set_option maxRecDepth 100000 in
theorem metC_colour (l : Launch) (dC : Nat → ClassId) (dI : Nat → Nat → Nat) (cI cZ : ClassId) (ad : Nat → Nat) (n k : Nat) (E : Nat → Nat → Bool) (co wi : Nat → Nat) (g : Bool) (cnt : Int32) (bits row cost wish degree left isOut order colour : Nat → Int32) (hok : okA n k E co wi) (hC : CR n k E co wi g bits cost wish degree order colour) (x : Int32) : Met l yX0_colour (ws_ yX0_colour cX0_colour 2 (some .int)) rmA (va_Pc [.ref (ad 0), .int x] (fun U => va_P (dC, dI) vwCl (wC ad cI cZ (nI n) (nI k) (b2i g) cnt bits row cost wish degree left isOut order colour) U.heap ∧ va_K (dC, dI) vwCl (tyK cI cZ) U)) (vp_Si (fun r => r = colA (n, k, E, co, wi, g) x)) 0 0 (fun _ => False) := by
  refine Met.ofW (cc := cX0_colour) (maxL := 2) (ret := (some .int)) (by decide) rfl ?_
  intro p e s m args below meth c s₁ B hml hv
  obtain ⟨rfl, hP, hK⟩ := hv
  have hx := B.exec
  have hb := B.bytes
  have hr := B.returns
  have hlk := B.notSynchronized
  have hts := atoms_spec (ws := ws_ yX0_colour cX0_colour 2 (some .int)) B.pre
  have hts : ∀ w ∈ lw_all, w.before _ s = true := fun w h => hts w (List.mem_cons_of_mem _ h)
  have hown : s.vm.findClass RX0 = some m.cls := findClass_of_methodNamed B.named
  have hl := lv_entry ([.ref (ad 0), .int x]) (n := 2) (Nat.le_of_ble_eq_true rfl)
  rw [lg_entry_eq]
  generalize (lg_sl ([.ref (ad 0), .int x]) ++ List.replicate (2 - (lg_sl ([.ref (ad 0), .int x])).length) Slot.unset).toArray = ls at hl ⊢
  have hl : lv_has ls 2 [(0, .ref (ad 0)), (1, .int x)] := hl
  have hC0 := hC
  have hok0 := hok
  obtain ⟨hEb, hco, hwi, hdg, hgv⟩ := hC
  obtain ⟨hn, hk, hEl, hEs, hEr, hcol, hwil⟩ := hok
  refine lv_aload_n hx hb dX0_colour_0 rfl (lv_at hl 0 rfl) ?_
  refine va_get (D := (dC, dI)) (ci := 0) (v := .int (b2i g)) (C := RX0) (T := TX0) (N := 12) hx hb hts in_X0 hown hK hP 0 rfl rfl 11 (by decide) (hts _ q57) (fun _ h9 => h9) rfl dX0_colour_1 ?_
  refine y_ifeq (b := g) (tgt := 24) hx hb (rfl) dX0_colour_4 (by decide) (fun c4 => ?_) (fun c4 => ?_)
  · refine lv_iconst (v := -1) hx hb dX0_colour_24 (by decide) ?_
    exact y_iretR hx hb hr hlk (colA_1 c4).symm dX0_colour_25
  · refine lv_aload_n hx hb dX0_colour_7 rfl (lv_at hl 0 rfl) ?_
    refine lv_iload_n hx hb dX0_colour_8 rfl (lv_at hl 1 rfl) ?_
    refine vp_callSi (W.runV (As := [.int x]) (rest := []) ⟨hx, hb, hml, hown, hts⟩ (metC_isPoint l dC dI cI cZ ad n (nI k) (b2i g) cnt bits row cost wish degree left isOut order colour x) (cwV 1 hts (lw_V q96 q98 qs0 q10 q99) rfl rfl rfl (by decide +kernel) ⟨Nat.le_of_ble_eq_true rfl, Nat.le_of_ble_eq_true rfl⟩) (y_preR hK hP (ci := 0) (q0 := 0) rfl rfl) rfl rfl hl.1 rfl (lv_room (Nat.le_of_ble_eq_true rfl)) dX0_colour_9 ⟨Nat.zero_le _, Nat.zero_le _⟩) (fun r9 hr9 => ?_)
    refine y_ti (y := b2i (ptB n x)) (hr9) ?_
    refine y_ifeq (b := ptB n x) (tgt := 24) hx hb (rfl) dX0_colour_12 (by decide) (fun c12 => ?_) (fun c12 => ?_)
    · refine lv_iconst (v := -1) hx hb dX0_colour_24 (by decide) ?_
      exact y_iretR hx hb hr hlk (colA_2 c12).symm dX0_colour_25
    · obtain ⟨j, hj, rfl⟩ := ptB_t (by omega) c12
      refine lv_aload_n hx hb dX0_colour_15 rfl (lv_at hl 0 rfl) ?_
      refine va_get (D := (dC, dI)) (ci := 0) (v := .ref (ad 11)) (C := RX0) (T := TX0) (N := 12) hx hb hts in_X0 hown hK hP 0 rfl rfl 10 (by decide) (hts _ q56) (fun _ h9 => h9) rfl dX0_colour_16 ?_
      refine lv_iload_n hx hb dX0_colour_19 rfl (lv_at hl 1 rfl) ?_
      refine y_iald (j := j) hx hb hK hP 11 0 rfl rfl (rfl) (by omega) (by decide) dX0_colour_20 ?_
      refine lv_goto (tgt := 25) hx hb dX0_colour_21 (by decide) ?_
      exact y_iretR hx hb hr hlk ((hgv c4 j hj).2.trans (colA_nI hn.2 hj c4).symm) dX0_colour_25
set_option maxHeartbeats 4000000 in
set_option maxRecDepth 100000 in
theorem metC_taken (l : Launch) (dC : Nat → ClassId) (dI : Nat → Nat → Nat) (cI cZ : ClassId) (ad : Nat → Nat) (n k : Nat) (E : Nat → Nat → Bool) (co wi : Nat → Nat) (g : Bool) (cnt : Int32) (bits row cost wish degree left isOut order colour : Nat → Int32) (hok : okA n k E co wi) (hC : CR n k E co wi g bits cost wish degree order colour) (x : Int32) : Met l yX0_taken (ws_ yX0_taken cX0_taken 2 (some .int)) rmA (va_Pc [.ref (ad 0), .int x] (fun U => va_P (dC, dI) vwCl (wC ad cI cZ (nI n) (nI k) (b2i g) cnt bits row cost wish degree left isOut order colour) U.heap ∧ va_K (dC, dI) vwCl (tyK cI cZ) U)) (vp_Si (fun r => r = takA (n, k, E, co, wi, g) x)) 0 0 (fun _ => False) := by
  refine Met.ofW (cc := cX0_taken) (maxL := 2) (ret := (some .int)) (by decide) rfl ?_
  intro p e s m args below meth c s₁ B hml hv
  obtain ⟨rfl, hP, hK⟩ := hv
  have hx := B.exec
  have hb := B.bytes
  have hr := B.returns
  have hlk := B.notSynchronized
  have hts := atoms_spec (ws := ws_ yX0_taken cX0_taken 2 (some .int)) B.pre
  have hts : ∀ w ∈ lw_all, w.before _ s = true := fun w h => hts w (List.mem_cons_of_mem _ h)
  have hown : s.vm.findClass RX0 = some m.cls := findClass_of_methodNamed B.named
  have hl := lv_entry ([.ref (ad 0), .int x]) (n := 2) (Nat.le_of_ble_eq_true rfl)
  rw [lg_entry_eq]
  generalize (lg_sl ([.ref (ad 0), .int x]) ++ List.replicate (2 - (lg_sl ([.ref (ad 0), .int x])).length) Slot.unset).toArray = ls at hl ⊢
  have hl : lv_has ls 2 [(0, .ref (ad 0)), (1, .int x)] := hl
  have hC0 := hC
  have hok0 := hok
  obtain ⟨hEb, hco, hwi, hdg, hgv⟩ := hC
  obtain ⟨hn, hk, hEl, hEs, hEr, hcol, hwil⟩ := hok
  refine lv_aload_n hx hb dX0_taken_0 rfl (lv_at hl 0 rfl) ?_
  refine va_get (D := (dC, dI)) (ci := 0) (v := .int (b2i g)) (C := RX0) (T := TX0) (N := 12) hx hb hts in_X0 hown hK hP 0 rfl rfl 11 (by decide) (hts _ q57) (fun _ h9 => h9) rfl dX0_taken_1 ?_
  refine y_ifeq (b := g) (tgt := 24) hx hb (rfl) dX0_taken_4 (by decide) (fun c4 => ?_) (fun c4 => ?_)
  · refine lv_iconst (v := -1) hx hb dX0_taken_24 (by decide) ?_
    exact y_iretR hx hb hr hlk (takA_1 c4).symm dX0_taken_25
  · refine lv_aload_n hx hb dX0_taken_7 rfl (lv_at hl 0 rfl) ?_
    refine lv_iload_n hx hb dX0_taken_8 rfl (lv_at hl 1 rfl) ?_
    refine vp_callSi (W.runV (As := [.int x]) (rest := []) ⟨hx, hb, hml, hown, hts⟩ (metC_isPoint l dC dI cI cZ ad n (nI k) (b2i g) cnt bits row cost wish degree left isOut order colour x) (cwV 1 hts (lw_V q96 q98 qs0 q10 q99) rfl rfl rfl (by decide +kernel) ⟨Nat.le_of_ble_eq_true rfl, Nat.le_of_ble_eq_true rfl⟩) (y_preR hK hP (ci := 0) (q0 := 0) rfl rfl) rfl rfl hl.1 rfl (lv_room (Nat.le_of_ble_eq_true rfl)) dX0_taken_9 ⟨Nat.zero_le _, Nat.zero_le _⟩) (fun r9 hr9 => ?_)
    refine y_ti (y := b2i (ptB n x)) (hr9) ?_
    refine y_ifeq (b := ptB n x) (tgt := 24) hx hb (rfl) dX0_taken_12 (by decide) (fun c12 => ?_) (fun c12 => ?_)
    · refine lv_iconst (v := -1) hx hb dX0_taken_24 (by decide) ?_
      exact y_iretR hx hb hr hlk (takA_2 c12).symm dX0_taken_25
    · obtain ⟨j, hj, rfl⟩ := ptB_t (by omega) c12
      refine lv_aload_n hx hb dX0_taken_15 rfl (lv_at hl 0 rfl) ?_
      refine va_get (D := (dC, dI)) (ci := 0) (v := .ref (ad 10)) (C := RX0) (T := TX0) (N := 12) hx hb hts in_X0 hown hK hP 0 rfl rfl 9 (by decide) (hts _ q55) (fun _ h9 => h9) rfl dX0_taken_16 ?_
      refine lv_iload_n hx hb dX0_taken_19 rfl (lv_at hl 1 rfl) ?_
      refine y_iald (j := j) hx hb hK hP 10 0 rfl rfl (rfl) (by omega) (by decide) dX0_taken_20 ?_
      refine lv_goto (tgt := 25) hx hb dX0_taken_21 (by decide) ?_
      exact y_iretR hx hb hr hlk ((hgv c4 j hj).1.trans (takA_nI hn.2 hj c4).symm) dX0_taken_25
set_option maxHeartbeats 4000000 in
set_option maxRecDepth 100000 in
theorem metC_degree (l : Launch) (dC : Nat → ClassId) (dI : Nat → Nat → Nat) (cI cZ : ClassId) (ad : Nat → Nat) (n k : Nat) (E : Nat → Nat → Bool) (co wi : Nat → Nat) (g : Bool) (cnt : Int32) (bits row cost wish degree left isOut order colour : Nat → Int32) (hok : okA n k E co wi) (hC : CR n k E co wi g bits cost wish degree order colour) (x : Int32) : Met l yX0_degree (ws_ yX0_degree cX0_degree 2 (some .int)) rmA (va_Pc [.ref (ad 0), .int x] (fun U => va_P (dC, dI) vwCl (wC ad cI cZ (nI n) (nI k) (b2i g) cnt bits row cost wish degree left isOut order colour) U.heap ∧ va_K (dC, dI) vwCl (tyK cI cZ) U)) (vp_Si (fun r => r = degA (n, k, E, co, wi, g) x)) 0 0 (fun _ => False) := by
  refine Met.ofW (cc := cX0_degree) (maxL := 2) (ret := (some .int)) (by decide) rfl ?_
  intro p e s m args below meth c s₁ B hml hv
  obtain ⟨rfl, hP, hK⟩ := hv
  have hx := B.exec
  have hb := B.bytes
  have hr := B.returns
  have hlk := B.notSynchronized
  have hts := atoms_spec (ws := ws_ yX0_degree cX0_degree 2 (some .int)) B.pre
  have hts : ∀ w ∈ lw_all, w.before _ s = true := fun w h => hts w (List.mem_cons_of_mem _ h)
  have hown : s.vm.findClass RX0 = some m.cls := findClass_of_methodNamed B.named
  have hl := lv_entry ([.ref (ad 0), .int x]) (n := 2) (Nat.le_of_ble_eq_true rfl)
  rw [lg_entry_eq]
  generalize (lg_sl ([.ref (ad 0), .int x]) ++ List.replicate (2 - (lg_sl ([.ref (ad 0), .int x])).length) Slot.unset).toArray = ls at hl ⊢
  have hl : lv_has ls 2 [(0, .ref (ad 0)), (1, .int x)] := hl
  have hC0 := hC
  have hok0 := hok
  obtain ⟨hEb, hco, hwi, hdg, hgv⟩ := hC
  obtain ⟨hn, hk, hEl, hEs, hEr, hcol, hwil⟩ := hok
  refine lv_aload_n hx hb dX0_degree_0 rfl (lv_at hl 0 rfl) ?_
  refine lv_iload_n hx hb dX0_degree_1 rfl (lv_at hl 1 rfl) ?_
  refine vp_callSi (W.runV (As := [.int x]) (rest := []) ⟨hx, hb, hml, hown, hts⟩ (metC_isPoint l dC dI cI cZ ad n (nI k) (b2i g) cnt bits row cost wish degree left isOut order colour x) (cwV 1 hts (lw_V q96 q98 qs0 q10 q99) rfl rfl rfl (by decide +kernel) ⟨Nat.le_of_ble_eq_true rfl, Nat.le_of_ble_eq_true rfl⟩) (y_preR hK hP (ci := 0) (q0 := 0) rfl rfl) rfl rfl hl.1 rfl (lv_room (Nat.le_of_ble_eq_true rfl)) dX0_degree_2 ⟨Nat.zero_le _, Nat.zero_le _⟩) (fun r2 hr2 => ?_)
  refine y_ti (y := b2i (ptB n x)) (hr2) ?_
  refine y_ifeq (b := ptB n x) (tgt := 17) hx hb (rfl) dX0_degree_5 (by decide) (fun c5 => ?_) (fun c5 => ?_)
  · refine lv_iconst (v := -1) hx hb dX0_degree_17 (by decide) ?_
    exact y_iretR hx hb hr hlk (degA_1 c5).symm dX0_degree_18
  · obtain ⟨j, hj, rfl⟩ := ptB_t (by omega) c5
    refine lv_aload_n hx hb dX0_degree_8 rfl (lv_at hl 0 rfl) ?_
    refine va_get (D := (dC, dI)) (ci := 0) (v := .ref (ad 7)) (C := RX0) (T := TX0) (N := 12) hx hb hts in_X0 hown hK hP 0 rfl rfl 6 (by decide) (hts _ q52) (fun _ h9 => h9) rfl dX0_degree_9 ?_
    refine lv_iload_n hx hb dX0_degree_12 rfl (lv_at hl 1 rfl) ?_
    refine y_iald (j := j) hx hb hK hP 7 0 rfl rfl (rfl) (by omega) (by decide) dX0_degree_13 ?_
    refine lv_goto (tgt := 18) hx hb dX0_degree_14 (by decide) ?_
    exact y_iretR hx hb hr hlk ((hdg j hj).trans (degA_nI hn.2 hj).symm) dX0_degree_18
set_option maxHeartbeats 4000000 in
set_option maxRecDepth 100000 in
theorem metC_strays (l : Launch) (dC : Nat → ClassId) (dI : Nat → Nat → Nat) (cI cZ : ClassId) (ad : Nat → Nat) (n k : Nat) (E : Nat → Nat → Bool) (co wi : Nat → Nat) (g : Bool) (cnt : Int32) (bits row cost wish degree left isOut order colour : Nat → Int32) (hok : okA n k E co wi) (hC : CR n k E co wi g bits cost wish degree order colour) : Met l yX0_strays (ws_ yX0_strays cX0_strays 1 (some .int)) rmZ (va_Pc [.ref (ad 0)] (fun U => va_P (dC, dI) vwCl (wC ad cI cZ (nI n) (nI k) (b2i g) cnt bits row cost wish degree left isOut order colour) U.heap ∧ va_K (dC, dI) vwCl (tyK cI cZ) U)) (vp_Si (fun r => r = nI 0)) 0 0 (fun _ => False) := by
  refine Met.ofW (cc := cX0_strays) (maxL := 1) (ret := (some .int)) (by decide) rfl ?_
  intro p e s m args below meth c s₁ B hml hv
  obtain ⟨rfl, hP, hK⟩ := hv
  have hx := B.exec
  have hb := B.bytes
  have hr := B.returns
  have hlk := B.notSynchronized
  have hts := atoms_spec (ws := ws_ yX0_strays cX0_strays 1 (some .int)) B.pre
  have hts : ∀ w ∈ lw_all, w.before _ s = true := fun w h => hts w (List.mem_cons_of_mem _ h)
  have hown : s.vm.findClass RX0 = some m.cls := findClass_of_methodNamed B.named
  have hl := lv_entry ([.ref (ad 0)]) (n := 1) (Nat.le_of_ble_eq_true rfl)
  rw [lg_entry_eq]
  generalize (lg_sl ([.ref (ad 0)]) ++ List.replicate (1 - (lg_sl ([.ref (ad 0)])).length) Slot.unset).toArray = ls at hl ⊢
  have hl : lv_has ls 1 [(0, .ref (ad 0))] := hl
  refine lv_iconst (v := nI 0) hx hb dX0_strays_0 (by decide) ?_
  exact y_iretR hx hb hr hlk rfl dX0_strays_1
set_option maxHeartbeats 4000000 in
set_option maxRecDepth 100000 in
theorem metC_joined (l : Launch) (dC : Nat → ClassId) (dI : Nat → Nat → Nat) (cI cZ : ClassId) (ad : Nat → Nat) (n k : Nat) (E : Nat → Nat → Bool) (co wi : Nat → Nat) (g : Bool) (cnt : Int32) (bits row cost wish degree left isOut order colour : Nat → Int32) (hok : okA n k E co wi) (hC : CR n k E co wi g bits cost wish degree order colour) (x y : Int32) : Met l yX0_joined (ws_ yX0_joined cX0_joined 3 (some .boolean)) rmA (va_Pc [.ref (ad 0), .int x, .int y] (fun U => va_P (dC, dI) vwCl (wC ad cI cZ (nI n) (nI k) (b2i g) cnt bits row cost wish degree left isOut order colour) U.heap ∧ va_K (dC, dI) vwCl (tyK cI cZ) U)) (vp_Si (fun r => r = b2i (jndA (n, k, E, co, wi, g) x y))) 0 0 (fun _ => False) := by
  refine Met.ofW (cc := cX0_joined) (maxL := 3) (ret := (some .boolean)) (by decide) rfl ?_
  intro p e s m args below meth c s₁ B hml hv
  obtain ⟨rfl, hP, hK⟩ := hv
  have hx := B.exec
  have hb := B.bytes
  have hr := B.returns
  have hlk := B.notSynchronized
  have hts := atoms_spec (ws := ws_ yX0_joined cX0_joined 3 (some .boolean)) B.pre
  have hts : ∀ w ∈ lw_all, w.before _ s = true := fun w h => hts w (List.mem_cons_of_mem _ h)
  have hown : s.vm.findClass RX0 = some m.cls := findClass_of_methodNamed B.named
  have hl := lv_entry ([.ref (ad 0), .int x, .int y]) (n := 3) (Nat.le_of_ble_eq_true rfl)
  rw [lg_entry_eq]
  generalize (lg_sl ([.ref (ad 0), .int x, .int y]) ++ List.replicate (3 - (lg_sl ([.ref (ad 0), .int x, .int y])).length) Slot.unset).toArray = ls at hl ⊢
  have hl : lv_has ls 3 [(0, .ref (ad 0)), (1, .int x), (2, .int y)] := hl
  have hC0 := hC
  have hok0 := hok
  obtain ⟨hEb, hco, hwi, hdg, hgv⟩ := hC
  obtain ⟨hn, hk, hEl, hEs, hEr, hcol, hwil⟩ := hok
  refine lv_aload_n hx hb dX0_joined_0 rfl (lv_at hl 0 rfl) ?_
  refine lv_iload_n hx hb dX0_joined_1 rfl (lv_at hl 1 rfl) ?_
  refine vp_callSi (W.runV (As := [.int x]) (rest := []) ⟨hx, hb, hml, hown, hts⟩ (metC_isPoint l dC dI cI cZ ad n (nI k) (b2i g) cnt bits row cost wish degree left isOut order colour x) (cwV 1 hts (lw_V q96 q98 qs0 q10 q99) rfl rfl rfl (by decide +kernel) ⟨Nat.le_of_ble_eq_true rfl, Nat.le_of_ble_eq_true rfl⟩) (y_preR hK hP (ci := 0) (q0 := 0) rfl rfl) rfl rfl hl.1 rfl (lv_room (Nat.le_of_ble_eq_true rfl)) dX0_joined_2 ⟨Nat.zero_le _, Nat.zero_le _⟩) (fun r2 hr2 => ?_)
  refine y_ti (y := b2i (ptB n x)) (hr2) ?_
  refine y_ifeq (b := ptB n x) (tgt := 32) hx hb (rfl) dX0_joined_5 (by decide) (fun c5 => ?_) (fun c5 => ?_)
  · refine lv_iconst (v := b2i false) hx hb dX0_joined_32 (by decide) ?_
    exact y_zretR (b := false) rfl hx hb hr hlk (by rw [jndA_1 c5]) dX0_joined_33
  · refine lv_aload_n hx hb dX0_joined_8 rfl (lv_at hl 0 rfl) ?_
    refine lv_iload_n hx hb dX0_joined_9 rfl (lv_at hl 2 rfl) ?_
    refine vp_callSi (W.runV (As := [.int y]) (rest := []) ⟨hx, hb, hml, hown, hts⟩ (metC_isPoint l dC dI cI cZ ad n (nI k) (b2i g) cnt bits row cost wish degree left isOut order colour y) (cwV 1 hts (lw_V q96 q98 qs0 q10 q99) rfl rfl rfl (by decide +kernel) ⟨Nat.le_of_ble_eq_true rfl, Nat.le_of_ble_eq_true rfl⟩) (y_preR hK hP (ci := 0) (q0 := 0) rfl rfl) rfl rfl hl.1 rfl (lv_room (Nat.le_of_ble_eq_true rfl)) dX0_joined_10 ⟨Nat.zero_le _, Nat.zero_le _⟩) (fun r10 hr10 => ?_)
    refine y_ti (y := b2i (ptB n y)) (hr10) ?_
    refine y_ifeq (b := ptB n y) (tgt := 32) hx hb (rfl) dX0_joined_13 (by decide) (fun c13 => ?_) (fun c13 => ?_)
    · refine lv_iconst (v := b2i false) hx hb dX0_joined_32 (by decide) ?_
      exact y_zretR (b := false) rfl hx hb hr hlk (by rw [jndA_2 c13]) dX0_joined_33
    · obtain ⟨i, hi, rfl⟩ := ptB_t (by omega) c5
      obtain ⟨j, hj, rfl⟩ := ptB_t (by omega) c13
      refine lv_aload_n hx hb dX0_joined_16 rfl (lv_at hl 0 rfl) ?_
      refine va_get (D := (dC, dI)) (ci := 0) (v := .ref (ad 1)) (C := RX0) (T := TX0) (N := 12) hx hb hts in_X0 hown hK hP 0 rfl rfl 2 (by decide) (hts _ q48) (fun _ h9 => h9) rfl dX0_joined_17 ?_
      refine lv_iload_n hx hb dX0_joined_20 rfl (lv_at hl 1 rfl) ?_
      refine lv_iload_n hx hb dX0_joined_21 rfl (lv_at hl 2 rfl) ?_
      have hPc := hP.sub (ws' := wE (ad 1) (ad 2) cI bits) [1, 2] rfl
      refine vp_callSi (W.runV (As := [.int (nI i), .int (nI j)]) (rest := []) ⟨hx, hb, hml, hown, hts⟩ (metE_has l dC dI cI cZ (ad 1) (ad 2) i j bits E hEb (by omega) (by omega)) (cwV 2 hts (lw_V q100 q101 q102 q11 q103) rfl rfl rfl (by decide +kernel) ⟨Nat.le_of_ble_eq_true rfl, Nat.le_of_ble_eq_true rfl⟩) (y_preR hK hPc (ci := 1) (q0 := 0) rfl rfl) rfl rfl hl.1 rfl (lv_room (Nat.le_of_ble_eq_true rfl)) dX0_joined_22 ⟨Nat.zero_le _, Nat.zero_le _⟩) (fun r22 hr22 => ?_)
      refine y_ti (y := b2i (E i j)) (hr22) ?_
      refine y_ifeq (b := E i j) (tgt := 32) hx hb (rfl) dX0_joined_25 (by decide) (fun c25 => ?_) (fun c25 => ?_)
      · refine lv_iconst (v := b2i false) hx hb dX0_joined_32 (by decide) ?_
        exact y_zretR (b := false) rfl hx hb hr hlk (by rw [jndA_nI hn.2 hi hj, c25]) dX0_joined_33
      · refine lv_iconst (v := b2i true) hx hb dX0_joined_28 (by decide) ?_
        refine lv_goto (tgt := 33) hx hb dX0_joined_29 (by decide) ?_
        exact y_zretR (b := true) rfl hx hb hr hlk (by rw [jndA_nI hn.2 hi hj, c25]) dX0_joined_33
set_option maxHeartbeats 4000000 in
set_option maxRecDepth 100000 in
theorem metC_cost (l : Launch) (dC : Nat → ClassId) (dI : Nat → Nat → Nat) (cI cZ : ClassId) (sz : Nat) (ad : Nat → Nat) (n k : Nat) (E : Nat → Nat → Bool) (co wi : Nat → Nat) (g : Bool) (cnt : Int32) (bits row cost wish degree left isOut order colour : Nat → Int32) (hok : okA n k E co wi) (hC : CR n k E co wi g bits cost wish degree order colour) (x y : Int32) : Met l yX0_cost (ws_ yX0_cost cX0_cost 3 (some .boolean)) rmA (va_Pc [.ref (ad 0), .int x, .int y] (fun U => U.heap.size = sz ∧ va_P (dC, dI) vwCl (wC ad cI cZ (nI n) (nI k) (b2i g) cnt bits row cost wish degree left isOut order colour) U.heap ∧ va_K (dC, dI) vwCl (tyK cI cZ) U ∧ va_D (fun _ => True) (wC ad cI cZ (nI n) (nI k) (b2i g) cnt bits row cost wish degree left isOut order colour))) (va_Qi (fun (r : Int32) (_ : Unit) => r = b2i (okC (n, k, E, co, wi, g) x y)) (fun _ t => CW (dC, dI) (va_A (wC ad cI cZ (nI n) (nI k) (b2i g) cnt bits row cost wish degree left isOut order colour) sz) ad cI cZ (costS (n, k, E, co, wi, g) x y) t) (va_A (wC ad cI cZ (nI n) (nI k) (b2i g) cnt bits row cost wish degree left isOut order colour) sz)) 0 0 (va_A (wC ad cI cZ (nI n) (nI k) (b2i g) cnt bits row cost wish degree left isOut order colour) sz) := by
  refine Met.ofW (cc := cX0_cost) (maxL := 3) (ret := (some .boolean)) (by decide) rfl ?_
  intro p e s m args below meth c s₁ B hml hv
  obtain ⟨rfl, hsz, hP, hK, hD0⟩ := hv
  have hx := B.exec
  have hb := B.bytes
  have hr := B.returns
  have hlk := B.notSynchronized
  have hts := atoms_spec (ws := ws_ yX0_cost cX0_cost 3 (some .boolean)) B.pre
  have hts : ∀ w ∈ lw_all, w.before _ s = true := fun w h => hts w (List.mem_cons_of_mem _ h)
  have hown : s.vm.findClass RX0 = some m.cls := findClass_of_methodNamed B.named
  subst hsz
  have hD := hD0.self (sz := s.heap.size)
  generalize hAe : va_A (wC ad cI cZ (nI n) (nI k) (b2i g) cnt bits row cost wish degree left isOut order colour) s.heap.size = A at hD ⊢
  have hA : ∀ q : Nat, s.heap.size ≤ q → A q := fun q h => by rw [← hAe]; exact Or.inr h
  have hS : va_S A s.heap s.heap [] := va_S.rf
  have hl := lv_entry ([.ref (ad 0), .int x, .int y]) (n := 3) (Nat.le_of_ble_eq_true rfl)
  rw [lg_entry_eq]
  generalize (lg_sl ([.ref (ad 0), .int x, .int y]) ++ List.replicate (3 - (lg_sl ([.ref (ad 0), .int x, .int y])).length) Slot.unset).toArray = ls at hl ⊢
  have hl : lv_has ls 3 [(0, .ref (ad 0)), (1, .int x), (2, .int y)] := hl
  have hC0 := hC
  have hok0 := hok
  obtain ⟨hEb, hco, hwi, hdg, hgv⟩ := hC
  obtain ⟨hn, hk, hEl, hEs, hEr, hcol, hwil⟩ := hok
  refine lv_aload_n hx hb dX0_cost_0 rfl (lv_at hl 0 rfl) ?_
  refine lv_iload_n hx hb dX0_cost_1 rfl (lv_at hl 1 rfl) ?_
  refine vp_callSi (W.runV (As := [.int x]) (rest := []) ⟨hx, hb, hml, hown, hts⟩ (metC_isPoint l dC dI cI cZ ad n (nI k) (b2i g) cnt bits row cost wish degree left isOut order colour x) (cwV 1 hts (lw_V q96 q98 qs0 q10 q99) rfl rfl rfl (by decide +kernel) ⟨Nat.le_of_ble_eq_true rfl, Nat.le_of_ble_eq_true rfl⟩) (y_preR hK hP (ci := 0) (q0 := 0) rfl rfl) rfl rfl hl.1 rfl (lv_room (Nat.le_of_ble_eq_true rfl)) dX0_cost_2 ⟨Nat.zero_le _, Nat.zero_le _⟩) (fun r2 hr2 => ?_)
  refine y_ti (y := b2i (ptB n x)) (hr2) ?_
  refine y_ifeq (b := ptB n x) (tgt := 18) hx hb (rfl) dX0_cost_5 (by decide) (fun c5 => ?_) (fun c5 => ?_)
  · refine lv_iconst (v := b2i false) hx hb dX0_cost_18 (by decide) ?_
    have hno := okC_1 (n := n) (k := k) (E := E) (co := co) (wi := wi) (g := g) (x := x) (y := y) c5
    exact W.zret (v := b2i false) hx hb hr (b2i_zn false) (fun t ht hW => ⟨⟨b2i false, (), rfl, by rw [hno], CW_at (costS_no hno) (CW_mk (by rw [ht]; exact hP) (va_K.moved hW.alike hK) hD (hC0))⟩, hS.F ht⟩) hS.2.2 dX0_cost_19
  · refine lv_iload_n hx hb dX0_cost_8 rfl (lv_at hl 2 rfl) ?_
    refine lv_if_lt (tgt := 18) hx hb dX0_cost_9 (by decide) (fun c9 => ?_) (fun c9 => ?_)
    · refine lv_iconst (v := b2i false) hx hb dX0_cost_18 (by decide) ?_
      have hno := okC_2 (n := n) (k := k) (E := E) (co := co) (wi := wi) (g := g) (x := x) (y := y) c9
      exact W.zret (v := b2i false) hx hb hr (b2i_zn false) (fun t ht hW => ⟨⟨b2i false, (), rfl, by rw [hno], CW_at (costS_no hno) (CW_mk (by rw [ht]; exact hP) (va_K.moved hW.alike hK) hD (hC0))⟩, hS.F ht⟩) hS.2.2 dX0_cost_19
    · refine lv_iload_n hx hb dX0_cost_12 rfl (lv_at hl 2 rfl) ?_
      refine lv_ldc (v := nI 1000000) hx hb hown (hts _ q112) dX0_cost_13 ?_
      refine lv_icmp_le (tgt := 20) hx hb dX0_cost_15 (by decide) (fun c15 => ?_) (fun c15 => ?_)
      · have hyes := okC_in (n := n) (k := k) (E := E) (co := co) (wi := wi) (g := g) c5 c9 c15
        obtain ⟨i, hi, rfl⟩ := ptB_t (by omega) c5
        obtain ⟨v, hv, rfl⟩ := rng_0 (M := 1000000) (by decide) c9 (fun q => (fa_of_lt q).2.1 c15)
        refine lv_aload_n hx hb dX0_cost_20 rfl (lv_at hl 0 rfl) ?_
        refine va_get (D := (dC, dI)) (ci := 0) (v := .ref (ad 5)) (C := RX0) (T := TX0) (N := 12) hx hb hts in_X0 hown hK hP 0 rfl rfl 4 (by decide) (hts _ q50) (fun _ h9 => h9) rfl dX0_cost_21 ?_
        refine lv_iload_n hx hb dX0_cost_24 rfl (lv_at hl 1 rfl) ?_
        refine lv_iload_n hx hb dX0_cost_25 rfl (lv_at hl 2 rfl) ?_
        refine y_iast (j := i) hx hb hK hP hD hS 5 0 rfl rfl (rfl) (by omega) (by decide) dX0_cost_26 (fun H locs hP hD hS => ?_)
        have hP : va_P (dC, dI) vwCl (wC ad cI cZ (nI n) (nI k) (b2i g) cnt bits row (upd cost i (nI v)) wish degree left isOut order colour) H := hP
        have hD : va_D A (wC ad cI cZ (nI n) (nI k) (b2i g) cnt bits row (upd cost i (nI v)) wish degree left isOut order colour) := hD
        refine lv_aload_n hx hb dX0_cost_27 rfl (lv_at hl 0 rfl) ?_
        refine lv_iconst (v := b2i false) hx hb dX0_cost_28 (by decide) ?_
        refine va_put (D := (dC, dI)) (ci := 0) (v := .int (b2i false)) (ty := .boolean) (C := RX0) (T := TX0) (N := 12) hx hb hts in_X0 tyX0 tyX0_ok nmX0 hown hK hP hD hS 0 rfl rfl 11 (by decide) (hts _ q57) (fun _ h9 => h9) rfl (by decide +kernel) (b2i_zn _) (b2i_fit _) (Nat.le_of_ble_eq_true rfl) dX0_cost_29 (fun H locs hP hD hS => ?_)
        have hP : va_P (dC, dI) vwCl (wC ad cI cZ (nI n) (nI k) (b2i false) cnt bits row (upd cost i (nI v)) wish degree left isOut order colour) H := hP
        have hD : va_D A (wC ad cI cZ (nI n) (nI k) (b2i false) cnt bits row (upd cost i (nI v)) wish degree left isOut order colour) := hD
        refine lv_iconst (v := b2i true) hx hb dX0_cost_32 (by decide) ?_
        have hC2 : CR n k E (va_up co i v) wi false bits (upd cost i (nI v)) wish degree order colour := ⟨hEb, fun j hj => by
          by_cases e : j = i
          · subst e
            rw [pk_us, va_up_self]
          · rw [pk_un e, va_up_ne co v e]
            exact hco j hj, hwi, hdg, fun q => by cases q⟩
        exact W.zret (v := b2i true) hx hb hr (b2i_zn true) (fun t ht hW => ⟨⟨b2i true, (), rfl, by rw [hyes], CW_at (costS_nI (by omega) hv hyes) (CW_mk (by rw [ht]; exact hP) (va_K.moved hW.alike hK) hD (hC2))⟩, hS.F ht⟩) hS.2.2 dX0_cost_33
      · refine lv_iconst (v := b2i false) hx hb dX0_cost_18 (by decide) ?_
        have hno := okC_3 (n := n) (k := k) (E := E) (co := co) (wi := wi) (g := g) (x := x) (y := y) c15
        exact W.zret (v := b2i false) hx hb hr (b2i_zn false) (fun t ht hW => ⟨⟨b2i false, (), rfl, by rw [hno], CW_at (costS_no hno) (CW_mk (by rw [ht]; exact hP) (va_K.moved hW.alike hK) hD (hC0))⟩, hS.F ht⟩) hS.2.2 dX0_cost_19
set_option maxHeartbeats 4000000 in
set_option maxRecDepth 100000 in
theorem metC_wish (l : Launch) (dC : Nat → ClassId) (dI : Nat → Nat → Nat) (cI cZ : ClassId) (sz : Nat) (ad : Nat → Nat) (n k : Nat) (E : Nat → Nat → Bool) (co wi : Nat → Nat) (g : Bool) (cnt : Int32) (bits row cost wish degree left isOut order colour : Nat → Int32) (hok : okA n k E co wi) (hC : CR n k E co wi g bits cost wish degree order colour) (x y : Int32) : Met l yX0_wish (ws_ yX0_wish cX0_wish 3 (some .boolean)) rmA (va_Pc [.ref (ad 0), .int x, .int y] (fun U => U.heap.size = sz ∧ va_P (dC, dI) vwCl (wC ad cI cZ (nI n) (nI k) (b2i g) cnt bits row cost wish degree left isOut order colour) U.heap ∧ va_K (dC, dI) vwCl (tyK cI cZ) U ∧ va_D (fun _ => True) (wC ad cI cZ (nI n) (nI k) (b2i g) cnt bits row cost wish degree left isOut order colour))) (va_Qi (fun (r : Int32) (_ : Unit) => r = b2i (okW (n, k, E, co, wi, g) x y)) (fun _ t => CW (dC, dI) (va_A (wC ad cI cZ (nI n) (nI k) (b2i g) cnt bits row cost wish degree left isOut order colour) sz) ad cI cZ (wishS (n, k, E, co, wi, g) x y) t) (va_A (wC ad cI cZ (nI n) (nI k) (b2i g) cnt bits row cost wish degree left isOut order colour) sz)) 0 0 (va_A (wC ad cI cZ (nI n) (nI k) (b2i g) cnt bits row cost wish degree left isOut order colour) sz) := by
  refine Met.ofW (cc := cX0_wish) (maxL := 3) (ret := (some .boolean)) (by decide) rfl ?_
  intro p e s m args below meth c s₁ B hml hv
  obtain ⟨rfl, hsz, hP, hK, hD0⟩ := hv
  have hx := B.exec
  have hb := B.bytes
  have hr := B.returns
  have hlk := B.notSynchronized
  have hts := atoms_spec (ws := ws_ yX0_wish cX0_wish 3 (some .boolean)) B.pre
  have hts : ∀ w ∈ lw_all, w.before _ s = true := fun w h => hts w (List.mem_cons_of_mem _ h)
  have hown : s.vm.findClass RX0 = some m.cls := findClass_of_methodNamed B.named
  subst hsz
  have hD := hD0.self (sz := s.heap.size)
  generalize hAe : va_A (wC ad cI cZ (nI n) (nI k) (b2i g) cnt bits row cost wish degree left isOut order colour) s.heap.size = A at hD ⊢
  have hA : ∀ q : Nat, s.heap.size ≤ q → A q := fun q h => by rw [← hAe]; exact Or.inr h
  have hS : va_S A s.heap s.heap [] := va_S.rf
  have hl := lv_entry ([.ref (ad 0), .int x, .int y]) (n := 3) (Nat.le_of_ble_eq_true rfl)
  rw [lg_entry_eq]
  generalize (lg_sl ([.ref (ad 0), .int x, .int y]) ++ List.replicate (3 - (lg_sl ([.ref (ad 0), .int x, .int y])).length) Slot.unset).toArray = ls at hl ⊢
  have hl : lv_has ls 3 [(0, .ref (ad 0)), (1, .int x), (2, .int y)] := hl
  have hC0 := hC
  have hok0 := hok
  obtain ⟨hEb, hco, hwi, hdg, hgv⟩ := hC
  obtain ⟨hn, hk, hEl, hEs, hEr, hcol, hwil⟩ := hok
  refine lv_aload_n hx hb dX0_wish_0 rfl (lv_at hl 0 rfl) ?_
  refine lv_iload_n hx hb dX0_wish_1 rfl (lv_at hl 1 rfl) ?_
  refine vp_callSi (W.runV (As := [.int x]) (rest := []) ⟨hx, hb, hml, hown, hts⟩ (metC_isPoint l dC dI cI cZ ad n (nI k) (b2i g) cnt bits row cost wish degree left isOut order colour x) (cwV 1 hts (lw_V q96 q98 qs0 q10 q99) rfl rfl rfl (by decide +kernel) ⟨Nat.le_of_ble_eq_true rfl, Nat.le_of_ble_eq_true rfl⟩) (y_preR hK hP (ci := 0) (q0 := 0) rfl rfl) rfl rfl hl.1 rfl (lv_room (Nat.le_of_ble_eq_true rfl)) dX0_wish_2 ⟨Nat.zero_le _, Nat.zero_le _⟩) (fun r2 hr2 => ?_)
  refine y_ti (y := b2i (ptB n x)) (hr2) ?_
  refine y_ifeq (b := ptB n x) (tgt := 16) hx hb (rfl) dX0_wish_5 (by decide) (fun c5 => ?_) (fun c5 => ?_)
  · refine lv_iconst (v := b2i false) hx hb dX0_wish_16 (by decide) ?_
    have hno := okW_1 (n := n) (k := k) (E := E) (co := co) (wi := wi) (g := g) (x := x) (y := y) c5
    exact W.zret (v := b2i false) hx hb hr (b2i_zn false) (fun t ht hW => ⟨⟨b2i false, (), rfl, by rw [hno], CW_at (wishS_no hno) (CW_mk (by rw [ht]; exact hP) (va_K.moved hW.alike hK) hD (hC0))⟩, hS.F ht⟩) hS.2.2 dX0_wish_17
  · refine lv_aload_n hx hb dX0_wish_8 rfl (lv_at hl 0 rfl) ?_
    refine lv_iload_n hx hb dX0_wish_9 rfl (lv_at hl 2 rfl) ?_
    refine vp_callSi (W.runV (As := [.int y]) (rest := []) ⟨hx, hb, hml, hown, hts⟩ (metC_isPoint l dC dI cI cZ ad n (nI k) (b2i g) cnt bits row cost wish degree left isOut order colour y) (cwV 1 hts (lw_V q96 q98 qs0 q10 q99) rfl rfl rfl (by decide +kernel) ⟨Nat.le_of_ble_eq_true rfl, Nat.le_of_ble_eq_true rfl⟩) (y_preR hK hP (ci := 0) (q0 := 0) rfl rfl) rfl rfl hl.1 rfl (lv_room (Nat.le_of_ble_eq_true rfl)) dX0_wish_10 ⟨Nat.zero_le _, Nat.zero_le _⟩) (fun r10 hr10 => ?_)
    refine y_ti (y := b2i (ptB n y)) (hr10) ?_
    refine y_ifne (b := ptB n y) (tgt := 18) hx hb (rfl) dX0_wish_13 (by decide) (fun c13 => ?_) (fun c13 => ?_)
    · have hyes := okW_in (n := n) (k := k) (E := E) (co := co) (wi := wi) (g := g) c5 c13
      obtain ⟨i, hi, rfl⟩ := ptB_t (by omega) c5
      obtain ⟨v, hv, rfl⟩ := ptB_t (by omega) c13
      refine lv_aload_n hx hb dX0_wish_18 rfl (lv_at hl 0 rfl) ?_
      refine va_get (D := (dC, dI)) (ci := 0) (v := .ref (ad 6)) (C := RX0) (T := TX0) (N := 12) hx hb hts in_X0 hown hK hP 0 rfl rfl 5 (by decide) (hts _ q51) (fun _ h9 => h9) rfl dX0_wish_19 ?_
      refine lv_iload_n hx hb dX0_wish_22 rfl (lv_at hl 1 rfl) ?_
      refine lv_iload_n hx hb dX0_wish_23 rfl (lv_at hl 2 rfl) ?_
      refine y_iast (j := i) hx hb hK hP hD hS 6 0 rfl rfl (rfl) (by omega) (by decide) dX0_wish_24 (fun H locs hP hD hS => ?_)
      have hP : va_P (dC, dI) vwCl (wC ad cI cZ (nI n) (nI k) (b2i g) cnt bits row cost (upd wish i (nI v)) degree left isOut order colour) H := hP
      have hD : va_D A (wC ad cI cZ (nI n) (nI k) (b2i g) cnt bits row cost (upd wish i (nI v)) degree left isOut order colour) := hD
      refine lv_aload_n hx hb dX0_wish_25 rfl (lv_at hl 0 rfl) ?_
      refine lv_iconst (v := b2i false) hx hb dX0_wish_26 (by decide) ?_
      refine va_put (D := (dC, dI)) (ci := 0) (v := .int (b2i false)) (ty := .boolean) (C := RX0) (T := TX0) (N := 12) hx hb hts in_X0 tyX0 tyX0_ok nmX0 hown hK hP hD hS 0 rfl rfl 11 (by decide) (hts _ q57) (fun _ h9 => h9) rfl (by decide +kernel) (b2i_zn _) (b2i_fit _) (Nat.le_of_ble_eq_true rfl) dX0_wish_27 (fun H locs hP hD hS => ?_)
      have hP : va_P (dC, dI) vwCl (wC ad cI cZ (nI n) (nI k) (b2i false) cnt bits row cost (upd wish i (nI v)) degree left isOut order colour) H := hP
      have hD : va_D A (wC ad cI cZ (nI n) (nI k) (b2i false) cnt bits row cost (upd wish i (nI v)) degree left isOut order colour) := hD
      refine lv_iconst (v := b2i true) hx hb dX0_wish_30 (by decide) ?_
      have hC2 : CR n k E co (va_up wi i v) false bits cost (upd wish i (nI v)) degree order colour := ⟨hEb, hco, fun j hj => by
        by_cases e : j = i
        · subst e
          rw [pk_us, va_up_self]
        · rw [pk_un e, va_up_ne wi v e]
          exact hwi j hj, hdg, fun q => by cases q⟩
      exact W.zret (v := b2i true) hx hb hr (b2i_zn true) (fun t ht hW => ⟨⟨b2i true, (), rfl, by rw [hyes], CW_at (wishS_nI (by omega) (by omega) hyes) (CW_mk (by rw [ht]; exact hP) (va_K.moved hW.alike hK) hD (hC2))⟩, hS.F ht⟩) hS.2.2 dX0_wish_31
    · refine lv_iconst (v := b2i false) hx hb dX0_wish_16 (by decide) ?_
      have hno := okW_2 (n := n) (k := k) (E := E) (co := co) (wi := wi) (g := g) (x := x) (y := y) c13
      exact W.zret (v := b2i false) hx hb hr (b2i_zn false) (fun t ht hW => ⟨⟨b2i false, (), rfl, by rw [hno], CW_at (wishS_no hno) (CW_mk (by rw [ht]; exact hP) (va_K.moved hW.alike hK) hD (hC0))⟩, hS.F ht⟩) hS.2.2 dX0_wish_17
set_option maxHeartbeats 4000000 in
set_option maxRecDepth 100000 in
theorem metC_join (l : Launch) (dC : Nat → ClassId) (dI : Nat → Nat → Nat) (cI cZ : ClassId) (sz : Nat) (ad : Nat → Nat) (n k : Nat) (E : Nat → Nat → Bool) (co wi : Nat → Nat) (g : Bool) (cnt : Int32) (bits row cost wish degree left isOut order colour : Nat → Int32) (hok : okA n k E co wi) (hC : CR n k E co wi g bits cost wish degree order colour) (x y : Int32) : Met l yX0_join (ws_ yX0_join cX0_join 3 (some .boolean)) rmA (va_Pc [.ref (ad 0), .int x, .int y] (fun U => U.heap.size = sz ∧ va_P (dC, dI) vwCl (wC ad cI cZ (nI n) (nI k) (b2i g) cnt bits row cost wish degree left isOut order colour) U.heap ∧ va_K (dC, dI) vwCl (tyK cI cZ) U ∧ va_D (fun _ => True) (wC ad cI cZ (nI n) (nI k) (b2i g) cnt bits row cost wish degree left isOut order colour))) (va_Qi (fun (r : Int32) (_ : Unit) => r = b2i (okJ (n, k, E, co, wi, g) x y)) (fun _ t => CW (dC, dI) (va_A (wC ad cI cZ (nI n) (nI k) (b2i g) cnt bits row cost wish degree left isOut order colour) sz) ad cI cZ (joinS (n, k, E, co, wi, g) x y) t) (va_A (wC ad cI cZ (nI n) (nI k) (b2i g) cnt bits row cost wish degree left isOut order colour) sz)) 0 0 (va_A (wC ad cI cZ (nI n) (nI k) (b2i g) cnt bits row cost wish degree left isOut order colour) sz) := by
  refine Met.ofW (cc := cX0_join) (maxL := 3) (ret := (some .boolean)) (by decide) rfl ?_
  intro p e s m args below meth c s₁ B hml hv
  obtain ⟨rfl, hsz, hP, hK, hD0⟩ := hv
  have hx := B.exec
  have hb := B.bytes
  have hr := B.returns
  have hlk := B.notSynchronized
  have hts := atoms_spec (ws := ws_ yX0_join cX0_join 3 (some .boolean)) B.pre
  have hts : ∀ w ∈ lw_all, w.before _ s = true := fun w h => hts w (List.mem_cons_of_mem _ h)
  have hown : s.vm.findClass RX0 = some m.cls := findClass_of_methodNamed B.named
  subst hsz
  have hD := hD0.self (sz := s.heap.size)
  generalize hAe : va_A (wC ad cI cZ (nI n) (nI k) (b2i g) cnt bits row cost wish degree left isOut order colour) s.heap.size = A at hD ⊢
  have hA : ∀ q : Nat, s.heap.size ≤ q → A q := fun q h => by rw [← hAe]; exact Or.inr h
  have hS : va_S A s.heap s.heap [] := va_S.rf
  have hl := lv_entry ([.ref (ad 0), .int x, .int y]) (n := 3) (Nat.le_of_ble_eq_true rfl)
  rw [lg_entry_eq]
  generalize (lg_sl ([.ref (ad 0), .int x, .int y]) ++ List.replicate (3 - (lg_sl ([.ref (ad 0), .int x, .int y])).length) Slot.unset).toArray = ls at hl ⊢
  have hl : lv_has ls 3 [(0, .ref (ad 0)), (1, .int x), (2, .int y)] := hl
  have hC0 := hC
  have hok0 := hok
  obtain ⟨hEb, hco, hwi, hdg, hgv⟩ := hC
  obtain ⟨hn, hk, hEl, hEs, hEr, hcol, hwil⟩ := hok
  refine lv_aload_n hx hb dX0_join_0 rfl (lv_at hl 0 rfl) ?_
  refine lv_iload_n hx hb dX0_join_1 rfl (lv_at hl 1 rfl) ?_
  refine vp_callSi (W.runV (As := [.int x]) (rest := []) ⟨hx, hb, hml, hown, hts⟩ (metC_isPoint l dC dI cI cZ ad n (nI k) (b2i g) cnt bits row cost wish degree left isOut order colour x) (cwV 1 hts (lw_V q96 q98 qs0 q10 q99) rfl rfl rfl (by decide +kernel) ⟨Nat.le_of_ble_eq_true rfl, Nat.le_of_ble_eq_true rfl⟩) (y_preR hK hP (ci := 0) (q0 := 0) rfl rfl) rfl rfl hl.1 rfl (lv_room (Nat.le_of_ble_eq_true rfl)) dX0_join_2 ⟨Nat.zero_le _, Nat.zero_le _⟩) (fun r2 hr2 => ?_)
  refine y_ti (y := b2i (ptB n x)) (hr2) ?_
  refine y_ifeq (b := ptB n x) (tgt := 33) hx hb (rfl) dX0_join_5 (by decide) (fun c5 => ?_) (fun c5 => ?_)
  · refine lv_iconst (v := b2i false) hx hb dX0_join_33 (by decide) ?_
    have hno := okJ_1 (n := n) (k := k) (E := E) (co := co) (wi := wi) (g := g) (x := x) (y := y) c5
    exact W.zret (v := b2i false) hx hb hr (b2i_zn false) (fun t ht hW => ⟨⟨b2i false, (), rfl, by rw [hno], CW_at (joinS_no hno) (CW_mk (by rw [ht]; exact hP) (va_K.moved hW.alike hK) hD (hC0))⟩, hS.F ht⟩) hS.2.2 dX0_join_34
  · refine lv_aload_n hx hb dX0_join_8 rfl (lv_at hl 0 rfl) ?_
    refine lv_iload_n hx hb dX0_join_9 rfl (lv_at hl 2 rfl) ?_
    refine vp_callSi (W.runV (As := [.int y]) (rest := []) ⟨hx, hb, hml, hown, hts⟩ (metC_isPoint l dC dI cI cZ ad n (nI k) (b2i g) cnt bits row cost wish degree left isOut order colour y) (cwV 1 hts (lw_V q96 q98 qs0 q10 q99) rfl rfl rfl (by decide +kernel) ⟨Nat.le_of_ble_eq_true rfl, Nat.le_of_ble_eq_true rfl⟩) (y_preR hK hP (ci := 0) (q0 := 0) rfl rfl) rfl rfl hl.1 rfl (lv_room (Nat.le_of_ble_eq_true rfl)) dX0_join_10 ⟨Nat.zero_le _, Nat.zero_le _⟩) (fun r10 hr10 => ?_)
    refine y_ti (y := b2i (ptB n y)) (hr10) ?_
    refine y_ifeq (b := ptB n y) (tgt := 33) hx hb (rfl) dX0_join_13 (by decide) (fun c13 => ?_) (fun c13 => ?_)
    · refine lv_iconst (v := b2i false) hx hb dX0_join_33 (by decide) ?_
      have hno := okJ_2 (n := n) (k := k) (E := E) (co := co) (wi := wi) (g := g) (x := x) (y := y) c13
      exact W.zret (v := b2i false) hx hb hr (b2i_zn false) (fun t ht hW => ⟨⟨b2i false, (), rfl, by rw [hno], CW_at (joinS_no hno) (CW_mk (by rw [ht]; exact hP) (va_K.moved hW.alike hK) hD (hC0))⟩, hS.F ht⟩) hS.2.2 dX0_join_34
    · refine lv_iload_n hx hb dX0_join_16 rfl (lv_at hl 1 rfl) ?_
      refine lv_iload_n hx hb dX0_join_17 rfl (lv_at hl 2 rfl) ?_
      refine lv_icmp_eq (tgt := 33) hx hb dX0_join_18 (by decide) (fun c18 => ?_) (fun c18 => ?_)
      · refine lv_iconst (v := b2i false) hx hb dX0_join_33 (by decide) ?_
        have hno := okJ_3 (n := n) (k := k) (E := E) (co := co) (wi := wi) (g := g) (x := x) (y := y) c18
        exact W.zret (v := b2i false) hx hb hr (b2i_zn false) (fun t ht hW => ⟨⟨b2i false, (), rfl, by rw [hno], CW_at (joinS_no hno) (CW_mk (by rw [ht]; exact hP) (va_K.moved hW.alike hK) hD (hC0))⟩, hS.F ht⟩) hS.2.2 dX0_join_34
      · obtain ⟨i, hi, rfl⟩ := ptB_t (by omega) c5
        obtain ⟨j, hj, rfl⟩ := ptB_t (by omega) c13
        have hij : i ≠ j := fun q => c18 (by rw [q])
        have hokJ := okJ_nI (st := (n, k, E, co, wi, g)) hn.2 hi hj hij
        refine lv_aload_n hx hb dX0_join_21 rfl (lv_at hl 0 rfl) ?_
        refine va_get (D := (dC, dI)) (ci := 0) (v := .ref (ad 1)) (C := RX0) (T := TX0) (N := 12) hx hb hts in_X0 hown hK hP 0 rfl rfl 2 (by decide) (hts _ q48) (fun _ h9 => h9) rfl dX0_join_22 ?_
        refine lv_iload_n hx hb dX0_join_25 rfl (lv_at hl 1 rfl) ?_
        refine lv_iload_n hx hb dX0_join_26 rfl (lv_at hl 2 rfl) ?_
        have hPc := hP.sub (ws' := wE (ad 1) (ad 2) cI bits) [1, 2] rfl
        refine vp_callSi (W.runV (As := [.int (nI i), .int (nI j)]) (rest := []) ⟨hx, hb, hml, hown, hts⟩ (metE_has l dC dI cI cZ (ad 1) (ad 2) i j bits E hEb (by omega) (by omega)) (cwV 2 hts (lw_V q100 q101 q102 q11 q103) rfl rfl rfl (by decide +kernel) ⟨Nat.le_of_ble_eq_true rfl, Nat.le_of_ble_eq_true rfl⟩) (y_preR hK hPc (ci := 1) (q0 := 0) rfl rfl) rfl rfl hl.1 rfl (lv_room (Nat.le_of_ble_eq_true rfl)) dX0_join_27 ⟨Nat.zero_le _, Nat.zero_le _⟩) (fun r27 hr27 => ?_)
        refine y_ti (y := b2i (E i j)) (hr27) ?_
        refine y_ifeq (b := E i j) (tgt := 35) hx hb (rfl) dX0_join_30 (by decide) (fun c30 => ?_) (fun c30 => ?_)
        · have hEij : E i j = false := c30
          refine lv_aload_n hx hb dX0_join_35 rfl (lv_at hl 0 rfl) ?_
          refine va_get (D := (dC, dI)) (ci := 0) (v := .ref (ad 1)) (C := RX0) (T := TX0) (N := 12) hx hb hts in_X0 hown hK hP 0 rfl rfl 2 (by decide) (hts _ q48) (fun _ h9 => h9) rfl dX0_join_36 ?_
          refine lv_iload_n hx hb dX0_join_39 rfl (lv_at hl 1 rfl) ?_
          refine lv_iload_n hx hb dX0_join_40 rfl (lv_at hl 2 rfl) ?_
          obtain ⟨H, hHe⟩ : ∃ H, H = s.heap := ⟨_, rfl⟩
          have hS : va_S A s.heap H [] := hHe ▸ hS
          have hP : va_P (dC, dI) vwCl (wC ad cI cZ (nI n) (nI k) (b2i g) cnt bits row cost wish degree left isOut order colour) H := hHe ▸ hP
          rw [← hHe]
          have hPc := hP.sub (ws' := wE (ad 1) (ad 2) cI bits) [1, 2] rfl
          have hDc := hD.sub (ws' := wE (ad 1) (ad 2) cI bits) [1, 2] (by decide) rfl
          have hFc := va_free (wc := wE (ad 1) (ad 2) cI bits) hD hS hA [1, 2] rfl
          refine va_callv (va_runV (As := [.int (nI i), .int (nI j)]) (rest := []) ⟨hx, hb, hml, hown, hts⟩ (metE_put l dC dI cI cZ H.size (ad 1) (ad 2) i j bits E hEb (by omega) (by omega)) (cwV 2 hts (lw_V q104 q105 q106 q11 q107) rfl rfl rfl (by decide +kernel) ⟨Nat.le_of_ble_eq_true rfl, Nat.le_of_ble_eq_true rfl⟩) (y_preW hK hPc hDc (ci := 1) (q0 := 0) rfl rfl) rfl rfl hl.1 rfl (lv_room (Nat.le_of_ble_eq_true rfl)) dX0_join_41 ⟨Nat.zero_le _, Nat.zero_le _⟩) hS (fun q _ h => hFc q h) hFc (fun bits1 t H1 locs ht hvm hbits1 hB hz1 hk1 hS => ?_)
          obtain ⟨hP1, hK1, hD1⟩ := hB
          rw [ht] at hP1
          obtain ⟨hP, hD⟩ := va_join (wr := wCe ad cI cZ (nI n) (nI k) (b2i g) cnt row cost wish degree left isOut order colour) (w1 := wE (ad 1) (ad 2) cI bits1) hP hD [1, 2] [0, 3, 4, 5, 6, 7, 8, 9, 10, 11] rfl rfl (by decide) (by decide) hk1 hFc hP1 hD1
          have hP := hP.sub (ws' := wC ad cI cZ (nI n) (nI k) (b2i g) cnt bits1 row cost wish degree left isOut order colour) [0, 10, 11, 1, 2, 3, 4, 5, 6, 7, 8, 9] rfl
          have hD := hD.sub (ws' := wC ad cI cZ (nI n) (nI k) (b2i g) cnt bits1 row cost wish degree left isOut order colour) [0, 10, 11, 1, 2, 3, 4, 5, 6, 7, 8, 9] (by decide) rfl
          generalize H1 = H at hP hS ⊢
          have hP : va_P (dC, dI) vwCl (wC ad cI cZ (nI n) (nI k) (b2i g) cnt bits1 row cost wish degree left isOut order colour) H := hP
          have hD : va_D A (wC ad cI cZ (nI n) (nI k) (b2i g) cnt bits1 row cost wish degree left isOut order colour) := hD
          refine lv_aload_n hx hb dX0_join_44 rfl (lv_at hl 0 rfl) ?_
          refine va_get (D := (dC, dI)) (ci := 0) (v := .ref (ad 1)) (C := RX0) (T := TX0) (N := 12) hx hb hts in_X0 hown hK hP 0 rfl rfl 2 (by decide) (hts _ q48) (fun _ h9 => h9) rfl dX0_join_45 ?_
          refine lv_iload_n hx hb dX0_join_48 rfl (lv_at hl 2 rfl) ?_
          refine lv_iload_n hx hb dX0_join_49 rfl (lv_at hl 1 rfl) ?_
          have hPc := hP.sub (ws' := wE (ad 1) (ad 2) cI bits1) [1, 2] rfl
          have hDc := hD.sub (ws' := wE (ad 1) (ad 2) cI bits1) [1, 2] (by decide) rfl
          have hFc := va_free (wc := wE (ad 1) (ad 2) cI bits1) hD hS hA [1, 2] rfl
          refine va_callv (va_runV (As := [.int (nI j), .int (nI i)]) (rest := []) ⟨hx, hb, hml, hown, hts⟩ (metE_put l dC dI cI cZ H.size (ad 1) (ad 2) j i bits1 (setE E i j) hbits1 (by omega) (by omega)) (cwV 2 hts (lw_V q104 q105 q106 q11 q107) rfl rfl rfl (by decide +kernel) ⟨Nat.le_of_ble_eq_true rfl, Nat.le_of_ble_eq_true rfl⟩) (y_preW hK hPc hDc (ci := 1) (q0 := 0) rfl rfl) rfl rfl hl.1 rfl (lv_room (Nat.le_of_ble_eq_true rfl)) dX0_join_50 ⟨Nat.zero_le _, Nat.zero_le _⟩) hS (fun q _ h => hFc q h) hFc (fun bits2 t H1 locs ht hvm hbits2 hB hz1 hk1 hS => ?_)
          obtain ⟨hP1, hK1, hD1⟩ := hB
          rw [ht] at hP1
          obtain ⟨hP, hD⟩ := va_join (wr := wCe ad cI cZ (nI n) (nI k) (b2i g) cnt row cost wish degree left isOut order colour) (w1 := wE (ad 1) (ad 2) cI bits2) hP hD [1, 2] [0, 3, 4, 5, 6, 7, 8, 9, 10, 11] rfl rfl (by decide) (by decide) hk1 hFc hP1 hD1
          have hP := hP.sub (ws' := wC ad cI cZ (nI n) (nI k) (b2i g) cnt bits2 row cost wish degree left isOut order colour) [0, 10, 11, 1, 2, 3, 4, 5, 6, 7, 8, 9] rfl
          have hD := hD.sub (ws' := wC ad cI cZ (nI n) (nI k) (b2i g) cnt bits2 row cost wish degree left isOut order colour) [0, 10, 11, 1, 2, 3, 4, 5, 6, 7, 8, 9] (by decide) rfl
          generalize H1 = H at hP hS ⊢
          have hP : va_P (dC, dI) vwCl (wC ad cI cZ (nI n) (nI k) (b2i g) cnt bits2 row cost wish degree left isOut order colour) H := hP
          have hD : va_D A (wC ad cI cZ (nI n) (nI k) (b2i g) cnt bits2 row cost wish degree left isOut order colour) := hD
          refine lv_aload_n hx hb dX0_join_53 rfl (lv_at hl 0 rfl) ?_
          refine va_get (D := (dC, dI)) (ci := 0) (v := .ref (ad 7)) (C := RX0) (T := TX0) (N := 12) hx hb hts in_X0 hown hK hP 0 rfl rfl 6 (by decide) (hts _ q52) (fun _ h9 => h9) rfl dX0_join_54 ?_
          refine lv_iload_n hx hb dX0_join_57 rfl (lv_at hl 1 rfl) ?_
          refine lv_dup2_11 hx hb dX0_join_58 rfl rfl ?_
          refine y_iald (j := i) hx hb hK hP 7 0 rfl rfl (rfl) (by omega) (by decide) dX0_join_59 ?_
          refine y_ti (y := nI (dg E n i)) (hdg i hi) ?_
          refine lv_iconst (v := nI 1) hx hb dX0_join_60 (by decide) ?_
          refine lv_iadd hx hb dX0_join_61 ?_
          refine y_ti (y := nI (dg E n i + 1)) (nI_add (dg E n i) 1) ?_
          refine y_iast (j := i) hx hb hK hP hD hS 7 0 rfl rfl (rfl) (by omega) (by decide) dX0_join_62 (fun H locs hP hD hS => ?_)
          have hP : va_P (dC, dI) vwCl (wC ad cI cZ (nI n) (nI k) (b2i g) cnt bits2 row cost wish (upd degree i (nI (dg E n i + 1))) left isOut order colour) H := hP
          have hD : va_D A (wC ad cI cZ (nI n) (nI k) (b2i g) cnt bits2 row cost wish (upd degree i (nI (dg E n i + 1))) left isOut order colour) := hD
          refine lv_aload_n hx hb dX0_join_63 rfl (lv_at hl 0 rfl) ?_
          refine va_get (D := (dC, dI)) (ci := 0) (v := .ref (ad 7)) (C := RX0) (T := TX0) (N := 12) hx hb hts in_X0 hown hK hP 0 rfl rfl 6 (by decide) (hts _ q52) (fun _ h9 => h9) rfl dX0_join_64 ?_
          refine lv_iload_n hx hb dX0_join_67 rfl (lv_at hl 2 rfl) ?_
          refine lv_dup2_11 hx hb dX0_join_68 rfl rfl ?_
          refine y_iald (j := j) hx hb hK hP 7 0 rfl rfl (rfl) (by omega) (by decide) dX0_join_69 ?_
          refine y_ti (y := nI (dg E n j)) (by rw [pk_un (Ne.symm hij)]; exact hdg j hj) ?_
          refine lv_iconst (v := nI 1) hx hb dX0_join_70 (by decide) ?_
          refine lv_iadd hx hb dX0_join_71 ?_
          refine y_ti (y := nI (dg E n j + 1)) (nI_add (dg E n j) 1) ?_
          refine y_iast (j := j) hx hb hK hP hD hS 7 0 rfl rfl (rfl) (by omega) (by decide) dX0_join_72 (fun H locs hP hD hS => ?_)
          have hP : va_P (dC, dI) vwCl (wC ad cI cZ (nI n) (nI k) (b2i g) cnt bits2 row cost wish (upd (upd degree i (nI (dg E n i + 1))) j (nI (dg E n j + 1))) left isOut order colour) H := hP
          have hD : va_D A (wC ad cI cZ (nI n) (nI k) (b2i g) cnt bits2 row cost wish (upd (upd degree i (nI (dg E n i + 1))) j (nI (dg E n j + 1))) left isOut order colour) := hD
          refine lv_aload_n hx hb dX0_join_73 rfl (lv_at hl 0 rfl) ?_
          refine lv_iconst (v := b2i false) hx hb dX0_join_74 (by decide) ?_
          refine va_put (D := (dC, dI)) (ci := 0) (v := .int (b2i false)) (ty := .boolean) (C := RX0) (T := TX0) (N := 12) hx hb hts in_X0 tyX0 tyX0_ok nmX0 hown hK hP hD hS 0 rfl rfl 11 (by decide) (hts _ q57) (fun _ h9 => h9) rfl (by decide +kernel) (b2i_zn _) (b2i_fit _) (Nat.le_of_ble_eq_true rfl) dX0_join_75 (fun H locs hP hD hS => ?_)
          have hP : va_P (dC, dI) vwCl (wC ad cI cZ (nI n) (nI k) (b2i false) cnt bits2 row cost wish (upd (upd degree i (nI (dg E n i + 1))) j (nI (dg E n j + 1))) left isOut order colour) H := hP
          have hD : va_D A (wC ad cI cZ (nI n) (nI k) (b2i false) cnt bits2 row cost wish (upd (upd degree i (nI (dg E n i + 1))) j (nI (dg E n j + 1))) left isOut order colour) := hD
          refine lv_iconst (v := b2i true) hx hb dX0_join_78 (by decide) ?_
          have hC2 : CR n k (setE (setE E i j) j i) co wi false bits2 cost wish (upd (upd degree i (nI (dg E n i + 1))) j (nI (dg E n j + 1))) order colour := ⟨hbits2, hco, hwi, fun v hv => by
            rw [dg_join hEs hi hj hij hEij]
            by_cases e : v = j
            · subst e
              rw [pk_us, if_pos (Or.inr rfl)]
            · rw [pk_un e]
              by_cases e2 : v = i
              · subst e2
                rw [pk_us, if_pos (Or.inl rfl)]
              · rw [pk_un e2, if_neg (fun q => q.elim e2 e)]
                exact hdg v hv, fun q => by cases q⟩
          have hyes : okJ (n, k, E, co, wi, g) (nI i) (nI j) = true := by rw [hokJ]; show (!E i j) = true; rw [hEij]; rfl
          exact W.zret (v := b2i true) hx hb hr (b2i_zn true) (fun t ht hW => ⟨⟨b2i true, (), rfl, by rw [hyes], CW_at (joinS_nI (st := (n, k, E, co, wi, g)) hn.2 hi hj hij hEij) (CW_mk (by rw [ht]; exact hP) (va_K.moved hW.alike hK) hD (hC2))⟩, hS.F ht⟩) hS.2.2 dX0_join_79
        · refine lv_iconst (v := b2i false) hx hb dX0_join_33 (by decide) ?_
          have hno : okJ (n, k, E, co, wi, g) (nI i) (nI j) = false := by rw [hokJ]; show (!E i j) = false; rw [c30]; rfl
          exact W.zret (v := b2i false) hx hb hr (b2i_zn false) (fun t ht hW => ⟨⟨b2i false, (), rfl, by rw [hno], CW_at (joinS_no hno) (CW_mk (by rw [ht]; exact hP) (va_K.moved hW.alike hK) hD (hC0))⟩, hS.F ht⟩) hS.2.2 dX0_join_34
end
section
/-! PointColours.begin -/
set_option maxHeartbeats 4000000 in
set_option maxRecDepth 100000 in
theorem lpC_begin {p : Program} {l : Launch} {e : Env} {R : Room} {s : State} {m : MethodId} {args : Array Value} {below : List Frame} {meth : Method} {c : Code} {Q : State → Prop} {dC : Nat → ClassId} {dI : Nat → Nat → Nat} {cI cZ : ClassId} {A : Nat → Prop} (hx : p.tables.exec = Jvm.exec) (hb : c.code = cX0_begin) (hml : c.maxLocals = 4) (hown : s.vm.findClass RX0 = some m.cls) (hts : ∀ w ∈ lw_all, w.before args s = true) (hK : va_K (dC, dI) vwCl (tyK cI cZ) s) (hA : ∀ q : Nat, s.heap.size ≤ q → A q) {ad : Nat → Nat} {n2 k2 : Nat} {giv cnt : Int32} {bits row left isOut order colour : Nat → Int32} (hn2 : n2 ≤ 200) (kx : ∀ (cost wish degree : Nat → Int32) (H : Heap) (locs : List Loc) (ls : Array Slot), (∀ j, j < n2 → cost j = nI 0 ∧ wish j = nI j ∧ degree j = nI 0) → va_P (dC, dI) vwCl (wC ad cI cZ (nI n2) (nI k2) giv cnt bits row cost wish degree left isOut order colour) H → va_D A (wC ad cI cZ (nI n2) (nI k2) giv cnt bits row cost wish degree left isOut order colour) → va_S A s.heap H locs → lv_has ls 4 [(0, .ref (ad 0))] → W p l e R s m args below meth c H locs 0 0 Q (F0 m 76 ls [])) : ∀ (nn i : Nat) (cost wish degree : Nat → Int32) (H : Heap) (locs : List Loc) (ls : Array Slot), i ≤ n2 → n2 + 1 ≤ i + nn → (∀ j, j < i → cost j = nI 0 ∧ wish j = nI j ∧ degree j = nI 0) → va_P (dC, dI) vwCl (wC ad cI cZ (nI n2) (nI k2) giv cnt bits row cost wish degree left isOut order colour) H → va_D A (wC ad cI cZ (nI n2) (nI k2) giv cnt bits row cost wish degree left isOut order colour) → va_S A s.heap H locs → lv_has ls 4 [(3, .int (nI i)), (0, .ref (ad 0)), (1, .int (nI n2)), (2, .int (nI k2))] → W p l e R s m args below meth c H locs 0 0 Q (F0 m 44 ls []) := by
  intro nn
  induction nn with
  | zero =>
    intro i cost wish degree H locs ls h1 h2
    exact absurd h2 (by omega)
  | succ nn ih =>
    intro i cost wish degree H locs ls hi hin hz hP hD hS hl
    refine lv_iload_n hx hb dX0_begin_44 rfl (lv_at hl 0 rfl) ?_
    refine lv_iload_n hx hb dX0_begin_45 rfl (lv_at hl 2 rfl) ?_
    refine y_cge (i := i) (j := n2) (tgt := 76) hx hb (rfl) (rfl) (by omega) (by omega) dX0_begin_46 (by decide) (fun c46 => ?_) (fun c46 => ?_)
    · exact kx cost wish degree H locs ls (fun j hj => hz j (by omega)) hP hD hS (lv_sub hl [1] rfl)
    · refine lv_aload_n hx hb dX0_begin_49 rfl (lv_at hl 1 rfl) ?_
      refine va_get (D := (dC, dI)) (ci := 0) (v := .ref (ad 5)) (C := RX0) (T := TX0) (N := 12) hx hb hts in_X0 hown hK hP 0 rfl rfl 4 (by decide) (hts _ q50) (fun _ h9 => h9) rfl dX0_begin_50 ?_
      refine lv_iload_n hx hb dX0_begin_53 rfl (lv_at hl 0 rfl) ?_
      refine lv_iconst (v := nI 0) hx hb dX0_begin_54 (by decide) ?_
      refine y_iast (j := i) hx hb hK hP hD hS 5 0 rfl rfl (rfl) (by omega) (by decide) dX0_begin_55 (fun H locs hP hD hS => ?_)
      have hP : va_P (dC, dI) vwCl (wC ad cI cZ (nI n2) (nI k2) giv cnt bits row (upd cost i (nI 0)) wish degree left isOut order colour) H := hP
      have hD : va_D A (wC ad cI cZ (nI n2) (nI k2) giv cnt bits row (upd cost i (nI 0)) wish degree left isOut order colour) := hD
      refine lv_aload_n hx hb dX0_begin_56 rfl (lv_at hl 1 rfl) ?_
      refine va_get (D := (dC, dI)) (ci := 0) (v := .ref (ad 6)) (C := RX0) (T := TX0) (N := 12) hx hb hts in_X0 hown hK hP 0 rfl rfl 5 (by decide) (hts _ q51) (fun _ h9 => h9) rfl dX0_begin_57 ?_
      refine lv_iload_n hx hb dX0_begin_60 rfl (lv_at hl 0 rfl) ?_
      refine lv_iload_n hx hb dX0_begin_61 rfl (lv_at hl 0 rfl) ?_
      refine y_iast (j := i) hx hb hK hP hD hS 6 0 rfl rfl (rfl) (by omega) (by decide) dX0_begin_62 (fun H locs hP hD hS => ?_)
      have hP : va_P (dC, dI) vwCl (wC ad cI cZ (nI n2) (nI k2) giv cnt bits row (upd cost i (nI 0)) (upd wish i (nI i)) degree left isOut order colour) H := hP
      have hD : va_D A (wC ad cI cZ (nI n2) (nI k2) giv cnt bits row (upd cost i (nI 0)) (upd wish i (nI i)) degree left isOut order colour) := hD
      refine lv_aload_n hx hb dX0_begin_63 rfl (lv_at hl 1 rfl) ?_
      refine va_get (D := (dC, dI)) (ci := 0) (v := .ref (ad 7)) (C := RX0) (T := TX0) (N := 12) hx hb hts in_X0 hown hK hP 0 rfl rfl 6 (by decide) (hts _ q52) (fun _ h9 => h9) rfl dX0_begin_64 ?_
      refine lv_iload_n hx hb dX0_begin_67 rfl (lv_at hl 0 rfl) ?_
      refine lv_iconst (v := nI 0) hx hb dX0_begin_68 (by decide) ?_
      refine y_iast (j := i) hx hb hK hP hD hS 7 0 rfl rfl (rfl) (by omega) (by decide) dX0_begin_69 (fun H locs hP hD hS => ?_)
      have hP : va_P (dC, dI) vwCl (wC ad cI cZ (nI n2) (nI k2) giv cnt bits row (upd cost i (nI 0)) (upd wish i (nI i)) (upd degree i (nI 0)) left isOut order colour) H := hP
      have hD : va_D A (wC ad cI cZ (nI n2) (nI k2) giv cnt bits row (upd cost i (nI 0)) (upd wish i (nI i)) (upd degree i (nI 0)) left isOut order colour) := hD
      refine lv_iinc (v := nI (i + 1)) (lv' := [(3, .int (nI (i + 1))), (0, .ref (ad 0)), (1, .int (nI n2)), (2, .int (nI k2))]) hx hb dX0_begin_70 hl (k := 0) rfl (nI_1 i) (by decide) rfl (fun ls hl => ?_)
      refine lv_goto (tgt := 44) hx hb dX0_begin_73 (by decide) ?_
      exact ih (i + 1) _ _ _ _ _ _ (by omega) (by omega) (fun j hj => by
        by_cases e : j = i
        · subst e
          exact ⟨pk_us, pk_us, pk_us⟩
        · rw [pk_un e, pk_un e, pk_un e]
          exact hz j (by omega)) hP hD hS (lv_sub hl [0, 1, 2, 3] rfl)
set_option maxHeartbeats 4000000 in
set_option maxRecDepth 100000 in
theorem metC_begin (l : Launch) (dC : Nat → ClassId) (dI : Nat → Nat → Nat) (cI cZ : ClassId) (sz : Nat) (ad : Nat → Nat) (n k : Nat) (E : Nat → Nat → Bool) (co wi : Nat → Nat) (g : Bool) (cnt : Int32) (bits row cost wish degree left isOut order colour : Nat → Int32) (hok : okA n k E co wi) (hC : CR n k E co wi g bits cost wish degree order colour) (x y : Int32) : Met l yX0_begin (ws_ yX0_begin cX0_begin 4 (some .boolean)) rmA (va_Pc [.ref (ad 0), .int x, .int y] (fun U => U.heap.size = sz ∧ va_P (dC, dI) vwCl (wC ad cI cZ (nI n) (nI k) (b2i g) cnt bits row cost wish degree left isOut order colour) U.heap ∧ va_K (dC, dI) vwCl (tyK cI cZ) U ∧ va_D (fun _ => True) (wC ad cI cZ (nI n) (nI k) (b2i g) cnt bits row cost wish degree left isOut order colour))) (va_Qi (fun (r : Int32) (_ : Unit) => r = b2i (okB x y)) (fun _ t => CW (dC, dI) (va_A (wC ad cI cZ (nI n) (nI k) (b2i g) cnt bits row cost wish degree left isOut order colour) sz) ad cI cZ (begS (n, k, E, co, wi, g) x y) t) (va_A (wC ad cI cZ (nI n) (nI k) (b2i g) cnt bits row cost wish degree left isOut order colour) sz)) 0 0 (va_A (wC ad cI cZ (nI n) (nI k) (b2i g) cnt bits row cost wish degree left isOut order colour) sz) := by
  refine Met.ofW (cc := cX0_begin) (maxL := 4) (ret := (some .boolean)) (by decide) rfl ?_
  intro p e s m args below meth c s₁ B hml hv
  obtain ⟨rfl, hsz, hP, hK, hD0⟩ := hv
  have hx := B.exec
  have hb := B.bytes
  have hr := B.returns
  have hlk := B.notSynchronized
  have hts := atoms_spec (ws := ws_ yX0_begin cX0_begin 4 (some .boolean)) B.pre
  have hts : ∀ w ∈ lw_all, w.before _ s = true := fun w h => hts w (List.mem_cons_of_mem _ h)
  have hown : s.vm.findClass RX0 = some m.cls := findClass_of_methodNamed B.named
  subst hsz
  have hD := hD0.self (sz := s.heap.size)
  generalize hAe : va_A (wC ad cI cZ (nI n) (nI k) (b2i g) cnt bits row cost wish degree left isOut order colour) s.heap.size = A at hD ⊢
  have hA : ∀ q : Nat, s.heap.size ≤ q → A q := fun q h => by rw [← hAe]; exact Or.inr h
  have hS : va_S A s.heap s.heap [] := va_S.rf
  have hl := lv_entry ([.ref (ad 0), .int x, .int y]) (n := 4) (Nat.le_of_ble_eq_true rfl)
  rw [lg_entry_eq]
  generalize (lg_sl ([.ref (ad 0), .int x, .int y]) ++ List.replicate (4 - (lg_sl ([.ref (ad 0), .int x, .int y])).length) Slot.unset).toArray = ls at hl ⊢
  have hl : lv_has ls 4 [(0, .ref (ad 0)), (1, .int x), (2, .int y)] := hl
  have hC0 := hC
  refine lv_iload_n hx hb dX0_begin_0 rfl (lv_at hl 1 rfl) ?_
  refine lv_iconst (v := nI 1) hx hb dX0_begin_1 (by decide) ?_
  refine lv_icmp_lt (tgt := 23) hx hb dX0_begin_2 (by decide) (fun c2 => ?_) (fun c2 => ?_)
  · refine lv_iconst (v := b2i false) hx hb dX0_begin_23 (by decide) ?_
    have hno := okB_1 (x := x) (y := y) c2
    exact W.zret (v := b2i false) hx hb hr (b2i_zn false) (fun t ht hW => ⟨⟨b2i false, (), rfl, by rw [hno], CW_at (begS_no hno) (CW_mk (by rw [ht]; exact hP) (va_K.moved hW.alike hK) hD (hC0))⟩, hS.F ht⟩) hS.2.2 dX0_begin_24
  · refine lv_iload_n hx hb dX0_begin_5 rfl (lv_at hl 1 rfl) ?_
    refine lv_sipush (v := nI 200) hx hb dX0_begin_6 (by decide) ?_
    refine lv_icmp_gt (tgt := 23) hx hb dX0_begin_9 (by decide) (fun c9 => ?_) (fun c9 => ?_)
    · refine lv_iconst (v := b2i false) hx hb dX0_begin_23 (by decide) ?_
      have hno := okB_2 (x := x) (y := y) c9
      exact W.zret (v := b2i false) hx hb hr (b2i_zn false) (fun t ht hW => ⟨⟨b2i false, (), rfl, by rw [hno], CW_at (begS_no hno) (CW_mk (by rw [ht]; exact hP) (va_K.moved hW.alike hK) hD (hC0))⟩, hS.F ht⟩) hS.2.2 dX0_begin_24
    · refine lv_iload_n hx hb dX0_begin_12 rfl (lv_at hl 2 rfl) ?_
      refine lv_iconst (v := nI 1) hx hb dX0_begin_13 (by decide) ?_
      refine lv_icmp_lt (tgt := 23) hx hb dX0_begin_14 (by decide) (fun c14 => ?_) (fun c14 => ?_)
      · refine lv_iconst (v := b2i false) hx hb dX0_begin_23 (by decide) ?_
        have hno := okB_3 (x := x) (y := y) c14
        exact W.zret (v := b2i false) hx hb hr (b2i_zn false) (fun t ht hW => ⟨⟨b2i false, (), rfl, by rw [hno], CW_at (begS_no hno) (CW_mk (by rw [ht]; exact hP) (va_K.moved hW.alike hK) hD (hC0))⟩, hS.F ht⟩) hS.2.2 dX0_begin_24
      · refine lv_iload_n hx hb dX0_begin_17 rfl (lv_at hl 2 rfl) ?_
        refine lv_bipush (v := nI 30) hx hb dX0_begin_18 (by decide) ?_
        refine lv_icmp_le (tgt := 25) hx hb dX0_begin_20 (by decide) (fun c20 => ?_) (fun c20 => ?_)
        · have hyes := okB_in (x := x) (y := y) c2 c9 c14 c20
          obtain ⟨n2, k2, rfl, rfl, hn2, hk2⟩ := okB_t hyes
          refine lv_aload_n hx hb dX0_begin_25 rfl (lv_at hl 0 rfl) ?_
          refine lv_iload_n hx hb dX0_begin_26 rfl (lv_at hl 1 rfl) ?_
          refine va_put (D := (dC, dI)) (ci := 0) (v := .int (nI n2)) (ty := .int) (C := RX0) (T := TX0) (N := 12) hx hb hts in_X0 tyX0 tyX0_ok nmX0 hown hK hP hD hS 0 rfl rfl 0 (by decide) (hts _ q46) (fun _ h9 => h9) rfl (by decide +kernel) rfl rfl (Nat.le_of_ble_eq_true rfl) dX0_begin_27 (fun H locs hP hD hS => ?_)
          have hP : va_P (dC, dI) vwCl (wC ad cI cZ (nI n2) (nI k) (b2i g) cnt bits row cost wish degree left isOut order colour) H := hP
          have hD : va_D A (wC ad cI cZ (nI n2) (nI k) (b2i g) cnt bits row cost wish degree left isOut order colour) := hD
          refine lv_aload_n hx hb dX0_begin_30 rfl (lv_at hl 0 rfl) ?_
          refine lv_iload_n hx hb dX0_begin_31 rfl (lv_at hl 2 rfl) ?_
          refine va_put (D := (dC, dI)) (ci := 0) (v := .int (nI k2)) (ty := .int) (C := RX0) (T := TX0) (N := 12) hx hb hts in_X0 tyX0 tyX0_ok nmX0 hown hK hP hD hS 0 rfl rfl 1 (by decide) (hts _ q47) (fun _ h9 => h9) rfl (by decide +kernel) rfl rfl (Nat.le_of_ble_eq_true rfl) dX0_begin_32 (fun H locs hP hD hS => ?_)
          have hP : va_P (dC, dI) vwCl (wC ad cI cZ (nI n2) (nI k2) (b2i g) cnt bits row cost wish degree left isOut order colour) H := hP
          have hD : va_D A (wC ad cI cZ (nI n2) (nI k2) (b2i g) cnt bits row cost wish degree left isOut order colour) := hD
          refine lv_aload_n hx hb dX0_begin_35 rfl (lv_at hl 0 rfl) ?_
          refine va_get (D := (dC, dI)) (ci := 0) (v := .ref (ad 1)) (C := RX0) (T := TX0) (N := 12) hx hb hts in_X0 hown hK hP 0 rfl rfl 2 (by decide) (hts _ q48) (fun _ h9 => h9) rfl dX0_begin_36 ?_
          have hPc := hP.sub (ws' := wE (ad 1) (ad 2) cI bits) [1, 2] rfl
          have hDc := hD.sub (ws' := wE (ad 1) (ad 2) cI bits) [1, 2] (by decide) rfl
          have hFc := va_free (wc := wE (ad 1) (ad 2) cI bits) hD hS hA [1, 2] rfl
          refine va_callv (va_runV (As := []) (rest := []) ⟨hx, hb, hml, hown, hts⟩ (metE_clear l dC dI cI cZ H.size (ad 1) (ad 2) bits) (cwV 0 hts (lw_V q88 q89 q90 q11 q91) rfl rfl rfl (by decide +kernel) ⟨Nat.le_of_ble_eq_true rfl, Nat.le_of_ble_eq_true rfl⟩) (y_preW hK hPc hDc (ci := 1) (q0 := 0) rfl rfl) rfl rfl hl.1 rfl (lv_room (Nat.le_of_ble_eq_true rfl)) dX0_begin_39 ⟨Nat.zero_le _, Nat.zero_le _⟩) hS (fun q _ h => hFc q h) hFc (fun bits1 t H1 locs ht hvm hbits1 hB hz1 hk1 hS => ?_)
          obtain ⟨hP1, hK1, hD1⟩ := hB
          rw [ht] at hP1
          obtain ⟨hP, hD⟩ := va_join (wr := wCe ad cI cZ (nI n2) (nI k2) (b2i g) cnt row cost wish degree left isOut order colour) (w1 := wE (ad 1) (ad 2) cI bits1) hP hD [1, 2] [0, 3, 4, 5, 6, 7, 8, 9, 10, 11] rfl rfl (by decide) (by decide) hk1 hFc hP1 hD1
          have hP := hP.sub (ws' := wC ad cI cZ (nI n2) (nI k2) (b2i g) cnt bits1 row cost wish degree left isOut order colour) [0, 10, 11, 1, 2, 3, 4, 5, 6, 7, 8, 9] rfl
          have hD := hD.sub (ws' := wC ad cI cZ (nI n2) (nI k2) (b2i g) cnt bits1 row cost wish degree left isOut order colour) [0, 10, 11, 1, 2, 3, 4, 5, 6, 7, 8, 9] (by decide) rfl
          generalize H1 = H at hP hS ⊢
          have hP : va_P (dC, dI) vwCl (wC ad cI cZ (nI n2) (nI k2) (b2i g) cnt bits1 row cost wish degree left isOut order colour) H := hP
          have hD : va_D A (wC ad cI cZ (nI n2) (nI k2) (b2i g) cnt bits1 row cost wish degree left isOut order colour) := hD
          refine lv_iconst (v := nI 0) hx hb dX0_begin_42 (by decide) ?_
          refine lv_istore_n (lv' := [(3, .int (nI 0)), (0, .ref (ad 0)), (1, .int (nI n2)), (2, .int (nI k2))]) hx hb dX0_begin_43 rfl hl (by decide) rfl (fun ls hl => ?_)
          refine lpC_begin hx hb hml hown hts hK hA hn2.2 ?_ (n2 + 1) 0 cost wish degree _ _ ls (by omega) (by omega) (fun j hj => absurd hj (Nat.not_lt_zero j)) hP hD hS (lv_sub hl [0, 1, 2, 3] rfl)
          intro cost wish degree H locs ls hz hP hD hS hl
          refine lv_aload_n hx hb dX0_begin_76 rfl (lv_at hl 0 rfl) ?_
          refine lv_iconst (v := b2i false) hx hb dX0_begin_77 (by decide) ?_
          refine va_put (D := (dC, dI)) (ci := 0) (v := .int (b2i false)) (ty := .boolean) (C := RX0) (T := TX0) (N := 12) hx hb hts in_X0 tyX0 tyX0_ok nmX0 hown hK hP hD hS 0 rfl rfl 11 (by decide) (hts _ q57) (fun _ h9 => h9) rfl (by decide +kernel) (b2i_zn _) (b2i_fit _) (Nat.le_of_ble_eq_true rfl) dX0_begin_78 (fun H locs hP hD hS => ?_)
          have hP : va_P (dC, dI) vwCl (wC ad cI cZ (nI n2) (nI k2) (b2i false) cnt bits1 row cost wish degree left isOut order colour) H := hP
          have hD : va_D A (wC ad cI cZ (nI n2) (nI k2) (b2i false) cnt bits1 row cost wish degree left isOut order colour) := hD
          refine lv_iconst (v := b2i true) hx hb dX0_begin_81 (by decide) ?_
          have hC2 : CR n2 k2 (fun _ _ => false) (fun _ => 0) (fun a => a) false bits1 cost wish degree order colour := ⟨hbits1, fun j hj => (hz j hj).1, fun j hj => (hz j hj).2.1, fun j hj => by rw [dg_none]; exact (hz j hj).2.2, fun q => by cases q⟩
          exact W.zret (v := b2i true) hx hb hr (b2i_zn true) (fun t ht hW => ⟨⟨b2i true, (), rfl, by rw [hyes], CW_at (begS_nI (by omega) (by omega) hyes) (CW_mk (by rw [ht]; exact hP) (va_K.moved hW.alike hK) hD (hC2))⟩, hS.F ht⟩) hS.2.2 dX0_begin_82
        · refine lv_iconst (v := b2i false) hx hb dX0_begin_23 (by decide) ?_
          have hno := okB_4 (x := x) (y := y) c20
          exact W.zret (v := b2i false) hx hb hr (b2i_zn false) (fun t ht hW => ⟨⟨b2i false, (), rfl, by rw [hno], CW_at (begS_no hno) (CW_mk (by rw [ht]; exact hP) (va_K.moved hW.alike hK) hD (hC0))⟩, hS.F ht⟩) hS.2.2 dX0_begin_24
end
section
/-! plain mathematics 3: the parts of give -/
theorem cmp_ge {a b : Nat} (ha : a < 2 ^ 63) (hb : b < 2 ^ 63) (h : 0 ≤ lg_cmp (lN a) (lN b)) : ¬ a < b := by
  intro q
  have h1 : lN a < lN b := (pk_lLT ha hb).mpr q
  have h2 : ¬ lN b < lN a := fun z => by rw [pk_lLT hb ha] at z; omega
  have h3 : ¬ lN a = lN b := fun z => by rw [pk_lEQ ha hb] at z; omega
  rw [show lg_cmp (lN a) (lN b) = -1 by simp [lg_cmp, h2, h3]] at h
  exact absurd h (by decide)
theorem cmp_lt {a b : Nat} (ha : a < 2 ^ 63) (hb : b < 2 ^ 63) (h : ¬ 0 ≤ lg_cmp (lN a) (lN b)) : a < b := by
  rcases Nat.lt_trichotomy a b with q | q | q
  · exact q
  · subst q
    exact absurd (by rw [show lg_cmp (lN a) (lN a) = 0 by simp [lg_cmp]]; decide) h
  · have h1 : lN b < lN a := (pk_lLT hb ha).mpr q
    exact absurd (by rw [show lg_cmp (lN a) (lN b) = 1 by simp [lg_cmp, h1]]; decide) h
def dnI : Nat → Int32
  | 0 => -1
  | j + 1 => nI j
theorem dnI_start {n : Nat} (h : 1 ≤ n) : nI n - nI 1 = dnI n := by
  cases n with
  | zero => omega
  | succ n => exact nI_pred n
theorem dnI_step (j : Nat) : nI j + Int32.ofInt (-1) = dnI j := by
  cases j with
  | zero => decide
  | succ j => exact pk_m1 j
/-- what holds between two points that go out -/
def GS (n k : Nat) (E : Nat → Nat → Bool) (inn : Nat → Bool) (cm : Nat) (row left isOut : Nat → Int32) : Prop :=
  (∀ j, j < n → isOut j = b2i (!inn j)) ∧ (∀ j, j < n → inn j = true → left j = nI (lf E n inn j)) ∧ hpR row cm (fewB n k E inn)
def outB (inn : Nat → Bool) (a : Nat) : Nat → Bool := fun v => inn v && !decide (v = a)
theorem outB_a (inn : Nat → Bool) (a : Nat) : outB inn a a = false := by simp [outB]
theorem outB_ne (inn : Nat → Bool) {a v : Nat} (h : v ≠ a) : outB inn a v = inn v := by simp [outB, h]
def lvB (E : Nat → Nat → Bool) (n : Nat) (inn : Nat → Bool) (a b0 j : Nat) : Nat := if j < b0 then lf E n (outB inn a) j else lf E n inn j
def toI (n k : Nat) (E : Nat → Nat → Bool) (inn : Nat → Bool) (a b0 cm : Nat) (row left : Nat → Int32) : Prop :=
  (∀ j, j < n → outB inn a j = true → left j = nI (lvB E n inn a b0 j)) ∧ hpR row cm (fun v => outB inn a v && decide (lvB E n inn a b0 v < k))
section TO
variable {n k : Nat} {E : Nat → Nat → Bool} {inn : Nat → Bool} {a b0 b cm : Nat} {row left : Nat → Int32}
theorem lf_out (ha : a < n) (hin : inn a = true) (hEs : ∀ a b, E a b = E b a) (j : Nat) : lf E n inn j = lf E n (outB inn a) j + (if E a j then 1 else 0) := by
  rw [lf_del ha hin (outB_a inn a) (fun v _ q => outB_ne inn q) j, hEs j a]
theorem lvB_no (hl : ∀ j, lf E n inn j = lf E n (outB inn a) j + (if E a j then 1 else 0)) (hno : ∀ d, b0 ≤ d → d < b → E a d = false) {j : Nat} (hj : j ≠ b) (hbb : b0 ≤ b) : lvB E n inn a (b + 1) j = lvB E n inn a b0 j := by
  unfold lvB
  by_cases h1 : j < b0
  · rw [if_pos h1, if_pos (by omega)]
  · by_cases h2 : j < b + 1
    · rw [if_pos h2, if_neg h1, hl j, hno j (by omega) (by omega)]
      simp
    · rw [if_neg h2, if_neg h1]
theorem to_start (h1 : ∀ j, j < n → inn j = true → left j = nI (lf E n inn j)) (h2 : hpR row cm (va_up (fewB n k E inn) a false)) : toI n k E inn a 0 cm row left := by
  refine ⟨fun j hj h => ?_, hp_cong h2 (fun v => ?_)⟩
  · have e : j ≠ a := fun q => by rw [q, outB_a] at h; cases h
    rw [outB_ne inn e] at h
    rw [h1 j hj h]
    unfold lvB
    rw [if_neg (Nat.not_lt_zero j)]
  · by_cases e : v = a
    · subst e
      rw [outB_a, va_up_self]
      rfl
    · rw [outB_ne inn e, va_up_ne _ _ e]
      unfold lvB fewB
      rw [if_neg (Nat.not_lt_zero v)]
theorem to_skip (hl : ∀ j, lf E n inn j = lf E n (outB inn a) j + (if E a j then 1 else 0)) (hbb : b0 ≤ b) (hno : ∀ d, b0 ≤ d → d < b → E a d = false) (hb : outB inn a b = false) (h : toI n k E inn a b0 cm row left) : toI n k E inn a (b + 1) cm row left := by
  refine ⟨fun j hj q => ?_, hp_cong h.2 (fun v => ?_)⟩
  · have e : j ≠ b := fun z => by rw [z, hb] at q; cases q
    rw [lvB_no hl hno e hbb]
    exact h.1 j hj q
  · by_cases e : v = b
    · subst e
      rw [hb]
      rfl
    · rw [lvB_no hl hno e hbb]
theorem lvB_at (hbb : b0 ≤ b) : lvB E n inn a b0 b = lf E n inn b := by
  unfold lvB
  rw [if_neg (by omega)]
theorem lvB_new : lvB E n inn a (b + 1) b = lf E n (outB inn a) b := by
  unfold lvB
  rw [if_pos (by omega)]
theorem to_left (hl : ∀ j, lf E n inn j = lf E n (outB inn a) j + (if E a j then 1 else 0)) (hbb : b0 ≤ b) (hno : ∀ d, b0 ≤ d → d < b → E a d = false) (h : toI n k E inn a b0 cm row left) : ∀ j, j < n → outB inn a j = true → upd left b (nI (lf E n (outB inn a) b)) j = nI (lvB E n inn a (b + 1) j) := by
  intro j hj q
  by_cases e : j = b
  · subst e
    rw [pk_us, lvB_new]
  · rw [pk_un e, lvB_no hl hno e hbb]
    exact h.1 j hj q
theorem to_dec (hl : ∀ j, lf E n inn j = lf E n (outB inn a) j + (if E a j then 1 else 0)) (hbb : b0 ≤ b) (hno : ∀ d, b0 ≤ d → d < b → E a d = false) (hE : E a b = true) (hk : ¬ lf E n (outB inn a) b = k - 1) (hk1 : 1 ≤ k) (h : toI n k E inn a b0 cm row left) : toI n k E inn a (b + 1) cm row (upd left b (nI (lf E n (outB inn a) b))) := by
  refine ⟨to_left hl hbb hno h, hp_cong h.2 (fun v => ?_)⟩
  by_cases e : v = b
  · subst e
    rw [lvB_new, lvB_at hbb]
    have := hl v
    rw [hE] at this
    simp only [if_true] at this
    congr 1
    exact decide_eq_decide.mpr (by omega)
  · rw [lvB_no hl hno e hbb]
theorem to_notin (hl : ∀ j, lf E n inn j = lf E n (outB inn a) j + (if E a j then 1 else 0)) (hbb : b0 ≤ b) (hE : E a b = true) (hk : lf E n (outB inn a) b = k - 1) : (outB inn a b && decide (lvB E n inn a b0 b < k)) = false := by
  have := hl b
  rw [hE] at this
  simp only [if_true] at this
  rw [lvB_at hbb, decide_eq_false (by omega), Bool.and_false]
theorem to_put {row2 : Nat → Int32} (hl : ∀ j, lf E n inn j = lf E n (outB inn a) j + (if E a j then 1 else 0)) (hbb : b0 ≤ b) (hno : ∀ d, b0 ≤ d → d < b → E a d = false) (hin : outB inn a b = true) (hk : lf E n (outB inn a) b = k - 1) (hk1 : 1 ≤ k) (h : toI n k E inn a b0 cm row left) (hR : hpR row2 (cm + 1) (va_up (fun v => outB inn a v && decide (lvB E n inn a b0 v < k)) b true)) : toI n k E inn a (b + 1) (cm + 1) row2 (upd left b (nI (lf E n (outB inn a) b))) := by
  refine ⟨to_left hl hbb hno h, hp_cong hR (fun v => ?_)⟩
  by_cases e : v = b
  · subst e
    rw [va_up_self, lvB_new, hin, decide_eq_true (by omega)]
    rfl
  · rw [va_up_ne _ _ e, lvB_no hl hno e hbb]
theorem to_end {isOut : Nat → Int32} (hn : n ≤ 200) (hil : ∀ v, inn v = true → v < n) (hl : ∀ j, lf E n inn j = lf E n (outB inn a) j + (if E a j then 1 else 0)) (hno : ∀ d, b0 ≤ d → d < 224 → E a d = false) (ho : ∀ j, j < n → isOut j = b2i (!outB inn a j)) (h : toI n k E inn a b0 cm row left) : GS n k E (outB inn a) cm row left isOut := by
  have key : ∀ j, j < n → lvB E n inn a b0 j = lf E n (outB inn a) j := by
    intro j hj
    unfold lvB
    by_cases e : j < b0
    · rw [if_pos e]
    · rw [if_neg e, hl j, hno j (by omega) (by omega)]
      simp
  refine ⟨ho, fun j hj q => by rw [h.1 j hj q, key j hj], hp_cong h.2 (fun v => ?_)⟩
  unfold fewB
  cases hv : outB inn a v
  · rfl
  · have : v < n := hil v (by
      unfold outB at hv
      simp only [Bool.and_eq_true] at hv
      exact hv.1)
    rw [key v this]
end TO
/-- the colours that neighbours below b0 have, as bits -/
def mkP (E : Nat → Nat → Bool) (a : Nat) (cf : Nat → Int32) (k b0 : Nat) (tk : Int32) : Prop := ∀ c, c < k → (bt tk c = true ↔ ∃ b, b < b0 ∧ E a b = true ∧ cf b = nI c)
section MK
variable {E : Nat → Nat → Bool} {a k b0 b c0 n : Nat} {cf : Nat → Int32} {tk : Int32}
theorem mk_start : mkP E a cf k 0 (nI 0) := by
  intro c _
  have : bt (nI 0) c = false := b_0 c
  rw [this]
  constructor
  · intro h
    cases h
  · rintro ⟨b, hb, -⟩
    exact absurd hb (Nat.not_lt_zero b)
theorem mk_skip (hk : k ≤ 30) (hno : ∀ d, b0 ≤ d → d < b → E a d = false) (hb : b0 ≤ b) (hc : cf b = -1) (h : mkP E a cf k b0 tk) : mkP E a cf k (b + 1) tk := by
  intro c hck
  rw [h c hck]
  constructor
  · rintro ⟨d, h1, h2⟩
    exact ⟨d, by omega, h2⟩
  · rintro ⟨d, h1, h2, h3⟩
    by_cases e : d < b0
    · exact ⟨d, e, h2, h3⟩
    · by_cases e2 : d = b
      · subst e2
        rw [hc] at h3
        exact absurd h3.symm (nI_ne_m1 (by omega))
      · rw [hno d (by omega) (by omega)] at h2
        cases h2
theorem mk_add (hk : k ≤ 30) (hno : ∀ d, b0 ≤ d → d < b → E a d = false) (hb : b0 ≤ b) (hE : E a b = true) (hc0 : c0 < k) (hc : cf b = nI c0) (h : mkP E a cf k b0 tk) : mkP E a cf k (b + 1) (tk ||| (nI 1 <<< (nI c0 &&& 31))) := by
  intro c hck
  have e1 : bt (nI 1 <<< (nI c0 &&& 31)) c = decide (c = c0) := bt_one (by omega) (by omega)
  rw [b_or, e1, Bool.or_eq_true, h c hck, decide_eq_true_eq]
  constructor
  · rintro (⟨d, h1, h2⟩ | e)
    · exact ⟨d, by omega, h2⟩
    · exact ⟨b, by omega, hE, by rw [hc, e]⟩
  · rintro ⟨d, h1, h2, h3⟩
    by_cases e : d < b0
    · exact Or.inl ⟨d, e, h2, h3⟩
    · by_cases e2 : d = b
      · subst e2
        rw [hc] at h3
        exact Or.inr ((nI_eq (by omega) (by omega)).mp h3).symm
      · rw [hno d (by omega) (by omega)] at h2
        cases h2
theorem mk_free (hn : n ≤ 200) (hEl : ∀ a b, E a b = true → a < n ∧ b < n) (hno : ∀ d, b0 ≤ d → d < 224 → E a d = false) (h : mkP E a cf k b0 tk) {c : Nat} (hc : c < k) : freeC E n cf a (nI c) = !bt tk c := by
  cases hb : bt tk c
  · refine free_yes (fun b hbn hE hcb => ?_)
    by_cases e : b < b0
    · have := (h c hc).mpr ⟨b, e, hE, hcb⟩
      rw [hb] at this
      cases this
    · rw [hno b (by omega) (by omega)] at hE
      cases hE
  · obtain ⟨b, h1, h2, h3⟩ := (h c hc).mp hb
    exact free_no (hEl a b h2).2 h2 h3
end MK
end
section
/-! PointColours.cheapest -/
set_option maxHeartbeats 4000000 in
set_option maxRecDepth 100000 in
theorem lpC_cheapest {p : Program} {l : Launch} {e : Env} {R : Room} {s : State} {m : MethodId} {args : Array Value} {below : List Frame} {meth : Method} {c : Code} {dC : Nat → ClassId} {dI : Nat → Nat → Nat} {cI cZ : ClassId} (hx : p.tables.exec = Jvm.exec) (hb : c.code = cX0_cheapest) (hml : c.maxLocals = 3) (hown : s.vm.findClass RX0 = some m.cls) (hts : ∀ w ∈ lw_all, w.before args s = true) (hK : va_K (dC, dI) vwCl (tyK cI cZ) s) (hr : meth.sig.returnType = some .int) (hlk : meth.locks = false) {ad : Nat → Nat} {n : Nat} {cls giv cnt : Int32} {bits row cost wish degree left isOut order colour : Nat → Int32} {inn : Nat → Bool} {co lv : Nat → Nat} (hn : n ≤ 200) (hout : ∀ j, j < n → isOut j = b2i (!inn j)) (hlv : ∀ j, j < n → inn j = true → left j = nI (lv j)) (hlv2 : ∀ j, lv j ≤ 200) (hco : ∀ j, j < n → cost j = nI (co j)) (hcol : ∀ j, j < n → co j ≤ 1000000) (hP : va_P (dC, dI) vwCl (wC ad cI cZ (nI n) cls giv cnt bits row cost wish degree left isOut order colour) s.heap) : ∀ (nn i : Nat) (ls : Array Slot), i ≤ n → n + 1 ≤ i + nn → lv_has ls 3 [(1, .int (bI (bst inn co lv i))), (2, .int (nI i)), (0, .ref (ad 0))] → W p l e R s m args below meth c s.heap [] 0 0 (MQ below (vp_Si (fun r => r = bI (bst inn co lv n))) args s 0 0 (fun _ => False)) (F0 m 4 ls []) := by
  intro nn
  induction nn with
  | zero =>
    intro i ls h1 h2
    exact absurd h2 (by omega)
  | succ nn ih =>
    intro i ls hi hin hl
    refine lv_iload_n hx hb dX0_cheapest_4 rfl (lv_at hl 1 rfl) ?_
    refine lv_aload_n hx hb dX0_cheapest_5 rfl (lv_at hl 2 rfl) ?_
    refine va_get (D := (dC, dI)) (ci := 0) (v := .int (nI n)) (C := RX0) (T := TX0) (N := 12) hx hb hts in_X0 hown hK hP 0 rfl rfl 0 (by decide) (hts _ q46) (fun _ h9 => h9) rfl dX0_cheapest_6 ?_
    refine y_cge (i := i) (j := n) (tgt := 71) hx hb (rfl) (rfl) (by omega) (by omega) dX0_cheapest_9 (by decide) (fun c9 => ?_) (fun c9 => ?_)
    · have hin2 : i = n := by omega
      refine lv_iload_n hx hb dX0_cheapest_71 rfl (lv_at hl 0 rfl) ?_
      exact y_iretR hx hb hr hlk (by rw [hin2]) dX0_cheapest_72
    · refine lv_aload_n hx hb dX0_cheapest_12 rfl (lv_at hl 2 rfl) ?_
      refine va_get (D := (dC, dI)) (ci := 0) (v := .ref (ad 9)) (C := RX0) (T := TX0) (N := 12) hx hb hts in_X0 hown hK hP 0 rfl rfl 8 (by decide) (hts _ q54) (fun _ h9 => h9) rfl dX0_cheapest_13 ?_
      refine lv_iload_n hx hb dX0_cheapest_16 rfl (lv_at hl 1 rfl) ?_
      refine y_zald (j := i) hx hb hK hP 9 1 rfl rfl (rfl) (by omega) (by decide) dX0_cheapest_17 ?_
      refine y_ti (y := b2i (!inn i)) (hout i c9) ?_
      refine y_ifeq (b := !inn i) (tgt := 24) hx hb (rfl) dX0_cheapest_18 (by decide) (fun c18 => ?_) (fun c18 => ?_)
      · have hi1 : inn i = true := by simpa using c18
        cases hbst : bst inn co lv i with
        | none =>
          rw [hbst] at hl
          have hl : lv_has ls 3 [(1, .int (-1)), (2, .int (nI i)), (0, .ref (ad 0))] := hl
          refine lv_iload_n hx hb dX0_cheapest_24 rfl (lv_at hl 0 rfl) ?_
          refine lv_iconst (v := -1) hx hb dX0_cheapest_25 (by decide) ?_
          refine lv_icmp_eq (tgt := 63) hx hb dX0_cheapest_26 (by decide) (fun c26 => ?_) (fun c26 => ?_)
          · refine lv_iload_n hx hb dX0_cheapest_63 rfl (lv_at hl 1 rfl) ?_
            refine lv_istore_n (lv' := [(1, .int (nI i)), (2, .int (nI i)), (0, .ref (ad 0))]) hx hb dX0_cheapest_64 rfl hl (by decide) rfl (fun ls hl => ?_)
            refine lv_iinc (v := nI (i + 1)) (lv' := [(2, .int (nI (i + 1))), (1, .int (nI i)), (0, .ref (ad 0))]) hx hb dX0_cheapest_65 hl (k := 1) rfl (nI_1 i) (by decide) rfl (fun ls hl => ?_)
            refine lv_goto (tgt := 4) hx hb dX0_cheapest_68 (by decide) ?_
            exact ih (i + 1) ls (by omega) (by omega) (by rw [bst_new hi1 hbst]; exact lv_sub hl [1, 0, 2] rfl)
          · exact absurd rfl c26
        | some b =>
          rw [hbst] at hl
          have hl : lv_has ls 3 [(1, .int (nI b)), (2, .int (nI i)), (0, .ref (ad 0))] := hl
          have hb1 := bst_some i b hbst
          refine lv_iload_n hx hb dX0_cheapest_24 rfl (lv_at hl 0 rfl) ?_
          refine lv_iconst (v := -1) hx hb dX0_cheapest_25 (by decide) ?_
          refine lv_icmp_eq (tgt := 63) hx hb dX0_cheapest_26 (by decide) (fun c26 => ?_) (fun c26 => ?_)
          · exact absurd c26 (nI_ne_m1 (by omega))
          · have h1 := hcol i c9
            have h2 := hcol b (by omega)
            have h3 := hlv2 i
            have h4 := hlv2 b
            have h5 : co i * lv b ≤ 1000000 * 200 := Nat.mul_le_mul h1 h4
            have h6 : co b * lv i ≤ 1000000 * 200 := Nat.mul_le_mul h2 h3
            refine lv_aload_n hx hb dX0_cheapest_29 rfl (lv_at hl 2 rfl) ?_
            refine va_get (D := (dC, dI)) (ci := 0) (v := .ref (ad 5)) (C := RX0) (T := TX0) (N := 12) hx hb hts in_X0 hown hK hP 0 rfl rfl 4 (by decide) (hts _ q50) (fun _ h9 => h9) rfl dX0_cheapest_30 ?_
            refine lv_iload_n hx hb dX0_cheapest_33 rfl (lv_at hl 1 rfl) ?_
            refine y_iald (j := i) hx hb hK hP 5 0 rfl rfl (rfl) (by omega) (by decide) dX0_cheapest_34 ?_
            refine y_ti (y := nI (co i)) (hco i c9) ?_
            refine lv_i2l (v := lN (co i)) hx hb dX0_cheapest_35 (nI_l (by omega)) ?_
            refine lv_aload_n hx hb dX0_cheapest_36 rfl (lv_at hl 2 rfl) ?_
            refine va_get (D := (dC, dI)) (ci := 0) (v := .ref (ad 8)) (C := RX0) (T := TX0) (N := 12) hx hb hts in_X0 hown hK hP 0 rfl rfl 7 (by decide) (hts _ q53) (fun _ h9 => h9) rfl dX0_cheapest_37 ?_
            refine lv_iload_n hx hb dX0_cheapest_40 rfl (lv_at hl 0 rfl) ?_
            refine y_iald (j := b) hx hb hK hP 8 0 rfl rfl (rfl) (by omega) (by decide) dX0_cheapest_41 ?_
            refine y_ti (y := nI (lv b)) (hlv b (by omega) hb1.2) ?_
            refine lv_i2l (v := lN (lv b)) hx hb dX0_cheapest_42 (nI_l (by omega)) ?_
            refine lv_lmul hx hb dX0_cheapest_43 ?_
            refine y_tl (y := lN ((co i) * (lv b))) (lN_mul (co i) (lv b)) ?_
            refine lv_aload_n hx hb dX0_cheapest_44 rfl (lv_at hl 2 rfl) ?_
            refine va_get (D := (dC, dI)) (ci := 0) (v := .ref (ad 5)) (C := RX0) (T := TX0) (N := 12) hx hb hts in_X0 hown hK hP 0 rfl rfl 4 (by decide) (hts _ q50) (fun _ h9 => h9) rfl dX0_cheapest_45 ?_
            refine lv_iload_n hx hb dX0_cheapest_48 rfl (lv_at hl 0 rfl) ?_
            refine y_iald (j := b) hx hb hK hP 5 0 rfl rfl (rfl) (by omega) (by decide) dX0_cheapest_49 ?_
            refine y_ti (y := nI (co b)) (hco b (by omega)) ?_
            refine lv_i2l (v := lN (co b)) hx hb dX0_cheapest_50 (nI_l (by omega)) ?_
            refine lv_aload_n hx hb dX0_cheapest_51 rfl (lv_at hl 2 rfl) ?_
            refine va_get (D := (dC, dI)) (ci := 0) (v := .ref (ad 8)) (C := RX0) (T := TX0) (N := 12) hx hb hts in_X0 hown hK hP 0 rfl rfl 7 (by decide) (hts _ q53) (fun _ h9 => h9) rfl dX0_cheapest_52 ?_
            refine lv_iload_n hx hb dX0_cheapest_55 rfl (lv_at hl 1 rfl) ?_
            refine y_iald (j := i) hx hb hK hP 8 0 rfl rfl (rfl) (by omega) (by decide) dX0_cheapest_56 ?_
            refine y_ti (y := nI (lv i)) (hlv i c9 hi1) ?_
            refine lv_i2l (v := lN (lv i)) hx hb dX0_cheapest_57 (nI_l (by omega)) ?_
            refine lv_lmul hx hb dX0_cheapest_58 ?_
            refine y_tl (y := lN ((co b) * (lv i))) (lN_mul (co b) (lv i)) ?_
            refine W.lcmp hx hb dX0_cheapest_59 ?_
            refine lv_if_ge (tgt := 65) hx hb dX0_cheapest_60 (by decide) (fun c60 => ?_) (fun c60 => ?_)
            · have hc := cmp_ge (by omega) (by omega) c60
              refine lv_iinc (v := nI (i + 1)) (lv' := [(2, .int (nI (i + 1))), (1, .int (nI b)), (0, .ref (ad 0))]) hx hb dX0_cheapest_65 hl (k := 1) rfl (nI_1 i) (by decide) rfl (fun ls hl => ?_)
              refine lv_goto (tgt := 4) hx hb dX0_cheapest_68 (by decide) ?_
              exact ih (i + 1) ls (by omega) (by omega) (by rw [bst_keep hi1 hbst hc]; exact lv_sub hl [1, 0, 2] rfl)
            · have hc := cmp_lt (by omega) (by omega) c60
              refine lv_iload_n hx hb dX0_cheapest_63 rfl (lv_at hl 1 rfl) ?_
              refine lv_istore_n (lv' := [(1, .int (nI i)), (2, .int (nI i)), (0, .ref (ad 0))]) hx hb dX0_cheapest_64 rfl hl (by decide) rfl (fun ls hl => ?_)
              refine lv_iinc (v := nI (i + 1)) (lv' := [(2, .int (nI (i + 1))), (1, .int (nI i)), (0, .ref (ad 0))]) hx hb dX0_cheapest_65 hl (k := 1) rfl (nI_1 i) (by decide) rfl (fun ls hl => ?_)
              refine lv_goto (tgt := 4) hx hb dX0_cheapest_68 (by decide) ?_
              exact ih (i + 1) ls (by omega) (by omega) (by rw [bst_up hi1 hbst hc]; exact lv_sub hl [1, 0, 2] rfl)
      · have hi1 : inn i = false := by simpa using c18
        refine lv_goto (tgt := 65) hx hb dX0_cheapest_21 (by decide) ?_
        refine lv_iinc (v := nI (i + 1)) (lv' := [(2, .int (nI (i + 1))), (1, .int (bI (bst inn co lv i))), (0, .ref (ad 0))]) hx hb dX0_cheapest_65 hl (k := 1) rfl (nI_1 i) (by decide) rfl (fun ls hl => ?_)
        refine lv_goto (tgt := 4) hx hb dX0_cheapest_68 (by decide) ?_
        exact ih (i + 1) ls (by omega) (by omega) (by rw [bst_out hi1]; exact lv_sub hl [1, 0, 2] rfl)
set_option maxHeartbeats 4000000 in
set_option maxRecDepth 100000 in
theorem metC_cheapest (l : Launch) (dC : Nat → ClassId) (dI : Nat → Nat → Nat) (cI cZ : ClassId) (ad : Nat → Nat) (n : Nat) (cls giv cnt : Int32) (bits row cost wish degree left isOut order colour : Nat → Int32) (inn : Nat → Bool) (co lv : Nat → Nat) (hn : n ≤ 200) (hout : ∀ j, j < n → isOut j = b2i (!inn j)) (hlv : ∀ j, j < n → inn j = true → left j = nI (lv j)) (hlv2 : ∀ j, lv j ≤ 200) (hco : ∀ j, j < n → cost j = nI (co j)) (hcol : ∀ j, j < n → co j ≤ 1000000) : Met l yX0_cheapest (ws_ yX0_cheapest cX0_cheapest 3 (some .int)) rmZ (va_Pc [.ref (ad 0)] (fun U => va_P (dC, dI) vwCl (wC ad cI cZ (nI n) cls giv cnt bits row cost wish degree left isOut order colour) U.heap ∧ va_K (dC, dI) vwCl (tyK cI cZ) U)) (vp_Si (fun r => r = bI (bst inn co lv n))) 0 0 (fun _ => False) := by
  refine Met.ofW (cc := cX0_cheapest) (maxL := 3) (ret := (some .int)) (by decide) rfl ?_
  intro p e s m args below meth c s₁ B hml hv
  obtain ⟨rfl, hP, hK⟩ := hv
  have hx := B.exec
  have hb := B.bytes
  have hr := B.returns
  have hlk := B.notSynchronized
  have hts := atoms_spec (ws := ws_ yX0_cheapest cX0_cheapest 3 (some .int)) B.pre
  have hts : ∀ w ∈ lw_all, w.before _ s = true := fun w h => hts w (List.mem_cons_of_mem _ h)
  have hown : s.vm.findClass RX0 = some m.cls := findClass_of_methodNamed B.named
  have hl := lv_entry ([.ref (ad 0)]) (n := 3) (Nat.le_of_ble_eq_true rfl)
  rw [lg_entry_eq]
  generalize (lg_sl ([.ref (ad 0)]) ++ List.replicate (3 - (lg_sl ([.ref (ad 0)])).length) Slot.unset).toArray = ls at hl ⊢
  have hl : lv_has ls 3 [(0, .ref (ad 0))] := hl
  refine lv_iconst (v := -1) hx hb dX0_cheapest_0 (by decide) ?_
  refine lv_istore_n (lv' := [(1, .int (-1)), (0, .ref (ad 0))]) hx hb dX0_cheapest_1 rfl hl (by decide) rfl (fun ls hl => ?_)
  refine lv_iconst (v := nI 0) hx hb dX0_cheapest_2 (by decide) ?_
  refine lv_istore_n (lv' := [(2, .int (nI 0)), (1, .int (-1)), (0, .ref (ad 0))]) hx hb dX0_cheapest_3 rfl hl (by decide) rfl (fun ls hl => ?_)
  exact lpC_cheapest hx hb hml hown hts hK hr hlk hn hout hlv hlv2 hco hcol hP (n + 1) 0 ls (by omega) (by omega) (lv_sub hl [1, 0, 2] rfl)
end
section
/-! PointColours.takeOut -/
set_option maxHeartbeats 4000000 in
set_option maxRecDepth 100000 in
theorem lpC_takeOut {p : Program} {l : Launch} {e : Env} {s : State} {m : MethodId} {args : Array Value} {below : List Frame} {meth : Method} {c : Code} {Q : State → Prop} {dC : Nat → ClassId} {dI : Nat → Nat → Nat} {cI cZ : ClassId} {A : Nat → Prop} (hx : p.tables.exec = Jvm.exec) (hb : c.code = cX0_takeOut) (hml : c.maxLocals = 4) (hown : s.vm.findClass RX0 = some m.cls) (hts : ∀ w ∈ lw_all, w.before args s = true) (hK : va_K (dC, dI) vwCl (tyK cI cZ) s) (hA : ∀ q : Nat, s.heap.size ≤ q → A q) {ad : Nat → Nat} {n k a : Nat} {E : Nat → Nat → Bool} {inn : Nat → Bool} {giv : Int32} {bits cost wish degree isOut order colour : Nat → Int32} (hn : n ≤ 200) (hk : 1 ≤ k ∧ k ≤ 30) (hEb : bitsR bits E) (hEl : ∀ a b, E a b = true → a < n ∧ b < n) (ha : a < n) (hl0 : ∀ j, lf E n inn j = lf E n (outB inn a) j + (if E a j then 1 else 0)) (ho : ∀ j, j < n → isOut j = b2i (!outB inn a j)) (kx : ∀ (b0 cm : Nat) (row left : Nat → Int32) (H : Heap) (locs : List Loc) (ls : Array Slot), (∀ d, b0 ≤ d → d < 224 → E a d = false) → toI n k E inn a b0 cm row left → va_P (dC, dI) vwCl (wC ad cI cZ (nI n) (nI k) giv (nI cm) bits row cost wish degree left isOut order colour) H → va_D A (wC ad cI cZ (nI n) (nI k) giv (nI cm) bits row cost wish degree left isOut order colour) → va_S A s.heap H locs → lv_has ls 4 [(0, .ref (ad 0))] → W p l e rmA s m args below meth c H locs 0 0 Q (F0 m 87 ls [])) : ∀ (nn b0 cm : Nat) (x3 : Int32) (row left : Nat → Int32) (H : Heap) (locs : List Loc) (ls : Array Slot), b0 ≤ 200 → 201 ≤ b0 + nn → nbrP E a b0 x3 → toI n k E inn a b0 cm row left → va_P (dC, dI) vwCl (wC ad cI cZ (nI n) (nI k) giv (nI cm) bits row cost wish degree left isOut order colour) H → va_D A (wC ad cI cZ (nI n) (nI k) giv (nI cm) bits row cost wish degree left isOut order colour) → va_S A s.heap H locs → lv_has ls 4 [(3, .int x3), (0, .ref (ad 0)), (2, .int (nI a))] → W p l e rmA s m args below meth c H locs 0 0 Q (F0 m 24 ls []) := by
  intro nn
  induction nn with
  | zero =>
    intro b0 cm x3 row left H locs ls h1 h2
    exact absurd h2 (by omega)
  | succ nn ih =>
    intro b0 cm x3 row left H locs ls hb0 hb0n hx3 hI hP hD hS hl
    rcases hx3 with ⟨b, rfl, hbb, hb2, hEab, hno⟩ | ⟨rfl, hno⟩
    · have hbn := (hEl a b hEab).2
      refine lv_iload_n hx hb dX0_takeOut_24 rfl (lv_at hl 0 rfl) ?_
      refine lv_iconst (v := -1) hx hb dX0_takeOut_25 (by decide) ?_
      refine lv_icmp_eq (tgt := 87) hx hb dX0_takeOut_26 (by decide) (fun c26 => ?_) (fun c26 => ?_)
      · exact absurd c26 (nI_ne_m1 (by omega))
      · refine lv_aload_n hx hb dX0_takeOut_29 rfl (lv_at hl 1 rfl) ?_
        refine va_get (D := (dC, dI)) (ci := 0) (v := .ref (ad 9)) (C := RX0) (T := TX0) (N := 12) hx hb hts in_X0 hown hK hP 0 rfl rfl 8 (by decide) (hts _ q54) (fun _ h9 => h9) rfl dX0_takeOut_30 ?_
        refine lv_iload_n hx hb dX0_takeOut_33 rfl (lv_at hl 0 rfl) ?_
        refine y_zald (j := b) hx hb hK hP 9 1 rfl rfl (rfl) (by omega) (by decide) dX0_takeOut_34 ?_
        refine y_ti (y := b2i (!outB inn a b)) (ho b hbn) ?_
        refine y_ifeq (b := !outB inn a b) (tgt := 41) hx hb (rfl) dX0_takeOut_35 (by decide) (fun c35 => ?_) (fun c35 => ?_)
        · have hin : outB inn a b = true := by simpa using c35
          have hlb := hl0 b
          rw [hEab] at hlb
          simp only [if_true] at hlb
          have hle := lf_le E n (outB inn a) b
          have hlf : left b = nI (lf E n (outB inn a) b + 1) := by rw [hI.1 b hbn hin, lvB_at hbb, hlb]
          refine lv_aload_n hx hb dX0_takeOut_41 rfl (lv_at hl 1 rfl) ?_
          refine va_get (D := (dC, dI)) (ci := 0) (v := .ref (ad 8)) (C := RX0) (T := TX0) (N := 12) hx hb hts in_X0 hown hK hP 0 rfl rfl 7 (by decide) (hts _ q53) (fun _ h9 => h9) rfl dX0_takeOut_42 ?_
          refine lv_iload_n hx hb dX0_takeOut_45 rfl (lv_at hl 0 rfl) ?_
          refine lv_dup2_11 hx hb dX0_takeOut_46 rfl rfl ?_
          refine y_iald (j := b) hx hb hK hP 8 0 rfl rfl (rfl) (by omega) (by decide) dX0_takeOut_47 ?_
          refine y_ti (y := nI (lf E n (outB inn a) b + 1)) (hlf) ?_
          refine lv_iconst (v := nI 1) hx hb dX0_takeOut_48 (by decide) ?_
          refine lv_isub hx hb dX0_takeOut_49 ?_
          refine y_ti (y := nI (lf E n (outB inn a) b)) (nI_pred _) ?_
          refine y_iast (j := b) hx hb hK hP hD hS 8 0 rfl rfl (rfl) (by omega) (by decide) dX0_takeOut_50 (fun H locs hP hD hS => ?_)
          have hP : va_P (dC, dI) vwCl (wC ad cI cZ (nI n) (nI k) giv (nI cm) bits row cost wish degree (upd left b (nI (lf E n (outB inn a) b))) isOut order colour) H := hP
          have hD : va_D A (wC ad cI cZ (nI n) (nI k) giv (nI cm) bits row cost wish degree (upd left b (nI (lf E n (outB inn a) b))) isOut order colour) := hD
          refine lv_aload_n hx hb dX0_takeOut_51 rfl (lv_at hl 1 rfl) ?_
          refine va_get (D := (dC, dI)) (ci := 0) (v := .ref (ad 8)) (C := RX0) (T := TX0) (N := 12) hx hb hts in_X0 hown hK hP 0 rfl rfl 7 (by decide) (hts _ q53) (fun _ h9 => h9) rfl dX0_takeOut_52 ?_
          refine lv_iload_n hx hb dX0_takeOut_55 rfl (lv_at hl 0 rfl) ?_
          refine y_iald (j := b) hx hb hK hP 8 0 rfl rfl (rfl) (by omega) (by decide) dX0_takeOut_56 ?_
          refine y_ti (y := nI (lf E n (outB inn a) b)) (pk_us) ?_
          refine lv_aload_n hx hb dX0_takeOut_57 rfl (lv_at hl 1 rfl) ?_
          refine va_get (D := (dC, dI)) (ci := 0) (v := .int (nI k)) (C := RX0) (T := TX0) (N := 12) hx hb hts in_X0 hown hK hP 0 rfl rfl 1 (by decide) (hts _ q47) (fun _ h9 => h9) rfl dX0_takeOut_58 ?_
          refine lv_iconst (v := nI 1) hx hb dX0_takeOut_61 (by decide) ?_
          refine lv_isub hx hb dX0_takeOut_62 ?_
          refine y_ti (y := nI (k - 1)) (pk_sub hk.1) ?_
          refine y_cne (i := lf E n (outB inn a) b) (j := k - 1) (tgt := 74) hx hb (rfl) (rfl) (by omega) (by omega) dX0_takeOut_63 (by decide) (fun c63 => ?_) (fun c63 => ?_)
          · refine lv_aload_n hx hb dX0_takeOut_74 rfl (lv_at hl 1 rfl) ?_
            refine va_get (D := (dC, dI)) (ci := 0) (v := .ref (ad 1)) (C := RX0) (T := TX0) (N := 12) hx hb hts in_X0 hown hK hP 0 rfl rfl 2 (by decide) (hts _ q48) (fun _ h9 => h9) rfl dX0_takeOut_75 ?_
            refine lv_iload_n hx hb dX0_takeOut_78 rfl (lv_at hl 2 rfl) ?_
            refine lv_iload_n hx hb dX0_takeOut_79 rfl (lv_at hl 0 rfl) ?_
            have hPc := hP.sub (ws' := wE (ad 1) (ad 2) cI bits) [1, 2] rfl
            refine vp_callSi (W.runV (As := [.int (nI a), .int (nI b)]) (rest := []) ⟨hx, hb, hml, hown, hts⟩ (metE_next l dC dI cI cZ (ad 1) (ad 2) a (b + 1) (nI b) bits E hEb (by omega) (by omega) (nI_1 b)) (cwV 2 hts (lw_V q145 q146 q147 q11 q148) rfl rfl rfl (by decide +kernel) ⟨Nat.le_of_ble_eq_true rfl, Nat.le_of_ble_eq_true rfl⟩) (y_preR hK hPc (ci := 1) (q0 := 0) rfl rfl) rfl rfl hl.1 rfl (lv_room (Nat.le_of_ble_eq_true rfl)) dX0_takeOut_80 ⟨Nat.zero_le _, Nat.zero_le _⟩) (fun x4 hx4 => ?_)
            refine lv_istore_n (lv' := [(3, .int x4), (0, .ref (ad 0)), (2, .int (nI a))]) hx hb dX0_takeOut_83 rfl hl (by decide) rfl (fun ls hl => ?_)
            refine lv_goto (tgt := 24) hx hb dX0_takeOut_84 (by decide) ?_
            exact ih (b + 1) cm x4 _ _ _ _ ls (by omega) (by omega) hx4 (to_dec hl0 hbb hno hEab c63 hk.1 hI) hP hD hS (lv_sub hl [0, 1, 2] rfl)
          · refine lv_aload_n hx hb dX0_takeOut_66 rfl (lv_at hl 1 rfl) ?_
            refine va_get (D := (dC, dI)) (ci := 0) (v := .ref (ad 3)) (C := RX0) (T := TX0) (N := 12) hx hb hts in_X0 hown hK hP 0 rfl rfl 3 (by decide) (hts _ q49) (fun _ h9 => h9) rfl dX0_takeOut_67 ?_
            refine lv_iload_n hx hb dX0_takeOut_70 rfl (lv_at hl 0 rfl) ?_
            have hPc := hP.sub (ws' := wH (ad 3) (ad 4) cI (nI cm) row) [3, 4] rfl
            have hDc := hD.sub (ws' := wH (ad 3) (ad 4) cI (nI cm) row) [3, 4] (by decide) rfl
            have hFc := va_free (wc := wH (ad 3) (ad 4) cI (nI cm) row) hD hS hA [3, 4] rfl
            refine va_callv (va_runV (As := [.int (nI b)]) (rest := []) ⟨hx, hb, hml, hown, hts⟩ (metH_put l dC dI cI cZ H.size (ad 3) (ad 4) cm b row _ hI.2 (by omega) (to_notin hl0 hbb hEab c63)) (cwV 1 hts (lw_V q125 q126 q127 q12 q128) rfl rfl rfl (by decide +kernel) ⟨Nat.le_of_ble_eq_true rfl, Nat.le_of_ble_eq_true rfl⟩) (y_preW hK hPc hDc (ci := 2) (q0 := 0) rfl rfl) rfl rfl hl.1 rfl (lv_room (Nat.le_of_ble_eq_true rfl)) dX0_takeOut_71 ⟨Nat.zero_le _, Nat.zero_le _⟩) hS (fun q _ h => hFc q h) hFc (fun row2 t H1 locs ht hvm hrow2 hB hz1 hk1 hS => ?_)
            obtain ⟨hP1, hK1, hD1⟩ := hB
            rw [ht] at hP1
            obtain ⟨hP, hD⟩ := va_join (wr := wCh ad cI cZ (nI n) (nI k) giv bits cost wish degree (upd left b (nI (lf E n (outB inn a) b))) isOut order colour) (w1 := wH (ad 3) (ad 4) cI (nI (cm + 1)) row2) hP hD [3, 4] [0, 1, 2, 5, 6, 7, 8, 9, 10, 11] rfl rfl (by decide) (by decide) hk1 hFc hP1 hD1
            have hP := hP.sub (ws' := wC ad cI cZ (nI n) (nI k) giv (nI (cm + 1)) bits row2 cost wish degree (upd left b (nI (lf E n (outB inn a) b))) isOut order colour) [0, 1, 2, 10, 11, 3, 4, 5, 6, 7, 8, 9] rfl
            have hD := hD.sub (ws' := wC ad cI cZ (nI n) (nI k) giv (nI (cm + 1)) bits row2 cost wish degree (upd left b (nI (lf E n (outB inn a) b))) isOut order colour) [0, 1, 2, 10, 11, 3, 4, 5, 6, 7, 8, 9] (by decide) rfl
            generalize H1 = H at hP hS ⊢
            have hP : va_P (dC, dI) vwCl (wC ad cI cZ (nI n) (nI k) giv (nI (cm + 1)) bits row2 cost wish degree (upd left b (nI (lf E n (outB inn a) b))) isOut order colour) H := hP
            have hD : va_D A (wC ad cI cZ (nI n) (nI k) giv (nI (cm + 1)) bits row2 cost wish degree (upd left b (nI (lf E n (outB inn a) b))) isOut order colour) := hD
            refine lv_aload_n hx hb dX0_takeOut_74 rfl (lv_at hl 1 rfl) ?_
            refine va_get (D := (dC, dI)) (ci := 0) (v := .ref (ad 1)) (C := RX0) (T := TX0) (N := 12) hx hb hts in_X0 hown hK hP 0 rfl rfl 2 (by decide) (hts _ q48) (fun _ h9 => h9) rfl dX0_takeOut_75 ?_
            refine lv_iload_n hx hb dX0_takeOut_78 rfl (lv_at hl 2 rfl) ?_
            refine lv_iload_n hx hb dX0_takeOut_79 rfl (lv_at hl 0 rfl) ?_
            have hPc := hP.sub (ws' := wE (ad 1) (ad 2) cI bits) [1, 2] rfl
            refine vp_callSi (W.runV (As := [.int (nI a), .int (nI b)]) (rest := []) ⟨hx, hb, hml, hown, hts⟩ (metE_next l dC dI cI cZ (ad 1) (ad 2) a (b + 1) (nI b) bits E hEb (by omega) (by omega) (nI_1 b)) (cwV 2 hts (lw_V q145 q146 q147 q11 q148) rfl rfl rfl (by decide +kernel) ⟨Nat.le_of_ble_eq_true rfl, Nat.le_of_ble_eq_true rfl⟩) (y_preR hK hPc (ci := 1) (q0 := 0) rfl rfl) rfl rfl hl.1 rfl (lv_room (Nat.le_of_ble_eq_true rfl)) dX0_takeOut_80 ⟨Nat.zero_le _, Nat.zero_le _⟩) (fun x4 hx4 => ?_)
            refine lv_istore_n (lv' := [(3, .int x4), (0, .ref (ad 0)), (2, .int (nI a))]) hx hb dX0_takeOut_83 rfl hl (by decide) rfl (fun ls hl => ?_)
            refine lv_goto (tgt := 24) hx hb dX0_takeOut_84 (by decide) ?_
            exact ih (b + 1) (cm + 1) x4 _ _ _ _ ls (by omega) (by omega) hx4 (to_put hl0 hbb hno hin c63 hk.1 hI hrow2) hP hD hS (lv_sub hl [0, 1, 2] rfl)
        · have hin : outB inn a b = false := by simpa using c35
          refine lv_goto (tgt := 74) hx hb dX0_takeOut_38 (by decide) ?_
          refine lv_aload_n hx hb dX0_takeOut_74 rfl (lv_at hl 1 rfl) ?_
          refine va_get (D := (dC, dI)) (ci := 0) (v := .ref (ad 1)) (C := RX0) (T := TX0) (N := 12) hx hb hts in_X0 hown hK hP 0 rfl rfl 2 (by decide) (hts _ q48) (fun _ h9 => h9) rfl dX0_takeOut_75 ?_
          refine lv_iload_n hx hb dX0_takeOut_78 rfl (lv_at hl 2 rfl) ?_
          refine lv_iload_n hx hb dX0_takeOut_79 rfl (lv_at hl 0 rfl) ?_
          have hPc := hP.sub (ws' := wE (ad 1) (ad 2) cI bits) [1, 2] rfl
          refine vp_callSi (W.runV (As := [.int (nI a), .int (nI b)]) (rest := []) ⟨hx, hb, hml, hown, hts⟩ (metE_next l dC dI cI cZ (ad 1) (ad 2) a (b + 1) (nI b) bits E hEb (by omega) (by omega) (nI_1 b)) (cwV 2 hts (lw_V q145 q146 q147 q11 q148) rfl rfl rfl (by decide +kernel) ⟨Nat.le_of_ble_eq_true rfl, Nat.le_of_ble_eq_true rfl⟩) (y_preR hK hPc (ci := 1) (q0 := 0) rfl rfl) rfl rfl hl.1 rfl (lv_room (Nat.le_of_ble_eq_true rfl)) dX0_takeOut_80 ⟨Nat.zero_le _, Nat.zero_le _⟩) (fun x4 hx4 => ?_)
          refine lv_istore_n (lv' := [(3, .int x4), (0, .ref (ad 0)), (2, .int (nI a))]) hx hb dX0_takeOut_83 rfl hl (by decide) rfl (fun ls hl => ?_)
          refine lv_goto (tgt := 24) hx hb dX0_takeOut_84 (by decide) ?_
          exact ih (b + 1) cm x4 _ _ _ _ ls (by omega) (by omega) hx4 (to_skip hl0 hbb hno hin hI) hP hD hS (lv_sub hl [0, 1, 2] rfl)
    · refine lv_iload_n hx hb dX0_takeOut_24 rfl (lv_at hl 0 rfl) ?_
      refine lv_iconst (v := -1) hx hb dX0_takeOut_25 (by decide) ?_
      refine lv_icmp_eq (tgt := 87) hx hb dX0_takeOut_26 (by decide) (fun c26 => ?_) (fun c26 => ?_)
      · exact kx b0 cm row left H locs ls hno hI hP hD hS (lv_sub hl [1] rfl)
      · exact absurd rfl c26
set_option maxHeartbeats 4000000 in
set_option maxRecDepth 100000 in
theorem metC_takeOut (l : Launch) (dC : Nat → ClassId) (dI : Nat → Nat → Nat) (cI cZ : ClassId) (sz : Nat) (ad : Nat → Nat) (n k i a cm : Nat) (E : Nat → Nat → Bool) (inn : Nat → Bool) (giv : Int32) (bits row cost wish degree left isOut order colour : Nat → Int32) (hn : n ≤ 200) (hk : 1 ≤ k ∧ k ≤ 30) (hEb : bitsR bits E) (hEl : ∀ a b, E a b = true → a < n ∧ b < n) (hEs : ∀ a b, E a b = E b a) (hil : ∀ v, inn v = true → v < n) (hi : i < n) (ha : a < n) (hin : inn a = true) (ho0 : ∀ j, j < n → isOut j = b2i (!inn j)) (hlf : ∀ j, j < n → inn j = true → left j = nI (lf E n inn j)) (hR : hpR row cm (va_up (fewB n k E inn) a false)) : Met l yX0_takeOut (ws_ yX0_takeOut cX0_takeOut 4 (none)) rmA (va_Pc [.ref (ad 0), .int (nI i), .int (nI a)] (fun U => U.heap.size = sz ∧ va_P (dC, dI) vwCl (wC ad cI cZ (nI n) (nI k) giv (nI cm) bits row cost wish degree left isOut order colour) U.heap ∧ va_K (dC, dI) vwCl (tyK cI cZ) U ∧ va_D (fun _ => True) (wC ad cI cZ (nI n) (nI k) giv (nI cm) bits row cost wish degree left isOut order colour))) (va_Qv (fun u : Nat × (Nat → Int32) × (Nat → Int32) × (Nat → Int32) => GS n k E (outB inn a) u.1 u.2.1 u.2.2.1 u.2.2.2) (fun u t => va_P (dC, dI) vwCl (wC ad cI cZ (nI n) (nI k) giv (nI u.1) bits u.2.1 cost wish degree u.2.2.1 u.2.2.2 (upd order i (nI a)) colour) t.heap ∧ va_K (dC, dI) vwCl (tyK cI cZ) t ∧ va_D (va_A (wC ad cI cZ (nI n) (nI k) giv (nI cm) bits row cost wish degree left isOut order colour) sz) (wC ad cI cZ (nI n) (nI k) giv (nI u.1) bits u.2.1 cost wish degree u.2.2.1 u.2.2.2 (upd order i (nI a)) colour)) (va_A (wC ad cI cZ (nI n) (nI k) giv (nI cm) bits row cost wish degree left isOut order colour) sz)) 0 0 (va_A (wC ad cI cZ (nI n) (nI k) giv (nI cm) bits row cost wish degree left isOut order colour) sz) := by
  refine Met.ofW (cc := cX0_takeOut) (maxL := 4) (ret := none) (by decide) rfl ?_
  intro p e s m args below meth c s₁ B hml hv
  obtain ⟨rfl, hsz, hP, hK, hD0⟩ := hv
  have hx := B.exec
  have hb := B.bytes
  have hr := B.returns
  have hlk := B.notSynchronized
  have hts := atoms_spec (ws := ws_ yX0_takeOut cX0_takeOut 4 (none)) B.pre
  have hts : ∀ w ∈ lw_all, w.before _ s = true := fun w h => hts w (List.mem_cons_of_mem _ h)
  have hown : s.vm.findClass RX0 = some m.cls := findClass_of_methodNamed B.named
  subst hsz
  have hD := hD0.self (sz := s.heap.size)
  generalize hAe : va_A (wC ad cI cZ (nI n) (nI k) giv (nI cm) bits row cost wish degree left isOut order colour) s.heap.size = A at hD ⊢
  have hA : ∀ q : Nat, s.heap.size ≤ q → A q := fun q h => by rw [← hAe]; exact Or.inr h
  have hS : va_S A s.heap s.heap [] := va_S.rf
  have hl := lv_entry ([.ref (ad 0), .int (nI i), .int (nI a)]) (n := 4) (Nat.le_of_ble_eq_true rfl)
  rw [lg_entry_eq]
  generalize (lg_sl ([.ref (ad 0), .int (nI i), .int (nI a)]) ++ List.replicate (4 - (lg_sl ([.ref (ad 0), .int (nI i), .int (nI a)])).length) Slot.unset).toArray = ls at hl ⊢
  have hl : lv_has ls 4 [(0, .ref (ad 0)), (1, .int (nI i)), (2, .int (nI a))] := hl
  refine lv_aload_n hx hb dX0_takeOut_0 rfl (lv_at hl 0 rfl) ?_
  refine va_get (D := (dC, dI)) (ci := 0) (v := .ref (ad 10)) (C := RX0) (T := TX0) (N := 12) hx hb hts in_X0 hown hK hP 0 rfl rfl 9 (by decide) (hts _ q55) (fun _ h9 => h9) rfl dX0_takeOut_1 ?_
  refine lv_iload_n hx hb dX0_takeOut_4 rfl (lv_at hl 1 rfl) ?_
  refine lv_iload_n hx hb dX0_takeOut_5 rfl (lv_at hl 2 rfl) ?_
  refine y_iast (j := i) hx hb hK hP hD hS 10 0 rfl rfl (rfl) (by omega) (by decide) dX0_takeOut_6 (fun H locs hP hD hS => ?_)
  have hP : va_P (dC, dI) vwCl (wC ad cI cZ (nI n) (nI k) giv (nI cm) bits row cost wish degree left isOut (upd order i (nI a)) colour) H := hP
  have hD : va_D A (wC ad cI cZ (nI n) (nI k) giv (nI cm) bits row cost wish degree left isOut (upd order i (nI a)) colour) := hD
  refine lv_aload_n hx hb dX0_takeOut_7 rfl (lv_at hl 0 rfl) ?_
  refine va_get (D := (dC, dI)) (ci := 0) (v := .ref (ad 9)) (C := RX0) (T := TX0) (N := 12) hx hb hts in_X0 hown hK hP 0 rfl rfl 8 (by decide) (hts _ q54) (fun _ h9 => h9) rfl dX0_takeOut_8 ?_
  refine lv_iload_n hx hb dX0_takeOut_11 rfl (lv_at hl 2 rfl) ?_
  refine lv_iconst (v := b2i true) hx hb dX0_takeOut_12 (by decide) ?_
  refine y_zast (v := b2i true) (j := a) hx hb hK hP hD hS 9 1 rfl rfl (b2i_nar _) (rfl) (by omega) (by decide) dX0_takeOut_13 (fun H locs hP hD hS => ?_)
  have hP : va_P (dC, dI) vwCl (wC ad cI cZ (nI n) (nI k) giv (nI cm) bits row cost wish degree left (upd isOut a (b2i true)) (upd order i (nI a)) colour) H := hP
  have hD : va_D A (wC ad cI cZ (nI n) (nI k) giv (nI cm) bits row cost wish degree left (upd isOut a (b2i true)) (upd order i (nI a)) colour) := hD
  refine lv_aload_n hx hb dX0_takeOut_14 rfl (lv_at hl 0 rfl) ?_
  refine va_get (D := (dC, dI)) (ci := 0) (v := .ref (ad 1)) (C := RX0) (T := TX0) (N := 12) hx hb hts in_X0 hown hK hP 0 rfl rfl 2 (by decide) (hts _ q48) (fun _ h9 => h9) rfl dX0_takeOut_15 ?_
  refine lv_iload_n hx hb dX0_takeOut_18 rfl (lv_at hl 2 rfl) ?_
  refine lv_iconst (v := -1) hx hb dX0_takeOut_19 (by decide) ?_
  have hl0 := lf_out ha hin hEs (E := E)
  have ho : ∀ j, j < n → upd isOut a (b2i true) j = b2i (!outB inn a j) := fun j hj => by
    by_cases e : j = a
    · subst e
      rw [pk_us, outB_a]
      rfl
    · rw [pk_un e, outB_ne inn e]
      exact ho0 j hj
  have hPc := hP.sub (ws' := wE (ad 1) (ad 2) cI bits) [1, 2] rfl
  refine vp_callSi (W.runV (As := [.int (nI a), .int (-1)]) (rest := []) ⟨hx, hb, hml, hown, hts⟩ (metE_next l dC dI cI cZ (ad 1) (ad 2) a 0 (-1) bits E hEb (by omega) (by omega) (by decide)) (cwV 2 hts (lw_V q145 q146 q147 q11 q148) rfl rfl rfl (by decide +kernel) ⟨Nat.le_of_ble_eq_true rfl, Nat.le_of_ble_eq_true rfl⟩) (y_preR hK hPc (ci := 1) (q0 := 0) rfl rfl) rfl rfl hl.1 rfl (lv_room (Nat.le_of_ble_eq_true rfl)) dX0_takeOut_20 ⟨Nat.zero_le _, Nat.zero_le _⟩) (fun x4 hx4 => ?_)
  refine lv_istore_n (lv' := [(3, .int x4), (0, .ref (ad 0)), (1, .int (nI i)), (2, .int (nI a))]) hx hb dX0_takeOut_23 rfl hl (by decide) rfl (fun ls hl => ?_)
  refine lpC_takeOut hx hb hml hown hts hK hA hn hk hEb hEl ha hl0 ho ?_ 201 0 cm x4 row left _ _ ls (by omega) (by omega) hx4 (to_start hlf hR) hP hD hS (lv_sub hl [0, 1, 3] rfl)
  intro b0 cm row left H locs ls hno hI hP hD hS hl
  exact W.vret hx hb hr (fun t ht hW => ⟨⟨(cm, row, left, upd isOut a (b2i true)), rfl, to_end hn hil hl0 hno ho hI, by rw [ht]; exact hP, va_K.moved hW.alike hK, hD⟩, hS.F ht⟩) hS.2.2 dX0_takeOut_87
end
section
/-! PointColours.paint -/
set_option maxHeartbeats 4000000 in
set_option maxRecDepth 100000 in
theorem lpC_mask {p : Program} {l : Launch} {e : Env} {s : State} {m : MethodId} {args : Array Value} {below : List Frame} {meth : Method} {c : Code} {Q : State → Prop} {dC : Nat → ClassId} {dI : Nat → Nat → Nat} {cI cZ : ClassId} (hx : p.tables.exec = Jvm.exec) (hb : c.code = cX0_paint) (hml : c.maxLocals = 5) (hown : s.vm.findClass RX0 = some m.cls) (hts : ∀ w ∈ lw_all, w.before args s = true) (hK : va_K (dC, dI) vwCl (tyK cI cZ) s) {ad : Nat → Nat} {n k a : Nat} {E : Nat → Nat → Bool} {cf : Nat → Int32} {pts giv cnt : Int32} {bits row cost wish degree left isOut order colour : Nat → Int32} (hn : n ≤ 200) (hk : 1 ≤ k ∧ k ≤ 30) (hEb : bitsR bits E) (hEl : ∀ a b, E a b = true → a < n ∧ b < n) (ha : a < n) (hcf : ∀ j, j < n → colour j = cf j) (hcv : ∀ j, j < n → cf j = -1 ∨ ∃ c, c < k ∧ cf j = nI c) {H : Heap} {locs : List Loc} (hP : va_P (dC, dI) vwCl (wC ad cI cZ pts (nI k) giv cnt bits row cost wish degree left isOut order colour) H) (kx : ∀ (b0 : Nat) (tk : Int32) (ls : Array Slot), (∀ d, b0 ≤ d → d < 224 → E a d = false) → mkP E a cf k b0 tk → lv_has ls 5 [(2, .int tk), (0, .ref (ad 0)), (1, .int (nI a))] → W p l e rmA s m args below meth c H locs 0 0 Q (F0 m 51 ls [])) : ∀ (nn b0 : Nat) (x3 tk : Int32) (ls : Array Slot), b0 ≤ 200 → 201 ≤ b0 + nn → nbrP E a b0 x3 → mkP E a cf k b0 tk → lv_has ls 5 [(3, .int x3), (2, .int tk), (0, .ref (ad 0)), (1, .int (nI a))] → W p l e rmA s m args below meth c H locs 0 0 Q (F0 m 12 ls []) := by
  intro nn
  induction nn with
  | zero =>
    intro b0 x3 tk ls h1 h2
    exact absurd h2 (by omega)
  | succ nn ih =>
    intro b0 x3 tk ls hb0 hb0n hx3 hI hl
    rcases hx3 with ⟨b, rfl, hbb, hb2, hEab, hno⟩ | ⟨rfl, hno⟩
    · have hbn := (hEl a b hEab).2
      refine lv_iload_n hx hb dX0_paint_12 rfl (lv_at hl 0 rfl) ?_
      refine lv_iconst (v := -1) hx hb dX0_paint_13 (by decide) ?_
      refine lv_icmp_eq (tgt := 51) hx hb dX0_paint_14 (by decide) (fun c14 => ?_) (fun c14 => ?_)
      · exact absurd c14 (nI_ne_m1 (by omega))
      · refine lv_aload_n hx hb dX0_paint_17 rfl (lv_at hl 2 rfl) ?_
        refine va_get (D := (dC, dI)) (ci := 0) (v := .ref (ad 11)) (C := RX0) (T := TX0) (N := 12) hx hb hts in_X0 hown hK hP 0 rfl rfl 10 (by decide) (hts _ q56) (fun _ h9 => h9) rfl dX0_paint_18 ?_
        refine lv_iload_n hx hb dX0_paint_21 rfl (lv_at hl 0 rfl) ?_
        refine y_iald (j := b) hx hb hK hP 11 0 rfl rfl (rfl) (by omega) (by decide) dX0_paint_22 ?_
        refine y_ti (y := cf b) (hcf b hbn) ?_
        refine lv_iconst (v := -1) hx hb dX0_paint_23 (by decide) ?_
        refine lv_icmp_eq (tgt := 38) hx hb dX0_paint_24 (by decide) (fun c24 => ?_) (fun c24 => ?_)
        · have hI2 := mk_skip hk.2 hno hbb c24 hI
          refine lv_aload_n hx hb dX0_paint_38 rfl (lv_at hl 2 rfl) ?_
          refine va_get (D := (dC, dI)) (ci := 0) (v := .ref (ad 1)) (C := RX0) (T := TX0) (N := 12) hx hb hts in_X0 hown hK hP 0 rfl rfl 2 (by decide) (hts _ q48) (fun _ h9 => h9) rfl dX0_paint_39 ?_
          refine lv_iload_n hx hb dX0_paint_42 rfl (lv_at hl 3 rfl) ?_
          refine lv_iload_n hx hb dX0_paint_43 rfl (lv_at hl 0 rfl) ?_
          have hPc := hP.sub (ws' := wE (ad 1) (ad 2) cI bits) [1, 2] rfl
          refine vp_callSi (W.runV (As := [.int (nI a), .int (nI b)]) (rest := []) ⟨hx, hb, hml, hown, hts⟩ (metE_next l dC dI cI cZ (ad 1) (ad 2) a (b + 1) (nI b) bits E hEb (by omega) (by omega) (nI_1 b)) (cwV 2 hts (lw_V q145 q146 q147 q11 q148) rfl rfl rfl (by decide +kernel) ⟨Nat.le_of_ble_eq_true rfl, Nat.le_of_ble_eq_true rfl⟩) (y_preR hK hPc (ci := 1) (q0 := 0) rfl rfl) rfl rfl hl.1 rfl (lv_room (Nat.le_of_ble_eq_true rfl)) dX0_paint_44 ⟨Nat.zero_le _, Nat.zero_le _⟩) (fun x4 hx4 => ?_)
          refine lv_istore_n (lv' := [(3, .int x4), (2, .int tk), (0, .ref (ad 0)), (1, .int (nI a))]) hx hb dX0_paint_47 rfl hl (by decide) rfl (fun ls hl => ?_)
          refine lv_goto (tgt := 12) hx hb dX0_paint_48 (by decide) ?_
          exact ih (b + 1) x4 tk ls (by omega) (by omega) hx4 hI2 (lv_sub hl [0, 1, 2, 3] rfl)
        · obtain ⟨c0, hc0, hcb⟩ := (hcv b hbn).resolve_left c24
          have hI2 := mk_add hk.2 hno hbb hEab hc0 hcb hI
          refine lv_iload_n hx hb dX0_paint_27 rfl (lv_at hl 1 rfl) ?_
          refine lv_iconst (v := nI 1) hx hb dX0_paint_28 (by decide) ?_
          refine lv_aload_n hx hb dX0_paint_29 rfl (lv_at hl 2 rfl) ?_
          refine va_get (D := (dC, dI)) (ci := 0) (v := .ref (ad 11)) (C := RX0) (T := TX0) (N := 12) hx hb hts in_X0 hown hK hP 0 rfl rfl 10 (by decide) (hts _ q56) (fun _ h9 => h9) rfl dX0_paint_30 ?_
          refine lv_iload_n hx hb dX0_paint_33 rfl (lv_at hl 0 rfl) ?_
          refine y_iald (j := b) hx hb hK hP 11 0 rfl rfl (rfl) (by omega) (by decide) dX0_paint_34 ?_
          refine y_ti (y := nI c0) ((hcf b hbn).trans hcb) ?_
          refine lv_ishl hx hb dX0_paint_35 ?_
          refine lv_ior hx hb dX0_paint_36 ?_
          refine lv_topi (fun tk2 etk2 => ?_)
          rw [← etk2] at hI2
          refine lv_istore_n (lv' := [(2, .int tk2), (3, .int (nI b)), (0, .ref (ad 0)), (1, .int (nI a))]) hx hb dX0_paint_37 rfl hl (by decide) rfl (fun ls hl => ?_)
          refine lv_aload_n hx hb dX0_paint_38 rfl (lv_at hl 2 rfl) ?_
          refine va_get (D := (dC, dI)) (ci := 0) (v := .ref (ad 1)) (C := RX0) (T := TX0) (N := 12) hx hb hts in_X0 hown hK hP 0 rfl rfl 2 (by decide) (hts _ q48) (fun _ h9 => h9) rfl dX0_paint_39 ?_
          refine lv_iload_n hx hb dX0_paint_42 rfl (lv_at hl 3 rfl) ?_
          refine lv_iload_n hx hb dX0_paint_43 rfl (lv_at hl 1 rfl) ?_
          have hPc := hP.sub (ws' := wE (ad 1) (ad 2) cI bits) [1, 2] rfl
          refine vp_callSi (W.runV (As := [.int (nI a), .int (nI b)]) (rest := []) ⟨hx, hb, hml, hown, hts⟩ (metE_next l dC dI cI cZ (ad 1) (ad 2) a (b + 1) (nI b) bits E hEb (by omega) (by omega) (nI_1 b)) (cwV 2 hts (lw_V q145 q146 q147 q11 q148) rfl rfl rfl (by decide +kernel) ⟨Nat.le_of_ble_eq_true rfl, Nat.le_of_ble_eq_true rfl⟩) (y_preR hK hPc (ci := 1) (q0 := 0) rfl rfl) rfl rfl hl.1 rfl (lv_room (Nat.le_of_ble_eq_true rfl)) dX0_paint_44 ⟨Nat.zero_le _, Nat.zero_le _⟩) (fun x4 hx4 => ?_)
          refine lv_istore_n (lv' := [(3, .int x4), (2, .int tk2), (0, .ref (ad 0)), (1, .int (nI a))]) hx hb dX0_paint_47 rfl hl (by decide) rfl (fun ls hl => ?_)
          refine lv_goto (tgt := 12) hx hb dX0_paint_48 (by decide) ?_
          exact ih (b + 1) x4 tk2 ls (by omega) (by omega) hx4 hI2 (lv_sub hl [0, 1, 2, 3] rfl)
    · refine lv_iload_n hx hb dX0_paint_12 rfl (lv_at hl 0 rfl) ?_
      refine lv_iconst (v := -1) hx hb dX0_paint_13 (by decide) ?_
      refine lv_icmp_eq (tgt := 51) hx hb dX0_paint_14 (by decide) (fun c14 => ?_) (fun c14 => ?_)
      · exact kx b0 tk ls hno hI (lv_sub hl [1, 2, 3] rfl)
      · exact absurd rfl c14
set_option maxHeartbeats 4000000 in
set_option maxRecDepth 100000 in
theorem lpC_first {p : Program} {l : Launch} {e : Env} {s : State} {m : MethodId} {args : Array Value} {below : List Frame} {meth : Method} {c : Code} {Q : State → Prop} {dC : Nat → ClassId} {dI : Nat → Nat → Nat} {cI cZ : ClassId} (hx : p.tables.exec = Jvm.exec) (hb : c.code = cX0_paint) (hml : c.maxLocals = 5) (hown : s.vm.findClass RX0 = some m.cls) (hts : ∀ w ∈ lw_all, w.before args s = true) (hK : va_K (dC, dI) vwCl (tyK cI cZ) s) {ad : Nat → Nat} {n k a : Nat} {E : Nat → Nat → Bool} {cf : Nat → Int32} {pts giv cnt : Int32} {bits row cost wish degree left isOut order colour : Nat → Int32} (hn : n ≤ 200) (hk : 1 ≤ k ∧ k ≤ 30) (hEb : bitsR bits E) (hEl : ∀ a b, E a b = true → a < n ∧ b < n) (ha : a < n) (hcf : ∀ j, j < n → colour j = cf j) (hcv : ∀ j, j < n → cf j = -1 ∨ ∃ c, c < k ∧ cf j = nI c) {H : Heap} {locs : List Loc} (hP : va_P (dC, dI) vwCl (wC ad cI cZ pts (nI k) giv cnt bits row cost wish degree left isOut order colour) H) {tk : Int32} (hfr : ∀ c, c < k → freeC E n cf a (nI c) = !bt tk c) (kx : ∀ (cv : Nat) (ls : Array Slot), cv ≤ k → (∀ j, j < cv → freeC E n cf a (nI j) = false) → (cv < k → freeC E n cf a (nI cv) = true) → lv_has ls 5 [(4, .int (nI cv)), (2, .int tk), (0, .ref (ad 0)), (1, .int (nI a))] → W p l e rmA s m args below meth c H locs 0 0 Q (F0 m 112 ls [])) : ∀ (nn cv : Nat) (ls : Array Slot), cv ≤ k → k + 1 ≤ cv + nn → (∀ j, j < cv → freeC E n cf a (nI j) = false) → lv_has ls 5 [(4, .int (nI cv)), (2, .int tk), (0, .ref (ad 0)), (1, .int (nI a))] → W p l e rmA s m args below meth c H locs 0 0 Q (F0 m 87 ls []) := by
  intro nn
  induction nn with
  | zero =>
    intro cv ls h1 h2
    exact absurd h2 (by omega)
  | succ nn ih =>
    intro cv ls hcv1 hcv2 hz hl
    refine lv_iload hx hb dX0_paint_87 (lv_at hl 0 rfl) ?_
    refine lv_aload_n hx hb dX0_paint_89 rfl (lv_at hl 2 rfl) ?_
    refine va_get (D := (dC, dI)) (ci := 0) (v := .int (nI k)) (C := RX0) (T := TX0) (N := 12) hx hb hts in_X0 hown hK hP 0 rfl rfl 1 (by decide) (hts _ q47) (fun _ h9 => h9) rfl dX0_paint_90 ?_
    refine y_cge (i := cv) (j := k) (tgt := 112) hx hb (rfl) (rfl) (by omega) (by omega) dX0_paint_93 (by decide) (fun c93 => ?_) (fun c93 => ?_)
    · exact kx cv ls hcv1 hz (fun q => absurd q (by omega)) hl
    · refine lv_iload_n hx hb dX0_paint_96 rfl (lv_at hl 1 rfl) ?_
      refine lv_iload hx hb dX0_paint_97 (lv_at hl 0 rfl) ?_
      refine lv_ishr hx hb dX0_paint_99 ?_
      refine lv_iconst (v := nI 1) hx hb dX0_paint_100 (by decide) ?_
      refine lv_iand hx hb dX0_paint_101 ?_
      refine y_ti (y := b2i (bt tk cv)) (bt_shr (by omega)) ?_
      refine lv_iconst (v := nI 1) hx hb dX0_paint_102 (by decide) ?_
      refine lv_icmp_ne (tgt := 112) hx hb dX0_paint_103 (by decide) (fun c103 => ?_) (fun c103 => ?_)
      · exact kx cv ls hcv1 hz (fun q => by rw [hfr cv q, b2i_ne1 c103]; rfl) hl
      · refine lv_iinc (v := nI (cv + 1)) (lv' := [(4, .int (nI (cv + 1))), (2, .int tk), (0, .ref (ad 0)), (1, .int (nI a))]) hx hb dX0_paint_106 hl (k := 0) rfl (nI_1 cv) (by decide) rfl (fun ls hl => ?_)
        refine lv_goto (tgt := 87) hx hb dX0_paint_109 (by decide) ?_
        exact ih (cv + 1) ls (by omega) (by omega) (fun j hj => by
          by_cases e : j = cv
          · rw [e, hfr cv c93, b2i_eq1 c103]
            rfl
          · exact hz j (by omega)) hl
set_option maxHeartbeats 4000000 in
set_option maxRecDepth 100000 in
theorem metC_paint (l : Launch) (dC : Nat → ClassId) (dI : Nat → Nat → Nat) (cI cZ : ClassId) (sz : Nat) (ad : Nat → Nat) (n k a : Nat) (E : Nat → Nat → Bool) (wi : Nat → Nat) (cf : Nat → Int32) (pts giv cnt : Int32) (bits row cost wish degree left isOut order colour : Nat → Int32) (hn : n ≤ 200) (hk : 1 ≤ k ∧ k ≤ 30) (hEb : bitsR bits E) (hEl : ∀ a b, E a b = true → a < n ∧ b < n) (ha : a < n) (hwi : ∀ j, j < n → wish j = nI (wi j)) (hwil : ∀ j, j < n → wi j < n) (hcf : ∀ j, j < n → colour j = cf j) (hcv : ∀ j, j < n → cf j = -1 ∨ ∃ c, c < k ∧ cf j = nI c) : Met l yX0_paint (ws_ yX0_paint cX0_paint 5 (none)) rmA (va_Pc [.ref (ad 0), .int (nI a)] (fun U => U.heap.size = sz ∧ va_P (dC, dI) vwCl (wC ad cI cZ pts (nI k) giv cnt bits row cost wish degree left isOut order colour) U.heap ∧ va_K (dC, dI) vwCl (tyK cI cZ) U ∧ va_D (fun _ => True) (wC ad cI cZ pts (nI k) giv cnt bits row cost wish degree left isOut order colour))) (va_Qv (fun (_ : Unit) => True) (fun _ t => va_P (dC, dI) vwCl (wC ad cI cZ pts (nI k) giv cnt bits row cost wish degree left isOut order (upd colour a (pnt n k E wi cf a))) t.heap ∧ va_K (dC, dI) vwCl (tyK cI cZ) t ∧ va_D (va_A (wC ad cI cZ pts (nI k) giv cnt bits row cost wish degree left isOut order colour) sz) (wC ad cI cZ pts (nI k) giv cnt bits row cost wish degree left isOut order (upd colour a (pnt n k E wi cf a)))) (va_A (wC ad cI cZ pts (nI k) giv cnt bits row cost wish degree left isOut order colour) sz)) 0 0 (va_A (wC ad cI cZ pts (nI k) giv cnt bits row cost wish degree left isOut order colour) sz) := by
  refine Met.ofW (cc := cX0_paint) (maxL := 5) (ret := none) (by decide) rfl ?_
  intro p e s m args below meth c s₁ B hml hv
  obtain ⟨rfl, hsz, hP, hK, hD0⟩ := hv
  have hx := B.exec
  have hb := B.bytes
  have hr := B.returns
  have hlk := B.notSynchronized
  have hts := atoms_spec (ws := ws_ yX0_paint cX0_paint 5 (none)) B.pre
  have hts : ∀ w ∈ lw_all, w.before _ s = true := fun w h => hts w (List.mem_cons_of_mem _ h)
  have hown : s.vm.findClass RX0 = some m.cls := findClass_of_methodNamed B.named
  subst hsz
  have hD := hD0.self (sz := s.heap.size)
  generalize hAe : va_A (wC ad cI cZ pts (nI k) giv cnt bits row cost wish degree left isOut order colour) s.heap.size = A at hD ⊢
  have hA : ∀ q : Nat, s.heap.size ≤ q → A q := fun q h => by rw [← hAe]; exact Or.inr h
  have hS : va_S A s.heap s.heap [] := va_S.rf
  have hl := lv_entry ([.ref (ad 0), .int (nI a)]) (n := 5) (Nat.le_of_ble_eq_true rfl)
  rw [lg_entry_eq]
  generalize (lg_sl ([.ref (ad 0), .int (nI a)]) ++ List.replicate (5 - (lg_sl ([.ref (ad 0), .int (nI a)])).length) Slot.unset).toArray = ls at hl ⊢
  have hl : lv_has ls 5 [(0, .ref (ad 0)), (1, .int (nI a))] := hl
  refine lv_iconst (v := nI 0) hx hb dX0_paint_0 (by decide) ?_
  refine lv_istore_n (lv' := [(2, .int (nI 0)), (0, .ref (ad 0)), (1, .int (nI a))]) hx hb dX0_paint_1 rfl hl (by decide) rfl (fun ls hl => ?_)
  refine lv_aload_n hx hb dX0_paint_2 rfl (lv_at hl 1 rfl) ?_
  refine va_get (D := (dC, dI)) (ci := 0) (v := .ref (ad 1)) (C := RX0) (T := TX0) (N := 12) hx hb hts in_X0 hown hK hP 0 rfl rfl 2 (by decide) (hts _ q48) (fun _ h9 => h9) rfl dX0_paint_3 ?_
  refine lv_iload_n hx hb dX0_paint_6 rfl (lv_at hl 2 rfl) ?_
  refine lv_iconst (v := -1) hx hb dX0_paint_7 (by decide) ?_
  have hPc := hP.sub (ws' := wE (ad 1) (ad 2) cI bits) [1, 2] rfl
  refine vp_callSi (W.runV (As := [.int (nI a), .int (-1)]) (rest := []) ⟨hx, hb, hml, hown, hts⟩ (metE_next l dC dI cI cZ (ad 1) (ad 2) a 0 (-1) bits E hEb (by omega) (by omega) (by decide)) (cwV 2 hts (lw_V q145 q146 q147 q11 q148) rfl rfl rfl (by decide +kernel) ⟨Nat.le_of_ble_eq_true rfl, Nat.le_of_ble_eq_true rfl⟩) (y_preR hK hPc (ci := 1) (q0 := 0) rfl rfl) rfl rfl hl.1 rfl (lv_room (Nat.le_of_ble_eq_true rfl)) dX0_paint_8 ⟨Nat.zero_le _, Nat.zero_le _⟩) (fun x4 hx4 => ?_)
  refine lv_istore_n (lv' := [(3, .int x4), (2, .int (nI 0)), (0, .ref (ad 0)), (1, .int (nI a))]) hx hb dX0_paint_11 rfl hl (by decide) rfl (fun ls hl => ?_)
  refine lpC_mask hx hb hml hown hts hK hn hk hEb hEl ha hcf hcv hP ?_ 201 0 x4 (nI 0) ls (by omega) (by omega) hx4 mk_start (lv_sub hl [0, 1, 2, 3] rfl)
  intro b0 tk ls hno hI hl
  have hfr : ∀ c, c < k → freeC E n cf a (nI c) = !bt tk c := fun c hc => mk_free hn hEl hno hI hc
  have hwa := hwil a ha
  refine lv_aload_n hx hb dX0_paint_51 rfl (lv_at hl 1 rfl) ?_
  refine va_get (D := (dC, dI)) (ci := 0) (v := .ref (ad 11)) (C := RX0) (T := TX0) (N := 12) hx hb hts in_X0 hown hK hP 0 rfl rfl 10 (by decide) (hts _ q56) (fun _ h9 => h9) rfl dX0_paint_52 ?_
  refine lv_aload_n hx hb dX0_paint_55 rfl (lv_at hl 1 rfl) ?_
  refine va_get (D := (dC, dI)) (ci := 0) (v := .ref (ad 6)) (C := RX0) (T := TX0) (N := 12) hx hb hts in_X0 hown hK hP 0 rfl rfl 5 (by decide) (hts _ q51) (fun _ h9 => h9) rfl dX0_paint_56 ?_
  refine lv_iload_n hx hb dX0_paint_59 rfl (lv_at hl 2 rfl) ?_
  refine y_iald (j := a) hx hb hK hP 6 0 rfl rfl (rfl) (by omega) (by decide) dX0_paint_60 ?_
  refine y_ti (y := nI (wi a)) (hwi a ha) ?_
  refine y_iald (j := wi a) hx hb hK hP 11 0 rfl rfl (rfl) (by omega) (by decide) dX0_paint_61 ?_
  refine y_ti (y := cf (wi a)) (hcf _ hwa) ?_
  refine lv_istore_n (lv' := [(3, .int (cf (wi a))), (2, .int tk), (0, .ref (ad 0)), (1, .int (nI a))]) hx hb dX0_paint_62 rfl hl (by decide) rfl (fun ls hl => ?_)
  refine lv_iload_n hx hb dX0_paint_63 rfl (lv_at hl 0 rfl) ?_
  refine lv_iconst (v := -1) hx hb dX0_paint_64 (by decide) ?_
  refine lv_icmp_eq (tgt := 84) hx hb dX0_paint_65 (by decide) (fun c65 => ?_) (fun c65 => ?_)
  · have hnw : ¬ (cf (wi a) ≠ -1 ∧ freeC E n cf a (cf (wi a)) = true) := fun q => q.1 c65
    refine lv_iconst (v := nI 0) hx hb dX0_paint_84 (by decide) ?_
    refine lv_istore (lv' := [(4, .int (nI 0)), (3, .int (cf (wi a))), (2, .int tk), (0, .ref (ad 0)), (1, .int (nI a))]) hx hb dX0_paint_85 hl (by decide) rfl (fun ls hl => ?_)
    refine lpC_first hx hb hml hown hts hK hn hk hEb hEl ha hcf hcv hP hfr ?_ (k + 1) 0 ls (by omega) (by omega) (fun j hj => absurd hj (Nat.not_lt_zero j)) (lv_sub hl [0, 2, 3, 4] rfl)
    intro cv ls hcv1 hz hyes hl
    refine lv_aload_n hx hb dX0_paint_112 rfl (lv_at hl 2 rfl) ?_
    refine va_get (D := (dC, dI)) (ci := 0) (v := .ref (ad 11)) (C := RX0) (T := TX0) (N := 12) hx hb hts in_X0 hown hK hP 0 rfl rfl 10 (by decide) (hts _ q56) (fun _ h9 => h9) rfl dX0_paint_113 ?_
    refine lv_iload_n hx hb dX0_paint_116 rfl (lv_at hl 3 rfl) ?_
    refine lv_iload hx hb dX0_paint_117 (lv_at hl 0 rfl) ?_
    refine lv_aload_n hx hb dX0_paint_119 rfl (lv_at hl 2 rfl) ?_
    refine va_get (D := (dC, dI)) (ci := 0) (v := .int (nI k)) (C := RX0) (T := TX0) (N := 12) hx hb hts in_X0 hown hK hP 0 rfl rfl 1 (by decide) (hts _ q47) (fun _ h9 => h9) rfl dX0_paint_120 ?_
    refine y_cge (i := cv) (j := k) (tgt := 131) hx hb (rfl) (rfl) (by omega) (by omega) dX0_paint_123 (by decide) (fun c123 => ?_) (fun c123 => ?_)
    · refine lv_iconst (v := -1) hx hb dX0_paint_131 (by decide) ?_
      refine y_iast (j := a) hx hb hK hP hD hS 11 0 rfl rfl (rfl) (by omega) (by decide) dX0_paint_132 (fun H locs hP hD hS => ?_)
      have hP : va_P (dC, dI) vwCl (wC ad cI cZ pts (nI k) giv cnt bits row cost wish degree left isOut order (upd colour a (-1))) H := hP
      have hD : va_D A (wC ad cI cZ pts (nI k) giv cnt bits row cost wish degree left isOut order (upd colour a (-1))) := hD
      rw [show (-1 : Int32) = pnt n k E wi cf a from (pnt_none hnw (fun j hj => hz j (by omega))).symm] at hP hD
      have hP : va_P (dC, dI) vwCl (wC ad cI cZ pts (nI k) giv cnt bits row cost wish degree left isOut order (upd colour a (pnt n k E wi cf a))) H := hP
      have hD : va_D A (wC ad cI cZ pts (nI k) giv cnt bits row cost wish degree left isOut order (upd colour a (pnt n k E wi cf a))) := hD
      exact W.vret hx hb hr (fun t ht hW => ⟨⟨(), rfl, trivial, by rw [ht]; exact hP, va_K.moved hW.alike hK, hD⟩, hS.F ht⟩) hS.2.2 dX0_paint_133
    · refine lv_iload hx hb dX0_paint_126 (lv_at hl 0 rfl) ?_
      refine lv_goto (tgt := 132) hx hb dX0_paint_128 (by decide) ?_
      refine y_iast (j := a) hx hb hK hP hD hS 11 0 rfl rfl (rfl) (by omega) (by decide) dX0_paint_132 (fun H locs hP hD hS => ?_)
      have hP : va_P (dC, dI) vwCl (wC ad cI cZ pts (nI k) giv cnt bits row cost wish degree left isOut order (upd colour a (nI cv))) H := hP
      have hD : va_D A (wC ad cI cZ pts (nI k) giv cnt bits row cost wish degree left isOut order (upd colour a (nI cv))) := hD
      rw [show nI cv = pnt n k E wi cf a from (pnt_first hnw c123 (hyes c123) hz).symm] at hP hD
      have hP : va_P (dC, dI) vwCl (wC ad cI cZ pts (nI k) giv cnt bits row cost wish degree left isOut order (upd colour a (pnt n k E wi cf a))) H := hP
      have hD : va_D A (wC ad cI cZ pts (nI k) giv cnt bits row cost wish degree left isOut order (upd colour a (pnt n k E wi cf a))) := hD
      exact W.vret hx hb hr (fun t ht hW => ⟨⟨(), rfl, trivial, by rw [ht]; exact hP, va_K.moved hW.alike hK, hD⟩, hS.F ht⟩) hS.2.2 dX0_paint_133
  · obtain ⟨c0, hc0, hcw⟩ := (hcv _ hwa).resolve_left c65
    refine lv_iload_n hx hb dX0_paint_68 rfl (lv_at hl 1 rfl) ?_
    refine lv_iload_n hx hb dX0_paint_69 rfl (lv_at hl 0 rfl) ?_
    refine y_ti (y := nI c0) (hcw) ?_
    refine lv_ishr hx hb dX0_paint_70 ?_
    refine lv_iconst (v := nI 1) hx hb dX0_paint_71 (by decide) ?_
    refine lv_iand hx hb dX0_paint_72 ?_
    refine y_ti (y := b2i (bt tk c0)) (bt_shr (by omega)) ?_
    refine y_ifne (b := bt tk c0) (tgt := 84) hx hb (rfl) dX0_paint_73 (by decide) (fun c73 => ?_) (fun c73 => ?_)
    · have hnw : ¬ (cf (wi a) ≠ -1 ∧ freeC E n cf a (cf (wi a)) = true) := fun q => by
        have q2 := q.2
        rw [hcw, hfr c0 hc0, c73] at q2
        cases q2
      refine lv_iconst (v := nI 0) hx hb dX0_paint_84 (by decide) ?_
      refine lv_istore (lv' := [(4, .int (nI 0)), (3, .int (cf (wi a))), (2, .int tk), (0, .ref (ad 0)), (1, .int (nI a))]) hx hb dX0_paint_85 hl (by decide) rfl (fun ls hl => ?_)
      refine lpC_first hx hb hml hown hts hK hn hk hEb hEl ha hcf hcv hP hfr ?_ (k + 1) 0 ls (by omega) (by omega) (fun j hj => absurd hj (Nat.not_lt_zero j)) (lv_sub hl [0, 2, 3, 4] rfl)
      intro cv ls hcv1 hz hyes hl
      refine lv_aload_n hx hb dX0_paint_112 rfl (lv_at hl 2 rfl) ?_
      refine va_get (D := (dC, dI)) (ci := 0) (v := .ref (ad 11)) (C := RX0) (T := TX0) (N := 12) hx hb hts in_X0 hown hK hP 0 rfl rfl 10 (by decide) (hts _ q56) (fun _ h9 => h9) rfl dX0_paint_113 ?_
      refine lv_iload_n hx hb dX0_paint_116 rfl (lv_at hl 3 rfl) ?_
      refine lv_iload hx hb dX0_paint_117 (lv_at hl 0 rfl) ?_
      refine lv_aload_n hx hb dX0_paint_119 rfl (lv_at hl 2 rfl) ?_
      refine va_get (D := (dC, dI)) (ci := 0) (v := .int (nI k)) (C := RX0) (T := TX0) (N := 12) hx hb hts in_X0 hown hK hP 0 rfl rfl 1 (by decide) (hts _ q47) (fun _ h9 => h9) rfl dX0_paint_120 ?_
      refine y_cge (i := cv) (j := k) (tgt := 131) hx hb (rfl) (rfl) (by omega) (by omega) dX0_paint_123 (by decide) (fun c123 => ?_) (fun c123 => ?_)
      · refine lv_iconst (v := -1) hx hb dX0_paint_131 (by decide) ?_
        refine y_iast (j := a) hx hb hK hP hD hS 11 0 rfl rfl (rfl) (by omega) (by decide) dX0_paint_132 (fun H locs hP hD hS => ?_)
        have hP : va_P (dC, dI) vwCl (wC ad cI cZ pts (nI k) giv cnt bits row cost wish degree left isOut order (upd colour a (-1))) H := hP
        have hD : va_D A (wC ad cI cZ pts (nI k) giv cnt bits row cost wish degree left isOut order (upd colour a (-1))) := hD
        rw [show (-1 : Int32) = pnt n k E wi cf a from (pnt_none hnw (fun j hj => hz j (by omega))).symm] at hP hD
        have hP : va_P (dC, dI) vwCl (wC ad cI cZ pts (nI k) giv cnt bits row cost wish degree left isOut order (upd colour a (pnt n k E wi cf a))) H := hP
        have hD : va_D A (wC ad cI cZ pts (nI k) giv cnt bits row cost wish degree left isOut order (upd colour a (pnt n k E wi cf a))) := hD
        exact W.vret hx hb hr (fun t ht hW => ⟨⟨(), rfl, trivial, by rw [ht]; exact hP, va_K.moved hW.alike hK, hD⟩, hS.F ht⟩) hS.2.2 dX0_paint_133
      · refine lv_iload hx hb dX0_paint_126 (lv_at hl 0 rfl) ?_
        refine lv_goto (tgt := 132) hx hb dX0_paint_128 (by decide) ?_
        refine y_iast (j := a) hx hb hK hP hD hS 11 0 rfl rfl (rfl) (by omega) (by decide) dX0_paint_132 (fun H locs hP hD hS => ?_)
        have hP : va_P (dC, dI) vwCl (wC ad cI cZ pts (nI k) giv cnt bits row cost wish degree left isOut order (upd colour a (nI cv))) H := hP
        have hD : va_D A (wC ad cI cZ pts (nI k) giv cnt bits row cost wish degree left isOut order (upd colour a (nI cv))) := hD
        rw [show nI cv = pnt n k E wi cf a from (pnt_first hnw c123 (hyes c123) hz).symm] at hP hD
        have hP : va_P (dC, dI) vwCl (wC ad cI cZ pts (nI k) giv cnt bits row cost wish degree left isOut order (upd colour a (pnt n k E wi cf a))) H := hP
        have hD : va_D A (wC ad cI cZ pts (nI k) giv cnt bits row cost wish degree left isOut order (upd colour a (pnt n k E wi cf a))) := hD
        exact W.vret hx hb hr (fun t ht hW => ⟨⟨(), rfl, trivial, by rw [ht]; exact hP, va_K.moved hW.alike hK, hD⟩, hS.F ht⟩) hS.2.2 dX0_paint_133
    · refine lv_aload_n hx hb dX0_paint_76 rfl (lv_at hl 2 rfl) ?_
      refine va_get (D := (dC, dI)) (ci := 0) (v := .ref (ad 11)) (C := RX0) (T := TX0) (N := 12) hx hb hts in_X0 hown hK hP 0 rfl rfl 10 (by decide) (hts _ q56) (fun _ h9 => h9) rfl dX0_paint_77 ?_
      refine lv_iload_n hx hb dX0_paint_80 rfl (lv_at hl 3 rfl) ?_
      refine lv_iload_n hx hb dX0_paint_81 rfl (lv_at hl 0 rfl) ?_
      refine y_iast (j := a) hx hb hK hP hD hS 11 0 rfl rfl (rfl) (by omega) (by decide) dX0_paint_82 (fun H locs hP hD hS => ?_)
      have hP : va_P (dC, dI) vwCl (wC ad cI cZ pts (nI k) giv cnt bits row cost wish degree left isOut order (upd colour a (cf (wi a)))) H := hP
      have hD : va_D A (wC ad cI cZ pts (nI k) giv cnt bits row cost wish degree left isOut order (upd colour a (cf (wi a)))) := hD
      rw [show cf (wi a) = pnt n k E wi cf a from (pnt_wish c65 (by rw [hcw, hfr c0 hc0, c73]; rfl)).symm] at hP hD
      have hP : va_P (dC, dI) vwCl (wC ad cI cZ pts (nI k) giv cnt bits row cost wish degree left isOut order (upd colour a (pnt n k E wi cf a))) H := hP
      have hD : va_D A (wC ad cI cZ pts (nI k) giv cnt bits row cost wish degree left isOut order (upd colour a (pnt n k E wi cf a))) := hD
      exact W.vret hx hb hr (fun t ht hW => ⟨⟨(), rfl, trivial, by rw [ht]; exact hP, va_K.moved hW.alike hK, hD⟩, hS.F ht⟩) hS.2.2 dX0_paint_83
end
section
/-! PointColours.give -/
set_option maxHeartbeats 4000000 in
set_option maxRecDepth 100000 in
theorem lpC_give1 {p : Program} {l : Launch} {e : Env} {s : State} {m : MethodId} {args : Array Value} {below : List Frame} {meth : Method} {c : Code} {Q : State → Prop} {dC : Nat → ClassId} {dI : Nat → Nat → Nat} {cI cZ : ClassId} {A : Nat → Prop} (hx : p.tables.exec = Jvm.exec) (hb : c.code = cX0_give) (hml : c.maxLocals = 3) (hown : s.vm.findClass RX0 = some m.cls) (hts : ∀ w ∈ lw_all, w.before args s = true) (hK : va_K (dC, dI) vwCl (tyK cI cZ) s) (hA : ∀ q : Nat, s.heap.size ≤ q → A q) {ad : Nat → Nat} {n k : Nat} {E : Nat → Nat → Bool} {co wi : Nat → Nat} {giv : Int32} {bits cost wish degree order : Nat → Int32} (hn : n ≤ 200) (hk : 1 ≤ k ∧ k ≤ 30) (hdg : ∀ j, j < n → degree j = nI (dg E n j)) (kx : ∀ (cm : Nat) (row left isOut colour : Nat → Int32) (H : Heap) (locs : List Loc) (ls : Array Slot), (∀ j, j < n → left j = nI (dg E n j) ∧ isOut j = b2i false ∧ colour j = -1) → hpR row cm (fun v => decide (v < n) && decide (dg E n v < k)) → va_P (dC, dI) vwCl (wC ad cI cZ (nI n) (nI k) giv (nI cm) bits row cost wish degree left isOut order colour) H → va_D A (wC ad cI cZ (nI n) (nI k) giv (nI cm) bits row cost wish degree left isOut order colour) → va_S A s.heap H locs → lv_has ls 3 [(0, .ref (ad 0))] → W p l e rmB s m args below meth c H locs 0 0 Q (F0 m 70 ls [])) : ∀ (nn i : Nat) (cm : Nat) (row left isOut colour : Nat → Int32) (H : Heap) (locs : List Loc) (ls : Array Slot), i ≤ n → n + 1 ≤ i + nn → (∀ j, j < i → left j = nI (dg E n j) ∧ isOut j = b2i false ∧ colour j = -1) → hpR row cm (fun v => decide (v < i) && decide (dg E n v < k)) → va_P (dC, dI) vwCl (wC ad cI cZ (nI n) (nI k) giv (nI cm) bits row cost wish degree left isOut order colour) H → va_D A (wC ad cI cZ (nI n) (nI k) giv (nI cm) bits row cost wish degree left isOut order colour) → va_S A s.heap H locs → lv_has ls 3 [(1, .int (nI i)), (0, .ref (ad 0))] → W p l e rmB s m args below meth c H locs 0 0 Q (F0 m 9 ls []) := by
  intro nn
  induction nn with
  | zero =>
    intro i cm row left isOut colour H locs ls h1 h2
    exact absurd h2 (by omega)
  | succ nn ih =>
    intro i cm row left isOut colour H locs ls hi hin hz hR hP hD hS hl
    refine lv_iload_n hx hb dX0_give_9 rfl (lv_at hl 0 rfl) ?_
    refine lv_aload_n hx hb dX0_give_10 rfl (lv_at hl 1 rfl) ?_
    refine va_get (D := (dC, dI)) (ci := 0) (v := .int (nI n)) (C := RX0) (T := TX0) (N := 12) hx hb hts in_X0 hown hK hP 0 rfl rfl 0 (by decide) (hts _ q46) (fun _ h9 => h9) rfl dX0_give_11 ?_
    refine y_cge (i := i) (j := n) (tgt := 70) hx hb (rfl) (rfl) (by omega) (by omega) dX0_give_14 (by decide) (fun c14 => ?_) (fun c14 => ?_)
    · have hin2 : i = n := by omega
      rw [hin2] at hz hR
      exact kx cm row left isOut colour H locs ls hz hR hP hD hS (lv_sub hl [1] rfl)
    · have hdl := dg_le E n i
      refine lv_aload_n hx hb dX0_give_17 rfl (lv_at hl 1 rfl) ?_
      refine va_get (D := (dC, dI)) (ci := 0) (v := .ref (ad 8)) (C := RX0) (T := TX0) (N := 12) hx hb hts in_X0 hown hK hP 0 rfl rfl 7 (by decide) (hts _ q53) (fun _ h9 => h9) rfl dX0_give_18 ?_
      refine lv_iload_n hx hb dX0_give_21 rfl (lv_at hl 0 rfl) ?_
      refine lv_aload_n hx hb dX0_give_22 rfl (lv_at hl 1 rfl) ?_
      refine va_get (D := (dC, dI)) (ci := 0) (v := .ref (ad 7)) (C := RX0) (T := TX0) (N := 12) hx hb hts in_X0 hown hK hP 0 rfl rfl 6 (by decide) (hts _ q52) (fun _ h9 => h9) rfl dX0_give_23 ?_
      refine lv_iload_n hx hb dX0_give_26 rfl (lv_at hl 0 rfl) ?_
      refine y_iald (j := i) hx hb hK hP 7 0 rfl rfl (rfl) (by omega) (by decide) dX0_give_27 ?_
      refine y_ti (y := nI (dg E n i)) (hdg i c14) ?_
      refine y_iast (j := i) hx hb hK hP hD hS 8 0 rfl rfl (rfl) (by omega) (by decide) dX0_give_28 (fun H locs hP hD hS => ?_)
      have hP : va_P (dC, dI) vwCl (wC ad cI cZ (nI n) (nI k) giv (nI cm) bits row cost wish degree (upd left i (nI (dg E n i))) isOut order colour) H := hP
      have hD : va_D A (wC ad cI cZ (nI n) (nI k) giv (nI cm) bits row cost wish degree (upd left i (nI (dg E n i))) isOut order colour) := hD
      refine lv_aload_n hx hb dX0_give_29 rfl (lv_at hl 1 rfl) ?_
      refine va_get (D := (dC, dI)) (ci := 0) (v := .ref (ad 9)) (C := RX0) (T := TX0) (N := 12) hx hb hts in_X0 hown hK hP 0 rfl rfl 8 (by decide) (hts _ q54) (fun _ h9 => h9) rfl dX0_give_30 ?_
      refine lv_iload_n hx hb dX0_give_33 rfl (lv_at hl 0 rfl) ?_
      refine lv_iconst (v := b2i false) hx hb dX0_give_34 (by decide) ?_
      refine y_zast (v := b2i false) (j := i) hx hb hK hP hD hS 9 1 rfl rfl (b2i_nar _) (rfl) (by omega) (by decide) dX0_give_35 (fun H locs hP hD hS => ?_)
      have hP : va_P (dC, dI) vwCl (wC ad cI cZ (nI n) (nI k) giv (nI cm) bits row cost wish degree (upd left i (nI (dg E n i))) (upd isOut i (b2i false)) order colour) H := hP
      have hD : va_D A (wC ad cI cZ (nI n) (nI k) giv (nI cm) bits row cost wish degree (upd left i (nI (dg E n i))) (upd isOut i (b2i false)) order colour) := hD
      refine lv_aload_n hx hb dX0_give_36 rfl (lv_at hl 1 rfl) ?_
      refine va_get (D := (dC, dI)) (ci := 0) (v := .ref (ad 11)) (C := RX0) (T := TX0) (N := 12) hx hb hts in_X0 hown hK hP 0 rfl rfl 10 (by decide) (hts _ q56) (fun _ h9 => h9) rfl dX0_give_37 ?_
      refine lv_iload_n hx hb dX0_give_40 rfl (lv_at hl 0 rfl) ?_
      refine lv_iconst (v := -1) hx hb dX0_give_41 (by decide) ?_
      refine y_iast (j := i) hx hb hK hP hD hS 11 0 rfl rfl (rfl) (by omega) (by decide) dX0_give_42 (fun H locs hP hD hS => ?_)
      have hP : va_P (dC, dI) vwCl (wC ad cI cZ (nI n) (nI k) giv (nI cm) bits row cost wish degree (upd left i (nI (dg E n i))) (upd isOut i (b2i false)) order (upd colour i (-1))) H := hP
      have hD : va_D A (wC ad cI cZ (nI n) (nI k) giv (nI cm) bits row cost wish degree (upd left i (nI (dg E n i))) (upd isOut i (b2i false)) order (upd colour i (-1))) := hD
      refine lv_aload_n hx hb dX0_give_43 rfl (lv_at hl 1 rfl) ?_
      refine va_get (D := (dC, dI)) (ci := 0) (v := .ref (ad 8)) (C := RX0) (T := TX0) (N := 12) hx hb hts in_X0 hown hK hP 0 rfl rfl 7 (by decide) (hts _ q53) (fun _ h9 => h9) rfl dX0_give_44 ?_
      refine lv_iload_n hx hb dX0_give_47 rfl (lv_at hl 0 rfl) ?_
      refine y_iald (j := i) hx hb hK hP 8 0 rfl rfl (rfl) (by omega) (by decide) dX0_give_48 ?_
      refine y_ti (y := nI (dg E n i)) (pk_us) ?_
      refine lv_aload_n hx hb dX0_give_49 rfl (lv_at hl 1 rfl) ?_
      refine va_get (D := (dC, dI)) (ci := 0) (v := .int (nI k)) (C := RX0) (T := TX0) (N := 12) hx hb hts in_X0 hown hK hP 0 rfl rfl 1 (by decide) (hts _ q47) (fun _ h9 => h9) rfl dX0_give_50 ?_
      have hz2 : ∀ j, j < i + 1 → upd left i (nI (dg E n i)) j = nI (dg E n j) ∧ upd isOut i (b2i false) j = b2i false ∧ upd colour i (-1) j = -1 := fun j hj => by
        by_cases e : j = i
        · subst e
          exact ⟨pk_us, pk_us, pk_us⟩
        · rw [pk_un e, pk_un e, pk_un e]
          exact hz j (by omega)
      refine y_cge (i := dg E n i) (j := k) (tgt := 64) hx hb (rfl) (rfl) (by omega) (by omega) dX0_give_53 (by decide) (fun c53 => ?_) (fun c53 => ?_)
      · refine lv_iinc (v := nI (i + 1)) (lv' := [(1, .int (nI (i + 1))), (0, .ref (ad 0))]) hx hb dX0_give_64 hl (k := 0) rfl (nI_1 i) (by decide) rfl (fun ls hl => ?_)
        refine lv_goto (tgt := 9) hx hb dX0_give_67 (by decide) ?_
        exact ih (i + 1) cm row _ _ _ _ _ ls (by omega) (by omega) hz2 (hp_cong hR (fun v => by
          by_cases e : v = i
          · subst e
            rw [decide_eq_false (p := dg E n v < k) (by omega), Bool.and_false, Bool.and_false]
          · congr 1
            exact decide_eq_decide.mpr (by omega))) hP hD hS (lv_sub hl [0, 1] rfl)
      · refine lv_aload_n hx hb dX0_give_56 rfl (lv_at hl 1 rfl) ?_
        refine va_get (D := (dC, dI)) (ci := 0) (v := .ref (ad 3)) (C := RX0) (T := TX0) (N := 12) hx hb hts in_X0 hown hK hP 0 rfl rfl 3 (by decide) (hts _ q49) (fun _ h9 => h9) rfl dX0_give_57 ?_
        refine lv_iload_n hx hb dX0_give_60 rfl (lv_at hl 0 rfl) ?_
        have hPc := hP.sub (ws' := wH (ad 3) (ad 4) cI (nI cm) row) [3, 4] rfl
        have hDc := hD.sub (ws' := wH (ad 3) (ad 4) cI (nI cm) row) [3, 4] (by decide) rfl
        have hFc := va_free (wc := wH (ad 3) (ad 4) cI (nI cm) row) hD hS hA [3, 4] rfl
        refine va_callv (va_runV (As := [.int (nI i)]) (rest := []) ⟨hx, hb, hml, hown, hts⟩ (metH_put l dC dI cI cZ H.size (ad 3) (ad 4) cm i row _ hR (by omega) (by simp)) (cwV 1 hts (lw_V q125 q126 q127 q12 q128) rfl rfl rfl (by decide +kernel) ⟨Nat.le_of_ble_eq_true rfl, Nat.le_of_ble_eq_true rfl⟩) (y_preW hK hPc hDc (ci := 2) (q0 := 0) rfl rfl) rfl rfl hl.1 rfl (lv_room (Nat.le_of_ble_eq_true rfl)) dX0_give_61 ⟨Nat.zero_le _, Nat.zero_le _⟩) hS (fun q _ h => hFc q h) hFc (fun row2 t H1 locs ht hvm hrow2 hB hz1 hk1 hS => ?_)
        obtain ⟨hP1, hK1, hD1⟩ := hB
        rw [ht] at hP1
        obtain ⟨hP, hD⟩ := va_join (wr := wCh ad cI cZ (nI n) (nI k) giv bits cost wish degree (upd left i (nI (dg E n i))) (upd isOut i (b2i false)) order (upd colour i (-1))) (w1 := wH (ad 3) (ad 4) cI (nI (cm + 1)) row2) hP hD [3, 4] [0, 1, 2, 5, 6, 7, 8, 9, 10, 11] rfl rfl (by decide) (by decide) hk1 hFc hP1 hD1
        have hP := hP.sub (ws' := wC ad cI cZ (nI n) (nI k) giv (nI (cm + 1)) bits row2 cost wish degree (upd left i (nI (dg E n i))) (upd isOut i (b2i false)) order (upd colour i (-1))) [0, 1, 2, 10, 11, 3, 4, 5, 6, 7, 8, 9] rfl
        have hD := hD.sub (ws' := wC ad cI cZ (nI n) (nI k) giv (nI (cm + 1)) bits row2 cost wish degree (upd left i (nI (dg E n i))) (upd isOut i (b2i false)) order (upd colour i (-1))) [0, 1, 2, 10, 11, 3, 4, 5, 6, 7, 8, 9] (by decide) rfl
        generalize H1 = H at hP hS ⊢
        have hP : va_P (dC, dI) vwCl (wC ad cI cZ (nI n) (nI k) giv (nI (cm + 1)) bits row2 cost wish degree (upd left i (nI (dg E n i))) (upd isOut i (b2i false)) order (upd colour i (-1))) H := hP
        have hD : va_D A (wC ad cI cZ (nI n) (nI k) giv (nI (cm + 1)) bits row2 cost wish degree (upd left i (nI (dg E n i))) (upd isOut i (b2i false)) order (upd colour i (-1))) := hD
        refine lv_iinc (v := nI (i + 1)) (lv' := [(1, .int (nI (i + 1))), (0, .ref (ad 0))]) hx hb dX0_give_64 hl (k := 0) rfl (nI_1 i) (by decide) rfl (fun ls hl => ?_)
        refine lv_goto (tgt := 9) hx hb dX0_give_67 (by decide) ?_
        exact ih (i + 1) (cm + 1) row2 _ _ _ _ _ ls (by omega) (by omega) hz2 (hp_cong hrow2 (fun v => by
          by_cases e : v = i
          · subst e
            rw [va_up_self, decide_eq_true (p := v < v + 1) (by omega), decide_eq_true c53]
            rfl
          · rw [va_up_ne _ _ e]
            congr 1
            exact decide_eq_decide.mpr (by omega))) hP hD hS (lv_sub hl [0, 1] rfl)
set_option maxHeartbeats 4000000 in
set_option maxRecDepth 100000 in
theorem lpC_give2 {p : Program} {l : Launch} {e : Env} {s : State} {m : MethodId} {args : Array Value} {below : List Frame} {meth : Method} {c : Code} {Q : State → Prop} {dC : Nat → ClassId} {dI : Nat → Nat → Nat} {cI cZ : ClassId} {A : Nat → Prop} (hx : p.tables.exec = Jvm.exec) (hb : c.code = cX0_give) (hml : c.maxLocals = 3) (hown : s.vm.findClass RX0 = some m.cls) (hts : ∀ w ∈ lw_all, w.before args s = true) (hK : va_K (dC, dI) vwCl (tyK cI cZ) s) (hA : ∀ q : Nat, s.heap.size ≤ q → A q) {ad : Nat → Nat} {n k : Nat} {E : Nat → Nat → Bool} {co wi : Nat → Nat} {giv : Int32} {bits cost wish degree colour : Nat → Int32} (hn : n ≤ 200) (hk : 1 ≤ k ∧ k ≤ 30) (hEb : bitsR bits E) (hEl : ∀ a b, E a b = true → a < n ∧ b < n) (hEs : ∀ a b, E a b = E b a) (hco : ∀ j, j < n → cost j = nI (co j)) (hcol : ∀ j, j < n → co j ≤ 1000000) (kx : ∀ (cm : Nat) (row left isOut order : Nat → Int32) (H : Heap) (locs : List Loc) (ls : Array Slot), (∀ j, j < n → order j = nI (ordF n k E co j)) → va_P (dC, dI) vwCl (wC ad cI cZ (nI n) (nI k) giv (nI cm) bits row cost wish degree left isOut order colour) H → va_D A (wC ad cI cZ (nI n) (nI k) giv (nI cm) bits row cost wish degree left isOut order colour) → va_S A s.heap H locs → lv_has ls 3 [(0, .ref (ad 0))] → W p l e rmB s m args below meth c H locs 0 0 Q (F0 m 115 ls [])) : ∀ (nn i : Nat) (cm : Nat) (row left isOut order : Nat → Int32) (H : Heap) (locs : List Loc) (ls : Array Slot), i ≤ n → n + 1 ≤ i + nn → GS n k E (inS n k E co i) cm row left isOut → (∀ j, j < i → order j = nI (ordF n k E co j)) → va_P (dC, dI) vwCl (wC ad cI cZ (nI n) (nI k) giv (nI cm) bits row cost wish degree left isOut order colour) H → va_D A (wC ad cI cZ (nI n) (nI k) giv (nI cm) bits row cost wish degree left isOut order colour) → va_S A s.heap H locs → lv_has ls 3 [(1, .int (nI i)), (0, .ref (ad 0))] → W p l e rmB s m args below meth c H locs 0 0 Q (F0 m 72 ls []) := by
  intro nn
  induction nn with
  | zero =>
    intro i cm row left isOut order H locs ls h1 h2
    exact absurd h2 (by omega)
  | succ nn ih =>
    intro i cm row left isOut order H locs ls hi hin hG hor hP hD hS hl
    refine lv_iload_n hx hb dX0_give_72 rfl (lv_at hl 0 rfl) ?_
    refine lv_aload_n hx hb dX0_give_73 rfl (lv_at hl 1 rfl) ?_
    refine va_get (D := (dC, dI)) (ci := 0) (v := .int (nI n)) (C := RX0) (T := TX0) (N := 12) hx hb hts in_X0 hown hK hP 0 rfl rfl 0 (by decide) (hts _ q46) (fun _ h9 => h9) rfl dX0_give_74 ?_
    refine y_cge (i := i) (j := n) (tgt := 115) hx hb (rfl) (rfl) (by omega) (by omega) dX0_give_77 (by decide) (fun c77 => ?_) (fun c77 => ?_)
    · have hin2 : i = n := by omega
      rw [hin2] at hor
      exact kx cm row left isOut order H locs ls hor hP hD hS (lv_sub hl [1] rfl)
    · obtain ⟨hG1, hG2, hG3⟩ := hG
      have hcm := hp_le hG3
      have hoi := ordF_in (n := n) (k := k) (E := E) (co := co) c77
      have hil := inS_lt (n := n) (k := k) (E := E) (co := co) i
      refine lv_aload_n hx hb dX0_give_80 rfl (lv_at hl 1 rfl) ?_
      refine lv_iload_n hx hb dX0_give_81 rfl (lv_at hl 0 rfl) ?_
      refine lv_aload_n hx hb dX0_give_82 rfl (lv_at hl 1 rfl) ?_
      refine va_get (D := (dC, dI)) (ci := 0) (v := .ref (ad 3)) (C := RX0) (T := TX0) (N := 12) hx hb hts in_X0 hown hK hP 0 rfl rfl 3 (by decide) (hts _ q49) (fun _ h9 => h9) rfl dX0_give_83 ?_
      have hPc := hP.sub (ws' := wH (ad 3) (ad 4) cI (nI cm) row) [3, 4] rfl
      refine vp_callSi (W.runV (As := []) (rest := [.int (nI i), .ref (ad 0)]) ⟨hx, hb, hml, hown, hts⟩ (metH_isEmpty l dC dI cI cZ (ad 3) (ad 4) cm row hcm) (cwV 0 hts (lw_V q129 q130 q131 q12 q132) rfl rfl rfl (by decide +kernel) ⟨Nat.le_of_ble_eq_true rfl, Nat.le_of_ble_eq_true rfl⟩) (y_preR hK hPc (ci := 2) (q0 := 0) rfl rfl) rfl rfl hl.1 rfl (lv_room (Nat.le_of_ble_eq_true rfl)) dX0_give_86 ⟨Nat.zero_le _, Nat.zero_le _⟩) (fun r86 hr86 => ?_)
      refine y_ti (y := b2i (decide (cm = 0))) (hr86) ?_
      refine y_ifeq (b := decide (cm = 0)) (tgt := 99) hx hb (rfl) dX0_give_89 (by decide) (fun c89 => ?_) (fun c89 => ?_)
      · obtain ⟨cm, rfl⟩ : ∃ z, cm = z + 1 := ⟨cm - 1, by have : ¬ cm = 0 := of_decide_eq_false c89; omega⟩
        refine lv_aload_n hx hb dX0_give_99 rfl (lv_at hl 1 rfl) ?_
        refine va_get (D := (dC, dI)) (ci := 0) (v := .ref (ad 3)) (C := RX0) (T := TX0) (N := 12) hx hb hts in_X0 hown hK hP 0 rfl rfl 3 (by decide) (hts _ q49) (fun _ h9 => h9) rfl dX0_give_100 ?_
        have hPc := hP.sub (ws' := wH (ad 3) (ad 4) cI (nI (cm + 1)) row) [3, 4] rfl
        have hDc := hD.sub (ws' := wH (ad 3) (ad 4) cI (nI (cm + 1)) row) [3, 4] (by decide) rfl
        have hFc := va_free (wc := wH (ad 3) (ad 4) cI (nI (cm + 1)) row) hD hS hA [3, 4] rfl
        refine va_calli (va_runV (As := []) (rest := [.int (nI i), .ref (ad 0)]) ⟨hx, hb, hml, hown, hts⟩ (metH_take l dC dI cI cZ H.size (ad 3) (ad 4) cm row _ hG3) (cwV 0 hts (lw_V q137 q138 q139 q12 q140) rfl rfl rfl (by decide +kernel) ⟨Nat.le_of_ble_eq_true rfl, Nat.le_of_ble_eq_true rfl⟩) (y_preW hK hPc hDc (ci := 2) (q0 := 0) rfl rfl) rfl rfl hl.1 rfl (lv_room (Nat.le_of_ble_eq_true rfl)) dX0_give_103 ⟨Nat.zero_le _, Nat.zero_le _⟩) hS (fun q _ h => hFc q h) hFc (fun rx row2 t H1 locs ht hvm hrow2 hB hz1 hk1 hS => ?_)
        obtain ⟨hP1, hK1, hD1⟩ := hB
        rw [ht] at hP1
        obtain ⟨hP, hD⟩ := va_join (wr := wCh ad cI cZ (nI n) (nI k) giv bits cost wish degree left isOut order colour) (w1 := wH (ad 3) (ad 4) cI (nI cm) row2) hP hD [3, 4] [0, 1, 2, 5, 6, 7, 8, 9, 10, 11] rfl rfl (by decide) (by decide) hk1 hFc hP1 hD1
        have hP := hP.sub (ws' := wC ad cI cZ (nI n) (nI k) giv (nI cm) bits row2 cost wish degree left isOut order colour) [0, 1, 2, 10, 11, 3, 4, 5, 6, 7, 8, 9] rfl
        have hD := hD.sub (ws' := wC ad cI cZ (nI n) (nI k) giv (nI cm) bits row2 cost wish degree left isOut order colour) [0, 1, 2, 10, 11, 3, 4, 5, 6, 7, 8, 9] (by decide) rfl
        generalize H1 = H at hP hS ⊢
        have hP : va_P (dC, dI) vwCl (wC ad cI cZ (nI n) (nI k) giv (nI cm) bits row2 cost wish degree left isOut order colour) H := hP
        have hD : va_D A (wC ad cI cZ (nI n) (nI k) giv (nI cm) bits row2 cost wish degree left isOut order colour) := hD
        obtain ⟨x, rfl, hx200, hSx, hmin, hR2⟩ := hrow2
        have hxl : x < n := hil x (by unfold fewB at hSx; simp only [Bool.and_eq_true] at hSx; exact hSx.1)
        have hxo : ordF n k E co i = x := nxt_few hxl hSx hmin
        rw [← hxo] at hR2
        rw [← hxo]
        have hPc := hP.sub (ws' := wC ad cI cZ (nI n) (nI k) giv (nI cm) bits row2 cost wish degree left isOut order colour) [0, 1, 2, 3, 4, 5, 6, 7, 8, 9, 10, 11] rfl
        have hDc := hD.sub (ws' := wC ad cI cZ (nI n) (nI k) giv (nI cm) bits row2 cost wish degree left isOut order colour) [0, 1, 2, 3, 4, 5, 6, 7, 8, 9, 10, 11] (by decide) rfl
        have hFc := va_free (wc := wC ad cI cZ (nI n) (nI k) giv (nI cm) bits row2 cost wish degree left isOut order colour) hD hS hA [0, 1, 2, 3, 4, 5, 6, 7, 8, 9, 10, 11] rfl
        refine va_callv (va_runV (As := [.int (nI i), .int (nI (ordF n k E co i))]) (rest := []) ⟨hx, hb, hml, hown, hts⟩ (metC_takeOut l dC dI cI cZ H.size ad n k i (ordF n k E co i) cm E (inS n k E co i) giv bits row2 cost wish degree left isOut order colour hn hk hEb hEl hEs hil c77 hoi.1 hoi.2 hG1 hG2 (hR2)) (cwV 2 hts (lw_V q141 q143 qs2 q10 q144) rfl rfl rfl (by decide +kernel) ⟨Nat.le_of_ble_eq_true rfl, Nat.le_of_ble_eq_true rfl⟩) (y_preW hK hPc hDc (ci := 0) (q0 := 0) rfl rfl) rfl rfl hl.1 rfl (lv_room (Nat.le_of_ble_eq_true rfl)) dX0_give_106 ⟨Nat.zero_le _, Nat.zero_le _⟩) hS (fun q _ h => hFc q h) hFc (fun u t H1 locs ht hvm hG4 hB hz1 hk1 hS => ?_)
        obtain ⟨cm2, row2, left2, isOut2⟩ := u
        obtain ⟨hP1, hK1, hD1⟩ := hB
        rw [ht] at hP1
        obtain ⟨hP, hD⟩ := va_join (wr := []) (w1 := wC ad cI cZ (nI n) (nI k) giv (nI cm2) bits row2 cost wish degree left2 isOut2 (upd order i (nI (ordF n k E co i))) colour) hP hD [0, 1, 2, 3, 4, 5, 6, 7, 8, 9, 10, 11] [] rfl rfl (by decide) (by decide) hk1 hFc hP1 hD1
        generalize H1 = H at hP hS ⊢
        have hP : va_P (dC, dI) vwCl (wC ad cI cZ (nI n) (nI k) giv (nI cm2) bits row2 cost wish degree left2 isOut2 (upd order i (nI (ordF n k E co i))) colour) H := hP
        have hD : va_D A (wC ad cI cZ (nI n) (nI k) giv (nI cm2) bits row2 cost wish degree left2 isOut2 (upd order i (nI (ordF n k E co i))) colour) := hD
        refine lv_iinc (v := nI (i + 1)) (lv' := [(1, .int (nI (i + 1))), (0, .ref (ad 0))]) hx hb dX0_give_109 hl (k := 0) rfl (nI_1 i) (by decide) rfl (fun ls hl => ?_)
        refine lv_goto (tgt := 72) hx hb dX0_give_112 (by decide) ?_
        exact ih (i + 1) cm2 row2 left2 isOut2 _ _ _ ls (by omega) (by omega) hG4 (fun j hj => by
          by_cases e : j = i
          · subst e
            exact pk_us
          · rw [pk_un e]
            exact hor j (by omega)) hP hD hS (lv_sub hl [0, 1] rfl)
      · have hcm0 : cm = 0 := of_decide_eq_true c89
        refine lv_aload_n hx hb dX0_give_92 rfl (lv_at hl 1 rfl) ?_
        refine vp_callSi (W.runV (As := []) (rest := [.int (nI i), .ref (ad 0)]) ⟨hx, hb, hml, hown, hts⟩ (metC_cheapest l dC dI cI cZ ad n (nI k) giv (nI cm) bits row cost wish degree left isOut order colour (inS n k E co i) co (lf E n (inS n k E co i)) hn hG1 hG2 (fun j => Nat.le_trans (lf_le E n _ j) hn) hco hcol) (cwV 0 hts (lw_V q133 q135 qs1 q10 q136) rfl rfl rfl (by decide +kernel) ⟨Nat.le_of_ble_eq_true rfl, Nat.le_of_ble_eq_true rfl⟩) (y_preR hK hP (ci := 0) (q0 := 0) rfl rfl) rfl rfl hl.1 rfl (lv_room (Nat.le_of_ble_eq_true rfl)) dX0_give_93 ⟨Nat.zero_le _, Nat.zero_le _⟩) (fun rb hr93 => ?_)
        have hfe : ∀ v, fewB n k E (inS n k E co i) v = false := fun v => hp_zero (by rw [← hcm0]; exact hG3) v
        have hbe : rb = nI (ordF n k E co i) := by
          rw [hr93]
          cases hb9 : bst (inS n k E co i) co (lf E n (inS n k E co i)) n with
          | none =>
            exact absurd hoi.2 (by rw [bst_none n hb9 _ hoi.1]; decide)
          | some b =>
            rw [show ordF n k E co i = b from nxt_bst (fun j _ => hfe j) hb9]
            rfl
        refine y_ti (y := nI (ordF n k E co i)) (hbe) ?_
        refine lv_goto (tgt := 106) hx hb dX0_give_96 (by decide) ?_
        have hPc := hP.sub (ws' := wC ad cI cZ (nI n) (nI k) giv (nI cm) bits row cost wish degree left isOut order colour) [0, 1, 2, 3, 4, 5, 6, 7, 8, 9, 10, 11] rfl
        have hDc := hD.sub (ws' := wC ad cI cZ (nI n) (nI k) giv (nI cm) bits row cost wish degree left isOut order colour) [0, 1, 2, 3, 4, 5, 6, 7, 8, 9, 10, 11] (by decide) rfl
        have hFc := va_free (wc := wC ad cI cZ (nI n) (nI k) giv (nI cm) bits row cost wish degree left isOut order colour) hD hS hA [0, 1, 2, 3, 4, 5, 6, 7, 8, 9, 10, 11] rfl
        refine va_callv (va_runV (As := [.int (nI i), .int (nI (ordF n k E co i))]) (rest := []) ⟨hx, hb, hml, hown, hts⟩ (metC_takeOut l dC dI cI cZ H.size ad n k i (ordF n k E co i) cm E (inS n k E co i) giv bits row cost wish degree left isOut order colour hn hk hEb hEl hEs hil c77 hoi.1 hoi.2 hG1 hG2 (hp_cong hG3 (fun v => by
          by_cases e : v = ordF n k E co i
          · rw [e, va_up_self, hfe]
          · rw [va_up_ne _ _ e]))) (cwV 2 hts (lw_V q141 q143 qs2 q10 q144) rfl rfl rfl (by decide +kernel) ⟨Nat.le_of_ble_eq_true rfl, Nat.le_of_ble_eq_true rfl⟩) (y_preW hK hPc hDc (ci := 0) (q0 := 0) rfl rfl) rfl rfl hl.1 rfl (lv_room (Nat.le_of_ble_eq_true rfl)) dX0_give_106 ⟨Nat.zero_le _, Nat.zero_le _⟩) hS (fun q _ h => hFc q h) hFc (fun u t H1 locs ht hvm hG4 hB hz1 hk1 hS => ?_)
        obtain ⟨cm2, row2, left2, isOut2⟩ := u
        obtain ⟨hP1, hK1, hD1⟩ := hB
        rw [ht] at hP1
        obtain ⟨hP, hD⟩ := va_join (wr := []) (w1 := wC ad cI cZ (nI n) (nI k) giv (nI cm2) bits row2 cost wish degree left2 isOut2 (upd order i (nI (ordF n k E co i))) colour) hP hD [0, 1, 2, 3, 4, 5, 6, 7, 8, 9, 10, 11] [] rfl rfl (by decide) (by decide) hk1 hFc hP1 hD1
        generalize H1 = H at hP hS ⊢
        have hP : va_P (dC, dI) vwCl (wC ad cI cZ (nI n) (nI k) giv (nI cm2) bits row2 cost wish degree left2 isOut2 (upd order i (nI (ordF n k E co i))) colour) H := hP
        have hD : va_D A (wC ad cI cZ (nI n) (nI k) giv (nI cm2) bits row2 cost wish degree left2 isOut2 (upd order i (nI (ordF n k E co i))) colour) := hD
        refine lv_iinc (v := nI (i + 1)) (lv' := [(1, .int (nI (i + 1))), (0, .ref (ad 0))]) hx hb dX0_give_109 hl (k := 0) rfl (nI_1 i) (by decide) rfl (fun ls hl => ?_)
        refine lv_goto (tgt := 72) hx hb dX0_give_112 (by decide) ?_
        exact ih (i + 1) cm2 row2 left2 isOut2 _ _ _ ls (by omega) (by omega) hG4 (fun j hj => by
          by_cases e : j = i
          · subst e
            exact pk_us
          · rw [pk_un e]
            exact hor j (by omega)) hP hD hS (lv_sub hl [0, 1] rfl)
set_option maxHeartbeats 4000000 in
set_option maxRecDepth 100000 in
theorem lpC_give3 {p : Program} {l : Launch} {e : Env} {s : State} {m : MethodId} {args : Array Value} {below : List Frame} {meth : Method} {c : Code} {Q : State → Prop} {dC : Nat → ClassId} {dI : Nat → Nat → Nat} {cI cZ : ClassId} {A : Nat → Prop} (hx : p.tables.exec = Jvm.exec) (hb : c.code = cX0_give) (hml : c.maxLocals = 3) (hown : s.vm.findClass RX0 = some m.cls) (hts : ∀ w ∈ lw_all, w.before args s = true) (hK : va_K (dC, dI) vwCl (tyK cI cZ) s) (hA : ∀ q : Nat, s.heap.size ≤ q → A q) {ad : Nat → Nat} {n k : Nat} {E : Nat → Nat → Bool} {co wi : Nat → Nat} {giv : Int32} {cnt : Int32} {bits row cost wish degree left isOut order : Nat → Int32} (hn : n ≤ 200) (hk : 1 ≤ k ∧ k ≤ 30) (hEb : bitsR bits E) (hEl : ∀ a b, E a b = true → a < n ∧ b < n) (hwi : ∀ j, j < n → wish j = nI (wi j)) (hwil : ∀ j, j < n → wi j < n) (hor : ∀ j, j < n → order j = nI (ordF n k E co j)) (kx : ∀ (colour : Nat → Int32) (H : Heap) (locs : List Loc) (ls : Array Slot), (∀ j, j < n → colour j = colS n k E co wi n j) → va_P (dC, dI) vwCl (wC ad cI cZ (nI n) (nI k) giv cnt bits row cost wish degree left isOut order colour) H → va_D A (wC ad cI cZ (nI n) (nI k) giv cnt bits row cost wish degree left isOut order colour) → va_S A s.heap H locs → lv_has ls 3 [(1, .int (nI (woS n k E co wi n))), (0, .ref (ad 0))] → W p l e rmB s m args below meth c H locs 0 0 Q (F0 m 162 ls [])) : ∀ (jj : Nat) (colour : Nat → Int32) (H : Heap) (locs : List Loc) (ls : Array Slot), jj ≤ n → (∀ j, j < n → colour j = colS n k E co wi (n - jj) j) → va_P (dC, dI) vwCl (wC ad cI cZ (nI n) (nI k) giv cnt bits row cost wish degree left isOut order colour) H → va_D A (wC ad cI cZ (nI n) (nI k) giv cnt bits row cost wish degree left isOut order colour) → va_S A s.heap H locs → lv_has ls 3 [(2, .int (dnI jj)), (1, .int (nI (woS n k E co wi (n - jj)))), (0, .ref (ad 0))] → W p l e rmB s m args below meth c H locs 0 0 Q (F0 m 124 ls []) := by
  intro jj
  induction jj with
  | zero =>
    intro colour H locs ls _ hcl hP hD hS hl
    have hl : lv_has ls 3 [(2, .int (-1)), (1, .int (nI (woS n k E co wi n))), (0, .ref (ad 0))] := hl
    refine lv_iload_n hx hb dX0_give_124 rfl (lv_at hl 0 rfl) ?_
    refine lv_if_lt (tgt := 162) hx hb dX0_give_125 (by decide) (fun c125 => ?_) (fun c125 => ?_)
    · exact kx colour H locs ls hcl hP hD hS (lv_sub hl [1, 2] rfl)
    · exact absurd (by decide) c125
  | succ j ih =>
    intro colour H locs ls hj hcl hP hD hS hl
    obtain ⟨tt, htt⟩ : ∃ z, z = n - (j + 1) := ⟨_, rfl⟩
    rw [← htt] at hcl hl
    have hj2 : n - 1 - tt = j := by omega
    have hoj := (ordF_in (n := n) (k := k) (E := E) (co := co) (i := j) (by omega)).1
    have hwl := woS_le (n := n) (k := k) (E := E) (co := co) (wi := wi) tt
    have hl : lv_has ls 3 [(2, .int (nI j)), (1, .int (nI (woS n k E co wi tt))), (0, .ref (ad 0))] := hl
    refine lv_iload_n hx hb dX0_give_124 rfl (lv_at hl 0 rfl) ?_
    refine lv_if_lt (tgt := 162) hx hb dX0_give_125 (by decide) (fun c125 => ?_) (fun c125 => ?_)
    · exact absurd c125 (nI_pos (by omega))
    · refine lv_aload_n hx hb dX0_give_128 rfl (lv_at hl 2 rfl) ?_
      refine lv_aload_n hx hb dX0_give_129 rfl (lv_at hl 2 rfl) ?_
      refine va_get (D := (dC, dI)) (ci := 0) (v := .ref (ad 10)) (C := RX0) (T := TX0) (N := 12) hx hb hts in_X0 hown hK hP 0 rfl rfl 9 (by decide) (hts _ q55) (fun _ h9 => h9) rfl dX0_give_130 ?_
      refine lv_iload_n hx hb dX0_give_133 rfl (lv_at hl 0 rfl) ?_
      refine y_iald (j := j) hx hb hK hP 10 0 rfl rfl (rfl) (by omega) (by decide) dX0_give_134 ?_
      refine y_ti (y := nI (ordF n k E co j)) (hor j (by omega)) ?_
      have hPc := hP.sub (ws' := wC ad cI cZ (nI n) (nI k) giv cnt bits row cost wish degree left isOut order colour) [0, 1, 2, 3, 4, 5, 6, 7, 8, 9, 10, 11] rfl
      have hDc := hD.sub (ws' := wC ad cI cZ (nI n) (nI k) giv cnt bits row cost wish degree left isOut order colour) [0, 1, 2, 3, 4, 5, 6, 7, 8, 9, 10, 11] (by decide) rfl
      have hFc := va_free (wc := wC ad cI cZ (nI n) (nI k) giv cnt bits row cost wish degree left isOut order colour) hD hS hA [0, 1, 2, 3, 4, 5, 6, 7, 8, 9, 10, 11] rfl
      refine va_callv (va_runV (As := [.int (nI (ordF n k E co j))]) (rest := []) ⟨hx, hb, hml, hown, hts⟩ (metC_paint l dC dI cI cZ H.size ad n k (ordF n k E co j) E wi (colS n k E co wi tt) (nI n) giv cnt bits row cost wish degree left isOut order colour hn hk hEb hEl hoj hwi hwil hcl (fun v _ => colS_val tt v)) (cwV 1 hts (lw_V q149 q151 qs3 q10 q152) rfl rfl rfl (by decide +kernel) ⟨Nat.le_of_ble_eq_true rfl, Nat.le_of_ble_eq_true rfl⟩) (y_preW hK hPc hDc (ci := 0) (q0 := 0) rfl rfl) rfl rfl hl.1 rfl (lv_room (Nat.le_of_ble_eq_true rfl)) dX0_give_135 ⟨Nat.zero_le _, Nat.zero_le _⟩) hS (fun q _ h => hFc q h) hFc (fun u t H1 locs ht hvm hw hB hz1 hk1 hS => ?_)
      obtain ⟨hP1, hK1, hD1⟩ := hB
      rw [ht] at hP1
      obtain ⟨hP, hD⟩ := va_join (wr := []) (w1 := wC ad cI cZ (nI n) (nI k) giv cnt bits row cost wish degree left isOut order (upd colour (ordF n k E co j) (pnt n k E wi (colS n k E co wi tt) (ordF n k E co j)))) hP hD [0, 1, 2, 3, 4, 5, 6, 7, 8, 9, 10, 11] [] rfl rfl (by decide) (by decide) hk1 hFc hP1 hD1
      generalize H1 = H at hP hS ⊢
      have hP : va_P (dC, dI) vwCl (wC ad cI cZ (nI n) (nI k) giv cnt bits row cost wish degree left isOut order (upd colour (ordF n k E co j) (pnt n k E wi (colS n k E co wi tt) (ordF n k E co j)))) H := hP
      have hD : va_D A (wC ad cI cZ (nI n) (nI k) giv cnt bits row cost wish degree left isOut order (upd colour (ordF n k E co j) (pnt n k E wi (colS n k E co wi tt) (ordF n k E co j)))) := hD
      have hcs : colS n k E co wi (tt + 1) = upd (colS n k E co wi tt) (ordF n k E co j) (pnt n k E wi (colS n k E co wi tt) (ordF n k E co j)) := by rw [colS_s, hj2]
      have hws : woS n k E co wi (tt + 1) = woS n k E co wi tt + (if pnt n k E wi (colS n k E co wi tt) (ordF n k E co j) = -1 then 1 else 0) := by
        show woS n k E co wi tt + (if pnt n k E wi (colS n k E co wi tt) (ordF n k E co (n - 1 - tt)) = -1 then 1 else 0) = _
        rw [hj2]
      have hcl2 : ∀ v, v < n → upd colour (ordF n k E co j) (pnt n k E wi (colS n k E co wi tt) (ordF n k E co j)) v = colS n k E co wi (n - j) v := fun v hv => by
        rw [show n - j = tt + 1 by omega, hcs]
        by_cases e : v = ordF n k E co j
        · rw [e, pk_us, pk_us]
        · rw [pk_un e, pk_un e]
          exact hcl v hv
      refine lv_aload_n hx hb dX0_give_138 rfl (lv_at hl 2 rfl) ?_
      refine va_get (D := (dC, dI)) (ci := 0) (v := .ref (ad 11)) (C := RX0) (T := TX0) (N := 12) hx hb hts in_X0 hown hK hP 0 rfl rfl 10 (by decide) (hts _ q56) (fun _ h9 => h9) rfl dX0_give_139 ?_
      refine lv_aload_n hx hb dX0_give_142 rfl (lv_at hl 2 rfl) ?_
      refine va_get (D := (dC, dI)) (ci := 0) (v := .ref (ad 10)) (C := RX0) (T := TX0) (N := 12) hx hb hts in_X0 hown hK hP 0 rfl rfl 9 (by decide) (hts _ q55) (fun _ h9 => h9) rfl dX0_give_143 ?_
      refine lv_iload_n hx hb dX0_give_146 rfl (lv_at hl 0 rfl) ?_
      refine y_iald (j := j) hx hb hK hP 10 0 rfl rfl (rfl) (by omega) (by decide) dX0_give_147 ?_
      refine y_ti (y := nI (ordF n k E co j)) (hor j (by omega)) ?_
      refine y_iald (j := ordF n k E co j) hx hb hK hP 11 0 rfl rfl (rfl) (by omega) (by decide) dX0_give_148 ?_
      refine y_ti (y := pnt n k E wi (colS n k E co wi tt) (ordF n k E co j)) (pk_us) ?_
      refine lv_iconst (v := -1) hx hb dX0_give_149 (by decide) ?_
      refine lv_icmp_ne (tgt := 156) hx hb dX0_give_150 (by decide) (fun c150 => ?_) (fun c150 => ?_)
      · refine lv_iinc (v := dnI j) (lv' := [(2, .int (dnI j)), (1, .int (nI (woS n k E co wi tt))), (0, .ref (ad 0))]) hx hb dX0_give_156 hl (k := 0) rfl (dnI_step j) (by decide) rfl (fun ls hl => ?_)
        refine lv_goto (tgt := 124) hx hb dX0_give_159 (by decide) ?_
        exact ih _ _ _ ls (by omega) hcl2 hP hD hS (by rw [show n - j = tt + 1 by omega, hws, if_neg c150, Nat.add_zero]; exact lv_sub hl [0, 1, 2] rfl)
      · refine lv_iinc (v := nI (woS n k E co wi tt + 1)) (lv' := [(1, .int (nI (woS n k E co wi tt + 1))), (2, .int (nI j)), (0, .ref (ad 0))]) hx hb dX0_give_153 hl (k := 1) rfl (nI_1 (woS n k E co wi tt)) (by decide) rfl (fun ls hl => ?_)
        refine lv_iinc (v := dnI j) (lv' := [(2, .int (dnI j)), (1, .int (nI (woS n k E co wi tt + 1))), (0, .ref (ad 0))]) hx hb dX0_give_156 hl (k := 1) rfl (dnI_step j) (by decide) rfl (fun ls hl => ?_)
        refine lv_goto (tgt := 124) hx hb dX0_give_159 (by decide) ?_
        exact ih _ _ _ ls (by omega) hcl2 hP hD hS (by rw [show n - j = tt + 1 by omega, hws, if_pos c150]; exact lv_sub hl [0, 1, 2] rfl)
set_option maxHeartbeats 4000000 in
set_option maxRecDepth 100000 in
theorem metC_give (l : Launch) (dC : Nat → ClassId) (dI : Nat → Nat → Nat) (cI cZ : ClassId) (sz : Nat) (ad : Nat → Nat) (n k : Nat) (E : Nat → Nat → Bool) (co wi : Nat → Nat) (g : Bool) (cnt : Int32) (bits row cost wish degree left isOut order colour : Nat → Int32) (hok : okA n k E co wi) (hC : CR n k E co wi g bits cost wish degree order colour) : Met l yX0_give (ws_ yX0_give cX0_give 3 (some .int)) rmB (va_Pc [.ref (ad 0)] (fun U => U.heap.size = sz ∧ va_P (dC, dI) vwCl (wC ad cI cZ (nI n) (nI k) (b2i g) cnt bits row cost wish degree left isOut order colour) U.heap ∧ va_K (dC, dI) vwCl (tyK cI cZ) U ∧ va_D (fun _ => True) (wC ad cI cZ (nI n) (nI k) (b2i g) cnt bits row cost wish degree left isOut order colour))) (va_Qi (fun (r : Int32) (_ : Unit) => r = giveA (n, k, E, co, wi, g)) (fun _ t => CW (dC, dI) (va_A (wC ad cI cZ (nI n) (nI k) (b2i g) cnt bits row cost wish degree left isOut order colour) sz) ad cI cZ (giveS (n, k, E, co, wi, g)) t) (va_A (wC ad cI cZ (nI n) (nI k) (b2i g) cnt bits row cost wish degree left isOut order colour) sz)) 0 0 (va_A (wC ad cI cZ (nI n) (nI k) (b2i g) cnt bits row cost wish degree left isOut order colour) sz) := by
  refine Met.ofW (cc := cX0_give) (maxL := 3) (ret := (some .int)) (by decide) rfl ?_
  intro p e s m args below meth c s₁ B hml hv
  obtain ⟨rfl, hsz, hP, hK, hD0⟩ := hv
  have hx := B.exec
  have hb := B.bytes
  have hr := B.returns
  have hlk := B.notSynchronized
  have hts := atoms_spec (ws := ws_ yX0_give cX0_give 3 (some .int)) B.pre
  have hts : ∀ w ∈ lw_all, w.before _ s = true := fun w h => hts w (List.mem_cons_of_mem _ h)
  have hown : s.vm.findClass RX0 = some m.cls := findClass_of_methodNamed B.named
  subst hsz
  have hD := hD0.self (sz := s.heap.size)
  generalize hAe : va_A (wC ad cI cZ (nI n) (nI k) (b2i g) cnt bits row cost wish degree left isOut order colour) s.heap.size = A at hD ⊢
  have hA : ∀ q : Nat, s.heap.size ≤ q → A q := fun q h => by rw [← hAe]; exact Or.inr h
  have hS : va_S A s.heap s.heap [] := va_S.rf
  have hl := lv_entry ([.ref (ad 0)]) (n := 3) (Nat.le_of_ble_eq_true rfl)
  rw [lg_entry_eq]
  generalize (lg_sl ([.ref (ad 0)]) ++ List.replicate (3 - (lg_sl ([.ref (ad 0)])).length) Slot.unset).toArray = ls at hl ⊢
  have hl : lv_has ls 3 [(0, .ref (ad 0))] := hl
  obtain ⟨hEb, hco, hwi, hdg, hgv⟩ := hC
  obtain ⟨hn, hk, hEl, hEs, hEr, hcol, hwil⟩ := hok
  obtain ⟨H, hHe⟩ : ∃ H, H = s.heap := ⟨_, rfl⟩
  have hS : va_S A s.heap H [] := hHe ▸ hS
  have hP : va_P (dC, dI) vwCl (wC ad cI cZ (nI n) (nI k) (b2i g) cnt bits row cost wish degree left isOut order colour) H := hHe ▸ hP
  rw [← hHe]
  refine lv_aload_n hx hb dX0_give_0 rfl (lv_at hl 0 rfl) ?_
  refine va_get (D := (dC, dI)) (ci := 0) (v := .ref (ad 3)) (C := RX0) (T := TX0) (N := 12) hx hb hts in_X0 hown hK hP 0 rfl rfl 3 (by decide) (hts _ q49) (fun _ h9 => h9) rfl dX0_give_1 ?_
  have hPc := hP.sub (ws' := wH (ad 3) (ad 4) cI cnt row) [3, 4] rfl
  have hDc := hD.sub (ws' := wH (ad 3) (ad 4) cI cnt row) [3, 4] (by decide) rfl
  have hFc := va_free (wc := wH (ad 3) (ad 4) cI cnt row) hD hS hA [3, 4] rfl
  refine va_callv (va_runV (As := []) (rest := []) ⟨hx, hb, hml, hown, hts⟩ (metH_clear l dC dI cI cZ H.size (ad 3) (ad 4) cnt row) (cwV 0 hts (lw_V q121 q122 q123 q12 q124) rfl rfl rfl (by decide +kernel) ⟨Nat.le_of_ble_eq_true rfl, Nat.le_of_ble_eq_true rfl⟩) (y_preW hK hPc hDc (ci := 2) (q0 := 0) rfl rfl) rfl rfl hl.1 rfl (lv_room (Nat.le_of_ble_eq_true rfl)) dX0_give_4 ⟨Nat.zero_le _, Nat.zero_le _⟩) hS (fun q _ h => hFc q h) hFc (fun row1 t H1 locs ht hvm hrow1 hB hz1 hk1 hS => ?_)
  obtain ⟨hP1, hK1, hD1⟩ := hB
  rw [ht] at hP1
  obtain ⟨hP, hD⟩ := va_join (wr := wCh ad cI cZ (nI n) (nI k) (b2i g) bits cost wish degree left isOut order colour) (w1 := wH (ad 3) (ad 4) cI (nI 0) row1) hP hD [3, 4] [0, 1, 2, 5, 6, 7, 8, 9, 10, 11] rfl rfl (by decide) (by decide) hk1 hFc hP1 hD1
  have hP := hP.sub (ws' := wC ad cI cZ (nI n) (nI k) (b2i g) (nI 0) bits row1 cost wish degree left isOut order colour) [0, 1, 2, 10, 11, 3, 4, 5, 6, 7, 8, 9] rfl
  have hD := hD.sub (ws' := wC ad cI cZ (nI n) (nI k) (b2i g) (nI 0) bits row1 cost wish degree left isOut order colour) [0, 1, 2, 10, 11, 3, 4, 5, 6, 7, 8, 9] (by decide) rfl
  generalize H1 = H at hP hS ⊢
  have hP : va_P (dC, dI) vwCl (wC ad cI cZ (nI n) (nI k) (b2i g) (nI 0) bits row1 cost wish degree left isOut order colour) H := hP
  have hD : va_D A (wC ad cI cZ (nI n) (nI k) (b2i g) (nI 0) bits row1 cost wish degree left isOut order colour) := hD
  refine lv_iconst (v := nI 0) hx hb dX0_give_7 (by decide) ?_
  refine lv_istore_n (lv' := [(1, .int (nI 0)), (0, .ref (ad 0))]) hx hb dX0_give_8 rfl hl (by decide) rfl (fun ls hl => ?_)
  refine lpC_give1 (co := co) (wi := wi) hx hb hml hown hts hK hA hn.2 hk hdg ?_ (n + 1) 0 0 row1 left isOut colour _ _ ls (by omega) (by omega) (fun j hj => absurd hj (Nat.not_lt_zero j)) (hp_cong hrow1 (fun v => rfl)) hP hD hS (lv_sub hl [0, 1] rfl)
  intro cm row left isOut colour H locs ls hz hR hP hD hS hl
  have hG : GS n k E (inS n k E co 0) cm row left isOut := ⟨fun j hj => by rw [(hz j hj).2.1, inS_0, decide_eq_true hj]; rfl, fun j hj _ => by rw [(hz j hj).1, lf_all (fun b hb => by rw [inS_0, decide_eq_true hb])], hp_cong hR (fun v => by
    unfold fewB
    rw [inS_0, lf_all (fun b hb => by rw [inS_0, decide_eq_true hb])])⟩
  have hc1 : ∀ j, j < n → colour j = colS n k E co wi 0 j := fun j hj => (hz j hj).2.2
  refine lv_iconst (v := nI 0) hx hb dX0_give_70 (by decide) ?_
  refine lv_istore_n (lv' := [(1, .int (nI 0)), (0, .ref (ad 0))]) hx hb dX0_give_71 rfl hl (by decide) rfl (fun ls hl => ?_)
  refine lpC_give2 (co := co) (wi := wi) hx hb hml hown hts hK hA hn.2 hk hEb hEl hEs hco hcol ?_ (n + 1) 0 cm row left isOut order _ _ ls (by omega) (by omega) hG (fun j hj => absurd hj (Nat.not_lt_zero j)) hP hD hS (lv_sub hl [0, 1] rfl)
  intro cm row left isOut order H locs ls hor hP hD hS hl
  refine lv_iconst (v := nI 0) hx hb dX0_give_115 (by decide) ?_
  refine lv_istore_n (lv' := [(1, .int (nI 0)), (0, .ref (ad 0))]) hx hb dX0_give_116 rfl hl (by decide) rfl (fun ls hl => ?_)
  refine lv_aload_n hx hb dX0_give_117 rfl (lv_at hl 1 rfl) ?_
  refine va_get (D := (dC, dI)) (ci := 0) (v := .int (nI n)) (C := RX0) (T := TX0) (N := 12) hx hb hts in_X0 hown hK hP 0 rfl rfl 0 (by decide) (hts _ q46) (fun _ h9 => h9) rfl dX0_give_118 ?_
  refine lv_iconst (v := nI 1) hx hb dX0_give_121 (by decide) ?_
  refine lv_isub hx hb dX0_give_122 ?_
  refine y_ti (y := dnI n) (dnI_start hn.1) ?_
  refine lv_istore_n (lv' := [(2, .int (dnI n)), (1, .int (nI 0)), (0, .ref (ad 0))]) hx hb dX0_give_123 rfl hl (by decide) rfl (fun ls hl => ?_)
  refine lpC_give3 (co := co) (wi := wi) hx hb hml hown hts hK hA hn.2 hk hEb hEl hwi hwil hor ?_ n colour _ _ ls (Nat.le_refl n) (fun j hj => by rw [Nat.sub_self]; exact hc1 j hj) hP hD hS (by rw [Nat.sub_self]; exact lv_sub hl [0, 1, 2] rfl)
  intro colour H locs ls hcl hP hD hS hl
  refine lv_aload_n hx hb dX0_give_162 rfl (lv_at hl 1 rfl) ?_
  refine lv_iconst (v := b2i true) hx hb dX0_give_163 (by decide) ?_
  refine va_put (D := (dC, dI)) (ci := 0) (v := .int (b2i true)) (ty := .boolean) (C := RX0) (T := TX0) (N := 12) hx hb hts in_X0 tyX0 tyX0_ok nmX0 hown hK hP hD hS 0 rfl rfl 11 (by decide) (hts _ q57) (fun _ h9 => h9) rfl (by decide +kernel) (b2i_zn _) (b2i_fit _) (Nat.le_of_ble_eq_true rfl) dX0_give_164 (fun H locs hP hD hS => ?_)
  have hP : va_P (dC, dI) vwCl (wC ad cI cZ (nI n) (nI k) (b2i true) (nI cm) bits row cost wish degree left isOut order colour) H := hP
  have hD : va_D A (wC ad cI cZ (nI n) (nI k) (b2i true) (nI cm) bits row cost wish degree left isOut order colour) := hD
  refine lv_iload_n hx hb dX0_give_167 rfl (lv_at hl 0 rfl) ?_
  exact W.iret hx hb hr (fun t ht hW => ⟨⟨_, (), rfl, rfl, CW_at (st2 := (n, k, E, co, wi, true)) rfl (CW_mk (by rw [ht]; exact hP) (va_K.moved hW.alike hK) hD ⟨hEb, hco, hwi, hdg, fun _ j hj => ⟨hor j hj, hcl j hj⟩⟩)⟩, hS.F ht⟩) hS.2.2 dX0_give_168
end
section
/-! what the reference's cells stand for -/
def MR (n k : Nat) (E : Nat → Nat → Bool) (co wi : Nat → Nat) (g : Bool) (pairs costs wishes colours mrow : Nat → Int32) : Prop :=
  (∀ a b, a < 200 → b < 200 → pairs (200 * a + b) = b2i (E a b)) ∧ (∀ j, j < n → costs j = nI (co j)) ∧ (∀ j, j < n → wishes j = nI (wi j)) ∧ (g = true → ∀ j, j < n → mrow j = nI (ordF n k E co j) ∧ colours j = colS n k E co wi n j)
def MW (D : va_G) (A : Nat → Prop) (bd : Nat → Nat) (cI cZ : ClassId) (st : AS) (t : State) : Prop :=
  ∃ (pairs costs wishes colours mrow mins : Nat → Int32), (va_P D vwCl (wM bd cI cZ (nI st.1) (nI st.2.1) (b2i st.2.2.2.2.2) pairs costs wishes colours mrow mins) t.heap ∧ va_K D vwCl (tyK cI cZ) t ∧ va_D A (wM bd cI cZ (nI st.1) (nI st.2.1) (b2i st.2.2.2.2.2) pairs costs wishes colours mrow mins)) ∧ MR st.1 st.2.1 st.2.2.1 st.2.2.2.1 st.2.2.2.2.1 st.2.2.2.2.2 pairs costs wishes colours mrow
theorem MW_mk {D : va_G} {A : Nat → Prop} {bd : Nat → Nat} {cI cZ : ClassId} {n k : Nat} {E : Nat → Nat → Bool} {co wi : Nat → Nat} {g : Bool} {t : State} {pairs costs wishes colours mrow mins : Nat → Int32} (hP : va_P D vwCl (wM bd cI cZ (nI n) (nI k) (b2i g) pairs costs wishes colours mrow mins) t.heap) (hK : va_K D vwCl (tyK cI cZ) t) (hD : va_D A (wM bd cI cZ (nI n) (nI k) (b2i g) pairs costs wishes colours mrow mins)) (h : MR n k E co wi g pairs costs wishes colours mrow) : MW D A bd cI cZ (n, k, E, co, wi, g) t :=
  ⟨pairs, costs, wishes, colours, mrow, mins, ⟨hP, hK, hD⟩, h⟩
theorem MW_at {D : va_G} {A : Nat → Prop} {bd : Nat → Nat} {cI cZ : ClassId} {st st2 : AS} {t : State} (e : st = st2) (h : MW D A bd cI cZ st2 t) : MW D A bd cI cZ st t := by rw [e]; exact h
theorem pairs_put {pairs : Nat → Int32} {E : Nat → Nat → Bool} (h : ∀ a b, a < 200 → b < 200 → pairs (200 * a + b) = b2i (E a b)) {i j : Nat} (hi : i < 200) (hj : j < 200) : ∀ a b, a < 200 → b < 200 → upd pairs (200 * i + j) (b2i true) (200 * a + b) = b2i (setE E i j a b) := by
  intro a b ha hb
  rw [setE_or]
  by_cases e : 200 * a + b = 200 * i + j
  · have e1 : a = i := by omega
    have e2 : b = j := by omega
    rw [e, pk_us, decide_eq_true e1, decide_eq_true e2]
    simp
  · rw [pk_un e, h a b ha hb]
    have : ¬ (a = i ∧ b = j) := fun q => e (by rw [q.1, q.2])
    by_cases e1 : a = i
    · have e2 : ¬ b = j := fun q => this ⟨e1, q⟩
      simp [e2]
    · simp [e1]
theorem col_neg {k : Nat} {v : Int32} (hk : k ≤ 30) (h : v = -1 ∨ ∃ c, c < k ∧ v = nI c) (hneg : v < 0) : v = -1 := by
  rcases h with h | ⟨c, h1, h2⟩
  · exact h
  · rw [h2] at hneg
    exact absurd hneg (nI_pos (by omega))
theorem col_pos {v : Int32} (hneg : ¬ v < 0) : ¬ v = -1 := fun e => hneg (by rw [e]; decide)
theorem col_npos {k : Nat} {v : Int32} (hk : k ≤ 30) (h : v = -1 ∨ ∃ c, c < k ∧ v = nI c) (hneg : ¬ 0 ≤ v) : v = -1 := by
  rcases h with h | ⟨c, h1, h2⟩
  · exact h
  · rw [h2] at hneg
    exact absurd (nI_pos' (by omega)) hneg
theorem col_ge {v : Int32} (h : 0 ≤ v) : ¬ v = -1 := fun e => by rw [e] at h; exact absurd h (by decide)
end
section
/-! PointColoursModel: the calls without give -/
set_option maxHeartbeats 4000000 in
set_option maxRecDepth 100000 in
theorem metM_isPoint (l : Launch) (dC : Nat → ClassId) (dI : Nat → Nat → Nat) (cI cZ : ClassId) (bd : Nat → Nat) (n : Nat) (mk mg : Int32) (pairs costs wishes colours mrow mins : Nat → Int32) (x : Int32) : Met l yX3_isPoint (ws_ yX3_isPoint cX3_isPoint 2 (some .boolean)) rmZ (va_Pc [.ref (bd 0), .int x] (fun U => va_P (dC, dI) vwCl (wM bd cI cZ (nI n) mk mg pairs costs wishes colours mrow mins) U.heap ∧ va_K (dC, dI) vwCl (tyK cI cZ) U)) (vp_Si (fun r => r = b2i (ptB n x))) 0 0 (fun _ => False) := by
  refine Met.ofW (cc := cX3_isPoint) (maxL := 2) (ret := (some .boolean)) (by decide) rfl ?_
  intro p e s m args below meth c s₁ B hml hv
  obtain ⟨rfl, hP, hK⟩ := hv
  have hx := B.exec
  have hb := B.bytes
  have hr := B.returns
  have hlk := B.notSynchronized
  have hts := atoms_spec (ws := ws_ yX3_isPoint cX3_isPoint 2 (some .boolean)) B.pre
  have hts : ∀ w ∈ lw_all, w.before _ s = true := fun w h => hts w (List.mem_cons_of_mem _ h)
  have hown : s.vm.findClass RX3 = some m.cls := findClass_of_methodNamed B.named
  have hl := lv_entry ([.ref (bd 0), .int x]) (n := 2) (Nat.le_of_ble_eq_true rfl)
  rw [lg_entry_eq]
  generalize (lg_sl ([.ref (bd 0), .int x]) ++ List.replicate (2 - (lg_sl ([.ref (bd 0), .int x])).length) Slot.unset).toArray = ls at hl ⊢
  have hl : lv_has ls 2 [(0, .ref (bd 0)), (1, .int x)] := hl
  refine lv_iload_n hx hb dX3_isPoint_0 rfl (lv_at hl 1 rfl) ?_
  refine lv_if_lt (tgt := 16) hx hb dX3_isPoint_1 (by decide) (fun c1 => ?_) (fun c1 => ?_)
  · refine lv_iconst (v := b2i false) hx hb dX3_isPoint_16 (by decide) ?_
    exact y_zretR (b := false) rfl hx hb hr hlk (by rw [ptB_neg c1]) dX3_isPoint_17
  · refine lv_iload_n hx hb dX3_isPoint_4 rfl (lv_at hl 1 rfl) ?_
    refine lv_aload_n hx hb dX3_isPoint_5 rfl (lv_at hl 0 rfl) ?_
    refine va_get (D := (dC, dI)) (ci := 3) (v := .int (nI n)) (C := RX3) (T := TX3) (N := 9) hx hb hts in_X3 hown hK hP 0 rfl rfl 6 (by decide) (hts _ q190) (fun _ h9 => h9) rfl dX3_isPoint_6 ?_
    refine lv_icmp_ge (tgt := 16) hx hb dX3_isPoint_9 (by decide) (fun c9 => ?_) (fun c9 => ?_)
    · refine lv_iconst (v := b2i false) hx hb dX3_isPoint_16 (by decide) ?_
      exact y_zretR (b := false) rfl hx hb hr hlk (by rw [ptB_ge c9]) dX3_isPoint_17
    · refine lv_iconst (v := b2i true) hx hb dX3_isPoint_12 (by decide) ?_
      refine lv_goto (tgt := 17) hx hb dX3_isPoint_13 (by decide) ?_
      exact y_zretR (b := true) rfl hx hb hr hlk (by rw [ptB_in c1 c9]) dX3_isPoint_17
set_option maxHeartbeats 4000000 in
set_option maxRecDepth 100000 in
theorem metM_colour (l : Launch) (dC : Nat → ClassId) (dI : Nat → Nat → Nat) (cI cZ : ClassId) (bd : Nat → Nat) (n k : Nat) (E : Nat → Nat → Bool) (co wi : Nat → Nat) (g : Bool) (pairs costs wishes colours mrow mins : Nat → Int32) (hok : okA n k E co wi) (hC : MR n k E co wi g pairs costs wishes colours mrow) (x : Int32) : Met l yX3_colour (ws_ yX3_colour cX3_colour 2 (some .int)) rmA (va_Pc [.ref (bd 0), .int x] (fun U => va_P (dC, dI) vwCl (wM bd cI cZ (nI n) (nI k) (b2i g) pairs costs wishes colours mrow mins) U.heap ∧ va_K (dC, dI) vwCl (tyK cI cZ) U)) (vp_Si (fun r => r = colA (n, k, E, co, wi, g) x)) 0 0 (fun _ => False) := by
  refine Met.ofW (cc := cX3_colour) (maxL := 2) (ret := (some .int)) (by decide) rfl ?_
  intro p e s m args below meth c s₁ B hml hv
  obtain ⟨rfl, hP, hK⟩ := hv
  have hx := B.exec
  have hb := B.bytes
  have hr := B.returns
  have hlk := B.notSynchronized
  have hts := atoms_spec (ws := ws_ yX3_colour cX3_colour 2 (some .int)) B.pre
  have hts : ∀ w ∈ lw_all, w.before _ s = true := fun w h => hts w (List.mem_cons_of_mem _ h)
  have hown : s.vm.findClass RX3 = some m.cls := findClass_of_methodNamed B.named
  have hl := lv_entry ([.ref (bd 0), .int x]) (n := 2) (Nat.le_of_ble_eq_true rfl)
  rw [lg_entry_eq]
  generalize (lg_sl ([.ref (bd 0), .int x]) ++ List.replicate (2 - (lg_sl ([.ref (bd 0), .int x])).length) Slot.unset).toArray = ls at hl ⊢
  have hl : lv_has ls 2 [(0, .ref (bd 0)), (1, .int x)] := hl
  have hC0 := hC
  obtain ⟨hEb, hco, hwi, hgv⟩ := hC
  obtain ⟨hn, hk, hEl, hEs, hEr, hcol, hwil⟩ := hok
  refine lv_aload_n hx hb dX3_colour_0 rfl (lv_at hl 0 rfl) ?_
  refine va_get (D := (dC, dI)) (ci := 3) (v := .int (b2i g)) (C := RX3) (T := TX3) (N := 9) hx hb hts in_X3 hown hK hP 0 rfl rfl 8 (by decide) (hts _ q192) (fun _ h9 => h9) rfl dX3_colour_1 ?_
  refine y_ifeq (b := g) (tgt := 24) hx hb (rfl) dX3_colour_4 (by decide) (fun c4 => ?_) (fun c4 => ?_)
  · refine lv_iconst (v := -1) hx hb dX3_colour_24 (by decide) ?_
    exact y_iretR hx hb hr hlk (colA_1 c4).symm dX3_colour_25
  · refine lv_aload_n hx hb dX3_colour_7 rfl (lv_at hl 0 rfl) ?_
    refine lv_iload_n hx hb dX3_colour_8 rfl (lv_at hl 1 rfl) ?_
    refine vp_callSi (W.runV (As := [.int x]) (rest := []) ⟨hx, hb, hml, hown, hts⟩ (metM_isPoint l dC dI cI cZ bd n (nI k) (b2i g) pairs costs wishes colours mrow mins x) (cwV 1 hts (lw_V q217 q219 qs4 q13 q220) rfl rfl rfl (by decide +kernel) ⟨Nat.le_of_ble_eq_true rfl, Nat.le_of_ble_eq_true rfl⟩) (y_preR hK hP (ci := 3) (q0 := 0) rfl rfl) rfl rfl hl.1 rfl (lv_room (Nat.le_of_ble_eq_true rfl)) dX3_colour_9 ⟨Nat.zero_le _, Nat.zero_le _⟩) (fun r9 hr9 => ?_)
    refine y_ti (y := b2i (ptB n x)) (hr9) ?_
    refine y_ifeq (b := ptB n x) (tgt := 24) hx hb (rfl) dX3_colour_12 (by decide) (fun c12 => ?_) (fun c12 => ?_)
    · refine lv_iconst (v := -1) hx hb dX3_colour_24 (by decide) ?_
      exact y_iretR hx hb hr hlk (colA_2 c12).symm dX3_colour_25
    · obtain ⟨j, hj, rfl⟩ := ptB_t (by omega) c12
      refine lv_aload_n hx hb dX3_colour_15 rfl (lv_at hl 0 rfl) ?_
      refine va_get (D := (dC, dI)) (ci := 3) (v := .ref (bd 4)) (C := RX3) (T := TX3) (N := 9) hx hb hts in_X3 hown hK hP 0 rfl rfl 3 (by decide) (hts _ q187) (fun _ h9 => h9) rfl dX3_colour_16 ?_
      refine lv_iload_n hx hb dX3_colour_19 rfl (lv_at hl 1 rfl) ?_
      refine y_iald (j := j) hx hb hK hP 4 0 rfl rfl (rfl) (by omega) (by decide) dX3_colour_20 ?_
      refine lv_goto (tgt := 25) hx hb dX3_colour_21 (by decide) ?_
      exact y_iretR hx hb hr hlk ((hgv c4 j hj).2.trans (colA_nI hn.2 hj c4).symm) dX3_colour_25
set_option maxHeartbeats 4000000 in
set_option maxRecDepth 100000 in
theorem metM_taken (l : Launch) (dC : Nat → ClassId) (dI : Nat → Nat → Nat) (cI cZ : ClassId) (bd : Nat → Nat) (n k : Nat) (E : Nat → Nat → Bool) (co wi : Nat → Nat) (g : Bool) (pairs costs wishes colours mrow mins : Nat → Int32) (hok : okA n k E co wi) (hC : MR n k E co wi g pairs costs wishes colours mrow) (x : Int32) : Met l yX3_taken (ws_ yX3_taken cX3_taken 2 (some .int)) rmA (va_Pc [.ref (bd 0), .int x] (fun U => va_P (dC, dI) vwCl (wM bd cI cZ (nI n) (nI k) (b2i g) pairs costs wishes colours mrow mins) U.heap ∧ va_K (dC, dI) vwCl (tyK cI cZ) U)) (vp_Si (fun r => r = takA (n, k, E, co, wi, g) x)) 0 0 (fun _ => False) := by
  refine Met.ofW (cc := cX3_taken) (maxL := 2) (ret := (some .int)) (by decide) rfl ?_
  intro p e s m args below meth c s₁ B hml hv
  obtain ⟨rfl, hP, hK⟩ := hv
  have hx := B.exec
  have hb := B.bytes
  have hr := B.returns
  have hlk := B.notSynchronized
  have hts := atoms_spec (ws := ws_ yX3_taken cX3_taken 2 (some .int)) B.pre
  have hts : ∀ w ∈ lw_all, w.before _ s = true := fun w h => hts w (List.mem_cons_of_mem _ h)
  have hown : s.vm.findClass RX3 = some m.cls := findClass_of_methodNamed B.named
  have hl := lv_entry ([.ref (bd 0), .int x]) (n := 2) (Nat.le_of_ble_eq_true rfl)
  rw [lg_entry_eq]
  generalize (lg_sl ([.ref (bd 0), .int x]) ++ List.replicate (2 - (lg_sl ([.ref (bd 0), .int x])).length) Slot.unset).toArray = ls at hl ⊢
  have hl : lv_has ls 2 [(0, .ref (bd 0)), (1, .int x)] := hl
  have hC0 := hC
  obtain ⟨hEb, hco, hwi, hgv⟩ := hC
  obtain ⟨hn, hk, hEl, hEs, hEr, hcol, hwil⟩ := hok
  refine lv_aload_n hx hb dX3_taken_0 rfl (lv_at hl 0 rfl) ?_
  refine va_get (D := (dC, dI)) (ci := 3) (v := .int (b2i g)) (C := RX3) (T := TX3) (N := 9) hx hb hts in_X3 hown hK hP 0 rfl rfl 8 (by decide) (hts _ q192) (fun _ h9 => h9) rfl dX3_taken_1 ?_
  refine y_ifeq (b := g) (tgt := 24) hx hb (rfl) dX3_taken_4 (by decide) (fun c4 => ?_) (fun c4 => ?_)
  · refine lv_iconst (v := -1) hx hb dX3_taken_24 (by decide) ?_
    exact y_iretR hx hb hr hlk (takA_1 c4).symm dX3_taken_25
  · refine lv_aload_n hx hb dX3_taken_7 rfl (lv_at hl 0 rfl) ?_
    refine lv_iload_n hx hb dX3_taken_8 rfl (lv_at hl 1 rfl) ?_
    refine vp_callSi (W.runV (As := [.int x]) (rest := []) ⟨hx, hb, hml, hown, hts⟩ (metM_isPoint l dC dI cI cZ bd n (nI k) (b2i g) pairs costs wishes colours mrow mins x) (cwV 1 hts (lw_V q217 q219 qs4 q13 q220) rfl rfl rfl (by decide +kernel) ⟨Nat.le_of_ble_eq_true rfl, Nat.le_of_ble_eq_true rfl⟩) (y_preR hK hP (ci := 3) (q0 := 0) rfl rfl) rfl rfl hl.1 rfl (lv_room (Nat.le_of_ble_eq_true rfl)) dX3_taken_9 ⟨Nat.zero_le _, Nat.zero_le _⟩) (fun r9 hr9 => ?_)
    refine y_ti (y := b2i (ptB n x)) (hr9) ?_
    refine y_ifeq (b := ptB n x) (tgt := 24) hx hb (rfl) dX3_taken_12 (by decide) (fun c12 => ?_) (fun c12 => ?_)
    · refine lv_iconst (v := -1) hx hb dX3_taken_24 (by decide) ?_
      exact y_iretR hx hb hr hlk (takA_2 c12).symm dX3_taken_25
    · obtain ⟨j, hj, rfl⟩ := ptB_t (by omega) c12
      refine lv_aload_n hx hb dX3_taken_15 rfl (lv_at hl 0 rfl) ?_
      refine va_get (D := (dC, dI)) (ci := 3) (v := .ref (bd 5)) (C := RX3) (T := TX3) (N := 9) hx hb hts in_X3 hown hK hP 0 rfl rfl 4 (by decide) (hts _ q188) (fun _ h9 => h9) rfl dX3_taken_16 ?_
      refine lv_iload_n hx hb dX3_taken_19 rfl (lv_at hl 1 rfl) ?_
      refine y_iald (j := j) hx hb hK hP 5 0 rfl rfl (rfl) (by omega) (by decide) dX3_taken_20 ?_
      refine lv_goto (tgt := 25) hx hb dX3_taken_21 (by decide) ?_
      exact y_iretR hx hb hr hlk ((hgv c4 j hj).1.trans (takA_nI hn.2 hj c4).symm) dX3_taken_25
set_option maxHeartbeats 4000000 in
set_option maxRecDepth 100000 in
theorem metM_joined (l : Launch) (dC : Nat → ClassId) (dI : Nat → Nat → Nat) (cI cZ : ClassId) (bd : Nat → Nat) (n k : Nat) (E : Nat → Nat → Bool) (co wi : Nat → Nat) (g : Bool) (pairs costs wishes colours mrow mins : Nat → Int32) (hok : okA n k E co wi) (hC : MR n k E co wi g pairs costs wishes colours mrow) (x y : Int32) : Met l yX3_joined (ws_ yX3_joined cX3_joined 3 (some .boolean)) rmA (va_Pc [.ref (bd 0), .int x, .int y] (fun U => va_P (dC, dI) vwCl (wM bd cI cZ (nI n) (nI k) (b2i g) pairs costs wishes colours mrow mins) U.heap ∧ va_K (dC, dI) vwCl (tyK cI cZ) U)) (vp_Si (fun r => r = b2i (jndA (n, k, E, co, wi, g) x y))) 0 0 (fun _ => False) := by
  refine Met.ofW (cc := cX3_joined) (maxL := 3) (ret := (some .boolean)) (by decide) rfl ?_
  intro p e s m args below meth c s₁ B hml hv
  obtain ⟨rfl, hP, hK⟩ := hv
  have hx := B.exec
  have hb := B.bytes
  have hr := B.returns
  have hlk := B.notSynchronized
  have hts := atoms_spec (ws := ws_ yX3_joined cX3_joined 3 (some .boolean)) B.pre
  have hts : ∀ w ∈ lw_all, w.before _ s = true := fun w h => hts w (List.mem_cons_of_mem _ h)
  have hown : s.vm.findClass RX3 = some m.cls := findClass_of_methodNamed B.named
  have hl := lv_entry ([.ref (bd 0), .int x, .int y]) (n := 3) (Nat.le_of_ble_eq_true rfl)
  rw [lg_entry_eq]
  generalize (lg_sl ([.ref (bd 0), .int x, .int y]) ++ List.replicate (3 - (lg_sl ([.ref (bd 0), .int x, .int y])).length) Slot.unset).toArray = ls at hl ⊢
  have hl : lv_has ls 3 [(0, .ref (bd 0)), (1, .int x), (2, .int y)] := hl
  have hC0 := hC
  obtain ⟨hEb, hco, hwi, hgv⟩ := hC
  obtain ⟨hn, hk, hEl, hEs, hEr, hcol, hwil⟩ := hok
  refine lv_aload_n hx hb dX3_joined_0 rfl (lv_at hl 0 rfl) ?_
  refine lv_iload_n hx hb dX3_joined_1 rfl (lv_at hl 1 rfl) ?_
  refine vp_callSi (W.runV (As := [.int x]) (rest := []) ⟨hx, hb, hml, hown, hts⟩ (metM_isPoint l dC dI cI cZ bd n (nI k) (b2i g) pairs costs wishes colours mrow mins x) (cwV 1 hts (lw_V q217 q219 qs4 q13 q220) rfl rfl rfl (by decide +kernel) ⟨Nat.le_of_ble_eq_true rfl, Nat.le_of_ble_eq_true rfl⟩) (y_preR hK hP (ci := 3) (q0 := 0) rfl rfl) rfl rfl hl.1 rfl (lv_room (Nat.le_of_ble_eq_true rfl)) dX3_joined_2 ⟨Nat.zero_le _, Nat.zero_le _⟩) (fun r2 hr2 => ?_)
  refine y_ti (y := b2i (ptB n x)) (hr2) ?_
  refine y_ifeq (b := ptB n x) (tgt := 35) hx hb (rfl) dX3_joined_5 (by decide) (fun c5 => ?_) (fun c5 => ?_)
  · refine lv_iconst (v := b2i false) hx hb dX3_joined_35 (by decide) ?_
    exact y_zretR (b := false) rfl hx hb hr hlk (by rw [jndA_1 c5]) dX3_joined_36
  · refine lv_aload_n hx hb dX3_joined_8 rfl (lv_at hl 0 rfl) ?_
    refine lv_iload_n hx hb dX3_joined_9 rfl (lv_at hl 2 rfl) ?_
    refine vp_callSi (W.runV (As := [.int y]) (rest := []) ⟨hx, hb, hml, hown, hts⟩ (metM_isPoint l dC dI cI cZ bd n (nI k) (b2i g) pairs costs wishes colours mrow mins y) (cwV 1 hts (lw_V q217 q219 qs4 q13 q220) rfl rfl rfl (by decide +kernel) ⟨Nat.le_of_ble_eq_true rfl, Nat.le_of_ble_eq_true rfl⟩) (y_preR hK hP (ci := 3) (q0 := 0) rfl rfl) rfl rfl hl.1 rfl (lv_room (Nat.le_of_ble_eq_true rfl)) dX3_joined_10 ⟨Nat.zero_le _, Nat.zero_le _⟩) (fun r10 hr10 => ?_)
    refine y_ti (y := b2i (ptB n y)) (hr10) ?_
    refine y_ifeq (b := ptB n y) (tgt := 35) hx hb (rfl) dX3_joined_13 (by decide) (fun c13 => ?_) (fun c13 => ?_)
    · refine lv_iconst (v := b2i false) hx hb dX3_joined_35 (by decide) ?_
      exact y_zretR (b := false) rfl hx hb hr hlk (by rw [jndA_2 c13]) dX3_joined_36
    · obtain ⟨i, hi, rfl⟩ := ptB_t (by omega) c5
      obtain ⟨j, hj, rfl⟩ := ptB_t (by omega) c13
      refine lv_aload_n hx hb dX3_joined_16 rfl (lv_at hl 0 rfl) ?_
      refine va_get (D := (dC, dI)) (ci := 3) (v := .ref (bd 1)) (C := RX3) (T := TX3) (N := 9) hx hb hts in_X3 hown hK hP 0 rfl rfl 0 (by decide) (hts _ q184) (fun _ h9 => h9) rfl dX3_joined_17 ?_
      refine lv_sipush (v := nI 200) hx hb dX3_joined_20 (by decide) ?_
      refine lv_iload_n hx hb dX3_joined_23 rfl (lv_at hl 1 rfl) ?_
      refine lv_imul hx hb dX3_joined_24 ?_
      refine y_ti (y := nI (200 * i)) (pk_mul 200 i) ?_
      refine lv_iload_n hx hb dX3_joined_25 rfl (lv_at hl 2 rfl) ?_
      refine lv_iadd hx hb dX3_joined_26 ?_
      refine y_ti (y := nI (200 * i + j)) (nI_add (200 * i) j) ?_
      refine y_zald (j := 200 * i + j) hx hb hK hP 1 1 rfl rfl (rfl) (by omega) (by decide) dX3_joined_27 ?_
      refine y_ti (y := b2i (E i j)) (hEb i j (by omega) (by omega)) ?_
      refine y_ifeq (b := E i j) (tgt := 35) hx hb (rfl) dX3_joined_28 (by decide) (fun c28 => ?_) (fun c28 => ?_)
      · refine lv_iconst (v := b2i false) hx hb dX3_joined_35 (by decide) ?_
        exact y_zretR (b := false) rfl hx hb hr hlk (by rw [jndA_nI hn.2 hi hj, c28]) dX3_joined_36
      · refine lv_iconst (v := b2i true) hx hb dX3_joined_31 (by decide) ?_
        refine lv_goto (tgt := 36) hx hb dX3_joined_32 (by decide) ?_
        exact y_zretR (b := true) rfl hx hb hr hlk (by rw [jndA_nI hn.2 hi hj, c28]) dX3_joined_36
set_option maxHeartbeats 4000000 in
set_option maxRecDepth 100000 in
theorem lpM_degree {p : Program} {l : Launch} {e : Env} {s : State} {m : MethodId} {args : Array Value} {below : List Frame} {meth : Method} {c : Code} {dC : Nat → ClassId} {dI : Nat → Nat → Nat} {cI cZ : ClassId} (hx : p.tables.exec = Jvm.exec) (hb : c.code = cX3_degree) (hml : c.maxLocals = 4) (hown : s.vm.findClass RX3 = some m.cls) (hts : ∀ w ∈ lw_all, w.before args s = true) (hK : va_K (dC, dI) vwCl (tyK cI cZ) s) (hr : meth.sig.returnType = some .int) (hlk : meth.locks = false) {bd : Nat → Nat} {n a : Nat} {mk mg : Int32} {E : Nat → Nat → Bool} {pairs costs wishes colours mrow mins : Nat → Int32} (hn : n ≤ 200) (ha : a < n) (hEb : ∀ a b, a < 200 → b < 200 → pairs (200 * a + b) = b2i (E a b)) (hP : va_P (dC, dI) vwCl (wM bd cI cZ (nI n) mk mg pairs costs wishes colours mrow mins) s.heap) {post : Int32 → Prop} (hpost : post (nI (dg E n a))) : ∀ (nn i : Nat) (ls : Array Slot), i ≤ n → n + 1 ≤ i + nn → lv_has ls 4 [(3, .int (nI i)), (2, .int (nI (fb_ct (fun b => E a b) i))), (0, .ref (bd 0)), (1, .int (nI a))] → W p l e rmA s m args below meth c s.heap [] 0 0 (MQ below (vp_Si post) args s 0 0 (fun _ => False)) (F0 m 14 ls []) := by
  intro nn
  induction nn with
  | zero =>
    intro i ls h1 h2
    exact absurd h2 (by omega)
  | succ nn ih =>
    intro i ls hi hin hl
    refine lv_iload_n hx hb dX3_degree_14 rfl (lv_at hl 0 rfl) ?_
    refine lv_aload_n hx hb dX3_degree_15 rfl (lv_at hl 2 rfl) ?_
    refine va_get (D := (dC, dI)) (ci := 3) (v := .int (nI n)) (C := RX3) (T := TX3) (N := 9) hx hb hts in_X3 hown hK hP 0 rfl rfl 6 (by decide) (hts _ q190) (fun _ h9 => h9) rfl dX3_degree_16 ?_
    refine y_cge (i := i) (j := n) (tgt := 46) hx hb (rfl) (rfl) (by omega) (by omega) dX3_degree_19 (by decide) (fun c19 => ?_) (fun c19 => ?_)
    · have hin2 : i = n := by omega
      subst hin2
      refine lv_iload_n hx hb dX3_degree_46 rfl (lv_at hl 1 rfl) ?_
      exact y_iretR hx hb hr hlk hpost dX3_degree_47
    · refine lv_aload_n hx hb dX3_degree_22 rfl (lv_at hl 2 rfl) ?_
      refine va_get (D := (dC, dI)) (ci := 3) (v := .ref (bd 1)) (C := RX3) (T := TX3) (N := 9) hx hb hts in_X3 hown hK hP 0 rfl rfl 0 (by decide) (hts _ q184) (fun _ h9 => h9) rfl dX3_degree_23 ?_
      refine lv_sipush (v := nI 200) hx hb dX3_degree_26 (by decide) ?_
      refine lv_iload_n hx hb dX3_degree_29 rfl (lv_at hl 3 rfl) ?_
      refine lv_imul hx hb dX3_degree_30 ?_
      refine y_ti (y := nI (200 * a)) (pk_mul 200 a) ?_
      refine lv_iload_n hx hb dX3_degree_31 rfl (lv_at hl 0 rfl) ?_
      refine lv_iadd hx hb dX3_degree_32 ?_
      refine y_ti (y := nI (200 * a + i)) (nI_add (200 * a) i) ?_
      refine y_zald (j := 200 * a + i) hx hb hK hP 1 1 rfl rfl (rfl) (by omega) (by decide) dX3_degree_33 ?_
      refine y_ti (y := b2i (E a i)) (hEb a i (by omega) (by omega)) ?_
      refine y_ifeq (b := E a i) (tgt := 40) hx hb (rfl) dX3_degree_34 (by decide) (fun c34 => ?_) (fun c34 => ?_)
      · refine lv_iinc (v := nI (i + 1)) (lv' := [(3, .int (nI (i + 1))), (2, .int (nI (fb_ct (fun b => E a b) i))), (0, .ref (bd 0)), (1, .int (nI a))]) hx hb dX3_degree_40 hl (k := 0) rfl (nI_1 i) (by decide) rfl (fun ls hl => ?_)
        refine lv_goto (tgt := 14) hx hb dX3_degree_43 (by decide) ?_
        exact ih (i + 1) ls (by omega) (by omega) (by rw [fb_ct_succ, c34]; exact lv_sub hl [0, 1, 2, 3] rfl)
      · refine lv_iinc (v := nI (fb_ct (fun b => E a b) i + 1)) (lv' := [(2, .int (nI (fb_ct (fun b => E a b) i + 1))), (3, .int (nI i)), (0, .ref (bd 0)), (1, .int (nI a))]) hx hb dX3_degree_37 hl (k := 1) rfl (nI_1 (fb_ct (fun b => E a b) i)) (by decide) rfl (fun ls hl => ?_)
        refine lv_iinc (v := nI (i + 1)) (lv' := [(3, .int (nI (i + 1))), (2, .int (nI (fb_ct (fun b => E a b) i + 1))), (0, .ref (bd 0)), (1, .int (nI a))]) hx hb dX3_degree_40 hl (k := 1) rfl (nI_1 i) (by decide) rfl (fun ls hl => ?_)
        refine lv_goto (tgt := 14) hx hb dX3_degree_43 (by decide) ?_
        exact ih (i + 1) ls (by omega) (by omega) (by rw [fb_ct_succ, c34]; exact lv_sub hl [0, 1, 2, 3] rfl)
set_option maxHeartbeats 4000000 in
set_option maxRecDepth 100000 in
theorem metM_degree (l : Launch) (dC : Nat → ClassId) (dI : Nat → Nat → Nat) (cI cZ : ClassId) (bd : Nat → Nat) (n k : Nat) (E : Nat → Nat → Bool) (co wi : Nat → Nat) (g : Bool) (pairs costs wishes colours mrow mins : Nat → Int32) (hok : okA n k E co wi) (hC : MR n k E co wi g pairs costs wishes colours mrow) (x : Int32) : Met l yX3_degree (ws_ yX3_degree cX3_degree 4 (some .int)) rmA (va_Pc [.ref (bd 0), .int x] (fun U => va_P (dC, dI) vwCl (wM bd cI cZ (nI n) (nI k) (b2i g) pairs costs wishes colours mrow mins) U.heap ∧ va_K (dC, dI) vwCl (tyK cI cZ) U)) (vp_Si (fun r => r = degA (n, k, E, co, wi, g) x)) 0 0 (fun _ => False) := by
  refine Met.ofW (cc := cX3_degree) (maxL := 4) (ret := (some .int)) (by decide) rfl ?_
  intro p e s m args below meth c s₁ B hml hv
  obtain ⟨rfl, hP, hK⟩ := hv
  have hx := B.exec
  have hb := B.bytes
  have hr := B.returns
  have hlk := B.notSynchronized
  have hts := atoms_spec (ws := ws_ yX3_degree cX3_degree 4 (some .int)) B.pre
  have hts : ∀ w ∈ lw_all, w.before _ s = true := fun w h => hts w (List.mem_cons_of_mem _ h)
  have hown : s.vm.findClass RX3 = some m.cls := findClass_of_methodNamed B.named
  have hl := lv_entry ([.ref (bd 0), .int x]) (n := 4) (Nat.le_of_ble_eq_true rfl)
  rw [lg_entry_eq]
  generalize (lg_sl ([.ref (bd 0), .int x]) ++ List.replicate (4 - (lg_sl ([.ref (bd 0), .int x])).length) Slot.unset).toArray = ls at hl ⊢
  have hl : lv_has ls 4 [(0, .ref (bd 0)), (1, .int x)] := hl
  have hC0 := hC
  obtain ⟨hEb, hco, hwi, hgv⟩ := hC
  obtain ⟨hn, hk, hEl, hEs, hEr, hcol, hwil⟩ := hok
  refine lv_aload_n hx hb dX3_degree_0 rfl (lv_at hl 0 rfl) ?_
  refine lv_iload_n hx hb dX3_degree_1 rfl (lv_at hl 1 rfl) ?_
  refine vp_callSi (W.runV (As := [.int x]) (rest := []) ⟨hx, hb, hml, hown, hts⟩ (metM_isPoint l dC dI cI cZ bd n (nI k) (b2i g) pairs costs wishes colours mrow mins x) (cwV 1 hts (lw_V q217 q219 qs4 q13 q220) rfl rfl rfl (by decide +kernel) ⟨Nat.le_of_ble_eq_true rfl, Nat.le_of_ble_eq_true rfl⟩) (y_preR hK hP (ci := 3) (q0 := 0) rfl rfl) rfl rfl hl.1 rfl (lv_room (Nat.le_of_ble_eq_true rfl)) dX3_degree_2 ⟨Nat.zero_le _, Nat.zero_le _⟩) (fun r2 hr2 => ?_)
  refine y_ti (y := b2i (ptB n x)) (hr2) ?_
  refine y_ifne (b := ptB n x) (tgt := 10) hx hb (rfl) dX3_degree_5 (by decide) (fun c5 => ?_) (fun c5 => ?_)
  · obtain ⟨j, hj, rfl⟩ := ptB_t (by omega) c5
    refine lv_iconst (v := nI 0) hx hb dX3_degree_10 (by decide) ?_
    refine lv_istore_n (lv' := [(2, .int (nI 0)), (0, .ref (bd 0)), (1, .int (nI j))]) hx hb dX3_degree_11 rfl hl (by decide) rfl (fun ls hl => ?_)
    refine lv_iconst (v := nI 0) hx hb dX3_degree_12 (by decide) ?_
    refine lv_istore_n (lv' := [(3, .int (nI 0)), (2, .int (nI 0)), (0, .ref (bd 0)), (1, .int (nI j))]) hx hb dX3_degree_13 rfl hl (by decide) rfl (fun ls hl => ?_)
    exact lpM_degree hx hb hml hown hts hK hr hlk hn.2 hj hEb hP (degA_nI hn.2 hj).symm (n + 1) 0 ls (by omega) (by omega) (lv_sub hl [0, 1, 2, 3] rfl)
  · refine lv_iconst (v := -1) hx hb dX3_degree_8 (by decide) ?_
    exact y_iretR hx hb hr hlk (degA_1 c5).symm dX3_degree_9
set_option maxHeartbeats 4000000 in
set_option maxRecDepth 100000 in
theorem lpM_strays2 {p : Program} {l : Launch} {e : Env} {R : Room} {s : State} {m : MethodId} {args : Array Value} {below : List Frame} {meth : Method} {c : Code} {Q : State → Prop} {dC : Nat → ClassId} {dI : Nat → Nat → Nat} {cI cZ : ClassId} (hx : p.tables.exec = Jvm.exec) (hb : c.code = cX3_strays) (hml : c.maxLocals = 4) (hown : s.vm.findClass RX3 = some m.cls) (hts : ∀ w ∈ lw_all, w.before args s = true) (hK : va_K (dC, dI) vwCl (tyK cI cZ) s) (hr : meth.sig.returnType = some .int) (hlk : meth.locks = false) {bd : Nat → Nat} {n : Nat} {g : Bool} {mk : Int32} {E : Nat → Nat → Bool} {pairs costs wishes colours mrow mins : Nat → Int32} (hn : n ≤ 200) (hEb : ∀ a b, a < 200 → b < 200 → pairs (200 * a + b) = b2i (E a b)) (hpr : g = true → ∀ a b, a < n → b < n → E a b = true → ¬ colours a < 0 → ¬ colours a = colours b) (hP : va_P (dC, dI) vwCl (wM bd cI cZ (nI n) mk (b2i g) pairs costs wishes colours mrow mins) s.heap) {i : Nat} (hi : i < n) (hg : g = true) (kx : ∀ ls : Array Slot, lv_has ls 4 [(1, .int (nI 0)), (2, .int (nI i)), (0, .ref (bd 0))] → W p l e R s m args below meth c s.heap [] 0 0 Q (F0 m 79 ls [])) : ∀ (nn j : Nat) (ls : Array Slot), j ≤ n → n + 1 ≤ j + nn → lv_has ls 4 [(3, .int (nI j)), (1, .int (nI 0)), (2, .int (nI i)), (0, .ref (bd 0))] → W p l e R s m args below meth c s.heap [] 0 0 Q (F0 m 23 ls []) := by
  intro nn
  induction nn with
  | zero =>
    intro j ls h1 h2
    exact absurd h2 (by omega)
  | succ nn ih =>
    intro j ls hj hjn hl
    refine lv_iload_n hx hb dX3_strays_23 rfl (lv_at hl 0 rfl) ?_
    refine lv_aload_n hx hb dX3_strays_24 rfl (lv_at hl 3 rfl) ?_
    refine va_get (D := (dC, dI)) (ci := 3) (v := .int (nI n)) (C := RX3) (T := TX3) (N := 9) hx hb hts in_X3 hown hK hP 0 rfl rfl 6 (by decide) (hts _ q190) (fun _ h9 => h9) rfl dX3_strays_25 ?_
    refine y_cge (i := j) (j := n) (tgt := 79) hx hb (rfl) (rfl) (by omega) (by omega) dX3_strays_28 (by decide) (fun c28 => ?_) (fun c28 => ?_)
    · exact kx ls (lv_sub hl [1, 2, 3] rfl)
    · refine lv_aload_n hx hb dX3_strays_31 rfl (lv_at hl 3 rfl) ?_
      refine va_get (D := (dC, dI)) (ci := 3) (v := .ref (bd 1)) (C := RX3) (T := TX3) (N := 9) hx hb hts in_X3 hown hK hP 0 rfl rfl 0 (by decide) (hts _ q184) (fun _ h9 => h9) rfl dX3_strays_32 ?_
      refine lv_sipush (v := nI 200) hx hb dX3_strays_35 (by decide) ?_
      refine lv_iload_n hx hb dX3_strays_38 rfl (lv_at hl 2 rfl) ?_
      refine lv_imul hx hb dX3_strays_39 ?_
      refine y_ti (y := nI (200 * i)) (pk_mul 200 i) ?_
      refine lv_iload_n hx hb dX3_strays_40 rfl (lv_at hl 0 rfl) ?_
      refine lv_iadd hx hb dX3_strays_41 ?_
      refine y_ti (y := nI (200 * i + j)) (nI_add (200 * i) j) ?_
      refine y_zald (j := 200 * i + j) hx hb hK hP 1 1 rfl rfl (rfl) (by omega) (by decide) dX3_strays_42 ?_
      refine y_ti (y := b2i (E i j)) (hEb i j (by omega) (by omega)) ?_
      refine y_ifeq (b := E i j) (tgt := 73) hx hb (rfl) dX3_strays_43 (by decide) (fun c43 => ?_) (fun c43 => ?_)
      · refine lv_iinc (v := nI (j + 1)) (lv' := [(3, .int (nI (j + 1))), (1, .int (nI 0)), (2, .int (nI i)), (0, .ref (bd 0))]) hx hb dX3_strays_73 hl (k := 0) rfl (nI_1 j) (by decide) rfl (fun ls hl => ?_)
        refine lv_goto (tgt := 23) hx hb dX3_strays_76 (by decide) ?_
        exact ih (j + 1) ls (by omega) (by omega) (lv_sub hl [0, 1, 2, 3] rfl)
      · refine lv_aload_n hx hb dX3_strays_46 rfl (lv_at hl 3 rfl) ?_
        refine va_get (D := (dC, dI)) (ci := 3) (v := .ref (bd 4)) (C := RX3) (T := TX3) (N := 9) hx hb hts in_X3 hown hK hP 0 rfl rfl 3 (by decide) (hts _ q187) (fun _ h9 => h9) rfl dX3_strays_47 ?_
        refine lv_iload_n hx hb dX3_strays_50 rfl (lv_at hl 2 rfl) ?_
        refine y_iald (j := i) hx hb hK hP 4 0 rfl rfl (rfl) (by omega) (by decide) dX3_strays_51 ?_
        refine lv_if_lt (tgt := 73) hx hb dX3_strays_52 (by decide) (fun c52 => ?_) (fun c52 => ?_)
        · refine lv_iinc (v := nI (j + 1)) (lv' := [(3, .int (nI (j + 1))), (1, .int (nI 0)), (2, .int (nI i)), (0, .ref (bd 0))]) hx hb dX3_strays_73 hl (k := 0) rfl (nI_1 j) (by decide) rfl (fun ls hl => ?_)
          refine lv_goto (tgt := 23) hx hb dX3_strays_76 (by decide) ?_
          exact ih (j + 1) ls (by omega) (by omega) (lv_sub hl [0, 1, 2, 3] rfl)
        · refine lv_aload_n hx hb dX3_strays_55 rfl (lv_at hl 3 rfl) ?_
          refine va_get (D := (dC, dI)) (ci := 3) (v := .ref (bd 4)) (C := RX3) (T := TX3) (N := 9) hx hb hts in_X3 hown hK hP 0 rfl rfl 3 (by decide) (hts _ q187) (fun _ h9 => h9) rfl dX3_strays_56 ?_
          refine lv_iload_n hx hb dX3_strays_59 rfl (lv_at hl 2 rfl) ?_
          refine y_iald (j := i) hx hb hK hP 4 0 rfl rfl (rfl) (by omega) (by decide) dX3_strays_60 ?_
          refine lv_aload_n hx hb dX3_strays_61 rfl (lv_at hl 3 rfl) ?_
          refine va_get (D := (dC, dI)) (ci := 3) (v := .ref (bd 4)) (C := RX3) (T := TX3) (N := 9) hx hb hts in_X3 hown hK hP 0 rfl rfl 3 (by decide) (hts _ q187) (fun _ h9 => h9) rfl dX3_strays_62 ?_
          refine lv_iload_n hx hb dX3_strays_65 rfl (lv_at hl 0 rfl) ?_
          refine y_iald (j := j) hx hb hK hP 4 0 rfl rfl (rfl) (by omega) (by decide) dX3_strays_66 ?_
          refine lv_icmp_ne (tgt := 73) hx hb dX3_strays_67 (by decide) (fun c67 => ?_) (fun c67 => ?_)
          · refine lv_iinc (v := nI (j + 1)) (lv' := [(3, .int (nI (j + 1))), (1, .int (nI 0)), (2, .int (nI i)), (0, .ref (bd 0))]) hx hb dX3_strays_73 hl (k := 0) rfl (nI_1 j) (by decide) rfl (fun ls hl => ?_)
            refine lv_goto (tgt := 23) hx hb dX3_strays_76 (by decide) ?_
            exact ih (j + 1) ls (by omega) (by omega) (lv_sub hl [0, 1, 2, 3] rfl)
          · exact absurd c67 (hpr hg i j hi c28 c43 c52)
set_option maxHeartbeats 4000000 in
set_option maxRecDepth 100000 in
theorem lpM_strays1 {p : Program} {l : Launch} {e : Env} {R : Room} {s : State} {m : MethodId} {args : Array Value} {below : List Frame} {meth : Method} {c : Code} {dC : Nat → ClassId} {dI : Nat → Nat → Nat} {cI cZ : ClassId} (hx : p.tables.exec = Jvm.exec) (hb : c.code = cX3_strays) (hml : c.maxLocals = 4) (hown : s.vm.findClass RX3 = some m.cls) (hts : ∀ w ∈ lw_all, w.before args s = true) (hK : va_K (dC, dI) vwCl (tyK cI cZ) s) (hr : meth.sig.returnType = some .int) (hlk : meth.locks = false) {bd : Nat → Nat} {n : Nat} {g : Bool} {mk : Int32} {E : Nat → Nat → Bool} {pairs costs wishes colours mrow mins : Nat → Int32} (hn : n ≤ 200) (hEb : ∀ a b, a < 200 → b < 200 → pairs (200 * a + b) = b2i (E a b)) (hpr : g = true → ∀ a b, a < n → b < n → E a b = true → ¬ colours a < 0 → ¬ colours a = colours b) (hP : va_P (dC, dI) vwCl (wM bd cI cZ (nI n) mk (b2i g) pairs costs wishes colours mrow mins) s.heap) : ∀ (nn i : Nat) (ls : Array Slot), i ≤ n → n + 1 ≤ i + nn → lv_has ls 4 [(1, .int (nI 0)), (2, .int (nI i)), (0, .ref (bd 0))] → W p l e R s m args below meth c s.heap [] 0 0 (MQ below (vp_Si (fun r => r = nI 0)) args s 0 0 (fun _ => False)) (F0 m 4 ls []) := by
  intro nn
  induction nn with
  | zero =>
    intro i ls h1 h2
    exact absurd h2 (by omega)
  | succ nn ih =>
    intro i ls hi hin hl
    refine lv_iload_n hx hb dX3_strays_4 rfl (lv_at hl 1 rfl) ?_
    refine lv_aload_n hx hb dX3_strays_5 rfl (lv_at hl 2 rfl) ?_
    refine va_get (D := (dC, dI)) (ci := 3) (v := .int (nI n)) (C := RX3) (T := TX3) (N := 9) hx hb hts in_X3 hown hK hP 0 rfl rfl 6 (by decide) (hts _ q190) (fun _ h9 => h9) rfl dX3_strays_6 ?_
    refine y_cge (i := i) (j := n) (tgt := 85) hx hb (rfl) (rfl) (by omega) (by omega) dX3_strays_9 (by decide) (fun c9 => ?_) (fun c9 => ?_)
    · refine lv_iload_n hx hb dX3_strays_85 rfl (lv_at hl 0 rfl) ?_
      exact y_iretR hx hb hr hlk rfl dX3_strays_86
    · refine lv_aload_n hx hb dX3_strays_12 rfl (lv_at hl 2 rfl) ?_
      refine va_get (D := (dC, dI)) (ci := 3) (v := .int (b2i g)) (C := RX3) (T := TX3) (N := 9) hx hb hts in_X3 hown hK hP 0 rfl rfl 8 (by decide) (hts _ q192) (fun _ h9 => h9) rfl dX3_strays_13 ?_
      refine y_ifeq (b := g) (tgt := 85) hx hb (rfl) dX3_strays_16 (by decide) (fun c16 => ?_) (fun c16 => ?_)
      · refine lv_iload_n hx hb dX3_strays_85 rfl (lv_at hl 0 rfl) ?_
        exact y_iretR hx hb hr hlk rfl dX3_strays_86
      · refine lv_iload_n hx hb dX3_strays_19 rfl (lv_at hl 1 rfl) ?_
        refine lv_iconst (v := nI 1) hx hb dX3_strays_20 (by decide) ?_
        refine lv_iadd hx hb dX3_strays_21 ?_
        refine y_ti (y := nI (i + 1)) (nI_add i 1) ?_
        refine lv_istore_n (lv' := [(3, .int (nI (i + 1))), (1, .int (nI 0)), (2, .int (nI i)), (0, .ref (bd 0))]) hx hb dX3_strays_22 rfl hl (by decide) rfl (fun ls hl => ?_)
        refine lpM_strays2 hx hb hml hown hts hK hr hlk hn hEb hpr hP c9 c16 ?_ n (i + 1) ls (by omega) (by omega) (lv_sub hl [0, 1, 2, 3] rfl)
        intro ls hl
        refine lv_iinc (v := nI (i + 1)) (lv' := [(2, .int (nI (i + 1))), (1, .int (nI 0)), (0, .ref (bd 0))]) hx hb dX3_strays_79 hl (k := 1) rfl (nI_1 i) (by decide) rfl (fun ls hl => ?_)
        refine lv_goto (tgt := 4) hx hb dX3_strays_82 (by decide) ?_
        exact ih (i + 1) ls (by omega) (by omega) (lv_sub hl [1, 0, 2] rfl)
set_option maxHeartbeats 4000000 in
set_option maxRecDepth 100000 in
theorem metM_strays (l : Launch) (dC : Nat → ClassId) (dI : Nat → Nat → Nat) (cI cZ : ClassId) (bd : Nat → Nat) (n k : Nat) (E : Nat → Nat → Bool) (co wi : Nat → Nat) (g : Bool) (pairs costs wishes colours mrow mins : Nat → Int32) (hok : okA n k E co wi) (hC : MR n k E co wi g pairs costs wishes colours mrow) : Met l yX3_strays (ws_ yX3_strays cX3_strays 4 (some .int)) rmZ (va_Pc [.ref (bd 0)] (fun U => va_P (dC, dI) vwCl (wM bd cI cZ (nI n) (nI k) (b2i g) pairs costs wishes colours mrow mins) U.heap ∧ va_K (dC, dI) vwCl (tyK cI cZ) U)) (vp_Si (fun r => r = nI 0)) 0 0 (fun _ => False) := by
  refine Met.ofW (cc := cX3_strays) (maxL := 4) (ret := (some .int)) (by decide) rfl ?_
  intro p e s m args below meth c s₁ B hml hv
  obtain ⟨rfl, hP, hK⟩ := hv
  have hx := B.exec
  have hb := B.bytes
  have hr := B.returns
  have hlk := B.notSynchronized
  have hts := atoms_spec (ws := ws_ yX3_strays cX3_strays 4 (some .int)) B.pre
  have hts : ∀ w ∈ lw_all, w.before _ s = true := fun w h => hts w (List.mem_cons_of_mem _ h)
  have hown : s.vm.findClass RX3 = some m.cls := findClass_of_methodNamed B.named
  have hl := lv_entry ([.ref (bd 0)]) (n := 4) (Nat.le_of_ble_eq_true rfl)
  rw [lg_entry_eq]
  generalize (lg_sl ([.ref (bd 0)]) ++ List.replicate (4 - (lg_sl ([.ref (bd 0)])).length) Slot.unset).toArray = ls at hl ⊢
  have hl : lv_has ls 4 [(0, .ref (bd 0))] := hl
  have hC0 := hC
  obtain ⟨hEb, hco, hwi, hgv⟩ := hC
  obtain ⟨hn, hk, hEl, hEs, hEr, hcol, hwil⟩ := hok
  have hpr : g = true → ∀ a b, a < n → b < n → E a b = true → ¬ colours a < 0 → ¬ colours a = colours b := fun hg a b ha hb hE h1 h2 => by
    rw [(hgv hg a ha).2] at h1 h2
    rw [(hgv hg b hb).2] at h2
    exact colS_proper hEs hEr hEl n (Nat.le_refl n) a b hE (col_pos h1) h2
  refine lv_iconst (v := nI 0) hx hb dX3_strays_0 (by decide) ?_
  refine lv_istore_n (lv' := [(1, .int (nI 0)), (0, .ref (bd 0))]) hx hb dX3_strays_1 rfl hl (by decide) rfl (fun ls hl => ?_)
  refine lv_iconst (v := nI 0) hx hb dX3_strays_2 (by decide) ?_
  refine lv_istore_n (lv' := [(2, .int (nI 0)), (1, .int (nI 0)), (0, .ref (bd 0))]) hx hb dX3_strays_3 rfl hl (by decide) rfl (fun ls hl => ?_)
  exact lpM_strays1 hx hb hml hown hts hK hr hlk hn.2 hEb hpr hP (n + 1) 0 ls (by omega) (by omega) (lv_sub hl [1, 0, 2] rfl)
set_option maxHeartbeats 4000000 in
set_option maxRecDepth 100000 in
theorem metM_cost (l : Launch) (dC : Nat → ClassId) (dI : Nat → Nat → Nat) (cI cZ : ClassId) (sz : Nat) (bd : Nat → Nat) (n k : Nat) (E : Nat → Nat → Bool) (co wi : Nat → Nat) (g : Bool) (pairs costs wishes colours mrow mins : Nat → Int32) (hok : okA n k E co wi) (hC : MR n k E co wi g pairs costs wishes colours mrow) (x y : Int32) : Met l yX3_cost (ws_ yX3_cost cX3_cost 3 (some .boolean)) rmA (va_Pc [.ref (bd 0), .int x, .int y] (fun U => U.heap.size = sz ∧ va_P (dC, dI) vwCl (wM bd cI cZ (nI n) (nI k) (b2i g) pairs costs wishes colours mrow mins) U.heap ∧ va_K (dC, dI) vwCl (tyK cI cZ) U ∧ va_D (fun _ => True) (wM bd cI cZ (nI n) (nI k) (b2i g) pairs costs wishes colours mrow mins))) (va_Qi (fun (r : Int32) (_ : Unit) => r = b2i (okC (n, k, E, co, wi, g) x y)) (fun _ t => MW (dC, dI) (va_A (wM bd cI cZ (nI n) (nI k) (b2i g) pairs costs wishes colours mrow mins) sz) bd cI cZ (costS (n, k, E, co, wi, g) x y) t) (va_A (wM bd cI cZ (nI n) (nI k) (b2i g) pairs costs wishes colours mrow mins) sz)) 0 0 (va_A (wM bd cI cZ (nI n) (nI k) (b2i g) pairs costs wishes colours mrow mins) sz) := by
  refine Met.ofW (cc := cX3_cost) (maxL := 3) (ret := (some .boolean)) (by decide) rfl ?_
  intro p e s m args below meth c s₁ B hml hv
  obtain ⟨rfl, hsz, hP, hK, hD0⟩ := hv
  have hx := B.exec
  have hb := B.bytes
  have hr := B.returns
  have hlk := B.notSynchronized
  have hts := atoms_spec (ws := ws_ yX3_cost cX3_cost 3 (some .boolean)) B.pre
  have hts : ∀ w ∈ lw_all, w.before _ s = true := fun w h => hts w (List.mem_cons_of_mem _ h)
  have hown : s.vm.findClass RX3 = some m.cls := findClass_of_methodNamed B.named
  subst hsz
  have hD := hD0.self (sz := s.heap.size)
  generalize hAe : va_A (wM bd cI cZ (nI n) (nI k) (b2i g) pairs costs wishes colours mrow mins) s.heap.size = A at hD ⊢
  have hA : ∀ q : Nat, s.heap.size ≤ q → A q := fun q h => by rw [← hAe]; exact Or.inr h
  have hS : va_S A s.heap s.heap [] := va_S.rf
  have hl := lv_entry ([.ref (bd 0), .int x, .int y]) (n := 3) (Nat.le_of_ble_eq_true rfl)
  rw [lg_entry_eq]
  generalize (lg_sl ([.ref (bd 0), .int x, .int y]) ++ List.replicate (3 - (lg_sl ([.ref (bd 0), .int x, .int y])).length) Slot.unset).toArray = ls at hl ⊢
  have hl : lv_has ls 3 [(0, .ref (bd 0)), (1, .int x), (2, .int y)] := hl
  have hC0 := hC
  obtain ⟨hEb, hco, hwi, hgv⟩ := hC
  obtain ⟨hn, hk, hEl, hEs, hEr, hcol, hwil⟩ := hok
  refine lv_aload_n hx hb dX3_cost_0 rfl (lv_at hl 0 rfl) ?_
  refine lv_iload_n hx hb dX3_cost_1 rfl (lv_at hl 1 rfl) ?_
  refine vp_callSi (W.runV (As := [.int x]) (rest := []) ⟨hx, hb, hml, hown, hts⟩ (metM_isPoint l dC dI cI cZ bd n (nI k) (b2i g) pairs costs wishes colours mrow mins x) (cwV 1 hts (lw_V q217 q219 qs4 q13 q220) rfl rfl rfl (by decide +kernel) ⟨Nat.le_of_ble_eq_true rfl, Nat.le_of_ble_eq_true rfl⟩) (y_preR hK hP (ci := 3) (q0 := 0) rfl rfl) rfl rfl hl.1 rfl (lv_room (Nat.le_of_ble_eq_true rfl)) dX3_cost_2 ⟨Nat.zero_le _, Nat.zero_le _⟩) (fun r2 hr2 => ?_)
  refine y_ti (y := b2i (ptB n x)) (hr2) ?_
  refine y_ifeq (b := ptB n x) (tgt := 18) hx hb (rfl) dX3_cost_5 (by decide) (fun c5 => ?_) (fun c5 => ?_)
  · refine lv_iconst (v := b2i false) hx hb dX3_cost_18 (by decide) ?_
    have hno := okC_1 (n := n) (k := k) (E := E) (co := co) (wi := wi) (g := g) (x := x) (y := y) c5
    exact W.zret (v := b2i false) hx hb hr (b2i_zn false) (fun t ht hW => ⟨⟨b2i false, (), rfl, by rw [hno], MW_at (costS_no hno) (MW_mk (by rw [ht]; exact hP) (va_K.moved hW.alike hK) hD (hC0))⟩, hS.F ht⟩) hS.2.2 dX3_cost_19
  · refine lv_iload_n hx hb dX3_cost_8 rfl (lv_at hl 2 rfl) ?_
    refine lv_if_lt (tgt := 18) hx hb dX3_cost_9 (by decide) (fun c9 => ?_) (fun c9 => ?_)
    · refine lv_iconst (v := b2i false) hx hb dX3_cost_18 (by decide) ?_
      have hno := okC_2 (n := n) (k := k) (E := E) (co := co) (wi := wi) (g := g) (x := x) (y := y) c9
      exact W.zret (v := b2i false) hx hb hr (b2i_zn false) (fun t ht hW => ⟨⟨b2i false, (), rfl, by rw [hno], MW_at (costS_no hno) (MW_mk (by rw [ht]; exact hP) (va_K.moved hW.alike hK) hD (hC0))⟩, hS.F ht⟩) hS.2.2 dX3_cost_19
    · refine lv_iload_n hx hb dX3_cost_12 rfl (lv_at hl 2 rfl) ?_
      refine lv_ldc (v := nI 1000000) hx hb hown (hts _ q225) dX3_cost_13 ?_
      refine lv_icmp_le (tgt := 20) hx hb dX3_cost_15 (by decide) (fun c15 => ?_) (fun c15 => ?_)
      · have hyes := okC_in (n := n) (k := k) (E := E) (co := co) (wi := wi) (g := g) c5 c9 c15
        obtain ⟨i, hi, rfl⟩ := ptB_t (by omega) c5
        obtain ⟨v, hv, rfl⟩ := rng_0 (M := 1000000) (by decide) c9 (fun q => (fa_of_lt q).2.1 c15)
        refine lv_aload_n hx hb dX3_cost_20 rfl (lv_at hl 0 rfl) ?_
        refine va_get (D := (dC, dI)) (ci := 3) (v := .ref (bd 2)) (C := RX3) (T := TX3) (N := 9) hx hb hts in_X3 hown hK hP 0 rfl rfl 1 (by decide) (hts _ q185) (fun _ h9 => h9) rfl dX3_cost_21 ?_
        refine lv_iload_n hx hb dX3_cost_24 rfl (lv_at hl 1 rfl) ?_
        refine lv_iload_n hx hb dX3_cost_25 rfl (lv_at hl 2 rfl) ?_
        refine y_iast (j := i) hx hb hK hP hD hS 2 0 rfl rfl (rfl) (by omega) (by decide) dX3_cost_26 (fun H locs hP hD hS => ?_)
        have hP : va_P (dC, dI) vwCl (wM bd cI cZ (nI n) (nI k) (b2i g) pairs (upd costs i (nI v)) wishes colours mrow mins) H := hP
        have hD : va_D A (wM bd cI cZ (nI n) (nI k) (b2i g) pairs (upd costs i (nI v)) wishes colours mrow mins) := hD
        refine lv_aload_n hx hb dX3_cost_27 rfl (lv_at hl 0 rfl) ?_
        refine lv_iconst (v := b2i false) hx hb dX3_cost_28 (by decide) ?_
        refine va_put (D := (dC, dI)) (ci := 3) (v := .int (b2i false)) (ty := .boolean) (C := RX3) (T := TX3) (N := 9) hx hb hts in_X3 tyX3 tyX3_ok nmX3 hown hK hP hD hS 0 rfl rfl 8 (by decide) (hts _ q192) (fun _ h9 => h9) rfl (by decide +kernel) (b2i_zn _) (b2i_fit _) (Nat.le_of_ble_eq_true rfl) dX3_cost_29 (fun H locs hP hD hS => ?_)
        have hP : va_P (dC, dI) vwCl (wM bd cI cZ (nI n) (nI k) (b2i false) pairs (upd costs i (nI v)) wishes colours mrow mins) H := hP
        have hD : va_D A (wM bd cI cZ (nI n) (nI k) (b2i false) pairs (upd costs i (nI v)) wishes colours mrow mins) := hD
        refine lv_iconst (v := b2i true) hx hb dX3_cost_32 (by decide) ?_
        have hC2 : MR n k E (va_up co i v) wi false pairs (upd costs i (nI v)) wishes colours mrow := ⟨hEb, fun j hj => by
          by_cases e : j = i
          · subst e
            rw [pk_us, va_up_self]
          · rw [pk_un e, va_up_ne co v e]
            exact hco j hj, hwi, fun q => by cases q⟩
        exact W.zret (v := b2i true) hx hb hr (b2i_zn true) (fun t ht hW => ⟨⟨b2i true, (), rfl, by rw [hyes], MW_at (costS_nI (by omega) hv hyes) (MW_mk (by rw [ht]; exact hP) (va_K.moved hW.alike hK) hD (hC2))⟩, hS.F ht⟩) hS.2.2 dX3_cost_33
      · refine lv_iconst (v := b2i false) hx hb dX3_cost_18 (by decide) ?_
        have hno := okC_3 (n := n) (k := k) (E := E) (co := co) (wi := wi) (g := g) (x := x) (y := y) c15
        exact W.zret (v := b2i false) hx hb hr (b2i_zn false) (fun t ht hW => ⟨⟨b2i false, (), rfl, by rw [hno], MW_at (costS_no hno) (MW_mk (by rw [ht]; exact hP) (va_K.moved hW.alike hK) hD (hC0))⟩, hS.F ht⟩) hS.2.2 dX3_cost_19
set_option maxHeartbeats 4000000 in
set_option maxRecDepth 100000 in
theorem metM_wish (l : Launch) (dC : Nat → ClassId) (dI : Nat → Nat → Nat) (cI cZ : ClassId) (sz : Nat) (bd : Nat → Nat) (n k : Nat) (E : Nat → Nat → Bool) (co wi : Nat → Nat) (g : Bool) (pairs costs wishes colours mrow mins : Nat → Int32) (hok : okA n k E co wi) (hC : MR n k E co wi g pairs costs wishes colours mrow) (x y : Int32) : Met l yX3_wish (ws_ yX3_wish cX3_wish 3 (some .boolean)) rmA (va_Pc [.ref (bd 0), .int x, .int y] (fun U => U.heap.size = sz ∧ va_P (dC, dI) vwCl (wM bd cI cZ (nI n) (nI k) (b2i g) pairs costs wishes colours mrow mins) U.heap ∧ va_K (dC, dI) vwCl (tyK cI cZ) U ∧ va_D (fun _ => True) (wM bd cI cZ (nI n) (nI k) (b2i g) pairs costs wishes colours mrow mins))) (va_Qi (fun (r : Int32) (_ : Unit) => r = b2i (okW (n, k, E, co, wi, g) x y)) (fun _ t => MW (dC, dI) (va_A (wM bd cI cZ (nI n) (nI k) (b2i g) pairs costs wishes colours mrow mins) sz) bd cI cZ (wishS (n, k, E, co, wi, g) x y) t) (va_A (wM bd cI cZ (nI n) (nI k) (b2i g) pairs costs wishes colours mrow mins) sz)) 0 0 (va_A (wM bd cI cZ (nI n) (nI k) (b2i g) pairs costs wishes colours mrow mins) sz) := by
  refine Met.ofW (cc := cX3_wish) (maxL := 3) (ret := (some .boolean)) (by decide) rfl ?_
  intro p e s m args below meth c s₁ B hml hv
  obtain ⟨rfl, hsz, hP, hK, hD0⟩ := hv
  have hx := B.exec
  have hb := B.bytes
  have hr := B.returns
  have hlk := B.notSynchronized
  have hts := atoms_spec (ws := ws_ yX3_wish cX3_wish 3 (some .boolean)) B.pre
  have hts : ∀ w ∈ lw_all, w.before _ s = true := fun w h => hts w (List.mem_cons_of_mem _ h)
  have hown : s.vm.findClass RX3 = some m.cls := findClass_of_methodNamed B.named
  subst hsz
  have hD := hD0.self (sz := s.heap.size)
  generalize hAe : va_A (wM bd cI cZ (nI n) (nI k) (b2i g) pairs costs wishes colours mrow mins) s.heap.size = A at hD ⊢
  have hA : ∀ q : Nat, s.heap.size ≤ q → A q := fun q h => by rw [← hAe]; exact Or.inr h
  have hS : va_S A s.heap s.heap [] := va_S.rf
  have hl := lv_entry ([.ref (bd 0), .int x, .int y]) (n := 3) (Nat.le_of_ble_eq_true rfl)
  rw [lg_entry_eq]
  generalize (lg_sl ([.ref (bd 0), .int x, .int y]) ++ List.replicate (3 - (lg_sl ([.ref (bd 0), .int x, .int y])).length) Slot.unset).toArray = ls at hl ⊢
  have hl : lv_has ls 3 [(0, .ref (bd 0)), (1, .int x), (2, .int y)] := hl
  have hC0 := hC
  obtain ⟨hEb, hco, hwi, hgv⟩ := hC
  obtain ⟨hn, hk, hEl, hEs, hEr, hcol, hwil⟩ := hok
  refine lv_aload_n hx hb dX3_wish_0 rfl (lv_at hl 0 rfl) ?_
  refine lv_iload_n hx hb dX3_wish_1 rfl (lv_at hl 1 rfl) ?_
  refine vp_callSi (W.runV (As := [.int x]) (rest := []) ⟨hx, hb, hml, hown, hts⟩ (metM_isPoint l dC dI cI cZ bd n (nI k) (b2i g) pairs costs wishes colours mrow mins x) (cwV 1 hts (lw_V q217 q219 qs4 q13 q220) rfl rfl rfl (by decide +kernel) ⟨Nat.le_of_ble_eq_true rfl, Nat.le_of_ble_eq_true rfl⟩) (y_preR hK hP (ci := 3) (q0 := 0) rfl rfl) rfl rfl hl.1 rfl (lv_room (Nat.le_of_ble_eq_true rfl)) dX3_wish_2 ⟨Nat.zero_le _, Nat.zero_le _⟩) (fun r2 hr2 => ?_)
  refine y_ti (y := b2i (ptB n x)) (hr2) ?_
  refine y_ifeq (b := ptB n x) (tgt := 16) hx hb (rfl) dX3_wish_5 (by decide) (fun c5 => ?_) (fun c5 => ?_)
  · refine lv_iconst (v := b2i false) hx hb dX3_wish_16 (by decide) ?_
    have hno := okW_1 (n := n) (k := k) (E := E) (co := co) (wi := wi) (g := g) (x := x) (y := y) c5
    exact W.zret (v := b2i false) hx hb hr (b2i_zn false) (fun t ht hW => ⟨⟨b2i false, (), rfl, by rw [hno], MW_at (wishS_no hno) (MW_mk (by rw [ht]; exact hP) (va_K.moved hW.alike hK) hD (hC0))⟩, hS.F ht⟩) hS.2.2 dX3_wish_17
  · refine lv_aload_n hx hb dX3_wish_8 rfl (lv_at hl 0 rfl) ?_
    refine lv_iload_n hx hb dX3_wish_9 rfl (lv_at hl 2 rfl) ?_
    refine vp_callSi (W.runV (As := [.int y]) (rest := []) ⟨hx, hb, hml, hown, hts⟩ (metM_isPoint l dC dI cI cZ bd n (nI k) (b2i g) pairs costs wishes colours mrow mins y) (cwV 1 hts (lw_V q217 q219 qs4 q13 q220) rfl rfl rfl (by decide +kernel) ⟨Nat.le_of_ble_eq_true rfl, Nat.le_of_ble_eq_true rfl⟩) (y_preR hK hP (ci := 3) (q0 := 0) rfl rfl) rfl rfl hl.1 rfl (lv_room (Nat.le_of_ble_eq_true rfl)) dX3_wish_10 ⟨Nat.zero_le _, Nat.zero_le _⟩) (fun r10 hr10 => ?_)
    refine y_ti (y := b2i (ptB n y)) (hr10) ?_
    refine y_ifne (b := ptB n y) (tgt := 18) hx hb (rfl) dX3_wish_13 (by decide) (fun c13 => ?_) (fun c13 => ?_)
    · have hyes := okW_in (n := n) (k := k) (E := E) (co := co) (wi := wi) (g := g) c5 c13
      obtain ⟨i, hi, rfl⟩ := ptB_t (by omega) c5
      obtain ⟨v, hv, rfl⟩ := ptB_t (by omega) c13
      refine lv_aload_n hx hb dX3_wish_18 rfl (lv_at hl 0 rfl) ?_
      refine va_get (D := (dC, dI)) (ci := 3) (v := .ref (bd 3)) (C := RX3) (T := TX3) (N := 9) hx hb hts in_X3 hown hK hP 0 rfl rfl 2 (by decide) (hts _ q186) (fun _ h9 => h9) rfl dX3_wish_19 ?_
      refine lv_iload_n hx hb dX3_wish_22 rfl (lv_at hl 1 rfl) ?_
      refine lv_iload_n hx hb dX3_wish_23 rfl (lv_at hl 2 rfl) ?_
      refine y_iast (j := i) hx hb hK hP hD hS 3 0 rfl rfl (rfl) (by omega) (by decide) dX3_wish_24 (fun H locs hP hD hS => ?_)
      have hP : va_P (dC, dI) vwCl (wM bd cI cZ (nI n) (nI k) (b2i g) pairs costs (upd wishes i (nI v)) colours mrow mins) H := hP
      have hD : va_D A (wM bd cI cZ (nI n) (nI k) (b2i g) pairs costs (upd wishes i (nI v)) colours mrow mins) := hD
      refine lv_aload_n hx hb dX3_wish_25 rfl (lv_at hl 0 rfl) ?_
      refine lv_iconst (v := b2i false) hx hb dX3_wish_26 (by decide) ?_
      refine va_put (D := (dC, dI)) (ci := 3) (v := .int (b2i false)) (ty := .boolean) (C := RX3) (T := TX3) (N := 9) hx hb hts in_X3 tyX3 tyX3_ok nmX3 hown hK hP hD hS 0 rfl rfl 8 (by decide) (hts _ q192) (fun _ h9 => h9) rfl (by decide +kernel) (b2i_zn _) (b2i_fit _) (Nat.le_of_ble_eq_true rfl) dX3_wish_27 (fun H locs hP hD hS => ?_)
      have hP : va_P (dC, dI) vwCl (wM bd cI cZ (nI n) (nI k) (b2i false) pairs costs (upd wishes i (nI v)) colours mrow mins) H := hP
      have hD : va_D A (wM bd cI cZ (nI n) (nI k) (b2i false) pairs costs (upd wishes i (nI v)) colours mrow mins) := hD
      refine lv_iconst (v := b2i true) hx hb dX3_wish_30 (by decide) ?_
      have hC2 : MR n k E co (va_up wi i v) false pairs costs (upd wishes i (nI v)) colours mrow := ⟨hEb, hco, fun j hj => by
        by_cases e : j = i
        · subst e
          rw [pk_us, va_up_self]
        · rw [pk_un e, va_up_ne wi v e]
          exact hwi j hj, fun q => by cases q⟩
      exact W.zret (v := b2i true) hx hb hr (b2i_zn true) (fun t ht hW => ⟨⟨b2i true, (), rfl, by rw [hyes], MW_at (wishS_nI (by omega) (by omega) hyes) (MW_mk (by rw [ht]; exact hP) (va_K.moved hW.alike hK) hD (hC2))⟩, hS.F ht⟩) hS.2.2 dX3_wish_31
    · refine lv_iconst (v := b2i false) hx hb dX3_wish_16 (by decide) ?_
      have hno := okW_2 (n := n) (k := k) (E := E) (co := co) (wi := wi) (g := g) (x := x) (y := y) c13
      exact W.zret (v := b2i false) hx hb hr (b2i_zn false) (fun t ht hW => ⟨⟨b2i false, (), rfl, by rw [hno], MW_at (wishS_no hno) (MW_mk (by rw [ht]; exact hP) (va_K.moved hW.alike hK) hD (hC0))⟩, hS.F ht⟩) hS.2.2 dX3_wish_17
set_option maxHeartbeats 4000000 in
set_option maxRecDepth 100000 in
theorem metM_join (l : Launch) (dC : Nat → ClassId) (dI : Nat → Nat → Nat) (cI cZ : ClassId) (sz : Nat) (bd : Nat → Nat) (n k : Nat) (E : Nat → Nat → Bool) (co wi : Nat → Nat) (g : Bool) (pairs costs wishes colours mrow mins : Nat → Int32) (hok : okA n k E co wi) (hC : MR n k E co wi g pairs costs wishes colours mrow) (x y : Int32) : Met l yX3_join (ws_ yX3_join cX3_join 3 (some .boolean)) rmA (va_Pc [.ref (bd 0), .int x, .int y] (fun U => U.heap.size = sz ∧ va_P (dC, dI) vwCl (wM bd cI cZ (nI n) (nI k) (b2i g) pairs costs wishes colours mrow mins) U.heap ∧ va_K (dC, dI) vwCl (tyK cI cZ) U ∧ va_D (fun _ => True) (wM bd cI cZ (nI n) (nI k) (b2i g) pairs costs wishes colours mrow mins))) (va_Qi (fun (r : Int32) (_ : Unit) => r = b2i (okJ (n, k, E, co, wi, g) x y)) (fun _ t => MW (dC, dI) (va_A (wM bd cI cZ (nI n) (nI k) (b2i g) pairs costs wishes colours mrow mins) sz) bd cI cZ (joinS (n, k, E, co, wi, g) x y) t) (va_A (wM bd cI cZ (nI n) (nI k) (b2i g) pairs costs wishes colours mrow mins) sz)) 0 0 (va_A (wM bd cI cZ (nI n) (nI k) (b2i g) pairs costs wishes colours mrow mins) sz) := by
  refine Met.ofW (cc := cX3_join) (maxL := 3) (ret := (some .boolean)) (by decide) rfl ?_
  intro p e s m args below meth c s₁ B hml hv
  obtain ⟨rfl, hsz, hP, hK, hD0⟩ := hv
  have hx := B.exec
  have hb := B.bytes
  have hr := B.returns
  have hlk := B.notSynchronized
  have hts := atoms_spec (ws := ws_ yX3_join cX3_join 3 (some .boolean)) B.pre
  have hts : ∀ w ∈ lw_all, w.before _ s = true := fun w h => hts w (List.mem_cons_of_mem _ h)
  have hown : s.vm.findClass RX3 = some m.cls := findClass_of_methodNamed B.named
  subst hsz
  have hD := hD0.self (sz := s.heap.size)
  generalize hAe : va_A (wM bd cI cZ (nI n) (nI k) (b2i g) pairs costs wishes colours mrow mins) s.heap.size = A at hD ⊢
  have hA : ∀ q : Nat, s.heap.size ≤ q → A q := fun q h => by rw [← hAe]; exact Or.inr h
  have hS : va_S A s.heap s.heap [] := va_S.rf
  have hl := lv_entry ([.ref (bd 0), .int x, .int y]) (n := 3) (Nat.le_of_ble_eq_true rfl)
  rw [lg_entry_eq]
  generalize (lg_sl ([.ref (bd 0), .int x, .int y]) ++ List.replicate (3 - (lg_sl ([.ref (bd 0), .int x, .int y])).length) Slot.unset).toArray = ls at hl ⊢
  have hl : lv_has ls 3 [(0, .ref (bd 0)), (1, .int x), (2, .int y)] := hl
  have hC0 := hC
  obtain ⟨hEb, hco, hwi, hgv⟩ := hC
  obtain ⟨hn, hk, hEl, hEs, hEr, hcol, hwil⟩ := hok
  refine lv_aload_n hx hb dX3_join_0 rfl (lv_at hl 0 rfl) ?_
  refine lv_iload_n hx hb dX3_join_1 rfl (lv_at hl 1 rfl) ?_
  refine vp_callSi (W.runV (As := [.int x]) (rest := []) ⟨hx, hb, hml, hown, hts⟩ (metM_isPoint l dC dI cI cZ bd n (nI k) (b2i g) pairs costs wishes colours mrow mins x) (cwV 1 hts (lw_V q217 q219 qs4 q13 q220) rfl rfl rfl (by decide +kernel) ⟨Nat.le_of_ble_eq_true rfl, Nat.le_of_ble_eq_true rfl⟩) (y_preR hK hP (ci := 3) (q0 := 0) rfl rfl) rfl rfl hl.1 rfl (lv_room (Nat.le_of_ble_eq_true rfl)) dX3_join_2 ⟨Nat.zero_le _, Nat.zero_le _⟩) (fun r2 hr2 => ?_)
  refine y_ti (y := b2i (ptB n x)) (hr2) ?_
  refine y_ifeq (b := ptB n x) (tgt := 36) hx hb (rfl) dX3_join_5 (by decide) (fun c5 => ?_) (fun c5 => ?_)
  · refine lv_iconst (v := b2i false) hx hb dX3_join_36 (by decide) ?_
    have hno := okJ_1 (n := n) (k := k) (E := E) (co := co) (wi := wi) (g := g) (x := x) (y := y) c5
    exact W.zret (v := b2i false) hx hb hr (b2i_zn false) (fun t ht hW => ⟨⟨b2i false, (), rfl, by rw [hno], MW_at (joinS_no hno) (MW_mk (by rw [ht]; exact hP) (va_K.moved hW.alike hK) hD (hC0))⟩, hS.F ht⟩) hS.2.2 dX3_join_37
  · refine lv_aload_n hx hb dX3_join_8 rfl (lv_at hl 0 rfl) ?_
    refine lv_iload_n hx hb dX3_join_9 rfl (lv_at hl 2 rfl) ?_
    refine vp_callSi (W.runV (As := [.int y]) (rest := []) ⟨hx, hb, hml, hown, hts⟩ (metM_isPoint l dC dI cI cZ bd n (nI k) (b2i g) pairs costs wishes colours mrow mins y) (cwV 1 hts (lw_V q217 q219 qs4 q13 q220) rfl rfl rfl (by decide +kernel) ⟨Nat.le_of_ble_eq_true rfl, Nat.le_of_ble_eq_true rfl⟩) (y_preR hK hP (ci := 3) (q0 := 0) rfl rfl) rfl rfl hl.1 rfl (lv_room (Nat.le_of_ble_eq_true rfl)) dX3_join_10 ⟨Nat.zero_le _, Nat.zero_le _⟩) (fun r10 hr10 => ?_)
    refine y_ti (y := b2i (ptB n y)) (hr10) ?_
    refine y_ifeq (b := ptB n y) (tgt := 36) hx hb (rfl) dX3_join_13 (by decide) (fun c13 => ?_) (fun c13 => ?_)
    · refine lv_iconst (v := b2i false) hx hb dX3_join_36 (by decide) ?_
      have hno := okJ_2 (n := n) (k := k) (E := E) (co := co) (wi := wi) (g := g) (x := x) (y := y) c13
      exact W.zret (v := b2i false) hx hb hr (b2i_zn false) (fun t ht hW => ⟨⟨b2i false, (), rfl, by rw [hno], MW_at (joinS_no hno) (MW_mk (by rw [ht]; exact hP) (va_K.moved hW.alike hK) hD (hC0))⟩, hS.F ht⟩) hS.2.2 dX3_join_37
    · refine lv_iload_n hx hb dX3_join_16 rfl (lv_at hl 1 rfl) ?_
      refine lv_iload_n hx hb dX3_join_17 rfl (lv_at hl 2 rfl) ?_
      refine lv_icmp_eq (tgt := 36) hx hb dX3_join_18 (by decide) (fun c18 => ?_) (fun c18 => ?_)
      · refine lv_iconst (v := b2i false) hx hb dX3_join_36 (by decide) ?_
        have hno := okJ_3 (n := n) (k := k) (E := E) (co := co) (wi := wi) (g := g) (x := x) (y := y) c18
        exact W.zret (v := b2i false) hx hb hr (b2i_zn false) (fun t ht hW => ⟨⟨b2i false, (), rfl, by rw [hno], MW_at (joinS_no hno) (MW_mk (by rw [ht]; exact hP) (va_K.moved hW.alike hK) hD (hC0))⟩, hS.F ht⟩) hS.2.2 dX3_join_37
      · obtain ⟨i, hi, rfl⟩ := ptB_t (by omega) c5
        obtain ⟨j, hj, rfl⟩ := ptB_t (by omega) c13
        have hij : i ≠ j := fun q => c18 (by rw [q])
        have hokJ := okJ_nI (st := (n, k, E, co, wi, g)) hn.2 hi hj hij
        refine lv_aload_n hx hb dX3_join_21 rfl (lv_at hl 0 rfl) ?_
        refine va_get (D := (dC, dI)) (ci := 3) (v := .ref (bd 1)) (C := RX3) (T := TX3) (N := 9) hx hb hts in_X3 hown hK hP 0 rfl rfl 0 (by decide) (hts _ q184) (fun _ h9 => h9) rfl dX3_join_22 ?_
        refine lv_sipush (v := nI 200) hx hb dX3_join_25 (by decide) ?_
        refine lv_iload_n hx hb dX3_join_28 rfl (lv_at hl 1 rfl) ?_
        refine lv_imul hx hb dX3_join_29 ?_
        refine y_ti (y := nI (200 * i)) (pk_mul 200 i) ?_
        refine lv_iload_n hx hb dX3_join_30 rfl (lv_at hl 2 rfl) ?_
        refine lv_iadd hx hb dX3_join_31 ?_
        refine y_ti (y := nI (200 * i + j)) (nI_add (200 * i) j) ?_
        refine y_zald (j := 200 * i + j) hx hb hK hP 1 1 rfl rfl (rfl) (by omega) (by decide) dX3_join_32 ?_
        refine y_ti (y := b2i (E i j)) (hEb i j (by omega) (by omega)) ?_
        refine y_ifeq (b := E i j) (tgt := 38) hx hb (rfl) dX3_join_33 (by decide) (fun c33 => ?_) (fun c33 => ?_)
        · have hEij : E i j = false := c33
          refine lv_aload_n hx hb dX3_join_38 rfl (lv_at hl 0 rfl) ?_
          refine va_get (D := (dC, dI)) (ci := 3) (v := .ref (bd 1)) (C := RX3) (T := TX3) (N := 9) hx hb hts in_X3 hown hK hP 0 rfl rfl 0 (by decide) (hts _ q184) (fun _ h9 => h9) rfl dX3_join_39 ?_
          refine lv_sipush (v := nI 200) hx hb dX3_join_42 (by decide) ?_
          refine lv_iload_n hx hb dX3_join_45 rfl (lv_at hl 1 rfl) ?_
          refine lv_imul hx hb dX3_join_46 ?_
          refine y_ti (y := nI (200 * i)) (pk_mul 200 i) ?_
          refine lv_iload_n hx hb dX3_join_47 rfl (lv_at hl 2 rfl) ?_
          refine lv_iadd hx hb dX3_join_48 ?_
          refine y_ti (y := nI (200 * i + j)) (nI_add (200 * i) j) ?_
          refine lv_iconst (v := b2i true) hx hb dX3_join_49 (by decide) ?_
          refine y_zast (v := b2i true) (j := 200 * i + j) hx hb hK hP hD hS 1 1 rfl rfl (b2i_nar _) (rfl) (by omega) (by decide) dX3_join_50 (fun H locs hP hD hS => ?_)
          have hP : va_P (dC, dI) vwCl (wM bd cI cZ (nI n) (nI k) (b2i g) (upd pairs (200 * i + j) (b2i true)) costs wishes colours mrow mins) H := hP
          have hD : va_D A (wM bd cI cZ (nI n) (nI k) (b2i g) (upd pairs (200 * i + j) (b2i true)) costs wishes colours mrow mins) := hD
          refine lv_aload_n hx hb dX3_join_51 rfl (lv_at hl 0 rfl) ?_
          refine va_get (D := (dC, dI)) (ci := 3) (v := .ref (bd 1)) (C := RX3) (T := TX3) (N := 9) hx hb hts in_X3 hown hK hP 0 rfl rfl 0 (by decide) (hts _ q184) (fun _ h9 => h9) rfl dX3_join_52 ?_
          refine lv_sipush (v := nI 200) hx hb dX3_join_55 (by decide) ?_
          refine lv_iload_n hx hb dX3_join_58 rfl (lv_at hl 2 rfl) ?_
          refine lv_imul hx hb dX3_join_59 ?_
          refine y_ti (y := nI (200 * j)) (pk_mul 200 j) ?_
          refine lv_iload_n hx hb dX3_join_60 rfl (lv_at hl 1 rfl) ?_
          refine lv_iadd hx hb dX3_join_61 ?_
          refine y_ti (y := nI (200 * j + i)) (nI_add (200 * j) i) ?_
          refine lv_iconst (v := b2i true) hx hb dX3_join_62 (by decide) ?_
          refine y_zast (v := b2i true) (j := 200 * j + i) hx hb hK hP hD hS 1 1 rfl rfl (b2i_nar _) (rfl) (by omega) (by decide) dX3_join_63 (fun H locs hP hD hS => ?_)
          have hP : va_P (dC, dI) vwCl (wM bd cI cZ (nI n) (nI k) (b2i g) (upd (upd pairs (200 * i + j) (b2i true)) (200 * j + i) (b2i true)) costs wishes colours mrow mins) H := hP
          have hD : va_D A (wM bd cI cZ (nI n) (nI k) (b2i g) (upd (upd pairs (200 * i + j) (b2i true)) (200 * j + i) (b2i true)) costs wishes colours mrow mins) := hD
          refine lv_aload_n hx hb dX3_join_64 rfl (lv_at hl 0 rfl) ?_
          refine lv_iconst (v := b2i false) hx hb dX3_join_65 (by decide) ?_
          refine va_put (D := (dC, dI)) (ci := 3) (v := .int (b2i false)) (ty := .boolean) (C := RX3) (T := TX3) (N := 9) hx hb hts in_X3 tyX3 tyX3_ok nmX3 hown hK hP hD hS 0 rfl rfl 8 (by decide) (hts _ q192) (fun _ h9 => h9) rfl (by decide +kernel) (b2i_zn _) (b2i_fit _) (Nat.le_of_ble_eq_true rfl) dX3_join_66 (fun H locs hP hD hS => ?_)
          have hP : va_P (dC, dI) vwCl (wM bd cI cZ (nI n) (nI k) (b2i false) (upd (upd pairs (200 * i + j) (b2i true)) (200 * j + i) (b2i true)) costs wishes colours mrow mins) H := hP
          have hD : va_D A (wM bd cI cZ (nI n) (nI k) (b2i false) (upd (upd pairs (200 * i + j) (b2i true)) (200 * j + i) (b2i true)) costs wishes colours mrow mins) := hD
          refine lv_iconst (v := b2i true) hx hb dX3_join_69 (by decide) ?_
          have hC2 : MR n k (setE (setE E i j) j i) co wi false (upd (upd pairs (200 * i + j) (b2i true)) (200 * j + i) (b2i true)) costs wishes colours mrow := ⟨pairs_put (pairs_put hEb (by omega) (by omega)) (by omega) (by omega), hco, hwi, fun q => by cases q⟩
          have hyes : okJ (n, k, E, co, wi, g) (nI i) (nI j) = true := by rw [hokJ]; show (!E i j) = true; rw [hEij]; rfl
          exact W.zret (v := b2i true) hx hb hr (b2i_zn true) (fun t ht hW => ⟨⟨b2i true, (), rfl, by rw [hyes], MW_at (joinS_nI (st := (n, k, E, co, wi, g)) hn.2 hi hj hij hEij) (MW_mk (by rw [ht]; exact hP) (va_K.moved hW.alike hK) hD (hC2))⟩, hS.F ht⟩) hS.2.2 dX3_join_70
        · refine lv_iconst (v := b2i false) hx hb dX3_join_36 (by decide) ?_
          have hno : okJ (n, k, E, co, wi, g) (nI i) (nI j) = false := by rw [hokJ]; show (!E i j) = false; rw [c33]; rfl
          exact W.zret (v := b2i false) hx hb hr (b2i_zn false) (fun t ht hW => ⟨⟨b2i false, (), rfl, by rw [hno], MW_at (joinS_no hno) (MW_mk (by rw [ht]; exact hP) (va_K.moved hW.alike hK) hD (hC0))⟩, hS.F ht⟩) hS.2.2 dX3_join_37
set_option maxHeartbeats 4000000 in
set_option maxRecDepth 100000 in
theorem lpM_begin2 {p : Program} {l : Launch} {e : Env} {R : Room} {s : State} {m : MethodId} {args : Array Value} {below : List Frame} {meth : Method} {c : Code} {Q : State → Prop} {dC : Nat → ClassId} {dI : Nat → Nat → Nat} {cI cZ : ClassId} {A : Nat → Prop} (hx : p.tables.exec = Jvm.exec) (hb : c.code = cX3_begin) (hml : c.maxLocals = 5) (hown : s.vm.findClass RX3 = some m.cls) (hts : ∀ w ∈ lw_all, w.before args s = true) (hK : va_K (dC, dI) vwCl (tyK cI cZ) s) (hA : ∀ q : Nat, s.heap.size ≤ q → A q) {bd : Nat → Nat} {n2 k2 : Nat} {colours mrow mins : Nat → Int32} {i : Nat} {costs wishes : Nat → Int32} (hi : i < 200) (kx : ∀ (pairs : Nat → Int32) (H : Heap) (locs : List Loc) (ls : Array Slot), (∀ j b, j < i → b < 200 → pairs (200 * j + b) = b2i false) → (∀ b, b < 200 → pairs (200 * i + b) = b2i false) → va_P (dC, dI) vwCl (wM bd cI cZ (nI n2) (nI k2) (b2i false) pairs costs wishes colours mrow mins) H → va_D A (wM bd cI cZ (nI n2) (nI k2) (b2i false) pairs costs wishes colours mrow mins) → va_S A s.heap H locs → lv_has ls 5 [(3, .int (nI i)), (0, .ref (bd 0))] → W p l e R s m args below meth c H locs 0 0 Q (F0 m 94 ls [])) : ∀ (nn jb : Nat) (pairs : Nat → Int32) (H : Heap) (locs : List Loc) (ls : Array Slot), jb ≤ 200 → 201 ≤ jb + nn → (∀ j b, j < i → b < 200 → pairs (200 * j + b) = b2i false) → (∀ b, b < jb → pairs (200 * i + b) = b2i false) → va_P (dC, dI) vwCl (wM bd cI cZ (nI n2) (nI k2) (b2i false) pairs costs wishes colours mrow mins) H → va_D A (wM bd cI cZ (nI n2) (nI k2) (b2i false) pairs costs wishes colours mrow mins) → va_S A s.heap H locs → lv_has ls 5 [(4, .int (nI jb)), (3, .int (nI i)), (0, .ref (bd 0))] → W p l e R s m args below meth c H locs 0 0 Q (F0 m 66 ls []) := by
  intro nn
  induction nn with
  | zero =>
    intro jb pairs H locs ls h1 h2
    exact absurd h2 (by omega)
  | succ nn ih =>
    intro jb pairs H locs ls hjb hjbn hz1 hz2 hP hD hS hl
    refine lv_iload hx hb dX3_begin_66 (lv_at hl 0 rfl) ?_
    refine lv_sipush (v := nI 200) hx hb dX3_begin_68 (by decide) ?_
    refine y_cge (i := jb) (j := 200) (tgt := 94) hx hb (rfl) (rfl) (by omega) (by omega) dX3_begin_71 (by decide) (fun c71 => ?_) (fun c71 => ?_)
    · exact kx pairs H locs ls hz1 (fun b hb => hz2 b (by omega)) hP hD hS (lv_sub hl [1, 2] rfl)
    · refine lv_aload_n hx hb dX3_begin_74 rfl (lv_at hl 2 rfl) ?_
      refine va_get (D := (dC, dI)) (ci := 3) (v := .ref (bd 1)) (C := RX3) (T := TX3) (N := 9) hx hb hts in_X3 hown hK hP 0 rfl rfl 0 (by decide) (hts _ q184) (fun _ h9 => h9) rfl dX3_begin_75 ?_
      refine lv_sipush (v := nI 200) hx hb dX3_begin_78 (by decide) ?_
      refine lv_iload_n hx hb dX3_begin_81 rfl (lv_at hl 1 rfl) ?_
      refine lv_imul hx hb dX3_begin_82 ?_
      refine y_ti (y := nI (200 * i)) (pk_mul 200 i) ?_
      refine lv_iload hx hb dX3_begin_83 (lv_at hl 0 rfl) ?_
      refine lv_iadd hx hb dX3_begin_85 ?_
      refine y_ti (y := nI (200 * i + jb)) (nI_add (200 * i) jb) ?_
      refine lv_iconst (v := b2i false) hx hb dX3_begin_86 (by decide) ?_
      refine y_zast (v := b2i false) (j := 200 * i + jb) hx hb hK hP hD hS 1 1 rfl rfl (b2i_nar _) (rfl) (by omega) (by decide) dX3_begin_87 (fun H locs hP hD hS => ?_)
      have hP : va_P (dC, dI) vwCl (wM bd cI cZ (nI n2) (nI k2) (b2i false) (upd pairs (200 * i + jb) (b2i false)) costs wishes colours mrow mins) H := hP
      have hD : va_D A (wM bd cI cZ (nI n2) (nI k2) (b2i false) (upd pairs (200 * i + jb) (b2i false)) costs wishes colours mrow mins) := hD
      refine lv_iinc (v := nI (jb + 1)) (lv' := [(4, .int (nI (jb + 1))), (3, .int (nI i)), (0, .ref (bd 0))]) hx hb dX3_begin_88 hl (k := 0) rfl (nI_1 jb) (by decide) rfl (fun ls hl => ?_)
      refine lv_goto (tgt := 66) hx hb dX3_begin_91 (by decide) ?_
      exact ih (jb + 1) _ _ _ ls (by omega) (by omega) (fun j b hj hb => by
        rw [pk_un (by omega)]
        exact hz1 j b hj hb) (fun b hb => by
        by_cases e : b = jb
        · subst e
          exact pk_us
        · rw [pk_un (by omega)]
          exact hz2 b (by omega)) hP hD hS (lv_sub hl [0, 1, 2] rfl)
set_option maxHeartbeats 4000000 in
set_option maxRecDepth 100000 in
theorem lpM_begin1 {p : Program} {l : Launch} {e : Env} {R : Room} {s : State} {m : MethodId} {args : Array Value} {below : List Frame} {meth : Method} {c : Code} {Q : State → Prop} {dC : Nat → ClassId} {dI : Nat → Nat → Nat} {cI cZ : ClassId} {A : Nat → Prop} (hx : p.tables.exec = Jvm.exec) (hb : c.code = cX3_begin) (hml : c.maxLocals = 5) (hown : s.vm.findClass RX3 = some m.cls) (hts : ∀ w ∈ lw_all, w.before args s = true) (hK : va_K (dC, dI) vwCl (tyK cI cZ) s) (hA : ∀ q : Nat, s.heap.size ≤ q → A q) {bd : Nat → Nat} {n2 k2 : Nat} {colours mrow mins : Nat → Int32} (kx : ∀ (pairs costs wishes : Nat → Int32) (H : Heap) (locs : List Loc) (ls : Array Slot), (∀ j, j < 200 → costs j = nI 0 ∧ wishes j = nI j ∧ ∀ b, b < 200 → pairs (200 * j + b) = b2i false) → va_P (dC, dI) vwCl (wM bd cI cZ (nI n2) (nI k2) (b2i false) pairs costs wishes colours mrow mins) H → va_D A (wM bd cI cZ (nI n2) (nI k2) (b2i false) pairs costs wishes colours mrow mins) → va_S A s.heap H locs → lv_has ls 5 [(0, .ref (bd 0))] → W p l e R s m args below meth c H locs 0 0 Q (F0 m 100 ls [])) : ∀ (nn i : Nat) (pairs costs wishes : Nat → Int32) (H : Heap) (locs : List Loc) (ls : Array Slot), i ≤ 200 → 201 ≤ i + nn → (∀ j, j < i → costs j = nI 0 ∧ wishes j = nI j ∧ ∀ b, b < 200 → pairs (200 * j + b) = b2i false) → va_P (dC, dI) vwCl (wM bd cI cZ (nI n2) (nI k2) (b2i false) pairs costs wishes colours mrow mins) H → va_D A (wM bd cI cZ (nI n2) (nI k2) (b2i false) pairs costs wishes colours mrow mins) → va_S A s.heap H locs → lv_has ls 5 [(3, .int (nI i)), (0, .ref (bd 0))] → W p l e R s m args below meth c H locs 0 0 Q (F0 m 42 ls []) := by
  intro nn
  induction nn with
  | zero =>
    intro i pairs costs wishes H locs ls h1 h2
    exact absurd h2 (by omega)
  | succ nn ih =>
    intro i pairs costs wishes H locs ls hi hin hz hP hD hS hl
    refine lv_iload_n hx hb dX3_begin_42 rfl (lv_at hl 0 rfl) ?_
    refine lv_sipush (v := nI 200) hx hb dX3_begin_43 (by decide) ?_
    refine y_cge (i := i) (j := 200) (tgt := 100) hx hb (rfl) (rfl) (by omega) (by omega) dX3_begin_46 (by decide) (fun c46 => ?_) (fun c46 => ?_)
    · exact kx pairs costs wishes H locs ls (fun j hj => hz j (by omega)) hP hD hS (lv_sub hl [1] rfl)
    · refine lv_aload_n hx hb dX3_begin_49 rfl (lv_at hl 1 rfl) ?_
      refine va_get (D := (dC, dI)) (ci := 3) (v := .ref (bd 2)) (C := RX3) (T := TX3) (N := 9) hx hb hts in_X3 hown hK hP 0 rfl rfl 1 (by decide) (hts _ q185) (fun _ h9 => h9) rfl dX3_begin_50 ?_
      refine lv_iload_n hx hb dX3_begin_53 rfl (lv_at hl 0 rfl) ?_
      refine lv_iconst (v := nI 0) hx hb dX3_begin_54 (by decide) ?_
      refine y_iast (j := i) hx hb hK hP hD hS 2 0 rfl rfl (rfl) (by omega) (by decide) dX3_begin_55 (fun H locs hP hD hS => ?_)
      have hP : va_P (dC, dI) vwCl (wM bd cI cZ (nI n2) (nI k2) (b2i false) pairs (upd costs i (nI 0)) wishes colours mrow mins) H := hP
      have hD : va_D A (wM bd cI cZ (nI n2) (nI k2) (b2i false) pairs (upd costs i (nI 0)) wishes colours mrow mins) := hD
      refine lv_aload_n hx hb dX3_begin_56 rfl (lv_at hl 1 rfl) ?_
      refine va_get (D := (dC, dI)) (ci := 3) (v := .ref (bd 3)) (C := RX3) (T := TX3) (N := 9) hx hb hts in_X3 hown hK hP 0 rfl rfl 2 (by decide) (hts _ q186) (fun _ h9 => h9) rfl dX3_begin_57 ?_
      refine lv_iload_n hx hb dX3_begin_60 rfl (lv_at hl 0 rfl) ?_
      refine lv_iload_n hx hb dX3_begin_61 rfl (lv_at hl 0 rfl) ?_
      refine y_iast (j := i) hx hb hK hP hD hS 3 0 rfl rfl (rfl) (by omega) (by decide) dX3_begin_62 (fun H locs hP hD hS => ?_)
      have hP : va_P (dC, dI) vwCl (wM bd cI cZ (nI n2) (nI k2) (b2i false) pairs (upd costs i (nI 0)) (upd wishes i (nI i)) colours mrow mins) H := hP
      have hD : va_D A (wM bd cI cZ (nI n2) (nI k2) (b2i false) pairs (upd costs i (nI 0)) (upd wishes i (nI i)) colours mrow mins) := hD
      refine lv_iconst (v := nI 0) hx hb dX3_begin_63 (by decide) ?_
      refine lv_istore (lv' := [(4, .int (nI 0)), (3, .int (nI i)), (0, .ref (bd 0))]) hx hb dX3_begin_64 hl (by decide) rfl (fun ls hl => ?_)
      refine lpM_begin2 hx hb hml hown hts hK hA c46 ?_ 201 0 pairs _ _ ls (by omega) (by omega) (fun j b hj hb => (hz j hj).2.2 b hb) (fun b hb => absurd hb (Nat.not_lt_zero b)) hP hD hS (lv_sub hl [0, 1, 2] rfl)
      intro pairs H locs ls hz1 hz2 hP hD hS hl
      refine lv_iinc (v := nI (i + 1)) (lv' := [(3, .int (nI (i + 1))), (0, .ref (bd 0))]) hx hb dX3_begin_94 hl (k := 0) rfl (nI_1 i) (by decide) rfl (fun ls hl => ?_)
      refine lv_goto (tgt := 42) hx hb dX3_begin_97 (by decide) ?_
      exact ih (i + 1) _ _ _ _ _ ls (by omega) (by omega) (fun j hj => by
        by_cases e : j = i
        · subst e
          exact ⟨pk_us, pk_us, hz2⟩
        · rw [pk_un e, pk_un e]
          exact ⟨(hz j (by omega)).1, (hz j (by omega)).2.1, fun b hb => hz1 j b (by omega) hb⟩) hP hD hS (lv_sub hl [0, 1] rfl)
set_option maxHeartbeats 4000000 in
set_option maxRecDepth 100000 in
theorem metM_begin (l : Launch) (dC : Nat → ClassId) (dI : Nat → Nat → Nat) (cI cZ : ClassId) (sz : Nat) (bd : Nat → Nat) (st : AS) (mn mk mg : Int32) (pairs costs wishes colours mrow mins : Nat → Int32) (x y : Int32) (hC : okB x y = false → mn = nI st.1 ∧ mk = nI st.2.1 ∧ mg = b2i st.2.2.2.2.2 ∧ MR st.1 st.2.1 st.2.2.1 st.2.2.2.1 st.2.2.2.2.1 st.2.2.2.2.2 pairs costs wishes colours mrow) : Met l yX3_begin (ws_ yX3_begin cX3_begin 5 (some .boolean)) rmZ (va_Pc [.ref (bd 0), .int x, .int y] (fun U => U.heap.size = sz ∧ va_P (dC, dI) vwCl (wM bd cI cZ mn mk mg pairs costs wishes colours mrow mins) U.heap ∧ va_K (dC, dI) vwCl (tyK cI cZ) U ∧ va_D (fun _ => True) (wM bd cI cZ mn mk mg pairs costs wishes colours mrow mins))) (va_Qi (fun (r : Int32) (_ : Unit) => r = b2i (okB x y)) (fun _ t => MW (dC, dI) (va_A (wM bd cI cZ mn mk mg pairs costs wishes colours mrow mins) sz) bd cI cZ (begS st x y) t) (va_A (wM bd cI cZ mn mk mg pairs costs wishes colours mrow mins) sz)) 0 0 (va_A (wM bd cI cZ mn mk mg pairs costs wishes colours mrow mins) sz) := by
  refine Met.ofW (cc := cX3_begin) (maxL := 5) (ret := (some .boolean)) (by decide) rfl ?_
  intro p e s m args below meth c s₁ B hml hv
  obtain ⟨rfl, hsz, hP, hK, hD0⟩ := hv
  have hx := B.exec
  have hb := B.bytes
  have hr := B.returns
  have hlk := B.notSynchronized
  have hts := atoms_spec (ws := ws_ yX3_begin cX3_begin 5 (some .boolean)) B.pre
  have hts : ∀ w ∈ lw_all, w.before _ s = true := fun w h => hts w (List.mem_cons_of_mem _ h)
  have hown : s.vm.findClass RX3 = some m.cls := findClass_of_methodNamed B.named
  subst hsz
  have hD := hD0.self (sz := s.heap.size)
  generalize hAe : va_A (wM bd cI cZ mn mk mg pairs costs wishes colours mrow mins) s.heap.size = A at hD ⊢
  have hA : ∀ q : Nat, s.heap.size ≤ q → A q := fun q h => by rw [← hAe]; exact Or.inr h
  have hS : va_S A s.heap s.heap [] := va_S.rf
  have hl := lv_entry ([.ref (bd 0), .int x, .int y]) (n := 5) (Nat.le_of_ble_eq_true rfl)
  rw [lg_entry_eq]
  generalize (lg_sl ([.ref (bd 0), .int x, .int y]) ++ List.replicate (5 - (lg_sl ([.ref (bd 0), .int x, .int y])).length) Slot.unset).toArray = ls at hl ⊢
  have hl : lv_has ls 5 [(0, .ref (bd 0)), (1, .int x), (2, .int y)] := hl
  refine lv_iload_n hx hb dX3_begin_0 rfl (lv_at hl 1 rfl) ?_
  refine lv_iconst (v := nI 1) hx hb dX3_begin_1 (by decide) ?_
  refine lv_icmp_lt (tgt := 23) hx hb dX3_begin_2 (by decide) (fun c2 => ?_) (fun c2 => ?_)
  · refine lv_iconst (v := b2i false) hx hb dX3_begin_23 (by decide) ?_
    have hno := okB_1 (x := x) (y := y) c2
    obtain ⟨e1, e2, e3, hC1⟩ := hC hno
    subst e1
    subst e2
    subst e3
    exact W.zret (v := b2i false) hx hb hr (b2i_zn false) (fun t ht hW => ⟨⟨b2i false, (), rfl, by rw [hno], MW_at (begS_no hno) ⟨_, _, _, _, _, _, ⟨by rw [ht]; exact hP, va_K.moved hW.alike hK, hD⟩, hC1⟩⟩, hS.F ht⟩) hS.2.2 dX3_begin_24
  · refine lv_iload_n hx hb dX3_begin_5 rfl (lv_at hl 1 rfl) ?_
    refine lv_sipush (v := nI 200) hx hb dX3_begin_6 (by decide) ?_
    refine lv_icmp_gt (tgt := 23) hx hb dX3_begin_9 (by decide) (fun c9 => ?_) (fun c9 => ?_)
    · refine lv_iconst (v := b2i false) hx hb dX3_begin_23 (by decide) ?_
      have hno := okB_2 (x := x) (y := y) c9
      obtain ⟨e1, e2, e3, hC1⟩ := hC hno
      subst e1
      subst e2
      subst e3
      exact W.zret (v := b2i false) hx hb hr (b2i_zn false) (fun t ht hW => ⟨⟨b2i false, (), rfl, by rw [hno], MW_at (begS_no hno) ⟨_, _, _, _, _, _, ⟨by rw [ht]; exact hP, va_K.moved hW.alike hK, hD⟩, hC1⟩⟩, hS.F ht⟩) hS.2.2 dX3_begin_24
    · refine lv_iload_n hx hb dX3_begin_12 rfl (lv_at hl 2 rfl) ?_
      refine lv_iconst (v := nI 1) hx hb dX3_begin_13 (by decide) ?_
      refine lv_icmp_lt (tgt := 23) hx hb dX3_begin_14 (by decide) (fun c14 => ?_) (fun c14 => ?_)
      · refine lv_iconst (v := b2i false) hx hb dX3_begin_23 (by decide) ?_
        have hno := okB_3 (x := x) (y := y) c14
        obtain ⟨e1, e2, e3, hC1⟩ := hC hno
        subst e1
        subst e2
        subst e3
        exact W.zret (v := b2i false) hx hb hr (b2i_zn false) (fun t ht hW => ⟨⟨b2i false, (), rfl, by rw [hno], MW_at (begS_no hno) ⟨_, _, _, _, _, _, ⟨by rw [ht]; exact hP, va_K.moved hW.alike hK, hD⟩, hC1⟩⟩, hS.F ht⟩) hS.2.2 dX3_begin_24
      · refine lv_iload_n hx hb dX3_begin_17 rfl (lv_at hl 2 rfl) ?_
        refine lv_bipush (v := nI 30) hx hb dX3_begin_18 (by decide) ?_
        refine lv_icmp_le (tgt := 25) hx hb dX3_begin_20 (by decide) (fun c20 => ?_) (fun c20 => ?_)
        · have hyes := okB_in (x := x) (y := y) c2 c9 c14 c20
          obtain ⟨n2, k2, rfl, rfl, hn2, hk2⟩ := okB_t hyes
          refine lv_aload_n hx hb dX3_begin_25 rfl (lv_at hl 0 rfl) ?_
          refine lv_iload_n hx hb dX3_begin_26 rfl (lv_at hl 1 rfl) ?_
          refine va_put (D := (dC, dI)) (ci := 3) (v := .int (nI n2)) (ty := .int) (C := RX3) (T := TX3) (N := 9) hx hb hts in_X3 tyX3 tyX3_ok nmX3 hown hK hP hD hS 0 rfl rfl 6 (by decide) (hts _ q190) (fun _ h9 => h9) rfl (by decide +kernel) rfl rfl (Nat.le_of_ble_eq_true rfl) dX3_begin_27 (fun H locs hP hD hS => ?_)
          have hP : va_P (dC, dI) vwCl (wM bd cI cZ (nI n2) mk mg pairs costs wishes colours mrow mins) H := hP
          have hD : va_D A (wM bd cI cZ (nI n2) mk mg pairs costs wishes colours mrow mins) := hD
          refine lv_aload_n hx hb dX3_begin_30 rfl (lv_at hl 0 rfl) ?_
          refine lv_iload_n hx hb dX3_begin_31 rfl (lv_at hl 2 rfl) ?_
          refine va_put (D := (dC, dI)) (ci := 3) (v := .int (nI k2)) (ty := .int) (C := RX3) (T := TX3) (N := 9) hx hb hts in_X3 tyX3 tyX3_ok nmX3 hown hK hP hD hS 0 rfl rfl 7 (by decide) (hts _ q191) (fun _ h9 => h9) rfl (by decide +kernel) rfl rfl (Nat.le_of_ble_eq_true rfl) dX3_begin_32 (fun H locs hP hD hS => ?_)
          have hP : va_P (dC, dI) vwCl (wM bd cI cZ (nI n2) (nI k2) mg pairs costs wishes colours mrow mins) H := hP
          have hD : va_D A (wM bd cI cZ (nI n2) (nI k2) mg pairs costs wishes colours mrow mins) := hD
          refine lv_aload_n hx hb dX3_begin_35 rfl (lv_at hl 0 rfl) ?_
          refine lv_iconst (v := b2i false) hx hb dX3_begin_36 (by decide) ?_
          refine va_put (D := (dC, dI)) (ci := 3) (v := .int (b2i false)) (ty := .boolean) (C := RX3) (T := TX3) (N := 9) hx hb hts in_X3 tyX3 tyX3_ok nmX3 hown hK hP hD hS 0 rfl rfl 8 (by decide) (hts _ q192) (fun _ h9 => h9) rfl (by decide +kernel) (b2i_zn _) (b2i_fit _) (Nat.le_of_ble_eq_true rfl) dX3_begin_37 (fun H locs hP hD hS => ?_)
          have hP : va_P (dC, dI) vwCl (wM bd cI cZ (nI n2) (nI k2) (b2i false) pairs costs wishes colours mrow mins) H := hP
          have hD : va_D A (wM bd cI cZ (nI n2) (nI k2) (b2i false) pairs costs wishes colours mrow mins) := hD
          refine lv_iconst (v := nI 0) hx hb dX3_begin_40 (by decide) ?_
          refine lv_istore_n (lv' := [(3, .int (nI 0)), (0, .ref (bd 0)), (1, .int (nI n2)), (2, .int (nI k2))]) hx hb dX3_begin_41 rfl hl (by decide) rfl (fun ls hl => ?_)
          refine lpM_begin1 hx hb hml hown hts hK hA ?_ 201 0 pairs costs wishes _ _ ls (by omega) (by omega) (fun j hj => absurd hj (Nat.not_lt_zero j)) hP hD hS (lv_sub hl [0, 1] rfl)
          intro pairs costs wishes H locs ls hz hP hD hS hl
          refine lv_iconst (v := b2i true) hx hb dX3_begin_100 (by decide) ?_
          have hC2 : MR n2 k2 (fun _ _ => false) (fun _ => 0) (fun a => a) false pairs costs wishes colours mrow := ⟨fun a b ha hb => (hz a ha).2.2 b hb, fun j hj => (hz j (by omega)).1, fun j hj => (hz j (by omega)).2.1, fun q => by cases q⟩
          exact W.zret (v := b2i true) hx hb hr (b2i_zn true) (fun t ht hW => ⟨⟨b2i true, (), rfl, by rw [hyes], MW_at (begS_nI (by omega) (by omega) hyes) (MW_mk (by rw [ht]; exact hP) (va_K.moved hW.alike hK) hD (hC2))⟩, hS.F ht⟩) hS.2.2 dX3_begin_101
        · refine lv_iconst (v := b2i false) hx hb dX3_begin_23 (by decide) ?_
          have hno := okB_4 (x := x) (y := y) c20
          obtain ⟨e1, e2, e3, hC1⟩ := hC hno
          subst e1
          subst e2
          subst e3
          exact W.zret (v := b2i false) hx hb hr (b2i_zn false) (fun t ht hW => ⟨⟨b2i false, (), rfl, by rw [hno], MW_at (begS_no hno) ⟨_, _, _, _, _, _, ⟨by rw [ht]; exact hP, va_K.moved hW.alike hK, hD⟩, hC1⟩⟩, hS.F ht⟩) hS.2.2 dX3_begin_24
end
section
/-! PointColoursModel.give and what it calls -/
set_option maxHeartbeats 4000000 in
set_option maxRecDepth 100000 in
theorem lpM_left {p : Program} {l : Launch} {e : Env} {R : Room} {s : State} {m : MethodId} {args : Array Value} {below : List Frame} {meth : Method} {c : Code} {dC : Nat → ClassId} {dI : Nat → Nat → Nat} {cI cZ : ClassId} (hx : p.tables.exec = Jvm.exec) (hb : c.code = cX3_left) (hml : c.maxLocals = 4) (hown : s.vm.findClass RX3 = some m.cls) (hts : ∀ w ∈ lw_all, w.before args s = true) (hK : va_K (dC, dI) vwCl (tyK cI cZ) s) (hr : meth.sig.returnType = some .int) (hlk : meth.locks = false) {bd : Nat → Nat} {n a : Nat} {mk mg : Int32} {E : Nat → Nat → Bool} {inn : Nat → Bool} {pairs costs wishes colours mrow mins : Nat → Int32} (hn : n ≤ 200) (ha : a < n) (hEb : ∀ a b, a < 200 → b < 200 → pairs (200 * a + b) = b2i (E a b)) (hinn : ∀ j, j < n → mins j = b2i (inn j)) (hP : va_P (dC, dI) vwCl (wM bd cI cZ (nI n) mk mg pairs costs wishes colours mrow mins) s.heap) : ∀ (nn i : Nat) (ls : Array Slot), i ≤ n → n + 1 ≤ i + nn → lv_has ls 4 [(3, .int (nI i)), (2, .int (nI (fb_ct (fun b => inn b && E a b) i))), (0, .ref (bd 0)), (1, .int (nI a))] → W p l e R s m args below meth c s.heap [] 0 0 (MQ below (vp_Si (fun r => r = nI (lf E n inn a))) args s 0 0 (fun _ => False)) (F0 m 4 ls []) := by
  intro nn
  induction nn with
  | zero =>
    intro i ls h1 h2
    exact absurd h2 (by omega)
  | succ nn ih =>
    intro i ls hi hin hl
    refine lv_iload_n hx hb dX3_left_4 rfl (lv_at hl 0 rfl) ?_
    refine lv_aload_n hx hb dX3_left_5 rfl (lv_at hl 2 rfl) ?_
    refine va_get (D := (dC, dI)) (ci := 3) (v := .int (nI n)) (C := RX3) (T := TX3) (N := 9) hx hb hts in_X3 hown hK hP 0 rfl rfl 6 (by decide) (hts _ q190) (fun _ h9 => h9) rfl dX3_left_6 ?_
    refine y_cge (i := i) (j := n) (tgt := 45) hx hb (rfl) (rfl) (by omega) (by omega) dX3_left_9 (by decide) (fun c9 => ?_) (fun c9 => ?_)
    · have hin2 : i = n := by omega
      subst hin2
      refine lv_iload_n hx hb dX3_left_45 rfl (lv_at hl 1 rfl) ?_
      exact y_iretR hx hb hr hlk rfl dX3_left_46
    · refine lv_aload_n hx hb dX3_left_12 rfl (lv_at hl 2 rfl) ?_
      refine va_get (D := (dC, dI)) (ci := 3) (v := .ref (bd 6)) (C := RX3) (T := TX3) (N := 9) hx hb hts in_X3 hown hK hP 0 rfl rfl 5 (by decide) (hts _ q189) (fun _ h9 => h9) rfl dX3_left_13 ?_
      refine lv_iload_n hx hb dX3_left_16 rfl (lv_at hl 0 rfl) ?_
      refine y_zald (j := i) hx hb hK hP 6 1 rfl rfl (rfl) (by omega) (by decide) dX3_left_17 ?_
      refine y_ti (y := b2i (inn i)) (hinn i c9) ?_
      refine y_ifeq (b := inn i) (tgt := 39) hx hb (rfl) dX3_left_18 (by decide) (fun c18 => ?_) (fun c18 => ?_)
      · refine lv_iinc (v := nI (i + 1)) (lv' := [(3, .int (nI (i + 1))), (2, .int (nI (fb_ct (fun b => inn b && E a b) i))), (0, .ref (bd 0)), (1, .int (nI a))]) hx hb dX3_left_39 hl (k := 0) rfl (nI_1 i) (by decide) rfl (fun ls hl => ?_)
        refine lv_goto (tgt := 4) hx hb dX3_left_42 (by decide) ?_
        exact ih (i + 1) ls (by omega) (by omega) (by rw [fb_ct_succ, c18, Bool.false_and]; exact lv_sub hl [0, 1, 2, 3] rfl)
      · refine lv_aload_n hx hb dX3_left_21 rfl (lv_at hl 2 rfl) ?_
        refine va_get (D := (dC, dI)) (ci := 3) (v := .ref (bd 1)) (C := RX3) (T := TX3) (N := 9) hx hb hts in_X3 hown hK hP 0 rfl rfl 0 (by decide) (hts _ q184) (fun _ h9 => h9) rfl dX3_left_22 ?_
        refine lv_sipush (v := nI 200) hx hb dX3_left_25 (by decide) ?_
        refine lv_iload_n hx hb dX3_left_28 rfl (lv_at hl 3 rfl) ?_
        refine lv_imul hx hb dX3_left_29 ?_
        refine y_ti (y := nI (200 * a)) (pk_mul 200 a) ?_
        refine lv_iload_n hx hb dX3_left_30 rfl (lv_at hl 0 rfl) ?_
        refine lv_iadd hx hb dX3_left_31 ?_
        refine y_ti (y := nI (200 * a + i)) (nI_add (200 * a) i) ?_
        refine y_zald (j := 200 * a + i) hx hb hK hP 1 1 rfl rfl (rfl) (by omega) (by decide) dX3_left_32 ?_
        refine y_ti (y := b2i (E a i)) (hEb a i (by omega) (by omega)) ?_
        refine y_ifeq (b := E a i) (tgt := 39) hx hb (rfl) dX3_left_33 (by decide) (fun c33 => ?_) (fun c33 => ?_)
        · refine lv_iinc (v := nI (i + 1)) (lv' := [(3, .int (nI (i + 1))), (2, .int (nI (fb_ct (fun b => inn b && E a b) i))), (0, .ref (bd 0)), (1, .int (nI a))]) hx hb dX3_left_39 hl (k := 0) rfl (nI_1 i) (by decide) rfl (fun ls hl => ?_)
          refine lv_goto (tgt := 4) hx hb dX3_left_42 (by decide) ?_
          exact ih (i + 1) ls (by omega) (by omega) (by rw [fb_ct_succ, c33, Bool.and_false]; exact lv_sub hl [0, 1, 2, 3] rfl)
        · refine lv_iinc (v := nI (fb_ct (fun b => inn b && E a b) i + 1)) (lv' := [(2, .int (nI (fb_ct (fun b => inn b && E a b) i + 1))), (3, .int (nI i)), (0, .ref (bd 0)), (1, .int (nI a))]) hx hb dX3_left_36 hl (k := 1) rfl (nI_1 (fb_ct (fun b => inn b && E a b) i)) (by decide) rfl (fun ls hl => ?_)
          refine lv_iinc (v := nI (i + 1)) (lv' := [(3, .int (nI (i + 1))), (2, .int (nI (fb_ct (fun b => inn b && E a b) i + 1))), (0, .ref (bd 0)), (1, .int (nI a))]) hx hb dX3_left_39 hl (k := 1) rfl (nI_1 i) (by decide) rfl (fun ls hl => ?_)
          refine lv_goto (tgt := 4) hx hb dX3_left_42 (by decide) ?_
          exact ih (i + 1) ls (by omega) (by omega) (by rw [fb_ct_succ, c18, c33]; exact lv_sub hl [0, 1, 2, 3] rfl)
set_option maxHeartbeats 4000000 in
set_option maxRecDepth 100000 in
theorem metM_left (l : Launch) (dC : Nat → ClassId) (dI : Nat → Nat → Nat) (cI cZ : ClassId) (bd : Nat → Nat) (n a : Nat) (mk mg : Int32) (E : Nat → Nat → Bool) (inn : Nat → Bool) (pairs costs wishes colours mrow mins : Nat → Int32) (hn : n ≤ 200) (ha : a < n) (hEb : ∀ a b, a < 200 → b < 200 → pairs (200 * a + b) = b2i (E a b)) (hinn : ∀ j, j < n → mins j = b2i (inn j)) : Met l yX3_left (ws_ yX3_left cX3_left 4 (some .int)) rmZ (va_Pc [.ref (bd 0), .int (nI a)] (fun U => va_P (dC, dI) vwCl (wM bd cI cZ (nI n) mk mg pairs costs wishes colours mrow mins) U.heap ∧ va_K (dC, dI) vwCl (tyK cI cZ) U)) (vp_Si (fun r => r = nI (lf E n inn a))) 0 0 (fun _ => False) := by
  refine Met.ofW (cc := cX3_left) (maxL := 4) (ret := (some .int)) (by decide) rfl ?_
  intro p e s m args below meth c s₁ B hml hv
  obtain ⟨rfl, hP, hK⟩ := hv
  have hx := B.exec
  have hb := B.bytes
  have hr := B.returns
  have hlk := B.notSynchronized
  have hts := atoms_spec (ws := ws_ yX3_left cX3_left 4 (some .int)) B.pre
  have hts : ∀ w ∈ lw_all, w.before _ s = true := fun w h => hts w (List.mem_cons_of_mem _ h)
  have hown : s.vm.findClass RX3 = some m.cls := findClass_of_methodNamed B.named
  have hl := lv_entry ([.ref (bd 0), .int (nI a)]) (n := 4) (Nat.le_of_ble_eq_true rfl)
  rw [lg_entry_eq]
  generalize (lg_sl ([.ref (bd 0), .int (nI a)]) ++ List.replicate (4 - (lg_sl ([.ref (bd 0), .int (nI a)])).length) Slot.unset).toArray = ls at hl ⊢
  have hl : lv_has ls 4 [(0, .ref (bd 0)), (1, .int (nI a))] := hl
  refine lv_iconst (v := nI 0) hx hb dX3_left_0 (by decide) ?_
  refine lv_istore_n (lv' := [(2, .int (nI 0)), (0, .ref (bd 0)), (1, .int (nI a))]) hx hb dX3_left_1 rfl hl (by decide) rfl (fun ls hl => ?_)
  refine lv_iconst (v := nI 0) hx hb dX3_left_2 (by decide) ?_
  refine lv_istore_n (lv' := [(3, .int (nI 0)), (2, .int (nI 0)), (0, .ref (bd 0)), (1, .int (nI a))]) hx hb dX3_left_3 rfl hl (by decide) rfl (fun ls hl => ?_)
  exact lpM_left hx hb hml hown hts hK hr hlk hn ha hEb hinn hP (n + 1) 0 ls (by omega) (by omega) (lv_sub hl [0, 1, 2, 3] rfl)
set_option maxHeartbeats 4000000 in
set_option maxRecDepth 100000 in
theorem lpM_next2 {p : Program} {l : Launch} {e : Env} {s : State} {m : MethodId} {args : Array Value} {below : List Frame} {meth : Method} {c : Code} {dC : Nat → ClassId} {dI : Nat → Nat → Nat} {cI cZ : ClassId} (hx : p.tables.exec = Jvm.exec) (hb : c.code = cX3_next) (hml : c.maxLocals = 3) (hown : s.vm.findClass RX3 = some m.cls) (hts : ∀ w ∈ lw_all, w.before args s = true) (hK : va_K (dC, dI) vwCl (tyK cI cZ) s) (hr : meth.sig.returnType = some .int) (hlk : meth.locks = false) {bd : Nat → Nat} {n k : Nat} {mg : Int32} {E : Nat → Nat → Bool} {inn : Nat → Bool} {co : Nat → Nat} {pairs costs wishes colours mrow mins : Nat → Int32} (hn : n ≤ 200) (hk : 1 ≤ k ∧ k ≤ 30) (hEb : ∀ a b, a < 200 → b < 200 → pairs (200 * a + b) = b2i (E a b)) (hinn : ∀ j, j < n → mins j = b2i (inn j)) (hco : ∀ j, j < n → costs j = nI (co j)) (hcol : ∀ j, j < n → co j ≤ 1000000) (hex : ∃ a, a < n ∧ inn a = true) (hP : va_P (dC, dI) vwCl (wM bd cI cZ (nI n) (nI k) mg pairs costs wishes colours mrow mins) s.heap) (hfe : ∀ j, j < n → fewB n k E inn j = false) : ∀ (nn i : Nat) (ls : Array Slot), i ≤ n → n + 1 ≤ i + nn → lv_has ls 3 [(1, .int (bI (bst inn co (lf E n inn) i))), (2, .int (nI i)), (0, .ref (bd 0))] → W p l e rmA s m args below meth c s.heap [] 0 0 (MQ below (vp_Si (fun r => r = nI (nxt n k E co inn))) args s 0 0 (fun _ => False)) (F0 m 43 ls []) := by
  intro nn
  induction nn with
  | zero =>
    intro i ls h1 h2
    exact absurd h2 (by omega)
  | succ nn ih =>
    intro i ls hi hin hl
    refine lv_iload_n hx hb dX3_next_43 rfl (lv_at hl 1 rfl) ?_
    refine lv_aload_n hx hb dX3_next_44 rfl (lv_at hl 2 rfl) ?_
    refine va_get (D := (dC, dI)) (ci := 3) (v := .int (nI n)) (C := RX3) (T := TX3) (N := 9) hx hb hts in_X3 hown hK hP 0 rfl rfl 6 (by decide) (hts _ q190) (fun _ h9 => h9) rfl dX3_next_45 ?_
    refine y_cge (i := i) (j := n) (tgt := 102) hx hb (rfl) (rfl) (by omega) (by omega) dX3_next_48 (by decide) (fun c48 => ?_) (fun c48 => ?_)
    · have hin2 : i = n := by omega
      refine lv_iload_n hx hb dX3_next_102 rfl (lv_at hl 0 rfl) ?_
      refine y_iretR hx hb hr hlk ?_ dX3_next_103
      rw [hin2]
      show bI (bst inn co (lf E n inn) n) = nI (nxt n k E co inn)
      cases hb9 : bst inn co (lf E n inn) n with
      | none =>
        obtain ⟨v, hv, hiv⟩ := hex
        exact absurd hiv (by rw [bst_none n hb9 v hv]; decide)
      | some b =>
        rw [nxt_bst hfe hb9]
        rfl
    · refine lv_aload_n hx hb dX3_next_51 rfl (lv_at hl 2 rfl) ?_
      refine va_get (D := (dC, dI)) (ci := 3) (v := .ref (bd 6)) (C := RX3) (T := TX3) (N := 9) hx hb hts in_X3 hown hK hP 0 rfl rfl 5 (by decide) (hts _ q189) (fun _ h9 => h9) rfl dX3_next_52 ?_
      refine lv_iload_n hx hb dX3_next_55 rfl (lv_at hl 1 rfl) ?_
      refine y_zald (j := i) hx hb hK hP 6 1 rfl rfl (rfl) (by omega) (by decide) dX3_next_56 ?_
      refine y_ti (y := b2i (inn i)) (hinn i c48) ?_
      refine y_ifne (b := inn i) (tgt := 63) hx hb (rfl) dX3_next_57 (by decide) (fun c57 => ?_) (fun c57 => ?_)
      · have hi1 : inn i = true := c57
        cases hbst : bst inn co (lf E n inn) i with
        | none =>
          rw [hbst] at hl
          have hl : lv_has ls 3 [(1, .int (-1)), (2, .int (nI i)), (0, .ref (bd 0))] := hl
          refine lv_iload_n hx hb dX3_next_63 rfl (lv_at hl 0 rfl) ?_
          refine lv_if_lt (tgt := 94) hx hb dX3_next_64 (by decide) (fun c64 => ?_) (fun c64 => ?_)
          · refine lv_iload_n hx hb dX3_next_94 rfl (lv_at hl 1 rfl) ?_
            refine lv_istore_n (lv' := [(1, .int (nI i)), (2, .int (nI i)), (0, .ref (bd 0))]) hx hb dX3_next_95 rfl hl (by decide) rfl (fun ls hl => ?_)
            refine lv_iinc (v := nI (i + 1)) (lv' := [(2, .int (nI (i + 1))), (1, .int (nI i)), (0, .ref (bd 0))]) hx hb dX3_next_96 hl (k := 1) rfl (nI_1 i) (by decide) rfl (fun ls hl => ?_)
            refine lv_goto (tgt := 43) hx hb dX3_next_99 (by decide) ?_
            exact ih (i + 1) ls (by omega) (by omega) (by rw [bst_new hi1 hbst]; exact lv_sub hl [1, 0, 2] rfl)
          · exact absurd (by decide) c64
        | some b =>
          rw [hbst] at hl
          have hl : lv_has ls 3 [(1, .int (nI b)), (2, .int (nI i)), (0, .ref (bd 0))] := hl
          have hb1 := bst_some i b hbst
          refine lv_iload_n hx hb dX3_next_63 rfl (lv_at hl 0 rfl) ?_
          refine lv_if_lt (tgt := 94) hx hb dX3_next_64 (by decide) (fun c64 => ?_) (fun c64 => ?_)
          · exact absurd c64 (nI_pos (by omega))
          · have h1 := hcol i c48
            have h2 := hcol b (by omega)
            have h3 := Nat.le_trans (lf_le E n inn i) hn
            have h4 := Nat.le_trans (lf_le E n inn b) hn
            have h5 : co i * lf E n inn b ≤ 1000000 * 200 := Nat.mul_le_mul h1 h4
            have h6 : co b * lf E n inn i ≤ 1000000 * 200 := Nat.mul_le_mul h2 h3
            refine lv_aload_n hx hb dX3_next_67 rfl (lv_at hl 2 rfl) ?_
            refine va_get (D := (dC, dI)) (ci := 3) (v := .ref (bd 2)) (C := RX3) (T := TX3) (N := 9) hx hb hts in_X3 hown hK hP 0 rfl rfl 1 (by decide) (hts _ q185) (fun _ h9 => h9) rfl dX3_next_68 ?_
            refine lv_iload_n hx hb dX3_next_71 rfl (lv_at hl 1 rfl) ?_
            refine y_iald (j := i) hx hb hK hP 2 0 rfl rfl (rfl) (by omega) (by decide) dX3_next_72 ?_
            refine y_ti (y := nI (co i)) (hco i c48) ?_
            refine lv_aload_n hx hb dX3_next_73 rfl (lv_at hl 2 rfl) ?_
            refine lv_iload_n hx hb dX3_next_74 rfl (lv_at hl 0 rfl) ?_
            refine vp_callSi (W.runV (As := [.int (nI b)]) (rest := [.int (nI (co i))]) ⟨hx, hb, hml, hown, hts⟩ (metM_left l dC dI cI cZ bd n b (nI k) mg E inn pairs costs wishes colours mrow mins hn (by omega) hEb hinn) (cwV 1 hts (lw_V q238 q240 qs6 q13 q241) rfl rfl rfl (by decide +kernel) ⟨Nat.le_of_ble_eq_true rfl, Nat.le_of_ble_eq_true rfl⟩) (y_preR hK hP (ci := 3) (q0 := 0) rfl rfl) rfl rfl hl.1 rfl (lv_room (Nat.le_of_ble_eq_true rfl)) dX3_next_75 ⟨Nat.zero_le _, Nat.zero_le _⟩) (fun r75 hr75 => ?_)
            refine y_ti (y := nI (lf E n inn b)) (hr75) ?_
            refine lv_imul hx hb dX3_next_78 ?_
            refine y_ti (y := nI ((co i) * (lf E n inn b))) (pk_mul (co i) (lf E n inn b)) ?_
            refine lv_aload_n hx hb dX3_next_79 rfl (lv_at hl 2 rfl) ?_
            refine va_get (D := (dC, dI)) (ci := 3) (v := .ref (bd 2)) (C := RX3) (T := TX3) (N := 9) hx hb hts in_X3 hown hK hP 0 rfl rfl 1 (by decide) (hts _ q185) (fun _ h9 => h9) rfl dX3_next_80 ?_
            refine lv_iload_n hx hb dX3_next_83 rfl (lv_at hl 0 rfl) ?_
            refine y_iald (j := b) hx hb hK hP 2 0 rfl rfl (rfl) (by omega) (by decide) dX3_next_84 ?_
            refine y_ti (y := nI (co b)) (hco b (by omega)) ?_
            refine lv_aload_n hx hb dX3_next_85 rfl (lv_at hl 2 rfl) ?_
            refine lv_iload_n hx hb dX3_next_86 rfl (lv_at hl 1 rfl) ?_
            refine vp_callSi (W.runV (As := [.int (nI i)]) (rest := [.int (nI (co b)), .int (nI ((co i) * (lf E n inn b)))]) ⟨hx, hb, hml, hown, hts⟩ (metM_left l dC dI cI cZ bd n i (nI k) mg E inn pairs costs wishes colours mrow mins hn (c48) hEb hinn) (cwV 1 hts (lw_V q238 q240 qs6 q13 q241) rfl rfl rfl (by decide +kernel) ⟨Nat.le_of_ble_eq_true rfl, Nat.le_of_ble_eq_true rfl⟩) (y_preR hK hP (ci := 3) (q0 := 0) rfl rfl) rfl rfl hl.1 rfl (lv_room (Nat.le_of_ble_eq_true rfl)) dX3_next_87 ⟨Nat.zero_le _, Nat.zero_le _⟩) (fun r87 hr87 => ?_)
            refine y_ti (y := nI (lf E n inn i)) (hr87) ?_
            refine lv_imul hx hb dX3_next_90 ?_
            refine y_ti (y := nI ((co b) * (lf E n inn i))) (pk_mul (co b) (lf E n inn i)) ?_
            refine y_cge (i := (co i) * (lf E n inn b)) (j := (co b) * (lf E n inn i)) (tgt := 96) hx hb (rfl) (rfl) (by omega) (by omega) dX3_next_91 (by decide) (fun c91 => ?_) (fun c91 => ?_)
            · refine lv_iinc (v := nI (i + 1)) (lv' := [(2, .int (nI (i + 1))), (1, .int (nI b)), (0, .ref (bd 0))]) hx hb dX3_next_96 hl (k := 1) rfl (nI_1 i) (by decide) rfl (fun ls hl => ?_)
              refine lv_goto (tgt := 43) hx hb dX3_next_99 (by decide) ?_
              exact ih (i + 1) ls (by omega) (by omega) (by rw [bst_keep hi1 hbst (Nat.not_lt.mpr c91)]; exact lv_sub hl [1, 0, 2] rfl)
            · refine lv_iload_n hx hb dX3_next_94 rfl (lv_at hl 1 rfl) ?_
              refine lv_istore_n (lv' := [(1, .int (nI i)), (2, .int (nI i)), (0, .ref (bd 0))]) hx hb dX3_next_95 rfl hl (by decide) rfl (fun ls hl => ?_)
              refine lv_iinc (v := nI (i + 1)) (lv' := [(2, .int (nI (i + 1))), (1, .int (nI i)), (0, .ref (bd 0))]) hx hb dX3_next_96 hl (k := 1) rfl (nI_1 i) (by decide) rfl (fun ls hl => ?_)
              refine lv_goto (tgt := 43) hx hb dX3_next_99 (by decide) ?_
              exact ih (i + 1) ls (by omega) (by omega) (by rw [bst_up hi1 hbst c91]; exact lv_sub hl [1, 0, 2] rfl)
      · refine lv_goto (tgt := 96) hx hb dX3_next_60 (by decide) ?_
        refine lv_iinc (v := nI (i + 1)) (lv' := [(2, .int (nI (i + 1))), (1, .int (bI (bst inn co (lf E n inn) i))), (0, .ref (bd 0))]) hx hb dX3_next_96 hl (k := 1) rfl (nI_1 i) (by decide) rfl (fun ls hl => ?_)
        refine lv_goto (tgt := 43) hx hb dX3_next_99 (by decide) ?_
        exact ih (i + 1) ls (by omega) (by omega) (by rw [bst_out c57]; exact lv_sub hl [1, 0, 2] rfl)
set_option maxHeartbeats 4000000 in
set_option maxRecDepth 100000 in
theorem lpM_next1 {p : Program} {l : Launch} {e : Env} {s : State} {m : MethodId} {args : Array Value} {below : List Frame} {meth : Method} {c : Code} {dC : Nat → ClassId} {dI : Nat → Nat → Nat} {cI cZ : ClassId} (hx : p.tables.exec = Jvm.exec) (hb : c.code = cX3_next) (hml : c.maxLocals = 3) (hown : s.vm.findClass RX3 = some m.cls) (hts : ∀ w ∈ lw_all, w.before args s = true) (hK : va_K (dC, dI) vwCl (tyK cI cZ) s) (hr : meth.sig.returnType = some .int) (hlk : meth.locks = false) {bd : Nat → Nat} {n k : Nat} {mg : Int32} {E : Nat → Nat → Bool} {inn : Nat → Bool} {co : Nat → Nat} {pairs costs wishes colours mrow mins : Nat → Int32} (hn : n ≤ 200) (hk : 1 ≤ k ∧ k ≤ 30) (hEb : ∀ a b, a < 200 → b < 200 → pairs (200 * a + b) = b2i (E a b)) (hinn : ∀ j, j < n → mins j = b2i (inn j)) (hco : ∀ j, j < n → costs j = nI (co j)) (hcol : ∀ j, j < n → co j ≤ 1000000) (hex : ∃ a, a < n ∧ inn a = true) (hP : va_P (dC, dI) vwCl (wM bd cI cZ (nI n) (nI k) mg pairs costs wishes colours mrow mins) s.heap) : ∀ (nn i : Nat) (ls : Array Slot), i ≤ n → n + 1 ≤ i + nn → (∀ j, j < i → fewB n k E inn j = false) → lv_has ls 3 [(1, .int (nI i)), (0, .ref (bd 0))] → W p l e rmA s m args below meth c s.heap [] 0 0 (MQ below (vp_Si (fun r => r = nI (nxt n k E co inn))) args s 0 0 (fun _ => False)) (F0 m 2 ls []) := by
  intro nn
  induction nn with
  | zero =>
    intro i ls h1 h2
    exact absurd h2 (by omega)
  | succ nn ih =>
    intro i ls hi hin hz hl
    refine lv_iload_n hx hb dX3_next_2 rfl (lv_at hl 0 rfl) ?_
    refine lv_aload_n hx hb dX3_next_3 rfl (lv_at hl 1 rfl) ?_
    refine va_get (D := (dC, dI)) (ci := 3) (v := .int (nI n)) (C := RX3) (T := TX3) (N := 9) hx hb hts in_X3 hown hK hP 0 rfl rfl 6 (by decide) (hts _ q190) (fun _ h9 => h9) rfl dX3_next_4 ?_
    refine y_cge (i := i) (j := n) (tgt := 39) hx hb (rfl) (rfl) (by omega) (by omega) dX3_next_7 (by decide) (fun c7 => ?_) (fun c7 => ?_)
    · refine lv_iconst (v := -1) hx hb dX3_next_39 (by decide) ?_
      refine lv_istore_n (lv' := [(1, .int (-1)), (0, .ref (bd 0))]) hx hb dX3_next_40 rfl hl (by decide) rfl (fun ls hl => ?_)
      refine lv_iconst (v := nI 0) hx hb dX3_next_41 (by decide) ?_
      refine lv_istore_n (lv' := [(2, .int (nI 0)), (1, .int (-1)), (0, .ref (bd 0))]) hx hb dX3_next_42 rfl hl (by decide) rfl (fun ls hl => ?_)
      exact lpM_next2 hx hb hml hown hts hK hr hlk hn hk hEb hinn hco hcol hex hP (fun j hj => hz j (by omega)) (n + 1) 0 ls (by omega) (by omega) (lv_sub hl [1, 0, 2] rfl)
    · refine lv_aload_n hx hb dX3_next_10 rfl (lv_at hl 1 rfl) ?_
      refine va_get (D := (dC, dI)) (ci := 3) (v := .ref (bd 6)) (C := RX3) (T := TX3) (N := 9) hx hb hts in_X3 hown hK hP 0 rfl rfl 5 (by decide) (hts _ q189) (fun _ h9 => h9) rfl dX3_next_11 ?_
      refine lv_iload_n hx hb dX3_next_14 rfl (lv_at hl 0 rfl) ?_
      refine y_zald (j := i) hx hb hK hP 6 1 rfl rfl (rfl) (by omega) (by decide) dX3_next_15 ?_
      refine y_ti (y := b2i (inn i)) (hinn i c7) ?_
      refine y_ifeq (b := inn i) (tgt := 33) hx hb (rfl) dX3_next_16 (by decide) (fun c16 => ?_) (fun c16 => ?_)
      · refine lv_iinc (v := nI (i + 1)) (lv' := [(1, .int (nI (i + 1))), (0, .ref (bd 0))]) hx hb dX3_next_33 hl (k := 0) rfl (nI_1 i) (by decide) rfl (fun ls hl => ?_)
        refine lv_goto (tgt := 2) hx hb dX3_next_36 (by decide) ?_
        exact ih (i + 1) ls (by omega) (by omega) (fun j hj => by
          by_cases q : j = i
          · rw [q]
            unfold fewB
            rw [c16, Bool.false_and]
          · exact hz j (by omega)) hl
      · refine lv_aload_n hx hb dX3_next_19 rfl (lv_at hl 1 rfl) ?_
        refine lv_iload_n hx hb dX3_next_20 rfl (lv_at hl 0 rfl) ?_
        refine vp_callSi (W.runV (As := [.int (nI i)]) (rest := []) ⟨hx, hb, hml, hown, hts⟩ (metM_left l dC dI cI cZ bd n i (nI k) mg E inn pairs costs wishes colours mrow mins hn (c7) hEb hinn) (cwV 1 hts (lw_V q238 q240 qs6 q13 q241) rfl rfl rfl (by decide +kernel) ⟨Nat.le_of_ble_eq_true rfl, Nat.le_of_ble_eq_true rfl⟩) (y_preR hK hP (ci := 3) (q0 := 0) rfl rfl) rfl rfl hl.1 rfl (lv_room (Nat.le_of_ble_eq_true rfl)) dX3_next_21 ⟨Nat.zero_le _, Nat.zero_le _⟩) (fun r21 hr21 => ?_)
        refine y_ti (y := nI (lf E n inn i)) (hr21) ?_
        have h3 := Nat.le_trans (lf_le E n inn i) hn
        refine lv_aload_n hx hb dX3_next_24 rfl (lv_at hl 1 rfl) ?_
        refine va_get (D := (dC, dI)) (ci := 3) (v := .int (nI k)) (C := RX3) (T := TX3) (N := 9) hx hb hts in_X3 hown hK hP 0 rfl rfl 7 (by decide) (hts _ q191) (fun _ h9 => h9) rfl dX3_next_25 ?_
        refine y_cge (i := lf E n inn i) (j := k) (tgt := 33) hx hb (rfl) (rfl) (by omega) (by omega) dX3_next_28 (by decide) (fun c28 => ?_) (fun c28 => ?_)
        · refine lv_iinc (v := nI (i + 1)) (lv' := [(1, .int (nI (i + 1))), (0, .ref (bd 0))]) hx hb dX3_next_33 hl (k := 0) rfl (nI_1 i) (by decide) rfl (fun ls hl => ?_)
          refine lv_goto (tgt := 2) hx hb dX3_next_36 (by decide) ?_
          exact ih (i + 1) ls (by omega) (by omega) (fun j hj => by
            by_cases q : j = i
            · rw [q]
              unfold fewB
              rw [decide_eq_false (by omega), Bool.and_false]
            · exact hz j (by omega)) hl
        · refine lv_iload_n hx hb dX3_next_31 rfl (lv_at hl 0 rfl) ?_
          exact y_iretR hx hb hr hlk (by rw [nxt_few c7 (by unfold fewB; rw [c16, decide_eq_true c28]; rfl) hz]) dX3_next_32
set_option maxHeartbeats 4000000 in
set_option maxRecDepth 100000 in
theorem metM_next (l : Launch) (dC : Nat → ClassId) (dI : Nat → Nat → Nat) (cI cZ : ClassId) (bd : Nat → Nat) (n k : Nat) (mg : Int32) (E : Nat → Nat → Bool) (inn : Nat → Bool) (co : Nat → Nat) (pairs costs wishes colours mrow mins : Nat → Int32) (hn : n ≤ 200) (hk : 1 ≤ k ∧ k ≤ 30) (hEb : ∀ a b, a < 200 → b < 200 → pairs (200 * a + b) = b2i (E a b)) (hinn : ∀ j, j < n → mins j = b2i (inn j)) (hco : ∀ j, j < n → costs j = nI (co j)) (hcol : ∀ j, j < n → co j ≤ 1000000) (hex : ∃ a, a < n ∧ inn a = true) : Met l yX3_next (ws_ yX3_next cX3_next 3 (some .int)) rmA (va_Pc [.ref (bd 0)] (fun U => va_P (dC, dI) vwCl (wM bd cI cZ (nI n) (nI k) mg pairs costs wishes colours mrow mins) U.heap ∧ va_K (dC, dI) vwCl (tyK cI cZ) U)) (vp_Si (fun r => r = nI (nxt n k E co inn))) 0 0 (fun _ => False) := by
  refine Met.ofW (cc := cX3_next) (maxL := 3) (ret := (some .int)) (by decide) rfl ?_
  intro p e s m args below meth c s₁ B hml hv
  obtain ⟨rfl, hP, hK⟩ := hv
  have hx := B.exec
  have hb := B.bytes
  have hr := B.returns
  have hlk := B.notSynchronized
  have hts := atoms_spec (ws := ws_ yX3_next cX3_next 3 (some .int)) B.pre
  have hts : ∀ w ∈ lw_all, w.before _ s = true := fun w h => hts w (List.mem_cons_of_mem _ h)
  have hown : s.vm.findClass RX3 = some m.cls := findClass_of_methodNamed B.named
  have hl := lv_entry ([.ref (bd 0)]) (n := 3) (Nat.le_of_ble_eq_true rfl)
  rw [lg_entry_eq]
  generalize (lg_sl ([.ref (bd 0)]) ++ List.replicate (3 - (lg_sl ([.ref (bd 0)])).length) Slot.unset).toArray = ls at hl ⊢
  have hl : lv_has ls 3 [(0, .ref (bd 0))] := hl
  refine lv_iconst (v := nI 0) hx hb dX3_next_0 (by decide) ?_
  refine lv_istore_n (lv' := [(1, .int (nI 0)), (0, .ref (bd 0))]) hx hb dX3_next_1 rfl hl (by decide) rfl (fun ls hl => ?_)
  exact lpM_next1 hx hb hml hown hts hK hr hlk hn hk hEb hinn hco hcol hex hP (n + 1) 0 ls (by omega) (by omega) (fun j hj => absurd hj (Nat.not_lt_zero j)) (lv_sub hl [0, 1] rfl)
set_option maxHeartbeats 4000000 in
set_option maxRecDepth 100000 in
theorem lpM_isFree {p : Program} {l : Launch} {e : Env} {R : Room} {s : State} {m : MethodId} {args : Array Value} {below : List Frame} {meth : Method} {c : Code} {dC : Nat → ClassId} {dI : Nat → Nat → Nat} {cI cZ : ClassId} (hx : p.tables.exec = Jvm.exec) (hb : c.code = cX3_isFree) (hml : c.maxLocals = 4) (hown : s.vm.findClass RX3 = some m.cls) (hts : ∀ w ∈ lw_all, w.before args s = true) (hK : va_K (dC, dI) vwCl (tyK cI cZ) s) (hr : meth.sig.returnType = some .boolean) (hlk : meth.locks = false) {bd : Nat → Nat} {n a : Nat} {mk mg cx : Int32} {E : Nat → Nat → Bool} {cf : Nat → Int32} {pairs costs wishes colours mrow mins : Nat → Int32} (hn : n ≤ 200) (ha : a < n) (hEb : ∀ a b, a < 200 → b < 200 → pairs (200 * a + b) = b2i (E a b)) (hcf : ∀ j, j < n → colours j = cf j) (hP : va_P (dC, dI) vwCl (wM bd cI cZ (nI n) mk mg pairs costs wishes colours mrow mins) s.heap) : ∀ (nn i : Nat) (ls : Array Slot), i ≤ n → n + 1 ≤ i + nn → (∀ j, j < i → E a j = true → ¬ cf j = cx) → lv_has ls 4 [(3, .int (nI i)), (0, .ref (bd 0)), (1, .int (nI a)), (2, .int cx)] → W p l e R s m args below meth c s.heap [] 0 0 (MQ below (vp_Si (fun r => r = b2i (freeC E n cf a cx))) args s 0 0 (fun _ => False)) (F0 m 2 ls []) := by
  intro nn
  induction nn with
  | zero =>
    intro i ls h1 h2
    exact absurd h2 (by omega)
  | succ nn ih =>
    intro i ls hi hin hz hl
    refine lv_iload_n hx hb dX3_isFree_2 rfl (lv_at hl 0 rfl) ?_
    refine lv_aload_n hx hb dX3_isFree_3 rfl (lv_at hl 1 rfl) ?_
    refine va_get (D := (dC, dI)) (ci := 3) (v := .int (nI n)) (C := RX3) (T := TX3) (N := 9) hx hb hts in_X3 hown hK hP 0 rfl rfl 6 (by decide) (hts _ q190) (fun _ h9 => h9) rfl dX3_isFree_4 ?_
    refine y_cge (i := i) (j := n) (tgt := 43) hx hb (rfl) (rfl) (by omega) (by omega) dX3_isFree_7 (by decide) (fun c7 => ?_) (fun c7 => ?_)
    · refine lv_iconst (v := b2i true) hx hb dX3_isFree_43 (by decide) ?_
      exact y_zretR (b := true) rfl hx hb hr hlk (by rw [free_yes (fun b hbn => hz b (by omega))]) dX3_isFree_44
    · refine lv_aload_n hx hb dX3_isFree_10 rfl (lv_at hl 1 rfl) ?_
      refine va_get (D := (dC, dI)) (ci := 3) (v := .ref (bd 1)) (C := RX3) (T := TX3) (N := 9) hx hb hts in_X3 hown hK hP 0 rfl rfl 0 (by decide) (hts _ q184) (fun _ h9 => h9) rfl dX3_isFree_11 ?_
      refine lv_sipush (v := nI 200) hx hb dX3_isFree_14 (by decide) ?_
      refine lv_iload_n hx hb dX3_isFree_17 rfl (lv_at hl 2 rfl) ?_
      refine lv_imul hx hb dX3_isFree_18 ?_
      refine y_ti (y := nI (200 * a)) (pk_mul 200 a) ?_
      refine lv_iload_n hx hb dX3_isFree_19 rfl (lv_at hl 0 rfl) ?_
      refine lv_iadd hx hb dX3_isFree_20 ?_
      refine y_ti (y := nI (200 * a + i)) (nI_add (200 * a) i) ?_
      refine y_zald (j := 200 * a + i) hx hb hK hP 1 1 rfl rfl (rfl) (by omega) (by decide) dX3_isFree_21 ?_
      refine y_ti (y := b2i (E a i)) (hEb a i (by omega) (by omega)) ?_
      refine y_ifeq (b := E a i) (tgt := 37) hx hb (rfl) dX3_isFree_22 (by decide) (fun c22 => ?_) (fun c22 => ?_)
      · refine lv_iinc (v := nI (i + 1)) (lv' := [(3, .int (nI (i + 1))), (0, .ref (bd 0)), (1, .int (nI a)), (2, .int cx)]) hx hb dX3_isFree_37 hl (k := 0) rfl (nI_1 i) (by decide) rfl (fun ls hl => ?_)
        refine lv_goto (tgt := 2) hx hb dX3_isFree_40 (by decide) ?_
        exact ih (i + 1) ls (by omega) (by omega) (fun j hj hE => by
          by_cases q : j = i
          · subst q
            rw [c22] at hE
            cases hE
          · exact hz j (by omega) hE) hl
      · refine lv_aload_n hx hb dX3_isFree_25 rfl (lv_at hl 1 rfl) ?_
        refine va_get (D := (dC, dI)) (ci := 3) (v := .ref (bd 4)) (C := RX3) (T := TX3) (N := 9) hx hb hts in_X3 hown hK hP 0 rfl rfl 3 (by decide) (hts _ q187) (fun _ h9 => h9) rfl dX3_isFree_26 ?_
        refine lv_iload_n hx hb dX3_isFree_29 rfl (lv_at hl 0 rfl) ?_
        refine y_iald (j := i) hx hb hK hP 4 0 rfl rfl (rfl) (by omega) (by decide) dX3_isFree_30 ?_
        refine y_ti (y := cf i) (hcf i c7) ?_
        refine lv_iload_n hx hb dX3_isFree_31 rfl (lv_at hl 3 rfl) ?_
        refine lv_icmp_ne (tgt := 37) hx hb dX3_isFree_32 (by decide) (fun c32 => ?_) (fun c32 => ?_)
        · refine lv_iinc (v := nI (i + 1)) (lv' := [(3, .int (nI (i + 1))), (0, .ref (bd 0)), (1, .int (nI a)), (2, .int cx)]) hx hb dX3_isFree_37 hl (k := 0) rfl (nI_1 i) (by decide) rfl (fun ls hl => ?_)
          refine lv_goto (tgt := 2) hx hb dX3_isFree_40 (by decide) ?_
          exact ih (i + 1) ls (by omega) (by omega) (fun j hj hE => by
            by_cases q : j = i
            · subst q
              exact c32
            · exact hz j (by omega) hE) hl
        · refine lv_iconst (v := b2i false) hx hb dX3_isFree_35 (by decide) ?_
          exact y_zretR (b := false) rfl hx hb hr hlk (by rw [free_no c7 c22 c32]) dX3_isFree_36
set_option maxHeartbeats 4000000 in
set_option maxRecDepth 100000 in
theorem metM_isFree (l : Launch) (dC : Nat → ClassId) (dI : Nat → Nat → Nat) (cI cZ : ClassId) (bd : Nat → Nat) (n a : Nat) (mk mg cx : Int32) (E : Nat → Nat → Bool) (cf : Nat → Int32) (pairs costs wishes colours mrow mins : Nat → Int32) (hn : n ≤ 200) (ha : a < n) (hEb : ∀ a b, a < 200 → b < 200 → pairs (200 * a + b) = b2i (E a b)) (hcf : ∀ j, j < n → colours j = cf j) : Met l yX3_isFree (ws_ yX3_isFree cX3_isFree 4 (some .boolean)) rmZ (va_Pc [.ref (bd 0), .int (nI a), .int cx] (fun U => va_P (dC, dI) vwCl (wM bd cI cZ (nI n) mk mg pairs costs wishes colours mrow mins) U.heap ∧ va_K (dC, dI) vwCl (tyK cI cZ) U)) (vp_Si (fun r => r = b2i (freeC E n cf a cx))) 0 0 (fun _ => False) := by
  refine Met.ofW (cc := cX3_isFree) (maxL := 4) (ret := (some .boolean)) (by decide) rfl ?_
  intro p e s m args below meth c s₁ B hml hv
  obtain ⟨rfl, hP, hK⟩ := hv
  have hx := B.exec
  have hb := B.bytes
  have hr := B.returns
  have hlk := B.notSynchronized
  have hts := atoms_spec (ws := ws_ yX3_isFree cX3_isFree 4 (some .boolean)) B.pre
  have hts : ∀ w ∈ lw_all, w.before _ s = true := fun w h => hts w (List.mem_cons_of_mem _ h)
  have hown : s.vm.findClass RX3 = some m.cls := findClass_of_methodNamed B.named
  have hl := lv_entry ([.ref (bd 0), .int (nI a), .int cx]) (n := 4) (Nat.le_of_ble_eq_true rfl)
  rw [lg_entry_eq]
  generalize (lg_sl ([.ref (bd 0), .int (nI a), .int cx]) ++ List.replicate (4 - (lg_sl ([.ref (bd 0), .int (nI a), .int cx])).length) Slot.unset).toArray = ls at hl ⊢
  have hl : lv_has ls 4 [(0, .ref (bd 0)), (1, .int (nI a)), (2, .int cx)] := hl
  refine lv_iconst (v := nI 0) hx hb dX3_isFree_0 (by decide) ?_
  refine lv_istore_n (lv' := [(3, .int (nI 0)), (0, .ref (bd 0)), (1, .int (nI a)), (2, .int cx)]) hx hb dX3_isFree_1 rfl hl (by decide) rfl (fun ls hl => ?_)
  exact lpM_isFree hx hb hml hown hts hK hr hlk hn ha hEb hcf hP (n + 1) 0 ls (by omega) (by omega) (fun j hj => absurd hj (Nat.not_lt_zero j)) (lv_sub hl [0, 1, 2, 3] rfl)
set_option maxHeartbeats 4000000 in
set_option maxRecDepth 100000 in
theorem lpM_colourFor {p : Program} {l : Launch} {e : Env} {s : State} {m : MethodId} {args : Array Value} {below : List Frame} {meth : Method} {c : Code} {dC : Nat → ClassId} {dI : Nat → Nat → Nat} {cI cZ : ClassId} (hx : p.tables.exec = Jvm.exec) (hb : c.code = cX3_colourFor) (hml : c.maxLocals = 4) (hown : s.vm.findClass RX3 = some m.cls) (hts : ∀ w ∈ lw_all, w.before args s = true) (hK : va_K (dC, dI) vwCl (tyK cI cZ) s) (hr : meth.sig.returnType = some .int) (hlk : meth.locks = false) {bd : Nat → Nat} {n k a : Nat} {mg : Int32} {E : Nat → Nat → Bool} {wi : Nat → Nat} {cf : Nat → Int32} {pairs costs wishes colours mrow mins : Nat → Int32} (hn : n ≤ 200) (hk : 1 ≤ k ∧ k ≤ 30) (ha : a < n) (hEb : ∀ a b, a < 200 → b < 200 → pairs (200 * a + b) = b2i (E a b)) (hcf : ∀ j, j < n → colours j = cf j) (hnw : ¬ (cf (wi a) ≠ -1 ∧ freeC E n cf a (cf (wi a)) = true)) (hP : va_P (dC, dI) vwCl (wM bd cI cZ (nI n) (nI k) mg pairs costs wishes colours mrow mins) s.heap) : ∀ (nn cv : Nat) (ls : Array Slot), cv ≤ k → k + 1 ≤ cv + nn → (∀ j, j < cv → freeC E n cf a (nI j) = false) → lv_has ls 4 [(3, .int (nI cv)), (0, .ref (bd 0)), (1, .int (nI a))] → W p l e rmA s m args below meth c s.heap [] 0 0 (MQ below (vp_Si (fun r => r = pnt n k E wi cf a)) args s 0 0 (fun _ => False)) (F0 m 44 ls []) := by
  intro nn
  induction nn with
  | zero =>
    intro cv ls h1 h2
    exact absurd h2 (by omega)
  | succ nn ih =>
    intro cv ls hcv1 hcv2 hz hl
    refine lv_iload_n hx hb dX3_colourFor_44 rfl (lv_at hl 0 rfl) ?_
    refine lv_aload_n hx hb dX3_colourFor_45 rfl (lv_at hl 1 rfl) ?_
    refine va_get (D := (dC, dI)) (ci := 3) (v := .int (nI k)) (C := RX3) (T := TX3) (N := 9) hx hb hts in_X3 hown hK hP 0 rfl rfl 7 (by decide) (hts _ q191) (fun _ h9 => h9) rfl dX3_colourFor_46 ?_
    refine y_cge (i := cv) (j := k) (tgt := 69) hx hb (rfl) (rfl) (by omega) (by omega) dX3_colourFor_49 (by decide) (fun c49 => ?_) (fun c49 => ?_)
    · refine lv_iconst (v := -1) hx hb dX3_colourFor_69 (by decide) ?_
      exact y_iretR hx hb hr hlk (pnt_none hnw (fun j hj => hz j (by omega))).symm dX3_colourFor_70
    · refine lv_aload_n hx hb dX3_colourFor_52 rfl (lv_at hl 1 rfl) ?_
      refine lv_iload_n hx hb dX3_colourFor_53 rfl (lv_at hl 2 rfl) ?_
      refine lv_iload_n hx hb dX3_colourFor_54 rfl (lv_at hl 0 rfl) ?_
      refine vp_callSi (W.runV (As := [.int (nI a), .int (nI cv)]) (rest := []) ⟨hx, hb, hml, hown, hts⟩ (metM_isFree l dC dI cI cZ bd n a (nI k) mg (nI cv) E cf pairs costs wishes colours mrow mins hn ha hEb hcf) (cwV 2 hts (lw_V q246 q248 qs8 q13 q249) rfl rfl rfl (by decide +kernel) ⟨Nat.le_of_ble_eq_true rfl, Nat.le_of_ble_eq_true rfl⟩) (y_preR hK hP (ci := 3) (q0 := 0) rfl rfl) rfl rfl hl.1 rfl (lv_room (Nat.le_of_ble_eq_true rfl)) dX3_colourFor_55 ⟨Nat.zero_le _, Nat.zero_le _⟩) (fun r55 hr55 => ?_)
      refine y_ti (y := b2i (freeC E n cf a (nI cv))) (hr55) ?_
      refine y_ifeq (b := freeC E n cf a (nI cv)) (tgt := 63) hx hb (rfl) dX3_colourFor_58 (by decide) (fun c58 => ?_) (fun c58 => ?_)
      · refine lv_iinc (v := nI (cv + 1)) (lv' := [(3, .int (nI (cv + 1))), (0, .ref (bd 0)), (1, .int (nI a))]) hx hb dX3_colourFor_63 hl (k := 0) rfl (nI_1 cv) (by decide) rfl (fun ls hl => ?_)
        refine lv_goto (tgt := 44) hx hb dX3_colourFor_66 (by decide) ?_
        exact ih (cv + 1) ls (by omega) (by omega) (fun j hj => by
          by_cases e : j = cv
          · rw [e]
            exact c58
          · exact hz j (by omega)) hl
      · refine lv_iload_n hx hb dX3_colourFor_61 rfl (lv_at hl 0 rfl) ?_
        exact y_iretR hx hb hr hlk (pnt_first hnw c49 c58 hz).symm dX3_colourFor_62
set_option maxHeartbeats 4000000 in
set_option maxRecDepth 100000 in
theorem metM_colourFor (l : Launch) (dC : Nat → ClassId) (dI : Nat → Nat → Nat) (cI cZ : ClassId) (bd : Nat → Nat) (n k a : Nat) (mg : Int32) (E : Nat → Nat → Bool) (wi : Nat → Nat) (cf : Nat → Int32) (pairs costs wishes colours mrow mins : Nat → Int32) (hn : n ≤ 200) (hk : 1 ≤ k ∧ k ≤ 30) (ha : a < n) (hEb : ∀ a b, a < 200 → b < 200 → pairs (200 * a + b) = b2i (E a b)) (hcf : ∀ j, j < n → colours j = cf j) (hwi : ∀ j, j < n → wishes j = nI (wi j)) (hwil : ∀ j, j < n → wi j < n) (hcv : ∀ j, j < n → cf j = -1 ∨ ∃ c, c < k ∧ cf j = nI c) (hcur : cf a = -1) : Met l yX3_colourFor (ws_ yX3_colourFor cX3_colourFor 4 (some .int)) rmA (va_Pc [.ref (bd 0), .int (nI a)] (fun U => va_P (dC, dI) vwCl (wM bd cI cZ (nI n) (nI k) mg pairs costs wishes colours mrow mins) U.heap ∧ va_K (dC, dI) vwCl (tyK cI cZ) U)) (vp_Si (fun r => r = pnt n k E wi cf a)) 0 0 (fun _ => False) := by
  refine Met.ofW (cc := cX3_colourFor) (maxL := 4) (ret := (some .int)) (by decide) rfl ?_
  intro p e s m args below meth c s₁ B hml hv
  obtain ⟨rfl, hP, hK⟩ := hv
  have hx := B.exec
  have hb := B.bytes
  have hr := B.returns
  have hlk := B.notSynchronized
  have hts := atoms_spec (ws := ws_ yX3_colourFor cX3_colourFor 4 (some .int)) B.pre
  have hts : ∀ w ∈ lw_all, w.before _ s = true := fun w h => hts w (List.mem_cons_of_mem _ h)
  have hown : s.vm.findClass RX3 = some m.cls := findClass_of_methodNamed B.named
  have hl := lv_entry ([.ref (bd 0), .int (nI a)]) (n := 4) (Nat.le_of_ble_eq_true rfl)
  rw [lg_entry_eq]
  generalize (lg_sl ([.ref (bd 0), .int (nI a)]) ++ List.replicate (4 - (lg_sl ([.ref (bd 0), .int (nI a)])).length) Slot.unset).toArray = ls at hl ⊢
  have hl : lv_has ls 4 [(0, .ref (bd 0)), (1, .int (nI a))] := hl
  have hwa := hwil a ha
  refine lv_aload_n hx hb dX3_colourFor_0 rfl (lv_at hl 0 rfl) ?_
  refine va_get (D := (dC, dI)) (ci := 3) (v := .ref (bd 3)) (C := RX3) (T := TX3) (N := 9) hx hb hts in_X3 hown hK hP 0 rfl rfl 2 (by decide) (hts _ q186) (fun _ h9 => h9) rfl dX3_colourFor_1 ?_
  refine lv_iload_n hx hb dX3_colourFor_4 rfl (lv_at hl 1 rfl) ?_
  refine y_iald (j := a) hx hb hK hP 3 0 rfl rfl (rfl) (by omega) (by decide) dX3_colourFor_5 ?_
  refine y_ti (y := nI (wi a)) (hwi a ha) ?_
  refine lv_istore_n (lv' := [(2, .int (nI (wi a))), (0, .ref (bd 0)), (1, .int (nI a))]) hx hb dX3_colourFor_6 rfl hl (by decide) rfl (fun ls hl => ?_)
  refine lv_iload_n hx hb dX3_colourFor_7 rfl (lv_at hl 0 rfl) ?_
  refine lv_iload_n hx hb dX3_colourFor_8 rfl (lv_at hl 2 rfl) ?_
  refine y_ceq (i := wi a) (j := a) (tgt := 42) hx hb (rfl) (rfl) (by omega) (by omega) dX3_colourFor_9 (by decide) (fun c9 => ?_) (fun c9 => ?_)
  · have hnw : ¬ (cf (wi a) ≠ -1 ∧ freeC E n cf a (cf (wi a)) = true) := fun q => q.1 (by rw [c9]; exact hcur)
    refine lv_iconst (v := nI 0) hx hb dX3_colourFor_42 (by decide) ?_
    refine lv_istore_n (lv' := [(3, .int (nI 0)), (2, .int (nI (wi a))), (0, .ref (bd 0)), (1, .int (nI a))]) hx hb dX3_colourFor_43 rfl hl (by decide) rfl (fun ls hl => ?_)
    exact lpM_colourFor hx hb hml hown hts hK hr hlk hn hk ha hEb hcf hnw hP (k + 1) 0 ls (by omega) (by omega) (fun j hj => absurd hj (Nat.not_lt_zero j)) (lv_sub hl [0, 2, 3] rfl)
  · refine lv_aload_n hx hb dX3_colourFor_12 rfl (lv_at hl 1 rfl) ?_
    refine va_get (D := (dC, dI)) (ci := 3) (v := .ref (bd 4)) (C := RX3) (T := TX3) (N := 9) hx hb hts in_X3 hown hK hP 0 rfl rfl 3 (by decide) (hts _ q187) (fun _ h9 => h9) rfl dX3_colourFor_13 ?_
    refine lv_iload_n hx hb dX3_colourFor_16 rfl (lv_at hl 0 rfl) ?_
    refine y_iald (j := wi a) hx hb hK hP 4 0 rfl rfl (rfl) (by omega) (by decide) dX3_colourFor_17 ?_
    refine y_ti (y := cf (wi a)) (hcf _ hwa) ?_
    refine lv_if_lt (tgt := 42) hx hb dX3_colourFor_18 (by decide) (fun c18 => ?_) (fun c18 => ?_)
    · have hnw : ¬ (cf (wi a) ≠ -1 ∧ freeC E n cf a (cf (wi a)) = true) := fun q => q.1 (col_neg hk.2 (hcv _ hwa) c18)
      refine lv_iconst (v := nI 0) hx hb dX3_colourFor_42 (by decide) ?_
      refine lv_istore_n (lv' := [(3, .int (nI 0)), (2, .int (nI (wi a))), (0, .ref (bd 0)), (1, .int (nI a))]) hx hb dX3_colourFor_43 rfl hl (by decide) rfl (fun ls hl => ?_)
      exact lpM_colourFor hx hb hml hown hts hK hr hlk hn hk ha hEb hcf hnw hP (k + 1) 0 ls (by omega) (by omega) (fun j hj => absurd hj (Nat.not_lt_zero j)) (lv_sub hl [0, 2, 3] rfl)
    · refine lv_aload_n hx hb dX3_colourFor_21 rfl (lv_at hl 1 rfl) ?_
      refine lv_iload_n hx hb dX3_colourFor_22 rfl (lv_at hl 2 rfl) ?_
      refine lv_aload_n hx hb dX3_colourFor_23 rfl (lv_at hl 1 rfl) ?_
      refine va_get (D := (dC, dI)) (ci := 3) (v := .ref (bd 4)) (C := RX3) (T := TX3) (N := 9) hx hb hts in_X3 hown hK hP 0 rfl rfl 3 (by decide) (hts _ q187) (fun _ h9 => h9) rfl dX3_colourFor_24 ?_
      refine lv_iload_n hx hb dX3_colourFor_27 rfl (lv_at hl 0 rfl) ?_
      refine y_iald (j := wi a) hx hb hK hP 4 0 rfl rfl (rfl) (by omega) (by decide) dX3_colourFor_28 ?_
      refine y_ti (y := cf (wi a)) (hcf _ hwa) ?_
      refine vp_callSi (W.runV (As := [.int (nI a), .int (cf (wi a))]) (rest := []) ⟨hx, hb, hml, hown, hts⟩ (metM_isFree l dC dI cI cZ bd n a (nI k) mg (cf (wi a)) E cf pairs costs wishes colours mrow mins hn ha hEb hcf) (cwV 2 hts (lw_V q246 q248 qs8 q13 q249) rfl rfl rfl (by decide +kernel) ⟨Nat.le_of_ble_eq_true rfl, Nat.le_of_ble_eq_true rfl⟩) (y_preR hK hP (ci := 3) (q0 := 0) rfl rfl) rfl rfl hl.1 rfl (lv_room (Nat.le_of_ble_eq_true rfl)) dX3_colourFor_29 ⟨Nat.zero_le _, Nat.zero_le _⟩) (fun r29 hr29 => ?_)
      refine y_ti (y := b2i (freeC E n cf a (cf (wi a)))) (hr29) ?_
      refine y_ifeq (b := freeC E n cf a (cf (wi a))) (tgt := 42) hx hb (rfl) dX3_colourFor_32 (by decide) (fun c32 => ?_) (fun c32 => ?_)
      · have hnw : ¬ (cf (wi a) ≠ -1 ∧ freeC E n cf a (cf (wi a)) = true) := fun q => by
          have q2 := q.2
          rw [c32] at q2
          cases q2
        refine lv_iconst (v := nI 0) hx hb dX3_colourFor_42 (by decide) ?_
        refine lv_istore_n (lv' := [(3, .int (nI 0)), (2, .int (nI (wi a))), (0, .ref (bd 0)), (1, .int (nI a))]) hx hb dX3_colourFor_43 rfl hl (by decide) rfl (fun ls hl => ?_)
        exact lpM_colourFor hx hb hml hown hts hK hr hlk hn hk ha hEb hcf hnw hP (k + 1) 0 ls (by omega) (by omega) (fun j hj => absurd hj (Nat.not_lt_zero j)) (lv_sub hl [0, 2, 3] rfl)
      · refine lv_aload_n hx hb dX3_colourFor_35 rfl (lv_at hl 1 rfl) ?_
        refine va_get (D := (dC, dI)) (ci := 3) (v := .ref (bd 4)) (C := RX3) (T := TX3) (N := 9) hx hb hts in_X3 hown hK hP 0 rfl rfl 3 (by decide) (hts _ q187) (fun _ h9 => h9) rfl dX3_colourFor_36 ?_
        refine lv_iload_n hx hb dX3_colourFor_39 rfl (lv_at hl 0 rfl) ?_
        refine y_iald (j := wi a) hx hb hK hP 4 0 rfl rfl (rfl) (by omega) (by decide) dX3_colourFor_40 ?_
        refine y_ti (y := cf (wi a)) (hcf _ hwa) ?_
        exact y_iretR hx hb hr hlk (pnt_wish (col_pos c18) c32).symm dX3_colourFor_41
end
section
/-! PointColoursModel.give -/
set_option maxHeartbeats 4000000 in
set_option maxRecDepth 100000 in
theorem lpM_give1 {p : Program} {l : Launch} {e : Env} {s : State} {m : MethodId} {args : Array Value} {below : List Frame} {meth : Method} {c : Code} {Q : State → Prop} {dC : Nat → ClassId} {dI : Nat → Nat → Nat} {cI cZ : ClassId} {A : Nat → Prop} (hx : p.tables.exec = Jvm.exec) (hb : c.code = cX3_give) (hml : c.maxLocals = 3) (hown : s.vm.findClass RX3 = some m.cls) (hts : ∀ w ∈ lw_all, w.before args s = true) (hK : va_K (dC, dI) vwCl (tyK cI cZ) s) (hA : ∀ q : Nat, s.heap.size ≤ q → A q) {bd : Nat → Nat} {n k : Nat} {E : Nat → Nat → Bool} {co wi : Nat → Nat} {mg : Int32} {pairs costs wishes mrow : Nat → Int32} (hn : n ≤ 200) (kx : ∀ (colours mins : Nat → Int32) (H : Heap) (locs : List Loc) (ls : Array Slot), (∀ j, j < n → mins j = b2i true ∧ colours j = -1) → va_P (dC, dI) vwCl (wM bd cI cZ (nI n) (nI k) mg pairs costs wishes colours mrow mins) H → va_D A (wM bd cI cZ (nI n) (nI k) mg pairs costs wishes colours mrow mins) → va_S A s.heap H locs → lv_has ls 3 [(0, .ref (bd 0))] → W p l e rmB s m args below meth c H locs 0 0 Q (F0 m 30 ls [])) : ∀ (nn i : Nat) (colours mins : Nat → Int32) (H : Heap) (locs : List Loc) (ls : Array Slot), i ≤ n → n + 1 ≤ i + nn → (∀ j, j < i → mins j = b2i true ∧ colours j = -1) → va_P (dC, dI) vwCl (wM bd cI cZ (nI n) (nI k) mg pairs costs wishes colours mrow mins) H → va_D A (wM bd cI cZ (nI n) (nI k) mg pairs costs wishes colours mrow mins) → va_S A s.heap H locs → lv_has ls 3 [(1, .int (nI i)), (0, .ref (bd 0))] → W p l e rmB s m args below meth c H locs 0 0 Q (F0 m 2 ls []) := by
  intro nn
  induction nn with
  | zero =>
    intro i colours mins H locs ls h1 h2
    exact absurd h2 (by omega)
  | succ nn ih =>
    intro i colours mins H locs ls hi hin hz hP hD hS hl
    refine lv_iload_n hx hb dX3_give_2 rfl (lv_at hl 0 rfl) ?_
    refine lv_aload_n hx hb dX3_give_3 rfl (lv_at hl 1 rfl) ?_
    refine va_get (D := (dC, dI)) (ci := 3) (v := .int (nI n)) (C := RX3) (T := TX3) (N := 9) hx hb hts in_X3 hown hK hP 0 rfl rfl 6 (by decide) (hts _ q190) (fun _ h9 => h9) rfl dX3_give_4 ?_
    refine y_cge (i := i) (j := n) (tgt := 30) hx hb (rfl) (rfl) (by omega) (by omega) dX3_give_7 (by decide) (fun c7 => ?_) (fun c7 => ?_)
    · exact kx colours mins H locs ls (fun j hj => hz j (by omega)) hP hD hS (lv_sub hl [1] rfl)
    · refine lv_aload_n hx hb dX3_give_10 rfl (lv_at hl 1 rfl) ?_
      refine va_get (D := (dC, dI)) (ci := 3) (v := .ref (bd 6)) (C := RX3) (T := TX3) (N := 9) hx hb hts in_X3 hown hK hP 0 rfl rfl 5 (by decide) (hts _ q189) (fun _ h9 => h9) rfl dX3_give_11 ?_
      refine lv_iload_n hx hb dX3_give_14 rfl (lv_at hl 0 rfl) ?_
      refine lv_iconst (v := b2i true) hx hb dX3_give_15 (by decide) ?_
      refine y_zast (v := b2i true) (j := i) hx hb hK hP hD hS 6 1 rfl rfl (b2i_nar _) (rfl) (by omega) (by decide) dX3_give_16 (fun H locs hP hD hS => ?_)
      have hP : va_P (dC, dI) vwCl (wM bd cI cZ (nI n) (nI k) mg pairs costs wishes colours mrow (upd mins i (b2i true))) H := hP
      have hD : va_D A (wM bd cI cZ (nI n) (nI k) mg pairs costs wishes colours mrow (upd mins i (b2i true))) := hD
      refine lv_aload_n hx hb dX3_give_17 rfl (lv_at hl 1 rfl) ?_
      refine va_get (D := (dC, dI)) (ci := 3) (v := .ref (bd 4)) (C := RX3) (T := TX3) (N := 9) hx hb hts in_X3 hown hK hP 0 rfl rfl 3 (by decide) (hts _ q187) (fun _ h9 => h9) rfl dX3_give_18 ?_
      refine lv_iload_n hx hb dX3_give_21 rfl (lv_at hl 0 rfl) ?_
      refine lv_iconst (v := -1) hx hb dX3_give_22 (by decide) ?_
      refine y_iast (j := i) hx hb hK hP hD hS 4 0 rfl rfl (rfl) (by omega) (by decide) dX3_give_23 (fun H locs hP hD hS => ?_)
      have hP : va_P (dC, dI) vwCl (wM bd cI cZ (nI n) (nI k) mg pairs costs wishes (upd colours i (-1)) mrow (upd mins i (b2i true))) H := hP
      have hD : va_D A (wM bd cI cZ (nI n) (nI k) mg pairs costs wishes (upd colours i (-1)) mrow (upd mins i (b2i true))) := hD
      refine lv_iinc (v := nI (i + 1)) (lv' := [(1, .int (nI (i + 1))), (0, .ref (bd 0))]) hx hb dX3_give_24 hl (k := 0) rfl (nI_1 i) (by decide) rfl (fun ls hl => ?_)
      refine lv_goto (tgt := 2) hx hb dX3_give_27 (by decide) ?_
      exact ih (i + 1) _ _ _ _ ls (by omega) (by omega) (fun j hj => by
        by_cases e : j = i
        · subst e
          exact ⟨pk_us, pk_us⟩
        · rw [pk_un e, pk_un e]
          exact hz j (by omega)) hP hD hS (lv_sub hl [0, 1] rfl)
set_option maxHeartbeats 4000000 in
set_option maxRecDepth 100000 in
theorem lpM_give2 {p : Program} {l : Launch} {e : Env} {s : State} {m : MethodId} {args : Array Value} {below : List Frame} {meth : Method} {c : Code} {Q : State → Prop} {dC : Nat → ClassId} {dI : Nat → Nat → Nat} {cI cZ : ClassId} {A : Nat → Prop} (hx : p.tables.exec = Jvm.exec) (hb : c.code = cX3_give) (hml : c.maxLocals = 3) (hown : s.vm.findClass RX3 = some m.cls) (hts : ∀ w ∈ lw_all, w.before args s = true) (hK : va_K (dC, dI) vwCl (tyK cI cZ) s) (hA : ∀ q : Nat, s.heap.size ≤ q → A q) {bd : Nat → Nat} {n k : Nat} {E : Nat → Nat → Bool} {co wi : Nat → Nat} {mg : Int32} {pairs costs wishes colours : Nat → Int32} (hn : n ≤ 200) (hk : 1 ≤ k ∧ k ≤ 30) (hEb : ∀ a b, a < 200 → b < 200 → pairs (200 * a + b) = b2i (E a b)) (hco : ∀ j, j < n → costs j = nI (co j)) (hcol : ∀ j, j < n → co j ≤ 1000000) (kx : ∀ (mrow mins : Nat → Int32) (H : Heap) (locs : List Loc) (ls : Array Slot), (∀ j, j < n → mrow j = nI (ordF n k E co j)) → va_P (dC, dI) vwCl (wM bd cI cZ (nI n) (nI k) mg pairs costs wishes colours mrow mins) H → va_D A (wM bd cI cZ (nI n) (nI k) mg pairs costs wishes colours mrow mins) → va_S A s.heap H locs → lv_has ls 3 [(0, .ref (bd 0))] → W p l e rmB s m args below meth c H locs 0 0 Q (F0 m 68 ls [])) : ∀ (nn i : Nat) (mrow mins : Nat → Int32) (H : Heap) (locs : List Loc) (ls : Array Slot), i ≤ n → n + 1 ≤ i + nn → (∀ j, j < n → mins j = b2i (inS n k E co i j)) → (∀ j, j < i → mrow j = nI (ordF n k E co j)) → va_P (dC, dI) vwCl (wM bd cI cZ (nI n) (nI k) mg pairs costs wishes colours mrow mins) H → va_D A (wM bd cI cZ (nI n) (nI k) mg pairs costs wishes colours mrow mins) → va_S A s.heap H locs → lv_has ls 3 [(1, .int (nI i)), (0, .ref (bd 0))] → W p l e rmB s m args below meth c H locs 0 0 Q (F0 m 32 ls []) := by
  intro nn
  induction nn with
  | zero =>
    intro i mrow mins H locs ls h1 h2
    exact absurd h2 (by omega)
  | succ nn ih =>
    intro i mrow mins H locs ls hi hin hinn hor hP hD hS hl
    refine lv_iload_n hx hb dX3_give_32 rfl (lv_at hl 0 rfl) ?_
    refine lv_aload_n hx hb dX3_give_33 rfl (lv_at hl 1 rfl) ?_
    refine va_get (D := (dC, dI)) (ci := 3) (v := .int (nI n)) (C := RX3) (T := TX3) (N := 9) hx hb hts in_X3 hown hK hP 0 rfl rfl 6 (by decide) (hts _ q190) (fun _ h9 => h9) rfl dX3_give_34 ?_
    refine y_cge (i := i) (j := n) (tgt := 68) hx hb (rfl) (rfl) (by omega) (by omega) dX3_give_37 (by decide) (fun c37 => ?_) (fun c37 => ?_)
    · exact kx mrow mins H locs ls (fun j hj => hor j (by omega)) hP hD hS (lv_sub hl [1] rfl)
    · have hoi := ordF_in (n := n) (k := k) (E := E) (co := co) c37
      refine lv_aload_n hx hb dX3_give_40 rfl (lv_at hl 1 rfl) ?_
      refine va_get (D := (dC, dI)) (ci := 3) (v := .ref (bd 5)) (C := RX3) (T := TX3) (N := 9) hx hb hts in_X3 hown hK hP 0 rfl rfl 4 (by decide) (hts _ q188) (fun _ h9 => h9) rfl dX3_give_41 ?_
      refine lv_iload_n hx hb dX3_give_44 rfl (lv_at hl 0 rfl) ?_
      refine lv_aload_n hx hb dX3_give_45 rfl (lv_at hl 1 rfl) ?_
      refine vp_callSi (W.runV (As := []) (rest := [.int (nI i), .ref (bd 5)]) ⟨hx, hb, hml, hown, hts⟩ (metM_next l dC dI cI cZ bd n k mg E (inS n k E co i) co pairs costs wishes colours mrow mins hn hk hEb hinn hco hcol (inS_ex c37)) (cwV 0 hts (lw_V q234 q236 qs5 q13 q237) rfl rfl rfl (by decide +kernel) ⟨Nat.le_of_ble_eq_true rfl, Nat.le_of_ble_eq_true rfl⟩) (y_preR hK hP (ci := 3) (q0 := 0) rfl rfl) rfl rfl hl.1 rfl (lv_room (Nat.le_of_ble_eq_true rfl)) dX3_give_46 ⟨Nat.zero_le _, Nat.zero_le _⟩) (fun r46 hr46 => ?_)
      refine y_ti (y := nI (ordF n k E co i)) (hr46) ?_
      refine y_iast (j := i) hx hb hK hP hD hS 5 0 rfl rfl (rfl) (by omega) (by decide) dX3_give_49 (fun H locs hP hD hS => ?_)
      have hP : va_P (dC, dI) vwCl (wM bd cI cZ (nI n) (nI k) mg pairs costs wishes colours (upd mrow i (nI (ordF n k E co i))) mins) H := hP
      have hD : va_D A (wM bd cI cZ (nI n) (nI k) mg pairs costs wishes colours (upd mrow i (nI (ordF n k E co i))) mins) := hD
      refine lv_aload_n hx hb dX3_give_50 rfl (lv_at hl 1 rfl) ?_
      refine va_get (D := (dC, dI)) (ci := 3) (v := .ref (bd 6)) (C := RX3) (T := TX3) (N := 9) hx hb hts in_X3 hown hK hP 0 rfl rfl 5 (by decide) (hts _ q189) (fun _ h9 => h9) rfl dX3_give_51 ?_
      refine lv_aload_n hx hb dX3_give_54 rfl (lv_at hl 1 rfl) ?_
      refine va_get (D := (dC, dI)) (ci := 3) (v := .ref (bd 5)) (C := RX3) (T := TX3) (N := 9) hx hb hts in_X3 hown hK hP 0 rfl rfl 4 (by decide) (hts _ q188) (fun _ h9 => h9) rfl dX3_give_55 ?_
      refine lv_iload_n hx hb dX3_give_58 rfl (lv_at hl 0 rfl) ?_
      refine y_iald (j := i) hx hb hK hP 5 0 rfl rfl (rfl) (by omega) (by decide) dX3_give_59 ?_
      refine y_ti (y := nI (ordF n k E co i)) (pk_us) ?_
      refine lv_iconst (v := b2i false) hx hb dX3_give_60 (by decide) ?_
      refine y_zast (v := b2i false) (j := ordF n k E co i) hx hb hK hP hD hS 6 1 rfl rfl (b2i_nar _) (rfl) (by omega) (by decide) dX3_give_61 (fun H locs hP hD hS => ?_)
      have hP : va_P (dC, dI) vwCl (wM bd cI cZ (nI n) (nI k) mg pairs costs wishes colours (upd mrow i (nI (ordF n k E co i))) (upd mins (ordF n k E co i) (b2i false))) H := hP
      have hD : va_D A (wM bd cI cZ (nI n) (nI k) mg pairs costs wishes colours (upd mrow i (nI (ordF n k E co i))) (upd mins (ordF n k E co i) (b2i false))) := hD
      refine lv_iinc (v := nI (i + 1)) (lv' := [(1, .int (nI (i + 1))), (0, .ref (bd 0))]) hx hb dX3_give_62 hl (k := 0) rfl (nI_1 i) (by decide) rfl (fun ls hl => ?_)
      refine lv_goto (tgt := 32) hx hb dX3_give_65 (by decide) ?_
      exact ih (i + 1) _ _ _ _ ls (by omega) (by omega) (fun j hj => by
        by_cases e : j = ordF n k E co i
        · rw [e, pk_us, inS_self]
        · rw [pk_un e, inS_ne e]
          exact hinn j hj) (fun j hj => by
        by_cases e : j = i
        · subst e
          exact pk_us
        · rw [pk_un e]
          exact hor j (by omega)) hP hD hS (lv_sub hl [0, 1] rfl)
set_option maxHeartbeats 4000000 in
set_option maxRecDepth 100000 in
theorem lpM_give3 {p : Program} {l : Launch} {e : Env} {s : State} {m : MethodId} {args : Array Value} {below : List Frame} {meth : Method} {c : Code} {Q : State → Prop} {dC : Nat → ClassId} {dI : Nat → Nat → Nat} {cI cZ : ClassId} {A : Nat → Prop} (hx : p.tables.exec = Jvm.exec) (hb : c.code = cX3_give) (hml : c.maxLocals = 3) (hown : s.vm.findClass RX3 = some m.cls) (hts : ∀ w ∈ lw_all, w.before args s = true) (hK : va_K (dC, dI) vwCl (tyK cI cZ) s) (hA : ∀ q : Nat, s.heap.size ≤ q → A q) {bd : Nat → Nat} {n k : Nat} {E : Nat → Nat → Bool} {co wi : Nat → Nat} {mg : Int32} {pairs costs wishes mrow mins : Nat → Int32} (hn : n ≤ 200) (hk : 1 ≤ k ∧ k ≤ 30) (hEb : ∀ a b, a < 200 → b < 200 → pairs (200 * a + b) = b2i (E a b)) (hwi : ∀ j, j < n → wishes j = nI (wi j)) (hwil : ∀ j, j < n → wi j < n) (hor : ∀ j, j < n → mrow j = nI (ordF n k E co j)) (kx : ∀ (colours : Nat → Int32) (H : Heap) (locs : List Loc) (ls : Array Slot), (∀ j, j < n → colours j = colS n k E co wi n j) → va_P (dC, dI) vwCl (wM bd cI cZ (nI n) (nI k) mg pairs costs wishes colours mrow mins) H → va_D A (wM bd cI cZ (nI n) (nI k) mg pairs costs wishes colours mrow mins) → va_S A s.heap H locs → lv_has ls 3 [(1, .int (nI (woS n k E co wi n))), (0, .ref (bd 0))] → W p l e rmB s m args below meth c H locs 0 0 Q (F0 m 125 ls [])) : ∀ (jj : Nat) (colours : Nat → Int32) (H : Heap) (locs : List Loc) (ls : Array Slot), jj ≤ n → (∀ j, j < n → colours j = colS n k E co wi (n - jj) j) → va_P (dC, dI) vwCl (wM bd cI cZ (nI n) (nI k) mg pairs costs wishes colours mrow mins) H → va_D A (wM bd cI cZ (nI n) (nI k) mg pairs costs wishes colours mrow mins) → va_S A s.heap H locs → lv_has ls 3 [(2, .int (dnI jj)), (1, .int (nI (woS n k E co wi (n - jj)))), (0, .ref (bd 0))] → W p l e rmB s m args below meth c H locs 0 0 Q (F0 m 77 ls []) := by
  intro jj
  induction jj with
  | zero =>
    intro colours H locs ls _ hcl hP hD hS hl
    have hl : lv_has ls 3 [(2, .int (-1)), (1, .int (nI (woS n k E co wi n))), (0, .ref (bd 0))] := hl
    refine lv_iload_n hx hb dX3_give_77 rfl (lv_at hl 0 rfl) ?_
    refine lv_if_lt (tgt := 125) hx hb dX3_give_78 (by decide) (fun c78 => ?_) (fun c78 => ?_)
    · exact kx colours H locs ls hcl hP hD hS (lv_sub hl [1, 2] rfl)
    · exact absurd (by decide) c78
  | succ j ih =>
    intro colours H locs ls hj hcl hP hD hS hl
    obtain ⟨tt, htt⟩ : ∃ z, z = n - (j + 1) := ⟨_, rfl⟩
    rw [← htt] at hcl hl
    have hj2 : n - 1 - tt = j := by omega
    have hoj := (ordF_in (n := n) (k := k) (E := E) (co := co) (i := j) (by omega)).1
    have hwl := woS_le (n := n) (k := k) (E := E) (co := co) (wi := wi) tt
    have hcur : colS n k E co wi tt (ordF n k E co j) = -1 := by
      have := colS_cur (n := n) (k := k) (E := E) (co := co) (wi := wi) (j := tt) (by omega)
      rw [hj2] at this
      exact this
    have hl : lv_has ls 3 [(2, .int (nI j)), (1, .int (nI (woS n k E co wi tt))), (0, .ref (bd 0))] := hl
    refine lv_iload_n hx hb dX3_give_77 rfl (lv_at hl 0 rfl) ?_
    refine lv_if_lt (tgt := 125) hx hb dX3_give_78 (by decide) (fun c78 => ?_) (fun c78 => ?_)
    · exact absurd c78 (nI_pos (by omega))
    · refine lv_aload_n hx hb dX3_give_81 rfl (lv_at hl 2 rfl) ?_
      refine va_get (D := (dC, dI)) (ci := 3) (v := .ref (bd 4)) (C := RX3) (T := TX3) (N := 9) hx hb hts in_X3 hown hK hP 0 rfl rfl 3 (by decide) (hts _ q187) (fun _ h9 => h9) rfl dX3_give_82 ?_
      refine lv_aload_n hx hb dX3_give_85 rfl (lv_at hl 2 rfl) ?_
      refine va_get (D := (dC, dI)) (ci := 3) (v := .ref (bd 5)) (C := RX3) (T := TX3) (N := 9) hx hb hts in_X3 hown hK hP 0 rfl rfl 4 (by decide) (hts _ q188) (fun _ h9 => h9) rfl dX3_give_86 ?_
      refine lv_iload_n hx hb dX3_give_89 rfl (lv_at hl 0 rfl) ?_
      refine y_iald (j := j) hx hb hK hP 5 0 rfl rfl (rfl) (by omega) (by decide) dX3_give_90 ?_
      refine y_ti (y := nI (ordF n k E co j)) (hor j (by omega)) ?_
      refine lv_aload_n hx hb dX3_give_91 rfl (lv_at hl 2 rfl) ?_
      refine lv_aload_n hx hb dX3_give_92 rfl (lv_at hl 2 rfl) ?_
      refine va_get (D := (dC, dI)) (ci := 3) (v := .ref (bd 5)) (C := RX3) (T := TX3) (N := 9) hx hb hts in_X3 hown hK hP 0 rfl rfl 4 (by decide) (hts _ q188) (fun _ h9 => h9) rfl dX3_give_93 ?_
      refine lv_iload_n hx hb dX3_give_96 rfl (lv_at hl 0 rfl) ?_
      refine y_iald (j := j) hx hb hK hP 5 0 rfl rfl (rfl) (by omega) (by decide) dX3_give_97 ?_
      refine y_ti (y := nI (ordF n k E co j)) (hor j (by omega)) ?_
      refine vp_callSi (W.runV (As := [.int (nI (ordF n k E co j))]) (rest := [.int (nI (ordF n k E co j)), .ref (bd 4)]) ⟨hx, hb, hml, hown, hts⟩ (metM_colourFor l dC dI cI cZ bd n k (ordF n k E co j) mg E wi (colS n k E co wi tt) pairs costs wishes colours mrow mins hn hk hoj hEb hcl hwi hwil (fun v _ => colS_val tt v) hcur) (cwV 1 hts (lw_V q242 q244 qs7 q13 q245) rfl rfl rfl (by decide +kernel) ⟨Nat.le_of_ble_eq_true rfl, Nat.le_of_ble_eq_true rfl⟩) (y_preR hK hP (ci := 3) (q0 := 0) rfl rfl) rfl rfl hl.1 rfl (lv_room (Nat.le_of_ble_eq_true rfl)) dX3_give_98 ⟨Nat.zero_le _, Nat.zero_le _⟩) (fun r98 hr98 => ?_)
      refine y_ti (y := pnt n k E wi (colS n k E co wi tt) (ordF n k E co j)) (hr98) ?_
      have hcs : colS n k E co wi (tt + 1) = upd (colS n k E co wi tt) (ordF n k E co j) (pnt n k E wi (colS n k E co wi tt) (ordF n k E co j)) := by rw [colS_s, hj2]
      have hws : woS n k E co wi (tt + 1) = woS n k E co wi tt + (if pnt n k E wi (colS n k E co wi tt) (ordF n k E co j) = -1 then 1 else 0) := by
        show woS n k E co wi tt + (if pnt n k E wi (colS n k E co wi tt) (ordF n k E co (n - 1 - tt)) = -1 then 1 else 0) = _
        rw [hj2]
      have hpv : pnt n k E wi (colS n k E co wi tt) (ordF n k E co j) = -1 ∨ ∃ c, c < k ∧ pnt n k E wi (colS n k E co wi tt) (ordF n k E co j) = nI c := by
        have := colS_val (n := n) (k := k) (E := E) (co := co) (wi := wi) (tt + 1) (ordF n k E co j)
        rw [hcs, pk_us] at this
        exact this
      have hcl2 : ∀ v, v < n → upd colours (ordF n k E co j) (pnt n k E wi (colS n k E co wi tt) (ordF n k E co j)) v = colS n k E co wi (n - j) v := fun v hv => by
        rw [show n - j = tt + 1 by omega, hcs]
        by_cases e : v = ordF n k E co j
        · rw [e, pk_us, pk_us]
        · rw [pk_un e, pk_un e]
          exact hcl v hv
      refine y_iast (j := ordF n k E co j) hx hb hK hP hD hS 4 0 rfl rfl (rfl) (by omega) (by decide) dX3_give_101 (fun H locs hP hD hS => ?_)
      have hP : va_P (dC, dI) vwCl (wM bd cI cZ (nI n) (nI k) mg pairs costs wishes (upd colours (ordF n k E co j) (pnt n k E wi (colS n k E co wi tt) (ordF n k E co j))) mrow mins) H := hP
      have hD : va_D A (wM bd cI cZ (nI n) (nI k) mg pairs costs wishes (upd colours (ordF n k E co j) (pnt n k E wi (colS n k E co wi tt) (ordF n k E co j))) mrow mins) := hD
      refine lv_aload_n hx hb dX3_give_102 rfl (lv_at hl 2 rfl) ?_
      refine va_get (D := (dC, dI)) (ci := 3) (v := .ref (bd 4)) (C := RX3) (T := TX3) (N := 9) hx hb hts in_X3 hown hK hP 0 rfl rfl 3 (by decide) (hts _ q187) (fun _ h9 => h9) rfl dX3_give_103 ?_
      refine lv_aload_n hx hb dX3_give_106 rfl (lv_at hl 2 rfl) ?_
      refine va_get (D := (dC, dI)) (ci := 3) (v := .ref (bd 5)) (C := RX3) (T := TX3) (N := 9) hx hb hts in_X3 hown hK hP 0 rfl rfl 4 (by decide) (hts _ q188) (fun _ h9 => h9) rfl dX3_give_107 ?_
      refine lv_iload_n hx hb dX3_give_110 rfl (lv_at hl 0 rfl) ?_
      refine y_iald (j := j) hx hb hK hP 5 0 rfl rfl (rfl) (by omega) (by decide) dX3_give_111 ?_
      refine y_ti (y := nI (ordF n k E co j)) (hor j (by omega)) ?_
      refine y_iald (j := ordF n k E co j) hx hb hK hP 4 0 rfl rfl (rfl) (by omega) (by decide) dX3_give_112 ?_
      refine y_ti (y := pnt n k E wi (colS n k E co wi tt) (ordF n k E co j)) (pk_us) ?_
      refine lv_if_ge (tgt := 119) hx hb dX3_give_113 (by decide) (fun c113 => ?_) (fun c113 => ?_)
      · refine lv_iinc (v := dnI j) (lv' := [(2, .int (dnI j)), (1, .int (nI (woS n k E co wi tt))), (0, .ref (bd 0))]) hx hb dX3_give_119 hl (k := 0) rfl (dnI_step j) (by decide) rfl (fun ls hl => ?_)
        refine lv_goto (tgt := 77) hx hb dX3_give_122 (by decide) ?_
        exact ih _ _ _ ls (by omega) hcl2 hP hD hS (by rw [show n - j = tt + 1 by omega, hws, if_neg (col_ge c113), Nat.add_zero]; exact lv_sub hl [0, 1, 2] rfl)
      · refine lv_iinc (v := nI (woS n k E co wi tt + 1)) (lv' := [(1, .int (nI (woS n k E co wi tt + 1))), (2, .int (nI j)), (0, .ref (bd 0))]) hx hb dX3_give_116 hl (k := 1) rfl (nI_1 (woS n k E co wi tt)) (by decide) rfl (fun ls hl => ?_)
        refine lv_iinc (v := dnI j) (lv' := [(2, .int (dnI j)), (1, .int (nI (woS n k E co wi tt + 1))), (0, .ref (bd 0))]) hx hb dX3_give_119 hl (k := 1) rfl (dnI_step j) (by decide) rfl (fun ls hl => ?_)
        refine lv_goto (tgt := 77) hx hb dX3_give_122 (by decide) ?_
        exact ih _ _ _ ls (by omega) hcl2 hP hD hS (by rw [show n - j = tt + 1 by omega, hws, if_pos (col_npos hk.2 hpv c113)]; exact lv_sub hl [0, 1, 2] rfl)
set_option maxHeartbeats 4000000 in
set_option maxRecDepth 100000 in
theorem metM_give (l : Launch) (dC : Nat → ClassId) (dI : Nat → Nat → Nat) (cI cZ : ClassId) (sz : Nat) (bd : Nat → Nat) (n k : Nat) (E : Nat → Nat → Bool) (co wi : Nat → Nat) (g : Bool) (pairs costs wishes colours mrow mins : Nat → Int32) (hok : okA n k E co wi) (hC : MR n k E co wi g pairs costs wishes colours mrow) : Met l yX3_give (ws_ yX3_give cX3_give 3 (some .int)) rmB (va_Pc [.ref (bd 0)] (fun U => U.heap.size = sz ∧ va_P (dC, dI) vwCl (wM bd cI cZ (nI n) (nI k) (b2i g) pairs costs wishes colours mrow mins) U.heap ∧ va_K (dC, dI) vwCl (tyK cI cZ) U ∧ va_D (fun _ => True) (wM bd cI cZ (nI n) (nI k) (b2i g) pairs costs wishes colours mrow mins))) (va_Qi (fun (r : Int32) (_ : Unit) => r = giveA (n, k, E, co, wi, g)) (fun _ t => MW (dC, dI) (va_A (wM bd cI cZ (nI n) (nI k) (b2i g) pairs costs wishes colours mrow mins) sz) bd cI cZ (giveS (n, k, E, co, wi, g)) t) (va_A (wM bd cI cZ (nI n) (nI k) (b2i g) pairs costs wishes colours mrow mins) sz)) 0 0 (va_A (wM bd cI cZ (nI n) (nI k) (b2i g) pairs costs wishes colours mrow mins) sz) := by
  refine Met.ofW (cc := cX3_give) (maxL := 3) (ret := (some .int)) (by decide) rfl ?_
  intro p e s m args below meth c s₁ B hml hv
  obtain ⟨rfl, hsz, hP, hK, hD0⟩ := hv
  have hx := B.exec
  have hb := B.bytes
  have hr := B.returns
  have hlk := B.notSynchronized
  have hts := atoms_spec (ws := ws_ yX3_give cX3_give 3 (some .int)) B.pre
  have hts : ∀ w ∈ lw_all, w.before _ s = true := fun w h => hts w (List.mem_cons_of_mem _ h)
  have hown : s.vm.findClass RX3 = some m.cls := findClass_of_methodNamed B.named
  subst hsz
  have hD := hD0.self (sz := s.heap.size)
  generalize hAe : va_A (wM bd cI cZ (nI n) (nI k) (b2i g) pairs costs wishes colours mrow mins) s.heap.size = A at hD ⊢
  have hA : ∀ q : Nat, s.heap.size ≤ q → A q := fun q h => by rw [← hAe]; exact Or.inr h
  have hS : va_S A s.heap s.heap [] := va_S.rf
  have hl := lv_entry ([.ref (bd 0)]) (n := 3) (Nat.le_of_ble_eq_true rfl)
  rw [lg_entry_eq]
  generalize (lg_sl ([.ref (bd 0)]) ++ List.replicate (3 - (lg_sl ([.ref (bd 0)])).length) Slot.unset).toArray = ls at hl ⊢
  have hl : lv_has ls 3 [(0, .ref (bd 0))] := hl
  obtain ⟨hEb, hco, hwi, hgv⟩ := hC
  obtain ⟨hn, hk, hEl, hEs, hEr, hcol, hwil⟩ := hok
  refine lv_iconst (v := nI 0) hx hb dX3_give_0 (by decide) ?_
  refine lv_istore_n (lv' := [(1, .int (nI 0)), (0, .ref (bd 0))]) hx hb dX3_give_1 rfl hl (by decide) rfl (fun ls hl => ?_)
  refine lpM_give1 (E := E) (co := co) (wi := wi) hx hb hml hown hts hK hA hn.2 ?_ (n + 1) 0 colours mins _ _ ls (by omega) (by omega) (fun j hj => absurd hj (Nat.not_lt_zero j)) hP hD hS (lv_sub hl [0, 1] rfl)
  intro colours mins H locs ls hz hP hD hS hl
  have hc1 : ∀ j, j < n → colours j = colS n k E co wi 0 j := fun j hj => (hz j hj).2
  refine lv_iconst (v := nI 0) hx hb dX3_give_30 (by decide) ?_
  refine lv_istore_n (lv' := [(1, .int (nI 0)), (0, .ref (bd 0))]) hx hb dX3_give_31 rfl hl (by decide) rfl (fun ls hl => ?_)
  refine lpM_give2 (co := co) (wi := wi) hx hb hml hown hts hK hA hn.2 hk hEb hco hcol ?_ (n + 1) 0 mrow mins _ _ ls (by omega) (by omega) (fun j hj => by rw [(hz j hj).1, inS_0, decide_eq_true hj]) (fun j hj => absurd hj (Nat.not_lt_zero j)) hP hD hS (lv_sub hl [0, 1] rfl)
  intro mrow mins H locs ls hor hP hD hS hl
  refine lv_iconst (v := nI 0) hx hb dX3_give_68 (by decide) ?_
  refine lv_istore_n (lv' := [(1, .int (nI 0)), (0, .ref (bd 0))]) hx hb dX3_give_69 rfl hl (by decide) rfl (fun ls hl => ?_)
  refine lv_aload_n hx hb dX3_give_70 rfl (lv_at hl 1 rfl) ?_
  refine va_get (D := (dC, dI)) (ci := 3) (v := .int (nI n)) (C := RX3) (T := TX3) (N := 9) hx hb hts in_X3 hown hK hP 0 rfl rfl 6 (by decide) (hts _ q190) (fun _ h9 => h9) rfl dX3_give_71 ?_
  refine lv_iconst (v := nI 1) hx hb dX3_give_74 (by decide) ?_
  refine lv_isub hx hb dX3_give_75 ?_
  refine y_ti (y := dnI n) (dnI_start hn.1) ?_
  refine lv_istore_n (lv' := [(2, .int (dnI n)), (1, .int (nI 0)), (0, .ref (bd 0))]) hx hb dX3_give_76 rfl hl (by decide) rfl (fun ls hl => ?_)
  refine lpM_give3 (co := co) (wi := wi) hx hb hml hown hts hK hA hn.2 hk hEb hwi hwil hor ?_ n colours _ _ ls (Nat.le_refl n) (fun j hj => by rw [Nat.sub_self]; exact hc1 j hj) hP hD hS (by rw [Nat.sub_self]; exact lv_sub hl [0, 1, 2] rfl)
  intro colours H locs ls hcl hP hD hS hl
  refine lv_aload_n hx hb dX3_give_125 rfl (lv_at hl 1 rfl) ?_
  refine lv_iconst (v := b2i true) hx hb dX3_give_126 (by decide) ?_
  refine va_put (D := (dC, dI)) (ci := 3) (v := .int (b2i true)) (ty := .boolean) (C := RX3) (T := TX3) (N := 9) hx hb hts in_X3 tyX3 tyX3_ok nmX3 hown hK hP hD hS 0 rfl rfl 8 (by decide) (hts _ q192) (fun _ h9 => h9) rfl (by decide +kernel) (b2i_zn _) (b2i_fit _) (Nat.le_of_ble_eq_true rfl) dX3_give_127 (fun H locs hP hD hS => ?_)
  have hP : va_P (dC, dI) vwCl (wM bd cI cZ (nI n) (nI k) (b2i true) pairs costs wishes colours mrow mins) H := hP
  have hD : va_D A (wM bd cI cZ (nI n) (nI k) (b2i true) pairs costs wishes colours mrow mins) := hD
  refine lv_iload_n hx hb dX3_give_130 rfl (lv_at hl 0 rfl) ?_
  exact W.iret hx hb hr (fun t ht hW => ⟨⟨_, (), rfl, rfl, MW_at (st2 := (n, k, E, co, wi, true)) rfl (MW_mk (by rw [ht]; exact hP) (va_K.moved hW.alike hK) hD ⟨hEb, hco, hwi, fun _ j hj => ⟨hor j hj, hcl j hj⟩⟩)⟩, hS.F ht⟩) hS.2.2 dX3_give_131
end
section
/-! the constructors -/
abbrev rmE1 : Room := { frames := 1, cells := 1, slots := 1400, locals := 30 }
abbrev rmH1 : Room := { frames := 1, cells := 1, slots := 200, locals := 30 }
abbrev rmC1 : Room := { frames := 2, cells := 11, slots := 3003, locals := 60 }
abbrev rmM1 : Room := { frames := 1, cells := 6, slots := 41000, locals := 30 }
abbrev adF (a0 a1 a2 a3 a4 a5 a6 a7 a8 a9 a10 a11 : Nat) : Nat → Nat := fun k => match k with
  | 0 => a0
  | 1 => a1
  | 2 => a2
  | 3 => a3
  | 4 => a4
  | 5 => a5
  | 6 => a6
  | 7 => a7
  | 8 => a8
  | 9 => a9
  | 10 => a10
  | _ => a11
abbrev bdF (a0 a1 a2 a3 a4 a5 a6 : Nat) : Nat → Nat := fun k => match k with
  | 0 => a0
  | 1 => a1
  | 2 => a2
  | 3 => a3
  | 4 => a4
  | 5 => a5
  | _ => a6
abbrev st0 : AS := (1, 1, fun _ _ => false, fun _ => 0, fun a => a, false)
theorem okS_0 : okS st0 := ⟨⟨Nat.le_refl 1, by decide⟩, ⟨Nat.le_refl 1, by decide⟩, fun _ _ h => (by cases h), fun _ _ => rfl, fun _ => rfl, fun _ _ => Nat.zero_le _, fun _ h => h⟩
abbrev nw1 : Cond := Cond.methodLinkNest "PointColours" 18 yX1_init "PointColours"
abbrev nw2 : Cond := Cond.methodLinkNest "PointColours" 25 yX2_init "PointColours"
section CTP
variable {s : State} {H : Heap} {D : va_G} {cl : List vw_C} {A : Nat → Prop} {tys : List (ClassId × FieldType)} {ws : va_W}
theorem y_preN {b : Nat} {As : List Value} (hK : va_K D cl tys s) (hP : va_P D cl ws H) (hD : va_D A ws) (h1 : va_Nw nw1 s) (h2 : va_Nw nw2 s) : PreS s H (va_Pc (.ref b :: As) (fun U => U.heap.size = H.size ∧ va_P D cl ws U.heap ∧ va_K D cl tys U ∧ va_D (fun _ => True) ws ∧ va_Nw nw1 U ∧ va_Nw nw2 U)) (.ref b :: As) :=
  ⟨fun a U g mk z => by obtain ⟨q0, q1, qP, qK, qD, z1, z2⟩ := z; exact ⟨q0, q1, qP, va_K.moved (u := U) (U := U.calling g mk a) (Vm.Alike.refl U.vm) qK, qD, va_Nw.same (u := U) (U := U.calling g mk a) rfl rfl z1, va_Nw.same (u := U) (U := U.calling g mk a) rfl rfl z2⟩, fun U hU hW => ⟨rfl, by rw [hU], by rw [hU]; exact hP, va_K.moved hW.alike hK, hD.weaken (fun _ _ _ _ => trivial), va_Nw.warmM hW h1, va_Nw.warmM hW h2⟩⟩
end CTP
set_option maxHeartbeats 4000000 in
set_option maxRecDepth 100000 in
theorem metE_init (l : Launch) (dC : Nat → ClassId) (dI : Nat → Nat → Nat) (cI cZ : ClassId) (sz : Nat) (a : Nat) : Met l yX1_init (ws_ yX1_init cX1_init 1 (none)) rmE1 (va_Pc [.ref a] (fun U => U.heap.size = sz ∧ va_P (dC, dI) vwCl ([(a, .inr (1, [.null]))]) U.heap ∧ va_K (dC, dI) vwCl (tyK cI cZ) U ∧ va_D (fun _ => True) ([(a, .inr (1, [.null]))]))) (va_Qv (fun (_ : Nat) => True) (fun q t => va_P (dC, dI) vwCl (wE a q cI (fun _ => 0)) t.heap ∧ va_K (dC, dI) vwCl (tyK cI cZ) t ∧ va_D (va_A ([(a, .inr (1, [.null]))]) sz) (wE a q cI (fun _ => 0))) (va_A ([(a, .inr (1, [.null]))]) sz)) 1 1400 (va_A ([(a, .inr (1, [.null]))]) sz) := by
  refine Met.ofW (cc := cX1_init) (maxL := 1) (ret := none) (by decide) rfl ?_
  intro p e s m args below meth c s₁ B hml hv
  obtain ⟨rfl, hsz, hP, hK, hD0⟩ := hv
  have hx := B.exec
  have hb := B.bytes
  have hr := B.returns
  have hlk := B.notSynchronized
  have hts := atoms_spec (ws := ws_ yX1_init cX1_init 1 (none)) B.pre
  have hts : ∀ w ∈ lw_all, w.before _ s = true := fun w h => hts w (List.mem_cons_of_mem _ h)
  have hown : s.vm.findClass RX1 = some m.cls := findClass_of_methodNamed B.named
  subst hsz
  have hD := hD0.self (sz := s.heap.size)
  generalize hAe : va_A ([(a, .inr (1, [.null]))]) s.heap.size = A at hD ⊢
  have hA : ∀ q : Nat, s.heap.size ≤ q → A q := fun q h => by rw [← hAe]; exact Or.inr h
  have hS : va_S A s.heap s.heap [] := va_S.rf
  have hl := lv_entry ([.ref a]) (n := 1) (Nat.le_of_ble_eq_true rfl)
  rw [lg_entry_eq]
  generalize (lg_sl ([.ref a]) ++ List.replicate (1 - (lg_sl ([.ref a])).length) Slot.unset).toArray = ls at hl ⊢
  have hl : lv_has ls 1 [(0, .ref a)] := hl
  have hin : meth.name = "<init>" := (name_of_methodNamed B.named B.method).1
  refine lv_aload_n hx hb dX1_init_0 rfl (lv_at hl 0 rfl) ?_
  refine W.objInit hx hb hown (hts _ q27) (hts _ q20) (hts _ q21) rfl (by rw [hml]; exact hl.1) rfl dX1_init_1 (Nat.le_of_ble_eq_true rfl) (Nat.le_of_ble_eq_true rfl) ?_
  refine W.eq (g2 := F0 m 4 ls []) rfl ?_
  refine lv_aload_n hx hb dX1_init_4 rfl (lv_at hl 0 rfl) ?_
  refine lv_sipush (v := nI 1400) hx hb dX1_init_5 (by decide) ?_
  refine va_newa (atype := .int) (ty := .int) (N' := 1400) (a0 := (1400, .inl (fun _ => 0))) hx hb (hts _ q32) rfl hK hP hD hS hA (fun _ => rfl) (by decide) (by decide) (by decide) (Nat.le_of_ble_eq_true rfl) (Nat.le_of_ble_eq_true rfl) dX1_init_8 (fun q cA H hK2 hP hD hS => ?_)
  obtain rfl : cI = cA := y_oneI hK2 (i := 0) (j := 2) rfl rfl
  have hP : va_P (dC, dI) vwCl ([(a, .inr (1, [.null])), (q, .inl (cI, 1400, .inl (fun _ => 0)))]) H := hP
  have hD : va_D A ([(a, .inr (1, [.null])), (q, .inl (cI, 1400, .inl (fun _ => 0)))]) := hD
  refine va_putF (D := (dC, dI)) (ci := 1) (v := .ref q) (ty := .array .int) (C := RX1) (T := TX1) (N := 1) hx hb hts in_X1 tyX1 tyX1_ok nmX1 hown hK hP hD hS 0 rfl rfl 0 (by decide) (hts _ q28) (fun _ h9 => h9) rfl hin rfl (by decide +kernel) rfl rfl (Nat.le_of_ble_eq_true rfl) dX1_init_10 (fun H locs hP hD hS => ?_)
  have hP : va_P (dC, dI) vwCl ([(a, .inr (1, [.ref q])), (q, .inl (cI, 1400, .inl (fun _ => 0)))]) H := hP
  have hD : va_D A ([(a, .inr (1, [.ref q])), (q, .inl (cI, 1400, .inl (fun _ => 0)))]) := hD
  exact W.vret hx hb hr (fun t ht hW => ⟨⟨q, rfl, trivial, by rw [ht]; exact hP, va_K.moved hW.alike hK, hD⟩, hS.F ht⟩) hS.2.2 dX1_init_13
set_option maxHeartbeats 4000000 in
set_option maxRecDepth 100000 in
theorem metH_init (l : Launch) (dC : Nat → ClassId) (dI : Nat → Nat → Nat) (cI cZ : ClassId) (sz : Nat) (a : Nat) : Met l yX2_init (ws_ yX2_init cX2_init 1 (none)) rmH1 (va_Pc [.ref a] (fun U => U.heap.size = sz ∧ va_P (dC, dI) vwCl ([(a, .inr (2, [.null, .int 0]))]) U.heap ∧ va_K (dC, dI) vwCl (tyK cI cZ) U ∧ va_D (fun _ => True) ([(a, .inr (2, [.null, .int 0]))]))) (va_Qv (fun (_ : Nat) => True) (fun q t => va_P (dC, dI) vwCl (wH a q cI 0 (fun _ => 0)) t.heap ∧ va_K (dC, dI) vwCl (tyK cI cZ) t ∧ va_D (va_A ([(a, .inr (2, [.null, .int 0]))]) sz) (wH a q cI 0 (fun _ => 0))) (va_A ([(a, .inr (2, [.null, .int 0]))]) sz)) 1 200 (va_A ([(a, .inr (2, [.null, .int 0]))]) sz) := by
  refine Met.ofW (cc := cX2_init) (maxL := 1) (ret := none) (by decide) rfl ?_
  intro p e s m args below meth c s₁ B hml hv
  obtain ⟨rfl, hsz, hP, hK, hD0⟩ := hv
  have hx := B.exec
  have hb := B.bytes
  have hr := B.returns
  have hlk := B.notSynchronized
  have hts := atoms_spec (ws := ws_ yX2_init cX2_init 1 (none)) B.pre
  have hts : ∀ w ∈ lw_all, w.before _ s = true := fun w h => hts w (List.mem_cons_of_mem _ h)
  have hown : s.vm.findClass RX2 = some m.cls := findClass_of_methodNamed B.named
  subst hsz
  have hD := hD0.self (sz := s.heap.size)
  generalize hAe : va_A ([(a, .inr (2, [.null, .int 0]))]) s.heap.size = A at hD ⊢
  have hA : ∀ q : Nat, s.heap.size ≤ q → A q := fun q h => by rw [← hAe]; exact Or.inr h
  have hS : va_S A s.heap s.heap [] := va_S.rf
  have hl := lv_entry ([.ref a]) (n := 1) (Nat.le_of_ble_eq_true rfl)
  rw [lg_entry_eq]
  generalize (lg_sl ([.ref a]) ++ List.replicate (1 - (lg_sl ([.ref a])).length) Slot.unset).toArray = ls at hl ⊢
  have hl : lv_has ls 1 [(0, .ref a)] := hl
  have hin : meth.name = "<init>" := (name_of_methodNamed B.named B.method).1
  refine lv_aload_n hx hb dX2_init_0 rfl (lv_at hl 0 rfl) ?_
  refine W.objInit hx hb hown (hts _ q38) (hts _ q20) (hts _ q21) rfl (by rw [hml]; exact hl.1) rfl dX2_init_1 (Nat.le_of_ble_eq_true rfl) (Nat.le_of_ble_eq_true rfl) ?_
  refine W.eq (g2 := F0 m 4 ls []) rfl ?_
  refine lv_aload_n hx hb dX2_init_4 rfl (lv_at hl 0 rfl) ?_
  refine lv_sipush (v := nI 200) hx hb dX2_init_5 (by decide) ?_
  refine va_newa (atype := .int) (ty := .int) (N' := 200) (a0 := (200, .inl (fun _ => 0))) hx hb (hts _ q32) rfl hK hP hD hS hA (fun _ => rfl) (by decide) (by decide) (by decide) (Nat.le_of_ble_eq_true rfl) (Nat.le_of_ble_eq_true rfl) dX2_init_8 (fun q cA H hK2 hP hD hS => ?_)
  obtain rfl : cI = cA := y_oneI hK2 (i := 0) (j := 2) rfl rfl
  have hP : va_P (dC, dI) vwCl ([(a, .inr (2, [.null, .int 0])), (q, .inl (cI, 200, .inl (fun _ => 0)))]) H := hP
  have hD : va_D A ([(a, .inr (2, [.null, .int 0])), (q, .inl (cI, 200, .inl (fun _ => 0)))]) := hD
  refine va_putF (D := (dC, dI)) (ci := 2) (v := .ref q) (ty := .array .int) (C := RX2) (T := TX2) (N := 2) hx hb hts in_X2 tyX2 tyX2_ok nmX2 hown hK hP hD hS 0 rfl rfl 0 (by decide) (hts _ q39) (fun _ h9 => h9) rfl hin rfl (by decide +kernel) rfl rfl (Nat.le_of_ble_eq_true rfl) dX2_init_10 (fun H locs hP hD hS => ?_)
  have hP : va_P (dC, dI) vwCl ([(a, .inr (2, [.ref q, .int 0])), (q, .inl (cI, 200, .inl (fun _ => 0)))]) H := hP
  have hD : va_D A ([(a, .inr (2, [.ref q, .int 0])), (q, .inl (cI, 200, .inl (fun _ => 0)))]) := hD
  exact W.vret hx hb hr (fun t ht hW => ⟨⟨q, rfl, trivial, by rw [ht]; exact hP, va_K.moved hW.alike hK, hD⟩, hS.F ht⟩) hS.2.2 dX2_init_13
set_option maxHeartbeats 4000000 in
set_option maxRecDepth 100000 in
theorem metC_init (l : Launch) (dC : Nat → ClassId) (dI : Nat → Nat → Nat) (cI cZ : ClassId) (sz : Nat) (h0 : Nat) : Met l yX0_init (ws_ yX0_init cX0_init 1 (none)) rmC1 (va_Pc [.ref h0] (fun U => U.heap.size = sz ∧ va_P (dC, dI) vwCl ([(h0, .inr (0, [.int 0, .int 0, .null, .null, .null, .null, .null, .null, .null, .null, .null, .int 0]))]) U.heap ∧ va_K (dC, dI) vwCl (tyK cI cZ) U ∧ va_D (fun _ => True) ([(h0, .inr (0, [.int 0, .int 0, .null, .null, .null, .null, .null, .null, .null, .null, .null, .int 0]))]) ∧ va_Nw nw1 U ∧ va_Nw nw2 U)) (va_Qv (fun (ad : Nat → Nat) => ad 0 = h0) (fun ad t => CW (dC, dI) (va_A ([(h0, .inr (0, [.int 0, .int 0, .null, .null, .null, .null, .null, .null, .null, .null, .null, .int 0]))]) sz) ad cI cZ st0 t) (va_A ([(h0, .inr (0, [.int 0, .int 0, .null, .null, .null, .null, .null, .null, .null, .null, .null, .int 0]))]) sz)) 11 3003 (va_A ([(h0, .inr (0, [.int 0, .int 0, .null, .null, .null, .null, .null, .null, .null, .null, .null, .int 0]))]) sz) := by
  refine Met.ofW (cc := cX0_init) (maxL := 1) (ret := none) (by decide) rfl ?_
  intro p e s m args below meth c s₁ B hml hv
  obtain ⟨rfl, hsz, hP, hK, hD0, hN1, hN2⟩ := hv
  have hx := B.exec
  have hb := B.bytes
  have hr := B.returns
  have hlk := B.notSynchronized
  have hts := atoms_spec (ws := ws_ yX0_init cX0_init 1 (none)) B.pre
  have hts : ∀ w ∈ lw_all, w.before _ s = true := fun w h => hts w (List.mem_cons_of_mem _ h)
  have hown : s.vm.findClass RX0 = some m.cls := findClass_of_methodNamed B.named
  subst hsz
  have hD := hD0.self (sz := s.heap.size)
  generalize hAe : va_A ([(h0, .inr (0, [.int 0, .int 0, .null, .null, .null, .null, .null, .null, .null, .null, .null, .int 0]))]) s.heap.size = A at hD ⊢
  have hA : ∀ q : Nat, s.heap.size ≤ q → A q := fun q h => by rw [← hAe]; exact Or.inr h
  have hS : va_S A s.heap s.heap [] := va_S.rf
  have hl := lv_entry ([.ref h0]) (n := 1) (Nat.le_of_ble_eq_true rfl)
  rw [lg_entry_eq]
  generalize (lg_sl ([.ref h0]) ++ List.replicate (1 - (lg_sl ([.ref h0])).length) Slot.unset).toArray = ls at hl ⊢
  have hl : lv_has ls 1 [(0, .ref h0)] := hl
  have hin : meth.name = "<init>" := (name_of_methodNamed B.named B.method).1
  refine lv_aload_n hx hb dX0_init_0 rfl (lv_at hl 0 rfl) ?_
  refine W.objInit hx hb hown (hts _ q19) (hts _ q20) (hts _ q21) rfl (by rw [hml]; exact hl.1) rfl dX0_init_1 (Nat.le_of_ble_eq_true rfl) (Nat.le_of_ble_eq_true rfl) ?_
  refine W.eq (g2 := F0 m 4 ls []) rfl ?_
  refine lv_aload_n hx hb dX0_init_4 rfl (lv_at hl 0 rfl) ?_
  refine lv_iconst (v := nI 1) hx hb dX0_init_5 (by decide) ?_
  refine va_put (D := (dC, dI)) (ci := 0) (v := .int (nI 1)) (ty := .int) (C := RX0) (T := TX0) (N := 12) hx hb hts in_X0 tyX0 tyX0_ok nmX0 hown hK hP hD hS 0 rfl rfl 0 (by decide) (hts _ q46) (fun _ h9 => h9) rfl (by decide +kernel) rfl rfl (Nat.le_of_ble_eq_true rfl) dX0_init_6 (fun H locs hP hD hS => ?_)
  have hP : va_P (dC, dI) vwCl ([(h0, .inr (0, [.int (nI 1), .int 0, .null, .null, .null, .null, .null, .null, .null, .null, .null, .int 0]))]) H := hP
  have hD : va_D A ([(h0, .inr (0, [.int (nI 1), .int 0, .null, .null, .null, .null, .null, .null, .null, .null, .null, .int 0]))]) := hD
  refine lv_aload_n hx hb dX0_init_9 rfl (lv_at hl 0 rfl) ?_
  refine lv_iconst (v := nI 1) hx hb dX0_init_10 (by decide) ?_
  refine va_put (D := (dC, dI)) (ci := 0) (v := .int (nI 1)) (ty := .int) (C := RX0) (T := TX0) (N := 12) hx hb hts in_X0 tyX0 tyX0_ok nmX0 hown hK hP hD hS 0 rfl rfl 1 (by decide) (hts _ q47) (fun _ h9 => h9) rfl (by decide +kernel) rfl rfl (Nat.le_of_ble_eq_true rfl) dX0_init_11 (fun H locs hP hD hS => ?_)
  have hP : va_P (dC, dI) vwCl ([(h0, .inr (0, [.int (nI 1), .int (nI 1), .null, .null, .null, .null, .null, .null, .null, .null, .null, .int 0]))]) H := hP
  have hD : va_D A ([(h0, .inr (0, [.int (nI 1), .int (nI 1), .null, .null, .null, .null, .null, .null, .null, .null, .null, .int 0]))]) := hD
  refine lv_aload_n hx hb dX0_init_14 rfl (lv_at hl 0 rfl) ?_
  refine va_new (ci := 1) (fs := [.null]) (C := RX1) (T := TX1) (N := 1) hx hb hts in_X1 tyX1 tyX1_ok hown (hts _ q22) (hts _ q23) (hts _ q11) hK hP hD hS hA rfl (fun j hj => by rcases (show j = 0 by omega) with rfl <;> rfl) (Nat.le_of_ble_eq_true rfl) (Nat.le_of_ble_eq_true rfl) dX0_init_15 (fun q1 H hP hD hS => ?_)
  have hP : va_P (dC, dI) vwCl ([(h0, .inr (0, [.int (nI 1), .int (nI 1), .null, .null, .null, .null, .null, .null, .null, .null, .null, .int 0])), (q1, .inr (1, [.null]))]) H := hP
  have hD : va_D A ([(h0, .inr (0, [.int (nI 1), .int (nI 1), .null, .null, .null, .null, .null, .null, .null, .null, .null, .int 0])), (q1, .inr (1, [.null]))]) := hD
  refine lv_dup hx hb dX0_init_18 rfl ?_
  have hPc := hP.sub (ws' := [(q1, .inr (1, [.null]))]) [1] rfl
  have hDc := hD.sub (ws' := [(q1, .inr (1, [.null]))]) [1] (by decide) rfl
  have hFc := va_free (wc := [(q1, .inr (1, [.null]))]) hD hS hA [1] rfl
  refine va_callv (va_runIN (As := []) (rest := [.ref q1, .ref h0]) ⟨hx, hb, hml, hown, hts⟩ (metE_init l dC dI cI cZ H.size q1) ⟨va_cnB 0 hts (lw_meth q26) rfl rfl rfl hN1 (hts _ q11) (by decide +kernel) ⟨Nat.le_of_ble_eq_true rfl, Nat.le_of_ble_eq_true rfl⟩, rfl, hts _ q25⟩ (y_preI hK hPc hDc) rfl rfl hl.1 rfl (lv_room (Nat.le_of_ble_eq_true rfl)) dX0_init_19 ⟨Nat.le_of_ble_eq_true rfl, Nat.le_of_ble_eq_true rfl⟩) hS (fun q _ h => hFc q h) hFc (fun q2 t H1 locs ht hvm hw hB hz1 hk1 hS => ?_)
  obtain ⟨hP1, hK1, hD1⟩ := hB
  rw [ht] at hP1
  obtain ⟨hP, hD⟩ := va_join (wr := [(h0, .inr (0, [.int (nI 1), .int (nI 1), .null, .null, .null, .null, .null, .null, .null, .null, .null, .int 0]))]) (w1 := wE q1 q2 cI (fun _ => 0)) hP hD [1] [0] rfl rfl (by decide) (by decide) hk1 hFc hP1 hD1
  generalize H1 = H at hP hS ⊢
  have hP : va_P (dC, dI) vwCl ([(h0, .inr (0, [.int (nI 1), .int (nI 1), .null, .null, .null, .null, .null, .null, .null, .null, .null, .int 0])), (q1, .inr (1, [.ref q2])), (q2, .inl (cI, 1400, .inl (fun _ => 0)))]) H := hP
  have hD : va_D A ([(h0, .inr (0, [.int (nI 1), .int (nI 1), .null, .null, .null, .null, .null, .null, .null, .null, .null, .int 0])), (q1, .inr (1, [.ref q2])), (q2, .inl (cI, 1400, .inl (fun _ => 0)))]) := hD
  refine va_putF (D := (dC, dI)) (ci := 0) (v := .ref q1) (ty := .object "PointColours$Edges") (C := RX0) (T := TX0) (N := 12) hx hb hts in_X0 tyX0 tyX0_ok nmX0 hown hK hP hD hS 0 rfl rfl 2 (by decide) (hts _ q48) (fun _ h9 => h9) rfl hin rfl (by decide +kernel) rfl rfl (Nat.le_of_ble_eq_true rfl) dX0_init_22 (fun H locs hP hD hS => ?_)
  have hP : va_P (dC, dI) vwCl ([(h0, .inr (0, [.int (nI 1), .int (nI 1), .ref q1, .null, .null, .null, .null, .null, .null, .null, .null, .int 0])), (q1, .inr (1, [.ref q2])), (q2, .inl (cI, 1400, .inl (fun _ => 0)))]) H := hP
  have hD : va_D A ([(h0, .inr (0, [.int (nI 1), .int (nI 1), .ref q1, .null, .null, .null, .null, .null, .null, .null, .null, .int 0])), (q1, .inr (1, [.ref q2])), (q2, .inl (cI, 1400, .inl (fun _ => 0)))]) := hD
  refine lv_aload_n hx hb dX0_init_25 rfl (lv_at hl 0 rfl) ?_
  refine va_new (ci := 2) (fs := [.null, .int 0]) (C := RX2) (T := TX2) (N := 2) hx hb hts in_X2 tyX2 tyX2_ok hown (hts _ q33) (hts _ q34) (hts _ q12) hK hP hD hS hA rfl (fun j hj => by rcases (show j = 0 ∨ j = 1 by omega) with rfl | rfl <;> rfl) (Nat.le_of_ble_eq_true rfl) (Nat.le_of_ble_eq_true rfl) dX0_init_26 (fun q3 H hP hD hS => ?_)
  have hP : va_P (dC, dI) vwCl ([(h0, .inr (0, [.int (nI 1), .int (nI 1), .ref q1, .null, .null, .null, .null, .null, .null, .null, .null, .int 0])), (q1, .inr (1, [.ref q2])), (q2, .inl (cI, 1400, .inl (fun _ => 0))), (q3, .inr (2, [.null, .int 0]))]) H := hP
  have hD : va_D A ([(h0, .inr (0, [.int (nI 1), .int (nI 1), .ref q1, .null, .null, .null, .null, .null, .null, .null, .null, .int 0])), (q1, .inr (1, [.ref q2])), (q2, .inl (cI, 1400, .inl (fun _ => 0))), (q3, .inr (2, [.null, .int 0]))]) := hD
  refine lv_dup hx hb dX0_init_29 rfl ?_
  have hPc := hP.sub (ws' := [(q3, .inr (2, [.null, .int 0]))]) [3] rfl
  have hDc := hD.sub (ws' := [(q3, .inr (2, [.null, .int 0]))]) [3] (by decide) rfl
  have hFc := va_free (wc := [(q3, .inr (2, [.null, .int 0]))]) hD hS hA [3] rfl
  refine va_callv (va_runIN (As := []) (rest := [.ref q3, .ref h0]) ⟨hx, hb, hml, hown, hts⟩ (metH_init l dC dI cI cZ H.size q3) ⟨va_cnB 0 hts (lw_meth q37) rfl rfl rfl hN2 (hts _ q12) (by decide +kernel) ⟨Nat.le_of_ble_eq_true rfl, Nat.le_of_ble_eq_true rfl⟩, rfl, hts _ q36⟩ (y_preI hK hPc hDc) rfl rfl hl.1 rfl (lv_room (Nat.le_of_ble_eq_true rfl)) dX0_init_30 ⟨Nat.le_of_ble_eq_true rfl, Nat.le_of_ble_eq_true rfl⟩) hS (fun q _ h => hFc q h) hFc (fun q4 t H1 locs ht hvm hw hB hz1 hk1 hS => ?_)
  obtain ⟨hP1, hK1, hD1⟩ := hB
  rw [ht] at hP1
  obtain ⟨hP, hD⟩ := va_join (wr := [(h0, .inr (0, [.int (nI 1), .int (nI 1), .ref q1, .null, .null, .null, .null, .null, .null, .null, .null, .int 0])), (q1, .inr (1, [.ref q2])), (q2, .inl (cI, 1400, .inl (fun _ => 0)))]) (w1 := wH q3 q4 cI 0 (fun _ => 0)) hP hD [3] [0, 1, 2] rfl rfl (by decide) (by decide) hk1 hFc hP1 hD1
  generalize H1 = H at hP hS ⊢
  have hP : va_P (dC, dI) vwCl ([(h0, .inr (0, [.int (nI 1), .int (nI 1), .ref q1, .null, .null, .null, .null, .null, .null, .null, .null, .int 0])), (q1, .inr (1, [.ref q2])), (q2, .inl (cI, 1400, .inl (fun _ => 0))), (q3, .inr (2, [.ref q4, .int 0])), (q4, .inl (cI, 200, .inl (fun _ => 0)))]) H := hP
  have hD : va_D A ([(h0, .inr (0, [.int (nI 1), .int (nI 1), .ref q1, .null, .null, .null, .null, .null, .null, .null, .null, .int 0])), (q1, .inr (1, [.ref q2])), (q2, .inl (cI, 1400, .inl (fun _ => 0))), (q3, .inr (2, [.ref q4, .int 0])), (q4, .inl (cI, 200, .inl (fun _ => 0)))]) := hD
  refine va_putF (D := (dC, dI)) (ci := 0) (v := .ref q3) (ty := .object "PointColours$Heap") (C := RX0) (T := TX0) (N := 12) hx hb hts in_X0 tyX0 tyX0_ok nmX0 hown hK hP hD hS 0 rfl rfl 3 (by decide) (hts _ q49) (fun _ h9 => h9) rfl hin rfl (by decide +kernel) rfl rfl (Nat.le_of_ble_eq_true rfl) dX0_init_33 (fun H locs hP hD hS => ?_)
  have hP : va_P (dC, dI) vwCl ([(h0, .inr (0, [.int (nI 1), .int (nI 1), .ref q1, .ref q3, .null, .null, .null, .null, .null, .null, .null, .int 0])), (q1, .inr (1, [.ref q2])), (q2, .inl (cI, 1400, .inl (fun _ => 0))), (q3, .inr (2, [.ref q4, .int 0])), (q4, .inl (cI, 200, .inl (fun _ => 0)))]) H := hP
  have hD : va_D A ([(h0, .inr (0, [.int (nI 1), .int (nI 1), .ref q1, .ref q3, .null, .null, .null, .null, .null, .null, .null, .int 0])), (q1, .inr (1, [.ref q2])), (q2, .inl (cI, 1400, .inl (fun _ => 0))), (q3, .inr (2, [.ref q4, .int 0])), (q4, .inl (cI, 200, .inl (fun _ => 0)))]) := hD
  refine lv_aload_n hx hb dX0_init_36 rfl (lv_at hl 0 rfl) ?_
  refine lv_sipush (v := nI 200) hx hb dX0_init_37 (by decide) ?_
  refine va_newa (atype := .int) (ty := .int) (N' := 200) (a0 := (200, .inl (fun _ => 0))) hx hb (hts _ q32) rfl hK hP hD hS hA (fun _ => rfl) (by decide) (by decide) (by decide) (Nat.le_of_ble_eq_true rfl) (Nat.le_of_ble_eq_true rfl) dX0_init_40 (fun q5 cA H hK2 hP hD hS => ?_)
  obtain rfl : cI = cA := y_oneI hK2 (i := 0) (j := 2) rfl rfl
  have hP : va_P (dC, dI) vwCl ([(h0, .inr (0, [.int (nI 1), .int (nI 1), .ref q1, .ref q3, .null, .null, .null, .null, .null, .null, .null, .int 0])), (q1, .inr (1, [.ref q2])), (q2, .inl (cI, 1400, .inl (fun _ => 0))), (q3, .inr (2, [.ref q4, .int 0])), (q4, .inl (cI, 200, .inl (fun _ => 0))), (q5, .inl (cI, 200, .inl (fun _ => 0)))]) H := hP
  have hD : va_D A ([(h0, .inr (0, [.int (nI 1), .int (nI 1), .ref q1, .ref q3, .null, .null, .null, .null, .null, .null, .null, .int 0])), (q1, .inr (1, [.ref q2])), (q2, .inl (cI, 1400, .inl (fun _ => 0))), (q3, .inr (2, [.ref q4, .int 0])), (q4, .inl (cI, 200, .inl (fun _ => 0))), (q5, .inl (cI, 200, .inl (fun _ => 0)))]) := hD
  refine va_putF (D := (dC, dI)) (ci := 0) (v := .ref q5) (ty := .array .int) (C := RX0) (T := TX0) (N := 12) hx hb hts in_X0 tyX0 tyX0_ok nmX0 hown hK hP hD hS 0 rfl rfl 4 (by decide) (hts _ q50) (fun _ h9 => h9) rfl hin rfl (by decide +kernel) rfl rfl (Nat.le_of_ble_eq_true rfl) dX0_init_42 (fun H locs hP hD hS => ?_)
  have hP : va_P (dC, dI) vwCl ([(h0, .inr (0, [.int (nI 1), .int (nI 1), .ref q1, .ref q3, .ref q5, .null, .null, .null, .null, .null, .null, .int 0])), (q1, .inr (1, [.ref q2])), (q2, .inl (cI, 1400, .inl (fun _ => 0))), (q3, .inr (2, [.ref q4, .int 0])), (q4, .inl (cI, 200, .inl (fun _ => 0))), (q5, .inl (cI, 200, .inl (fun _ => 0)))]) H := hP
  have hD : va_D A ([(h0, .inr (0, [.int (nI 1), .int (nI 1), .ref q1, .ref q3, .ref q5, .null, .null, .null, .null, .null, .null, .int 0])), (q1, .inr (1, [.ref q2])), (q2, .inl (cI, 1400, .inl (fun _ => 0))), (q3, .inr (2, [.ref q4, .int 0])), (q4, .inl (cI, 200, .inl (fun _ => 0))), (q5, .inl (cI, 200, .inl (fun _ => 0)))]) := hD
  refine lv_aload_n hx hb dX0_init_45 rfl (lv_at hl 0 rfl) ?_
  refine lv_sipush (v := nI 200) hx hb dX0_init_46 (by decide) ?_
  refine va_newa (atype := .int) (ty := .int) (N' := 200) (a0 := (200, .inl (fun _ => 0))) hx hb (hts _ q32) rfl hK hP hD hS hA (fun _ => rfl) (by decide) (by decide) (by decide) (Nat.le_of_ble_eq_true rfl) (Nat.le_of_ble_eq_true rfl) dX0_init_49 (fun q6 cA H hK2 hP hD hS => ?_)
  obtain rfl : cI = cA := y_oneI hK2 (i := 0) (j := 2) rfl rfl
  have hP : va_P (dC, dI) vwCl ([(h0, .inr (0, [.int (nI 1), .int (nI 1), .ref q1, .ref q3, .ref q5, .null, .null, .null, .null, .null, .null, .int 0])), (q1, .inr (1, [.ref q2])), (q2, .inl (cI, 1400, .inl (fun _ => 0))), (q3, .inr (2, [.ref q4, .int 0])), (q4, .inl (cI, 200, .inl (fun _ => 0))), (q5, .inl (cI, 200, .inl (fun _ => 0))), (q6, .inl (cI, 200, .inl (fun _ => 0)))]) H := hP
  have hD : va_D A ([(h0, .inr (0, [.int (nI 1), .int (nI 1), .ref q1, .ref q3, .ref q5, .null, .null, .null, .null, .null, .null, .int 0])), (q1, .inr (1, [.ref q2])), (q2, .inl (cI, 1400, .inl (fun _ => 0))), (q3, .inr (2, [.ref q4, .int 0])), (q4, .inl (cI, 200, .inl (fun _ => 0))), (q5, .inl (cI, 200, .inl (fun _ => 0))), (q6, .inl (cI, 200, .inl (fun _ => 0)))]) := hD
  refine va_putF (D := (dC, dI)) (ci := 0) (v := .ref q6) (ty := .array .int) (C := RX0) (T := TX0) (N := 12) hx hb hts in_X0 tyX0 tyX0_ok nmX0 hown hK hP hD hS 0 rfl rfl 5 (by decide) (hts _ q51) (fun _ h9 => h9) rfl hin rfl (by decide +kernel) rfl rfl (Nat.le_of_ble_eq_true rfl) dX0_init_51 (fun H locs hP hD hS => ?_)
  have hP : va_P (dC, dI) vwCl ([(h0, .inr (0, [.int (nI 1), .int (nI 1), .ref q1, .ref q3, .ref q5, .ref q6, .null, .null, .null, .null, .null, .int 0])), (q1, .inr (1, [.ref q2])), (q2, .inl (cI, 1400, .inl (fun _ => 0))), (q3, .inr (2, [.ref q4, .int 0])), (q4, .inl (cI, 200, .inl (fun _ => 0))), (q5, .inl (cI, 200, .inl (fun _ => 0))), (q6, .inl (cI, 200, .inl (fun _ => 0)))]) H := hP
  have hD : va_D A ([(h0, .inr (0, [.int (nI 1), .int (nI 1), .ref q1, .ref q3, .ref q5, .ref q6, .null, .null, .null, .null, .null, .int 0])), (q1, .inr (1, [.ref q2])), (q2, .inl (cI, 1400, .inl (fun _ => 0))), (q3, .inr (2, [.ref q4, .int 0])), (q4, .inl (cI, 200, .inl (fun _ => 0))), (q5, .inl (cI, 200, .inl (fun _ => 0))), (q6, .inl (cI, 200, .inl (fun _ => 0)))]) := hD
  refine lv_aload_n hx hb dX0_init_54 rfl (lv_at hl 0 rfl) ?_
  refine lv_sipush (v := nI 200) hx hb dX0_init_55 (by decide) ?_
  refine va_newa (atype := .int) (ty := .int) (N' := 200) (a0 := (200, .inl (fun _ => 0))) hx hb (hts _ q32) rfl hK hP hD hS hA (fun _ => rfl) (by decide) (by decide) (by decide) (Nat.le_of_ble_eq_true rfl) (Nat.le_of_ble_eq_true rfl) dX0_init_58 (fun q7 cA H hK2 hP hD hS => ?_)
  obtain rfl : cI = cA := y_oneI hK2 (i := 0) (j := 2) rfl rfl
  have hP : va_P (dC, dI) vwCl ([(h0, .inr (0, [.int (nI 1), .int (nI 1), .ref q1, .ref q3, .ref q5, .ref q6, .null, .null, .null, .null, .null, .int 0])), (q1, .inr (1, [.ref q2])), (q2, .inl (cI, 1400, .inl (fun _ => 0))), (q3, .inr (2, [.ref q4, .int 0])), (q4, .inl (cI, 200, .inl (fun _ => 0))), (q5, .inl (cI, 200, .inl (fun _ => 0))), (q6, .inl (cI, 200, .inl (fun _ => 0))), (q7, .inl (cI, 200, .inl (fun _ => 0)))]) H := hP
  have hD : va_D A ([(h0, .inr (0, [.int (nI 1), .int (nI 1), .ref q1, .ref q3, .ref q5, .ref q6, .null, .null, .null, .null, .null, .int 0])), (q1, .inr (1, [.ref q2])), (q2, .inl (cI, 1400, .inl (fun _ => 0))), (q3, .inr (2, [.ref q4, .int 0])), (q4, .inl (cI, 200, .inl (fun _ => 0))), (q5, .inl (cI, 200, .inl (fun _ => 0))), (q6, .inl (cI, 200, .inl (fun _ => 0))), (q7, .inl (cI, 200, .inl (fun _ => 0)))]) := hD
  refine va_putF (D := (dC, dI)) (ci := 0) (v := .ref q7) (ty := .array .int) (C := RX0) (T := TX0) (N := 12) hx hb hts in_X0 tyX0 tyX0_ok nmX0 hown hK hP hD hS 0 rfl rfl 6 (by decide) (hts _ q52) (fun _ h9 => h9) rfl hin rfl (by decide +kernel) rfl rfl (Nat.le_of_ble_eq_true rfl) dX0_init_60 (fun H locs hP hD hS => ?_)
  have hP : va_P (dC, dI) vwCl ([(h0, .inr (0, [.int (nI 1), .int (nI 1), .ref q1, .ref q3, .ref q5, .ref q6, .ref q7, .null, .null, .null, .null, .int 0])), (q1, .inr (1, [.ref q2])), (q2, .inl (cI, 1400, .inl (fun _ => 0))), (q3, .inr (2, [.ref q4, .int 0])), (q4, .inl (cI, 200, .inl (fun _ => 0))), (q5, .inl (cI, 200, .inl (fun _ => 0))), (q6, .inl (cI, 200, .inl (fun _ => 0))), (q7, .inl (cI, 200, .inl (fun _ => 0)))]) H := hP
  have hD : va_D A ([(h0, .inr (0, [.int (nI 1), .int (nI 1), .ref q1, .ref q3, .ref q5, .ref q6, .ref q7, .null, .null, .null, .null, .int 0])), (q1, .inr (1, [.ref q2])), (q2, .inl (cI, 1400, .inl (fun _ => 0))), (q3, .inr (2, [.ref q4, .int 0])), (q4, .inl (cI, 200, .inl (fun _ => 0))), (q5, .inl (cI, 200, .inl (fun _ => 0))), (q6, .inl (cI, 200, .inl (fun _ => 0))), (q7, .inl (cI, 200, .inl (fun _ => 0)))]) := hD
  refine lv_aload_n hx hb dX0_init_63 rfl (lv_at hl 0 rfl) ?_
  refine lv_sipush (v := nI 200) hx hb dX0_init_64 (by decide) ?_
  refine va_newa (atype := .int) (ty := .int) (N' := 200) (a0 := (200, .inl (fun _ => 0))) hx hb (hts _ q32) rfl hK hP hD hS hA (fun _ => rfl) (by decide) (by decide) (by decide) (Nat.le_of_ble_eq_true rfl) (Nat.le_of_ble_eq_true rfl) dX0_init_67 (fun q8 cA H hK2 hP hD hS => ?_)
  obtain rfl : cI = cA := y_oneI hK2 (i := 0) (j := 2) rfl rfl
  have hP : va_P (dC, dI) vwCl ([(h0, .inr (0, [.int (nI 1), .int (nI 1), .ref q1, .ref q3, .ref q5, .ref q6, .ref q7, .null, .null, .null, .null, .int 0])), (q1, .inr (1, [.ref q2])), (q2, .inl (cI, 1400, .inl (fun _ => 0))), (q3, .inr (2, [.ref q4, .int 0])), (q4, .inl (cI, 200, .inl (fun _ => 0))), (q5, .inl (cI, 200, .inl (fun _ => 0))), (q6, .inl (cI, 200, .inl (fun _ => 0))), (q7, .inl (cI, 200, .inl (fun _ => 0))), (q8, .inl (cI, 200, .inl (fun _ => 0)))]) H := hP
  have hD : va_D A ([(h0, .inr (0, [.int (nI 1), .int (nI 1), .ref q1, .ref q3, .ref q5, .ref q6, .ref q7, .null, .null, .null, .null, .int 0])), (q1, .inr (1, [.ref q2])), (q2, .inl (cI, 1400, .inl (fun _ => 0))), (q3, .inr (2, [.ref q4, .int 0])), (q4, .inl (cI, 200, .inl (fun _ => 0))), (q5, .inl (cI, 200, .inl (fun _ => 0))), (q6, .inl (cI, 200, .inl (fun _ => 0))), (q7, .inl (cI, 200, .inl (fun _ => 0))), (q8, .inl (cI, 200, .inl (fun _ => 0)))]) := hD
  refine va_putF (D := (dC, dI)) (ci := 0) (v := .ref q8) (ty := .array .int) (C := RX0) (T := TX0) (N := 12) hx hb hts in_X0 tyX0 tyX0_ok nmX0 hown hK hP hD hS 0 rfl rfl 7 (by decide) (hts _ q53) (fun _ h9 => h9) rfl hin rfl (by decide +kernel) rfl rfl (Nat.le_of_ble_eq_true rfl) dX0_init_69 (fun H locs hP hD hS => ?_)
  have hP : va_P (dC, dI) vwCl ([(h0, .inr (0, [.int (nI 1), .int (nI 1), .ref q1, .ref q3, .ref q5, .ref q6, .ref q7, .ref q8, .null, .null, .null, .int 0])), (q1, .inr (1, [.ref q2])), (q2, .inl (cI, 1400, .inl (fun _ => 0))), (q3, .inr (2, [.ref q4, .int 0])), (q4, .inl (cI, 200, .inl (fun _ => 0))), (q5, .inl (cI, 200, .inl (fun _ => 0))), (q6, .inl (cI, 200, .inl (fun _ => 0))), (q7, .inl (cI, 200, .inl (fun _ => 0))), (q8, .inl (cI, 200, .inl (fun _ => 0)))]) H := hP
  have hD : va_D A ([(h0, .inr (0, [.int (nI 1), .int (nI 1), .ref q1, .ref q3, .ref q5, .ref q6, .ref q7, .ref q8, .null, .null, .null, .int 0])), (q1, .inr (1, [.ref q2])), (q2, .inl (cI, 1400, .inl (fun _ => 0))), (q3, .inr (2, [.ref q4, .int 0])), (q4, .inl (cI, 200, .inl (fun _ => 0))), (q5, .inl (cI, 200, .inl (fun _ => 0))), (q6, .inl (cI, 200, .inl (fun _ => 0))), (q7, .inl (cI, 200, .inl (fun _ => 0))), (q8, .inl (cI, 200, .inl (fun _ => 0)))]) := hD
  refine lv_aload_n hx hb dX0_init_72 rfl (lv_at hl 0 rfl) ?_
  refine lv_sipush (v := nI 200) hx hb dX0_init_73 (by decide) ?_
  refine va_newa (atype := .boolean) (ty := .boolean) (N' := 200) (a0 := (200, .inl (fun _ => 0))) hx hb (hts _ q83) rfl hK hP hD hS hA (fun _ => rfl) (by decide) (by decide) (by decide) (Nat.le_of_ble_eq_true rfl) (Nat.le_of_ble_eq_true rfl) dX0_init_76 (fun q9 cA H hK2 hP hD hS => ?_)
  obtain rfl : cZ = cA := y_oneZ hK2 (i := 1) (j := 2) rfl rfl
  have hP : va_P (dC, dI) vwCl ([(h0, .inr (0, [.int (nI 1), .int (nI 1), .ref q1, .ref q3, .ref q5, .ref q6, .ref q7, .ref q8, .null, .null, .null, .int 0])), (q1, .inr (1, [.ref q2])), (q2, .inl (cI, 1400, .inl (fun _ => 0))), (q3, .inr (2, [.ref q4, .int 0])), (q4, .inl (cI, 200, .inl (fun _ => 0))), (q5, .inl (cI, 200, .inl (fun _ => 0))), (q6, .inl (cI, 200, .inl (fun _ => 0))), (q7, .inl (cI, 200, .inl (fun _ => 0))), (q8, .inl (cI, 200, .inl (fun _ => 0))), (q9, .inl (cZ, 200, .inl (fun _ => 0)))]) H := hP
  have hD : va_D A ([(h0, .inr (0, [.int (nI 1), .int (nI 1), .ref q1, .ref q3, .ref q5, .ref q6, .ref q7, .ref q8, .null, .null, .null, .int 0])), (q1, .inr (1, [.ref q2])), (q2, .inl (cI, 1400, .inl (fun _ => 0))), (q3, .inr (2, [.ref q4, .int 0])), (q4, .inl (cI, 200, .inl (fun _ => 0))), (q5, .inl (cI, 200, .inl (fun _ => 0))), (q6, .inl (cI, 200, .inl (fun _ => 0))), (q7, .inl (cI, 200, .inl (fun _ => 0))), (q8, .inl (cI, 200, .inl (fun _ => 0))), (q9, .inl (cZ, 200, .inl (fun _ => 0)))]) := hD
  refine va_putF (D := (dC, dI)) (ci := 0) (v := .ref q9) (ty := .array .boolean) (C := RX0) (T := TX0) (N := 12) hx hb hts in_X0 tyX0 tyX0_ok nmX0 hown hK hP hD hS 0 rfl rfl 8 (by decide) (hts _ q54) (fun _ h9 => h9) rfl hin rfl (by decide +kernel) rfl rfl (Nat.le_of_ble_eq_true rfl) dX0_init_78 (fun H locs hP hD hS => ?_)
  have hP : va_P (dC, dI) vwCl ([(h0, .inr (0, [.int (nI 1), .int (nI 1), .ref q1, .ref q3, .ref q5, .ref q6, .ref q7, .ref q8, .ref q9, .null, .null, .int 0])), (q1, .inr (1, [.ref q2])), (q2, .inl (cI, 1400, .inl (fun _ => 0))), (q3, .inr (2, [.ref q4, .int 0])), (q4, .inl (cI, 200, .inl (fun _ => 0))), (q5, .inl (cI, 200, .inl (fun _ => 0))), (q6, .inl (cI, 200, .inl (fun _ => 0))), (q7, .inl (cI, 200, .inl (fun _ => 0))), (q8, .inl (cI, 200, .inl (fun _ => 0))), (q9, .inl (cZ, 200, .inl (fun _ => 0)))]) H := hP
  have hD : va_D A ([(h0, .inr (0, [.int (nI 1), .int (nI 1), .ref q1, .ref q3, .ref q5, .ref q6, .ref q7, .ref q8, .ref q9, .null, .null, .int 0])), (q1, .inr (1, [.ref q2])), (q2, .inl (cI, 1400, .inl (fun _ => 0))), (q3, .inr (2, [.ref q4, .int 0])), (q4, .inl (cI, 200, .inl (fun _ => 0))), (q5, .inl (cI, 200, .inl (fun _ => 0))), (q6, .inl (cI, 200, .inl (fun _ => 0))), (q7, .inl (cI, 200, .inl (fun _ => 0))), (q8, .inl (cI, 200, .inl (fun _ => 0))), (q9, .inl (cZ, 200, .inl (fun _ => 0)))]) := hD
  refine lv_aload_n hx hb dX0_init_81 rfl (lv_at hl 0 rfl) ?_
  refine lv_sipush (v := nI 200) hx hb dX0_init_82 (by decide) ?_
  refine va_newa (atype := .int) (ty := .int) (N' := 200) (a0 := (200, .inl (fun _ => 0))) hx hb (hts _ q32) rfl hK hP hD hS hA (fun _ => rfl) (by decide) (by decide) (by decide) (Nat.le_of_ble_eq_true rfl) (Nat.le_of_ble_eq_true rfl) dX0_init_85 (fun q10 cA H hK2 hP hD hS => ?_)
  obtain rfl : cI = cA := y_oneI hK2 (i := 0) (j := 2) rfl rfl
  have hP : va_P (dC, dI) vwCl ([(h0, .inr (0, [.int (nI 1), .int (nI 1), .ref q1, .ref q3, .ref q5, .ref q6, .ref q7, .ref q8, .ref q9, .null, .null, .int 0])), (q1, .inr (1, [.ref q2])), (q2, .inl (cI, 1400, .inl (fun _ => 0))), (q3, .inr (2, [.ref q4, .int 0])), (q4, .inl (cI, 200, .inl (fun _ => 0))), (q5, .inl (cI, 200, .inl (fun _ => 0))), (q6, .inl (cI, 200, .inl (fun _ => 0))), (q7, .inl (cI, 200, .inl (fun _ => 0))), (q8, .inl (cI, 200, .inl (fun _ => 0))), (q9, .inl (cZ, 200, .inl (fun _ => 0))), (q10, .inl (cI, 200, .inl (fun _ => 0)))]) H := hP
  have hD : va_D A ([(h0, .inr (0, [.int (nI 1), .int (nI 1), .ref q1, .ref q3, .ref q5, .ref q6, .ref q7, .ref q8, .ref q9, .null, .null, .int 0])), (q1, .inr (1, [.ref q2])), (q2, .inl (cI, 1400, .inl (fun _ => 0))), (q3, .inr (2, [.ref q4, .int 0])), (q4, .inl (cI, 200, .inl (fun _ => 0))), (q5, .inl (cI, 200, .inl (fun _ => 0))), (q6, .inl (cI, 200, .inl (fun _ => 0))), (q7, .inl (cI, 200, .inl (fun _ => 0))), (q8, .inl (cI, 200, .inl (fun _ => 0))), (q9, .inl (cZ, 200, .inl (fun _ => 0))), (q10, .inl (cI, 200, .inl (fun _ => 0)))]) := hD
  refine va_putF (D := (dC, dI)) (ci := 0) (v := .ref q10) (ty := .array .int) (C := RX0) (T := TX0) (N := 12) hx hb hts in_X0 tyX0 tyX0_ok nmX0 hown hK hP hD hS 0 rfl rfl 9 (by decide) (hts _ q55) (fun _ h9 => h9) rfl hin rfl (by decide +kernel) rfl rfl (Nat.le_of_ble_eq_true rfl) dX0_init_87 (fun H locs hP hD hS => ?_)
  have hP : va_P (dC, dI) vwCl ([(h0, .inr (0, [.int (nI 1), .int (nI 1), .ref q1, .ref q3, .ref q5, .ref q6, .ref q7, .ref q8, .ref q9, .ref q10, .null, .int 0])), (q1, .inr (1, [.ref q2])), (q2, .inl (cI, 1400, .inl (fun _ => 0))), (q3, .inr (2, [.ref q4, .int 0])), (q4, .inl (cI, 200, .inl (fun _ => 0))), (q5, .inl (cI, 200, .inl (fun _ => 0))), (q6, .inl (cI, 200, .inl (fun _ => 0))), (q7, .inl (cI, 200, .inl (fun _ => 0))), (q8, .inl (cI, 200, .inl (fun _ => 0))), (q9, .inl (cZ, 200, .inl (fun _ => 0))), (q10, .inl (cI, 200, .inl (fun _ => 0)))]) H := hP
  have hD : va_D A ([(h0, .inr (0, [.int (nI 1), .int (nI 1), .ref q1, .ref q3, .ref q5, .ref q6, .ref q7, .ref q8, .ref q9, .ref q10, .null, .int 0])), (q1, .inr (1, [.ref q2])), (q2, .inl (cI, 1400, .inl (fun _ => 0))), (q3, .inr (2, [.ref q4, .int 0])), (q4, .inl (cI, 200, .inl (fun _ => 0))), (q5, .inl (cI, 200, .inl (fun _ => 0))), (q6, .inl (cI, 200, .inl (fun _ => 0))), (q7, .inl (cI, 200, .inl (fun _ => 0))), (q8, .inl (cI, 200, .inl (fun _ => 0))), (q9, .inl (cZ, 200, .inl (fun _ => 0))), (q10, .inl (cI, 200, .inl (fun _ => 0)))]) := hD
  refine lv_aload_n hx hb dX0_init_90 rfl (lv_at hl 0 rfl) ?_
  refine lv_sipush (v := nI 200) hx hb dX0_init_91 (by decide) ?_
  refine va_newa (atype := .int) (ty := .int) (N' := 200) (a0 := (200, .inl (fun _ => 0))) hx hb (hts _ q32) rfl hK hP hD hS hA (fun _ => rfl) (by decide) (by decide) (by decide) (Nat.le_of_ble_eq_true rfl) (Nat.le_of_ble_eq_true rfl) dX0_init_94 (fun q11 cA H hK2 hP hD hS => ?_)
  obtain rfl : cI = cA := y_oneI hK2 (i := 0) (j := 2) rfl rfl
  have hP : va_P (dC, dI) vwCl ([(h0, .inr (0, [.int (nI 1), .int (nI 1), .ref q1, .ref q3, .ref q5, .ref q6, .ref q7, .ref q8, .ref q9, .ref q10, .null, .int 0])), (q1, .inr (1, [.ref q2])), (q2, .inl (cI, 1400, .inl (fun _ => 0))), (q3, .inr (2, [.ref q4, .int 0])), (q4, .inl (cI, 200, .inl (fun _ => 0))), (q5, .inl (cI, 200, .inl (fun _ => 0))), (q6, .inl (cI, 200, .inl (fun _ => 0))), (q7, .inl (cI, 200, .inl (fun _ => 0))), (q8, .inl (cI, 200, .inl (fun _ => 0))), (q9, .inl (cZ, 200, .inl (fun _ => 0))), (q10, .inl (cI, 200, .inl (fun _ => 0))), (q11, .inl (cI, 200, .inl (fun _ => 0)))]) H := hP
  have hD : va_D A ([(h0, .inr (0, [.int (nI 1), .int (nI 1), .ref q1, .ref q3, .ref q5, .ref q6, .ref q7, .ref q8, .ref q9, .ref q10, .null, .int 0])), (q1, .inr (1, [.ref q2])), (q2, .inl (cI, 1400, .inl (fun _ => 0))), (q3, .inr (2, [.ref q4, .int 0])), (q4, .inl (cI, 200, .inl (fun _ => 0))), (q5, .inl (cI, 200, .inl (fun _ => 0))), (q6, .inl (cI, 200, .inl (fun _ => 0))), (q7, .inl (cI, 200, .inl (fun _ => 0))), (q8, .inl (cI, 200, .inl (fun _ => 0))), (q9, .inl (cZ, 200, .inl (fun _ => 0))), (q10, .inl (cI, 200, .inl (fun _ => 0))), (q11, .inl (cI, 200, .inl (fun _ => 0)))]) := hD
  refine va_putF (D := (dC, dI)) (ci := 0) (v := .ref q11) (ty := .array .int) (C := RX0) (T := TX0) (N := 12) hx hb hts in_X0 tyX0 tyX0_ok nmX0 hown hK hP hD hS 0 rfl rfl 10 (by decide) (hts _ q56) (fun _ h9 => h9) rfl hin rfl (by decide +kernel) rfl rfl (Nat.le_of_ble_eq_true rfl) dX0_init_96 (fun H locs hP hD hS => ?_)
  have hP : va_P (dC, dI) vwCl ([(h0, .inr (0, [.int (nI 1), .int (nI 1), .ref q1, .ref q3, .ref q5, .ref q6, .ref q7, .ref q8, .ref q9, .ref q10, .ref q11, .int 0])), (q1, .inr (1, [.ref q2])), (q2, .inl (cI, 1400, .inl (fun _ => 0))), (q3, .inr (2, [.ref q4, .int 0])), (q4, .inl (cI, 200, .inl (fun _ => 0))), (q5, .inl (cI, 200, .inl (fun _ => 0))), (q6, .inl (cI, 200, .inl (fun _ => 0))), (q7, .inl (cI, 200, .inl (fun _ => 0))), (q8, .inl (cI, 200, .inl (fun _ => 0))), (q9, .inl (cZ, 200, .inl (fun _ => 0))), (q10, .inl (cI, 200, .inl (fun _ => 0))), (q11, .inl (cI, 200, .inl (fun _ => 0)))]) H := hP
  have hD : va_D A ([(h0, .inr (0, [.int (nI 1), .int (nI 1), .ref q1, .ref q3, .ref q5, .ref q6, .ref q7, .ref q8, .ref q9, .ref q10, .ref q11, .int 0])), (q1, .inr (1, [.ref q2])), (q2, .inl (cI, 1400, .inl (fun _ => 0))), (q3, .inr (2, [.ref q4, .int 0])), (q4, .inl (cI, 200, .inl (fun _ => 0))), (q5, .inl (cI, 200, .inl (fun _ => 0))), (q6, .inl (cI, 200, .inl (fun _ => 0))), (q7, .inl (cI, 200, .inl (fun _ => 0))), (q8, .inl (cI, 200, .inl (fun _ => 0))), (q9, .inl (cZ, 200, .inl (fun _ => 0))), (q10, .inl (cI, 200, .inl (fun _ => 0))), (q11, .inl (cI, 200, .inl (fun _ => 0)))]) := hD
  refine lv_aload_n hx hb dX0_init_99 rfl (lv_at hl 0 rfl) ?_
  refine va_get (D := (dC, dI)) (ci := 0) (v := .ref q6) (C := RX0) (T := TX0) (N := 12) hx hb hts in_X0 hown hK hP 0 rfl rfl 5 (by decide) (hts _ q51) (fun _ h9 => h9) rfl dX0_init_100 ?_
  refine lv_iconst (v := nI 0) hx hb dX0_init_103 (by decide) ?_
  refine lv_iconst (v := nI 0) hx hb dX0_init_104 (by decide) ?_
  refine y_iast (j := 0) hx hb hK hP hD hS 6 0 rfl rfl (rfl) (by omega) (by decide) dX0_init_105 (fun H locs hP hD hS => ?_)
  have hP : va_P (dC, dI) vwCl ([(h0, .inr (0, [.int (nI 1), .int (nI 1), .ref q1, .ref q3, .ref q5, .ref q6, .ref q7, .ref q8, .ref q9, .ref q10, .ref q11, .int 0])), (q1, .inr (1, [.ref q2])), (q2, .inl (cI, 1400, .inl (fun _ => 0))), (q3, .inr (2, [.ref q4, .int 0])), (q4, .inl (cI, 200, .inl (fun _ => 0))), (q5, .inl (cI, 200, .inl (fun _ => 0))), (q6, .inl (cI, 200, .inl (upd (fun _ => 0) 0 (nI 0)))), (q7, .inl (cI, 200, .inl (fun _ => 0))), (q8, .inl (cI, 200, .inl (fun _ => 0))), (q9, .inl (cZ, 200, .inl (fun _ => 0))), (q10, .inl (cI, 200, .inl (fun _ => 0))), (q11, .inl (cI, 200, .inl (fun _ => 0)))]) H := hP
  have hD : va_D A ([(h0, .inr (0, [.int (nI 1), .int (nI 1), .ref q1, .ref q3, .ref q5, .ref q6, .ref q7, .ref q8, .ref q9, .ref q10, .ref q11, .int 0])), (q1, .inr (1, [.ref q2])), (q2, .inl (cI, 1400, .inl (fun _ => 0))), (q3, .inr (2, [.ref q4, .int 0])), (q4, .inl (cI, 200, .inl (fun _ => 0))), (q5, .inl (cI, 200, .inl (fun _ => 0))), (q6, .inl (cI, 200, .inl (upd (fun _ => 0) 0 (nI 0)))), (q7, .inl (cI, 200, .inl (fun _ => 0))), (q8, .inl (cI, 200, .inl (fun _ => 0))), (q9, .inl (cZ, 200, .inl (fun _ => 0))), (q10, .inl (cI, 200, .inl (fun _ => 0))), (q11, .inl (cI, 200, .inl (fun _ => 0)))]) := hD
  have hC : CR 1 1 (fun _ _ => false) (fun _ => 0) (fun a => a) false (fun _ => 0) (fun _ => 0) (upd (fun _ => 0) 0 (nI 0)) (fun _ => 0) (fun _ => 0) (fun _ => 0) := ⟨bits_none (fun _ _ => rfl), fun _ _ => rfl, fun j hj => by
    have e : j = 0 := by omega
    subst e
    exact pk_us, fun j _ => by rw [dg_none]; rfl, fun q => by cases q⟩
  exact W.vret hx hb hr (fun t ht hW => ⟨⟨adF h0 q1 q2 q3 q4 q5 q6 q7 q8 q9 q10 q11, rfl, rfl, CW_mk (ad := adF h0 q1 q2 q3 q4 q5 q6 q7 q8 q9 q10 q11) (by rw [ht]; exact hP) (va_K.moved hW.alike hK) hD hC⟩, hS.F ht⟩) hS.2.2 dX0_init_106
set_option maxHeartbeats 4000000 in
set_option maxRecDepth 100000 in
theorem metM_init (l : Launch) (dC : Nat → ClassId) (dI : Nat → Nat → Nat) (cI cZ : ClassId) (sz : Nat) (h0 : Nat) : Met l yX3_init (ws_ yX3_init cX3_init 2 (none)) rmM1 (va_Pc [.ref h0] (fun U => U.heap.size = sz ∧ va_P (dC, dI) vwCl ([(h0, .inr (3, [.null, .null, .null, .null, .null, .null, .int 0, .int 0, .int 0]))]) U.heap ∧ va_K (dC, dI) vwCl (tyK cI cZ) U ∧ va_D (fun _ => True) ([(h0, .inr (3, [.null, .null, .null, .null, .null, .null, .int 0, .int 0, .int 0]))]))) (va_Qv (fun (bd : Nat → Nat) => bd 0 = h0) (fun bd t => MW (dC, dI) (va_A ([(h0, .inr (3, [.null, .null, .null, .null, .null, .null, .int 0, .int 0, .int 0]))]) sz) bd cI cZ st0 t) (va_A ([(h0, .inr (3, [.null, .null, .null, .null, .null, .null, .int 0, .int 0, .int 0]))]) sz)) 6 41000 (va_A ([(h0, .inr (3, [.null, .null, .null, .null, .null, .null, .int 0, .int 0, .int 0]))]) sz) := by
  refine Met.ofW (cc := cX3_init) (maxL := 2) (ret := none) (by decide) rfl ?_
  intro p e s m args below meth c s₁ B hml hv
  obtain ⟨rfl, hsz, hP, hK, hD0⟩ := hv
  have hx := B.exec
  have hb := B.bytes
  have hr := B.returns
  have hlk := B.notSynchronized
  have hts := atoms_spec (ws := ws_ yX3_init cX3_init 2 (none)) B.pre
  have hts : ∀ w ∈ lw_all, w.before _ s = true := fun w h => hts w (List.mem_cons_of_mem _ h)
  have hown : s.vm.findClass RX3 = some m.cls := findClass_of_methodNamed B.named
  subst hsz
  have hD := hD0.self (sz := s.heap.size)
  generalize hAe : va_A ([(h0, .inr (3, [.null, .null, .null, .null, .null, .null, .int 0, .int 0, .int 0]))]) s.heap.size = A at hD ⊢
  have hA : ∀ q : Nat, s.heap.size ≤ q → A q := fun q h => by rw [← hAe]; exact Or.inr h
  have hS : va_S A s.heap s.heap [] := va_S.rf
  have hl := lv_entry ([.ref h0]) (n := 2) (Nat.le_of_ble_eq_true rfl)
  rw [lg_entry_eq]
  generalize (lg_sl ([.ref h0]) ++ List.replicate (2 - (lg_sl ([.ref h0])).length) Slot.unset).toArray = ls at hl ⊢
  have hl : lv_has ls 2 [(0, .ref h0)] := hl
  have hin : meth.name = "<init>" := (name_of_methodNamed B.named B.method).1
  refine lv_aload_n hx hb dX3_init_0 rfl (lv_at hl 0 rfl) ?_
  refine W.objInit hx hb hown (hts _ q178) (hts _ q20) (hts _ q21) rfl (by rw [hml]; exact hl.1) rfl dX3_init_1 (Nat.le_of_ble_eq_true rfl) (Nat.le_of_ble_eq_true rfl) ?_
  refine W.eq (g2 := F0 m 4 ls []) rfl ?_
  refine lv_aload_n hx hb dX3_init_4 rfl (lv_at hl 0 rfl) ?_
  refine lv_ldc (v := nI 40000) hx hb hown (hts _ q179) dX3_init_5 ?_
  refine va_newa (atype := .boolean) (ty := .boolean) (N' := 40000) (a0 := (40000, .inl (fun _ => 0))) hx hb (hts _ q83) rfl hK hP hD hS hA (fun _ => rfl) (by decide) (by decide) (by decide) (Nat.le_of_ble_eq_true rfl) (Nat.le_of_ble_eq_true rfl) dX3_init_7 (fun q1 cA H hK2 hP hD hS => ?_)
  obtain rfl : cZ = cA := y_oneZ hK2 (i := 1) (j := 2) rfl rfl
  have hP : va_P (dC, dI) vwCl ([(h0, .inr (3, [.null, .null, .null, .null, .null, .null, .int 0, .int 0, .int 0])), (q1, .inl (cZ, 40000, .inl (fun _ => 0)))]) H := hP
  have hD : va_D A ([(h0, .inr (3, [.null, .null, .null, .null, .null, .null, .int 0, .int 0, .int 0])), (q1, .inl (cZ, 40000, .inl (fun _ => 0)))]) := hD
  refine va_putF (D := (dC, dI)) (ci := 3) (v := .ref q1) (ty := .array .boolean) (C := RX3) (T := TX3) (N := 9) hx hb hts in_X3 tyX3 tyX3_ok nmX3 hown hK hP hD hS 0 rfl rfl 0 (by decide) (hts _ q184) (fun _ h9 => h9) rfl hin rfl (by decide +kernel) rfl rfl (Nat.le_of_ble_eq_true rfl) dX3_init_9 (fun H locs hP hD hS => ?_)
  have hP : va_P (dC, dI) vwCl ([(h0, .inr (3, [.ref q1, .null, .null, .null, .null, .null, .int 0, .int 0, .int 0])), (q1, .inl (cZ, 40000, .inl (fun _ => 0)))]) H := hP
  have hD : va_D A ([(h0, .inr (3, [.ref q1, .null, .null, .null, .null, .null, .int 0, .int 0, .int 0])), (q1, .inl (cZ, 40000, .inl (fun _ => 0)))]) := hD
  refine lv_aload_n hx hb dX3_init_12 rfl (lv_at hl 0 rfl) ?_
  refine lv_sipush (v := nI 200) hx hb dX3_init_13 (by decide) ?_
  refine va_newa (atype := .int) (ty := .int) (N' := 200) (a0 := (200, .inl (fun _ => 0))) hx hb (hts _ q32) rfl hK hP hD hS hA (fun _ => rfl) (by decide) (by decide) (by decide) (Nat.le_of_ble_eq_true rfl) (Nat.le_of_ble_eq_true rfl) dX3_init_16 (fun q2 cA H hK2 hP hD hS => ?_)
  obtain rfl : cI = cA := y_oneI hK2 (i := 0) (j := 2) rfl rfl
  have hP : va_P (dC, dI) vwCl ([(h0, .inr (3, [.ref q1, .null, .null, .null, .null, .null, .int 0, .int 0, .int 0])), (q1, .inl (cZ, 40000, .inl (fun _ => 0))), (q2, .inl (cI, 200, .inl (fun _ => 0)))]) H := hP
  have hD : va_D A ([(h0, .inr (3, [.ref q1, .null, .null, .null, .null, .null, .int 0, .int 0, .int 0])), (q1, .inl (cZ, 40000, .inl (fun _ => 0))), (q2, .inl (cI, 200, .inl (fun _ => 0)))]) := hD
  refine va_putF (D := (dC, dI)) (ci := 3) (v := .ref q2) (ty := .array .int) (C := RX3) (T := TX3) (N := 9) hx hb hts in_X3 tyX3 tyX3_ok nmX3 hown hK hP hD hS 0 rfl rfl 1 (by decide) (hts _ q185) (fun _ h9 => h9) rfl hin rfl (by decide +kernel) rfl rfl (Nat.le_of_ble_eq_true rfl) dX3_init_18 (fun H locs hP hD hS => ?_)
  have hP : va_P (dC, dI) vwCl ([(h0, .inr (3, [.ref q1, .ref q2, .null, .null, .null, .null, .int 0, .int 0, .int 0])), (q1, .inl (cZ, 40000, .inl (fun _ => 0))), (q2, .inl (cI, 200, .inl (fun _ => 0)))]) H := hP
  have hD : va_D A ([(h0, .inr (3, [.ref q1, .ref q2, .null, .null, .null, .null, .int 0, .int 0, .int 0])), (q1, .inl (cZ, 40000, .inl (fun _ => 0))), (q2, .inl (cI, 200, .inl (fun _ => 0)))]) := hD
  refine lv_aload_n hx hb dX3_init_21 rfl (lv_at hl 0 rfl) ?_
  refine lv_sipush (v := nI 200) hx hb dX3_init_22 (by decide) ?_
  refine va_newa (atype := .int) (ty := .int) (N' := 200) (a0 := (200, .inl (fun _ => 0))) hx hb (hts _ q32) rfl hK hP hD hS hA (fun _ => rfl) (by decide) (by decide) (by decide) (Nat.le_of_ble_eq_true rfl) (Nat.le_of_ble_eq_true rfl) dX3_init_25 (fun q3 cA H hK2 hP hD hS => ?_)
  obtain rfl : cI = cA := y_oneI hK2 (i := 0) (j := 2) rfl rfl
  have hP : va_P (dC, dI) vwCl ([(h0, .inr (3, [.ref q1, .ref q2, .null, .null, .null, .null, .int 0, .int 0, .int 0])), (q1, .inl (cZ, 40000, .inl (fun _ => 0))), (q2, .inl (cI, 200, .inl (fun _ => 0))), (q3, .inl (cI, 200, .inl (fun _ => 0)))]) H := hP
  have hD : va_D A ([(h0, .inr (3, [.ref q1, .ref q2, .null, .null, .null, .null, .int 0, .int 0, .int 0])), (q1, .inl (cZ, 40000, .inl (fun _ => 0))), (q2, .inl (cI, 200, .inl (fun _ => 0))), (q3, .inl (cI, 200, .inl (fun _ => 0)))]) := hD
  refine va_putF (D := (dC, dI)) (ci := 3) (v := .ref q3) (ty := .array .int) (C := RX3) (T := TX3) (N := 9) hx hb hts in_X3 tyX3 tyX3_ok nmX3 hown hK hP hD hS 0 rfl rfl 2 (by decide) (hts _ q186) (fun _ h9 => h9) rfl hin rfl (by decide +kernel) rfl rfl (Nat.le_of_ble_eq_true rfl) dX3_init_27 (fun H locs hP hD hS => ?_)
  have hP : va_P (dC, dI) vwCl ([(h0, .inr (3, [.ref q1, .ref q2, .ref q3, .null, .null, .null, .int 0, .int 0, .int 0])), (q1, .inl (cZ, 40000, .inl (fun _ => 0))), (q2, .inl (cI, 200, .inl (fun _ => 0))), (q3, .inl (cI, 200, .inl (fun _ => 0)))]) H := hP
  have hD : va_D A ([(h0, .inr (3, [.ref q1, .ref q2, .ref q3, .null, .null, .null, .int 0, .int 0, .int 0])), (q1, .inl (cZ, 40000, .inl (fun _ => 0))), (q2, .inl (cI, 200, .inl (fun _ => 0))), (q3, .inl (cI, 200, .inl (fun _ => 0)))]) := hD
  refine lv_aload_n hx hb dX3_init_30 rfl (lv_at hl 0 rfl) ?_
  refine lv_sipush (v := nI 200) hx hb dX3_init_31 (by decide) ?_
  refine va_newa (atype := .int) (ty := .int) (N' := 200) (a0 := (200, .inl (fun _ => 0))) hx hb (hts _ q32) rfl hK hP hD hS hA (fun _ => rfl) (by decide) (by decide) (by decide) (Nat.le_of_ble_eq_true rfl) (Nat.le_of_ble_eq_true rfl) dX3_init_34 (fun q4 cA H hK2 hP hD hS => ?_)
  obtain rfl : cI = cA := y_oneI hK2 (i := 0) (j := 2) rfl rfl
  have hP : va_P (dC, dI) vwCl ([(h0, .inr (3, [.ref q1, .ref q2, .ref q3, .null, .null, .null, .int 0, .int 0, .int 0])), (q1, .inl (cZ, 40000, .inl (fun _ => 0))), (q2, .inl (cI, 200, .inl (fun _ => 0))), (q3, .inl (cI, 200, .inl (fun _ => 0))), (q4, .inl (cI, 200, .inl (fun _ => 0)))]) H := hP
  have hD : va_D A ([(h0, .inr (3, [.ref q1, .ref q2, .ref q3, .null, .null, .null, .int 0, .int 0, .int 0])), (q1, .inl (cZ, 40000, .inl (fun _ => 0))), (q2, .inl (cI, 200, .inl (fun _ => 0))), (q3, .inl (cI, 200, .inl (fun _ => 0))), (q4, .inl (cI, 200, .inl (fun _ => 0)))]) := hD
  refine va_putF (D := (dC, dI)) (ci := 3) (v := .ref q4) (ty := .array .int) (C := RX3) (T := TX3) (N := 9) hx hb hts in_X3 tyX3 tyX3_ok nmX3 hown hK hP hD hS 0 rfl rfl 3 (by decide) (hts _ q187) (fun _ h9 => h9) rfl hin rfl (by decide +kernel) rfl rfl (Nat.le_of_ble_eq_true rfl) dX3_init_36 (fun H locs hP hD hS => ?_)
  have hP : va_P (dC, dI) vwCl ([(h0, .inr (3, [.ref q1, .ref q2, .ref q3, .ref q4, .null, .null, .int 0, .int 0, .int 0])), (q1, .inl (cZ, 40000, .inl (fun _ => 0))), (q2, .inl (cI, 200, .inl (fun _ => 0))), (q3, .inl (cI, 200, .inl (fun _ => 0))), (q4, .inl (cI, 200, .inl (fun _ => 0)))]) H := hP
  have hD : va_D A ([(h0, .inr (3, [.ref q1, .ref q2, .ref q3, .ref q4, .null, .null, .int 0, .int 0, .int 0])), (q1, .inl (cZ, 40000, .inl (fun _ => 0))), (q2, .inl (cI, 200, .inl (fun _ => 0))), (q3, .inl (cI, 200, .inl (fun _ => 0))), (q4, .inl (cI, 200, .inl (fun _ => 0)))]) := hD
  refine lv_aload_n hx hb dX3_init_39 rfl (lv_at hl 0 rfl) ?_
  refine lv_sipush (v := nI 200) hx hb dX3_init_40 (by decide) ?_
  refine va_newa (atype := .int) (ty := .int) (N' := 200) (a0 := (200, .inl (fun _ => 0))) hx hb (hts _ q32) rfl hK hP hD hS hA (fun _ => rfl) (by decide) (by decide) (by decide) (Nat.le_of_ble_eq_true rfl) (Nat.le_of_ble_eq_true rfl) dX3_init_43 (fun q5 cA H hK2 hP hD hS => ?_)
  obtain rfl : cI = cA := y_oneI hK2 (i := 0) (j := 2) rfl rfl
  have hP : va_P (dC, dI) vwCl ([(h0, .inr (3, [.ref q1, .ref q2, .ref q3, .ref q4, .null, .null, .int 0, .int 0, .int 0])), (q1, .inl (cZ, 40000, .inl (fun _ => 0))), (q2, .inl (cI, 200, .inl (fun _ => 0))), (q3, .inl (cI, 200, .inl (fun _ => 0))), (q4, .inl (cI, 200, .inl (fun _ => 0))), (q5, .inl (cI, 200, .inl (fun _ => 0)))]) H := hP
  have hD : va_D A ([(h0, .inr (3, [.ref q1, .ref q2, .ref q3, .ref q4, .null, .null, .int 0, .int 0, .int 0])), (q1, .inl (cZ, 40000, .inl (fun _ => 0))), (q2, .inl (cI, 200, .inl (fun _ => 0))), (q3, .inl (cI, 200, .inl (fun _ => 0))), (q4, .inl (cI, 200, .inl (fun _ => 0))), (q5, .inl (cI, 200, .inl (fun _ => 0)))]) := hD
  refine va_putF (D := (dC, dI)) (ci := 3) (v := .ref q5) (ty := .array .int) (C := RX3) (T := TX3) (N := 9) hx hb hts in_X3 tyX3 tyX3_ok nmX3 hown hK hP hD hS 0 rfl rfl 4 (by decide) (hts _ q188) (fun _ h9 => h9) rfl hin rfl (by decide +kernel) rfl rfl (Nat.le_of_ble_eq_true rfl) dX3_init_45 (fun H locs hP hD hS => ?_)
  have hP : va_P (dC, dI) vwCl ([(h0, .inr (3, [.ref q1, .ref q2, .ref q3, .ref q4, .ref q5, .null, .int 0, .int 0, .int 0])), (q1, .inl (cZ, 40000, .inl (fun _ => 0))), (q2, .inl (cI, 200, .inl (fun _ => 0))), (q3, .inl (cI, 200, .inl (fun _ => 0))), (q4, .inl (cI, 200, .inl (fun _ => 0))), (q5, .inl (cI, 200, .inl (fun _ => 0)))]) H := hP
  have hD : va_D A ([(h0, .inr (3, [.ref q1, .ref q2, .ref q3, .ref q4, .ref q5, .null, .int 0, .int 0, .int 0])), (q1, .inl (cZ, 40000, .inl (fun _ => 0))), (q2, .inl (cI, 200, .inl (fun _ => 0))), (q3, .inl (cI, 200, .inl (fun _ => 0))), (q4, .inl (cI, 200, .inl (fun _ => 0))), (q5, .inl (cI, 200, .inl (fun _ => 0)))]) := hD
  refine lv_aload_n hx hb dX3_init_48 rfl (lv_at hl 0 rfl) ?_
  refine lv_sipush (v := nI 200) hx hb dX3_init_49 (by decide) ?_
  refine va_newa (atype := .boolean) (ty := .boolean) (N' := 200) (a0 := (200, .inl (fun _ => 0))) hx hb (hts _ q83) rfl hK hP hD hS hA (fun _ => rfl) (by decide) (by decide) (by decide) (Nat.le_of_ble_eq_true rfl) (Nat.le_of_ble_eq_true rfl) dX3_init_52 (fun q6 cA H hK2 hP hD hS => ?_)
  obtain rfl : cZ = cA := y_oneZ hK2 (i := 1) (j := 2) rfl rfl
  have hP : va_P (dC, dI) vwCl ([(h0, .inr (3, [.ref q1, .ref q2, .ref q3, .ref q4, .ref q5, .null, .int 0, .int 0, .int 0])), (q1, .inl (cZ, 40000, .inl (fun _ => 0))), (q2, .inl (cI, 200, .inl (fun _ => 0))), (q3, .inl (cI, 200, .inl (fun _ => 0))), (q4, .inl (cI, 200, .inl (fun _ => 0))), (q5, .inl (cI, 200, .inl (fun _ => 0))), (q6, .inl (cZ, 200, .inl (fun _ => 0)))]) H := hP
  have hD : va_D A ([(h0, .inr (3, [.ref q1, .ref q2, .ref q3, .ref q4, .ref q5, .null, .int 0, .int 0, .int 0])), (q1, .inl (cZ, 40000, .inl (fun _ => 0))), (q2, .inl (cI, 200, .inl (fun _ => 0))), (q3, .inl (cI, 200, .inl (fun _ => 0))), (q4, .inl (cI, 200, .inl (fun _ => 0))), (q5, .inl (cI, 200, .inl (fun _ => 0))), (q6, .inl (cZ, 200, .inl (fun _ => 0)))]) := hD
  refine va_putF (D := (dC, dI)) (ci := 3) (v := .ref q6) (ty := .array .boolean) (C := RX3) (T := TX3) (N := 9) hx hb hts in_X3 tyX3 tyX3_ok nmX3 hown hK hP hD hS 0 rfl rfl 5 (by decide) (hts _ q189) (fun _ h9 => h9) rfl hin rfl (by decide +kernel) rfl rfl (Nat.le_of_ble_eq_true rfl) dX3_init_54 (fun H locs hP hD hS => ?_)
  have hP : va_P (dC, dI) vwCl ([(h0, .inr (3, [.ref q1, .ref q2, .ref q3, .ref q4, .ref q5, .ref q6, .int 0, .int 0, .int 0])), (q1, .inl (cZ, 40000, .inl (fun _ => 0))), (q2, .inl (cI, 200, .inl (fun _ => 0))), (q3, .inl (cI, 200, .inl (fun _ => 0))), (q4, .inl (cI, 200, .inl (fun _ => 0))), (q5, .inl (cI, 200, .inl (fun _ => 0))), (q6, .inl (cZ, 200, .inl (fun _ => 0)))]) H := hP
  have hD : va_D A ([(h0, .inr (3, [.ref q1, .ref q2, .ref q3, .ref q4, .ref q5, .ref q6, .int 0, .int 0, .int 0])), (q1, .inl (cZ, 40000, .inl (fun _ => 0))), (q2, .inl (cI, 200, .inl (fun _ => 0))), (q3, .inl (cI, 200, .inl (fun _ => 0))), (q4, .inl (cI, 200, .inl (fun _ => 0))), (q5, .inl (cI, 200, .inl (fun _ => 0))), (q6, .inl (cZ, 200, .inl (fun _ => 0)))]) := hD
  refine lv_aload_n hx hb dX3_init_57 rfl (lv_at hl 0 rfl) ?_
  refine lv_iconst (v := nI 1) hx hb dX3_init_58 (by decide) ?_
  refine lv_iconst (v := nI 1) hx hb dX3_init_59 (by decide) ?_
  have hPc := hP.sub (ws' := wM (bdF h0 q1 q2 q3 q4 q5 q6) cI cZ 0 0 0 (fun _ => 0) (fun _ => 0) (fun _ => 0) (fun _ => 0) (fun _ => 0) (fun _ => 0)) [0, 1, 2, 3, 4, 5, 6] rfl
  have hDc := hD.sub (ws' := wM (bdF h0 q1 q2 q3 q4 q5 q6) cI cZ 0 0 0 (fun _ => 0) (fun _ => 0) (fun _ => 0) (fun _ => 0) (fun _ => 0) (fun _ => 0)) [0, 1, 2, 3, 4, 5, 6] (by decide) rfl
  have hFc := va_free (wc := wM (bdF h0 q1 q2 q3 q4 q5 q6) cI cZ 0 0 0 (fun _ => 0) (fun _ => 0) (fun _ => 0) (fun _ => 0) (fun _ => 0) (fun _ => 0)) hD hS hA [0, 1, 2, 3, 4, 5, 6] rfl
  refine va_calli (va_runV (As := [.int (nI 1), .int (nI 1)]) (rest := []) ⟨hx, hb, hml, hown, hts⟩ (metM_begin l dC dI cI cZ H.size (bdF h0 q1 q2 q3 q4 q5 q6) st0 0 0 0 (fun _ => 0) (fun _ => 0) (fun _ => 0) (fun _ => 0) (fun _ => 0) (fun _ => 0) (nI 1) (nI 1) (fun h => absurd h (by decide))) (cwV 2 hts (lw_V q180 q181 q182 q13 q183) rfl rfl rfl (by decide +kernel) ⟨Nat.le_of_ble_eq_true rfl, Nat.le_of_ble_eq_true rfl⟩) (y_preW hK hPc hDc (ci := 3) (q0 := 0) rfl rfl) rfl rfl hl.1 rfl (lv_room (Nat.le_of_ble_eq_true rfl)) dX3_init_60 ⟨Nat.le_of_ble_eq_true rfl, Nat.le_of_ble_eq_true rfl⟩) hS (fun q _ h => hFc q h) hFc (fun rb u t H1 locs ht hvm hrb hB hz1 hk1 hS => ?_)
  rw [begS_nI (a := 1) (b := 1) (by decide) (by decide) (by decide)] at hB
  obtain ⟨pairs, costs, wishes, colours, mrow, mins, ⟨hP1, hK1, hD1⟩, hC2⟩ := hB
  rw [ht] at hP1
  obtain ⟨hP, hD⟩ := va_join (wr := []) (w1 := wM (bdF h0 q1 q2 q3 q4 q5 q6) cI cZ (nI 1) (nI 1) (b2i false) pairs costs wishes colours mrow mins) hP hD [0, 1, 2, 3, 4, 5, 6] [] rfl rfl (by decide) (by decide) hk1 hFc hP1 hD1
  generalize H1 = H at hP hS ⊢
  have hP : va_P (dC, dI) vwCl (wM (bdF h0 q1 q2 q3 q4 q5 q6) cI cZ (nI 1) (nI 1) (b2i false) pairs costs wishes colours mrow mins) H := hP
  have hD : va_D A (wM (bdF h0 q1 q2 q3 q4 q5 q6) cI cZ (nI 1) (nI 1) (b2i false) pairs costs wishes colours mrow mins) := hD
  refine lv_istore_n (lv' := [(1, .int rb), (0, .ref h0)]) hx hb dX3_init_63 rfl hl (by decide) rfl (fun ls hl => ?_)
  exact W.vret hx hb hr (fun t ht hW => ⟨⟨bdF h0 q1 q2 q3 q4 q5 q6, rfl, rfl, MW_mk (bd := bdF h0 q1 q2 q3 q4 q5 q6) (by rw [ht]; exact hP) (va_K.moved hW.alike hK) hD hC2⟩, hS.F ht⟩) hS.2.2 dX3_init_64
end
section
/-! THE CLAIM OUT OF ONE WALK OF THE LAW'S BODY. Your part is whole_start (and what it stands on); all else here is the same for every law, but numbers. -/
def R_law : String := "PointColoursLaw"
def lw_P (b : Addr) (xs : List Int32) (args : Array Value) (s : State) : Prop := args = #[.ref b] ∧ s.IntsAt b xs ∧ xs.length ≤ 192 ∧ (Jvm.Cond.and given_1 narrow_1).before args s = true
def lw_Q (_ : Array Value) (s : State) (o : Outcome) (t : State) : Prop := o = .returned (some (.int 1)) ∧ Framed s o t [] 600000 7302250
def lw_Z (below : List Frame) (a : Array Value) (s : State) : State → Prop := fun t => ∃ o, t.status = .running ∧ Ended t below o ∧ lw_Q a s o t
/-- the law's own end, with 1 on the stack, nothing written that was there before, its room as the claim has it -/
theorem lw_ret {p : Program} {l : Launch} {e : Env} {s : State} {m : MethodId} {below : List Frame} {meth : Method} {c : Code} {b : Nat} (hx : p.tables.exec = Jvm.exec) (hb : c.code = code) (hr : meth.sig.returnType = ret) (hlocks : meth.locks = false) {pc : Nat} {H : Heap} {ls : Array Slot} (hdg : decode code pc = .ok (.ireturn, 1)) : W p l e room_1 s m #[Value.ref b] below meth c H [] 600000 7302250 (lw_Z below #[Value.ref b] s) (F0 m pc ls [.int 1]) := by
  intro T hT X
  obtain ⟨fs, hret, hrun, hended, hW, hframe⟩ := X.leave (v := some (.int 1)) (hlocks := hlocks) (fun h => by rw [hr] at h; cases h)
  have hmeth' : T.vm.method? m = some meth := X.method'
  refine ⟨T.setFrames fs, ?_, .returned (some (.int 1)), hrun, hended, rfl, ⟨_, rfl⟩, hW, hframe⟩
  jvm_step X.here [X.here.top, hx, hb, hdg, hmeth', hr, ret, narrow_b1]
  (try refine ⟨rfl, ?_⟩); (try refine ⟨rfl, ?_⟩)
  first | (intro acts; rw [hret _ acts rfl rfl rfl]) | rw [hret _ _ rfl rfl rfl]
  exact Steps.refl _
/-- what holds at the law's entry: the machine, the code, the tables' words (any of lw_tbl by 'hts w (by decide +kernel)'), the script of L ints xs at the cell b, what the Statement gives of the start (any of its parts by flat_of_before) -/
def lw_At (p : Program) (s : State) (m : MethodId) (meth : Method) (c : Code) (b L : Nat) (xs : Nat → Int32) : Prop :=
  p.tables.exec = Jvm.exec ∧ c.code = code ∧ meth.sig.returnType = ret ∧ c.maxLocals = 4 ∧ s.vm.findClass R_law = some m.cls ∧ (∀ w ∈ lw_tbl, w.before #[Value.ref b] s = true) ∧ va_X b L xs s s.heap ∧ b < s.heap.size ∧ meth.locks = false ∧ (Jvm.Cond.and given_1 narrow_1).before #[Value.ref b] s = true
section SLD
variable {p : Program} {l : Launch} {e : Env} {R : Room} {s : State} {m : MethodId} {args : Array Value} {below : List Frame} {meth : Method} {c : Code} {H : Heap} {locs : List Loc} {cells slots : Nat} {Q : State → Prop}
variable {cc : ByteArray} {pc : Nat} {ls : Array Slot} {rest : List Value} {A : Nat → Prop} {H0 : Heap}
theorem y_sld (hexec : p.tables.exec = Jvm.exec) (hb : c.code = cc) {b L : Nat} {xs : Nat → Int32} (hX : va_X b L xs s H0) (hbl : b < H0.size) (hbA : ¬ A b) (hS : va_S A H0 H locs) {i : Int32} {j : Nat} (hi : i = nI j) (hj : j < L) (hL : L < 2 ^ 31) (hdg : decode cc pc = .ok (.iaload, 1))
    (kk : W p l e R s m args below meth c H locs cells slots Q (F0 m (pc + 1) ls (.int (xs j) :: rest))) : W p l e R s m args below meth c H locs cells slots Q (F0 m pc ls (.int i :: .ref b :: rest)) := by
  subst hi
  refine va_sld hexec hb hX hbl hbA hS (vp_in_nI hj hL) hdg ?_
  rw [nI_clamp (Nat.lt_trans hj hL)]
  exact kk
end SLD
theorem law_more {L i : Nat} (hL : L ≤ 192) (hi : i ≤ L) (h : ¬ nI L - nI 3 < nI i) : i + 3 ≤ L := by
  rw [fa_lt, pk_sub_toInt (by omega) (by omega), nI_toInt (by omega)] at h
  omega
theorem arr_K {s : State} {args : Array Value} {ty : FieldType} (h : (Cond.arrayClass ty).before args s = true) : ∃ cA, ArrOfT s cA ty ∧ s.vm.findClass ("[" ++ ty.toString) = some cA := by
  obtain ⟨cA, kA, comp, h1, h2, h3⟩ := Cond.arrayClass_spec h
  exact ⟨cA, fun n z => ⟨fun k h => (by cases h), kA, h2, comp, h3⟩, h1⟩
end
section
/-! the law: one call of both sides -/
set_option maxHeartbeats 4000000 in
set_option maxRecDepth 100000 in
theorem law_begin {p : Program} {l : Launch} {e : Env} {s : State} {m : MethodId} {below : List Frame} {meth : Method} {c : Code} {dC : Nat → ClassId} {dI : Nat → Nat → Nat} {cI cZ : ClassId} {A : Nat → Prop} {b L : Nat} {xs : Nat → Int32} {ad bd : Nat → Nat} (hL : L ≤ 192) (hx : p.tables.exec = Jvm.exec) (hb : c.code = cL_law) (hml : c.maxLocals = 4) (hown : s.vm.findClass R_law = some m.cls) (hts : ∀ w ∈ lw_all, w.before #[Value.ref b] s = true) (hK : va_K (dC, dI) vwCl (tyK cI cZ) s) (hA : ∀ q : Nat, s.heap.size ≤ q → A q) (hbA : ¬ A b) (hX : va_X b L xs s s.heap) (hbl : b < s.heap.size) (hr : meth.sig.returnType = ret) (hlk : meth.locks = false) {i : Nat} (hi : i + 3 ≤ L) (kx : ∀ (st : AS) (cnt : Int32) (bits row cost wish degree left isOut order colour pairs costs wishes colours mrow mins : Nat → Int32) (H : Heap) (locs : List Loc) (ls : Array Slot), okS st → CR st.1 st.2.1 st.2.2.1 st.2.2.2.1 st.2.2.2.2.1 st.2.2.2.2.2 bits cost wish degree order colour → MR st.1 st.2.1 st.2.2.1 st.2.2.2.1 st.2.2.2.2.1 st.2.2.2.2.2 pairs costs wishes colours mrow → va_P (dC, dI) vwCl (wC ad cI cZ (nI st.1) (nI st.2.1) (b2i st.2.2.2.2.2) cnt bits row cost wish degree left isOut order colour ++ wM bd cI cZ (nI st.1) (nI st.2.1) (b2i st.2.2.2.2.2) pairs costs wishes colours mrow mins) H → va_D A (wC ad cI cZ (nI st.1) (nI st.2.1) (b2i st.2.2.2.2.2) cnt bits row cost wish degree left isOut order colour ++ wM bd cI cZ (nI st.1) (nI st.2.1) (b2i st.2.2.2.2.2) pairs costs wishes colours mrow mins) → va_S A s.heap H locs → lv_has ls 4 [(3, .int (nI i)), (0, .ref b), (1, .ref (ad 0)), (2, .ref (bd 0))] → W p l e room_1 s m #[Value.ref b] below meth c H locs 600000 7302250 (lw_Z below #[Value.ref b] s) (F0 m 348 ls [])) : ∀ (st : AS) (cnt : Int32) (bits row cost wish degree left isOut order colour pairs costs wishes colours mrow mins : Nat → Int32) (H : Heap) (locs : List Loc) (ls : Array Slot), okS st → CR st.1 st.2.1 st.2.2.1 st.2.2.2.1 st.2.2.2.2.1 st.2.2.2.2.2 bits cost wish degree order colour → MR st.1 st.2.1 st.2.2.1 st.2.2.2.1 st.2.2.2.2.1 st.2.2.2.2.2 pairs costs wishes colours mrow → va_P (dC, dI) vwCl (wC ad cI cZ (nI st.1) (nI st.2.1) (b2i st.2.2.2.2.2) cnt bits row cost wish degree left isOut order colour ++ wM bd cI cZ (nI st.1) (nI st.2.1) (b2i st.2.2.2.2.2) pairs costs wishes colours mrow mins) H → va_D A (wC ad cI cZ (nI st.1) (nI st.2.1) (b2i st.2.2.2.2.2) cnt bits row cost wish degree left isOut order colour ++ wM bd cI cZ (nI st.1) (nI st.2.1) (b2i st.2.2.2.2.2) pairs costs wishes colours mrow mins) → va_S A s.heap H locs → lv_has ls 4 [(3, .int (nI i)), (0, .ref b), (1, .ref (ad 0)), (2, .ref (bd 0))] → W p l e room_1 s m #[Value.ref b] below meth c H locs 600000 7302250 (lw_Z below #[Value.ref b] s) (F0 m 88 ls []) := by
  intro st cnt bits row cost wish degree left isOut order colour pairs costs wishes colours mrow mins H locs ls hok hC hM hP hD hS hl
  refine lv_aload_n hx hb dL_law_88 rfl (lv_at hl 2 rfl) ?_
  refine lv_aload_n hx hb dL_law_89 rfl (lv_at hl 1 rfl) ?_
  refine lv_iload_n hx hb dL_law_90 rfl (lv_at hl 0 rfl) ?_
  refine lv_iconst (v := nI 1) hx hb dL_law_91 (by decide) ?_
  refine lv_iadd hx hb dL_law_92 ?_
  refine y_ti (y := nI (i + 1)) (nI_add i 1) ?_
  refine y_sld (j := i + 1) hx hb hX hbl hbA hS rfl (by omega) (by omega) dL_law_93 ?_
  refine lv_aload_n hx hb dL_law_94 rfl (lv_at hl 1 rfl) ?_
  refine lv_iload_n hx hb dL_law_95 rfl (lv_at hl 0 rfl) ?_
  refine lv_iconst (v := nI 2) hx hb dL_law_96 (by decide) ?_
  refine lv_iadd hx hb dL_law_97 ?_
  refine y_ti (y := nI (i + 2)) (nI_add i 2) ?_
  refine y_sld (j := i + 2) hx hb hX hbl hbA hS rfl (by omega) (by omega) dL_law_98 ?_
  obtain ⟨st2, hst2⟩ : ∃ z, z = begS st (xs (i + 1)) (xs (i + 2)) := ⟨_, rfl⟩
  have hPc := hP.sub (ws' := wC ad cI cZ (nI st.1) (nI st.2.1) (b2i st.2.2.2.2.2) cnt bits row cost wish degree left isOut order colour) [0, 1, 2, 3, 4, 5, 6, 7, 8, 9, 10, 11] rfl
  have hDc := hD.sub (ws' := wC ad cI cZ (nI st.1) (nI st.2.1) (b2i st.2.2.2.2.2) cnt bits row cost wish degree left isOut order colour) [0, 1, 2, 3, 4, 5, 6, 7, 8, 9, 10, 11] (by decide) rfl
  have hFc := va_free (wc := wC ad cI cZ (nI st.1) (nI st.2.1) (b2i st.2.2.2.2.2) cnt bits row cost wish degree left isOut order colour) hD hS hA [0, 1, 2, 3, 4, 5, 6, 7, 8, 9, 10, 11] rfl
  refine va_calli (va_runV (As := [.int (xs (i + 1)), .int (xs (i + 2))]) (rest := []) ⟨hx, hb, hml, hown, hts⟩ (metC_begin l dC dI cI cZ H.size ad st.1 st.2.1 st.2.2.1 st.2.2.2.1 st.2.2.2.2.1 st.2.2.2.2.2 cnt bits row cost wish degree left isOut order colour hok hC (xs (i + 1)) (xs (i + 2))) (cwV 2 hts (lw_V q84 q85 q86 q10 q87) rfl rfl rfl (by decide +kernel) ⟨Nat.le_of_ble_eq_true rfl, Nat.le_of_ble_eq_true rfl⟩) (y_preW hK hPc hDc (ci := 0) (q0 := 0) rfl rfl) rfl rfl hl.1 rfl (lv_room (Nat.le_of_ble_eq_true rfl)) dL_law_99 ⟨Nat.le_of_ble_eq_true rfl, Nat.le_of_ble_eq_true rfl⟩) hS (fun q _ h => hFc q h) hFc (fun r1 u t H1 locs ht hvm hr1 hB hz1 hk1 hS => ?_)
  have hB : CW (dC, dI) (va_A (wC ad cI cZ (nI st.1) (nI st.2.1) (b2i st.2.2.2.2.2) cnt bits row cost wish degree left isOut order colour) H.size) ad cI cZ st2 t := by rw [hst2]; exact hB
  obtain ⟨cnt2, bits2, row2, cost2, wish2, degree2, left2, isOut2, order2, colour2, ⟨hP1, hK1, hD1⟩, hC2⟩ := hB
  rw [ht] at hP1
  obtain ⟨hP, hD⟩ := va_join (wr := wM bd cI cZ (nI st.1) (nI st.2.1) (b2i st.2.2.2.2.2) pairs costs wishes colours mrow mins) (w1 := wC ad cI cZ (nI st2.1) (nI st2.2.1) (b2i st2.2.2.2.2.2) cnt2 bits2 row2 cost2 wish2 degree2 left2 isOut2 order2 colour2) hP hD [0, 1, 2, 3, 4, 5, 6, 7, 8, 9, 10, 11] [12, 13, 14, 15, 16, 17, 18] rfl rfl (by decide) (by decide) hk1 hFc hP1 hD1
  generalize H1 = H at hP hS ⊢
  have hP : va_P (dC, dI) vwCl (wM bd cI cZ (nI st.1) (nI st.2.1) (b2i st.2.2.2.2.2) pairs costs wishes colours mrow mins ++ wC ad cI cZ (nI st2.1) (nI st2.2.1) (b2i st2.2.2.2.2.2) cnt2 bits2 row2 cost2 wish2 degree2 left2 isOut2 order2 colour2) H := hP
  have hD : va_D A (wM bd cI cZ (nI st.1) (nI st.2.1) (b2i st.2.2.2.2.2) pairs costs wishes colours mrow mins ++ wC ad cI cZ (nI st2.1) (nI st2.2.1) (b2i st2.2.2.2.2.2) cnt2 bits2 row2 cost2 wish2 degree2 left2 isOut2 order2 colour2) := hD
  refine lv_aload_n hx hb dL_law_102 rfl (lv_at hl 3 rfl) ?_
  refine lv_aload_n hx hb dL_law_103 rfl (lv_at hl 1 rfl) ?_
  refine lv_iload_n hx hb dL_law_104 rfl (lv_at hl 0 rfl) ?_
  refine lv_iconst (v := nI 1) hx hb dL_law_105 (by decide) ?_
  refine lv_iadd hx hb dL_law_106 ?_
  refine y_ti (y := nI (i + 1)) (nI_add i 1) ?_
  refine y_sld (j := i + 1) hx hb hX hbl hbA hS rfl (by omega) (by omega) dL_law_107 ?_
  refine lv_aload_n hx hb dL_law_108 rfl (lv_at hl 1 rfl) ?_
  refine lv_iload_n hx hb dL_law_109 rfl (lv_at hl 0 rfl) ?_
  refine lv_iconst (v := nI 2) hx hb dL_law_110 (by decide) ?_
  refine lv_iadd hx hb dL_law_111 ?_
  refine y_ti (y := nI (i + 2)) (nI_add i 2) ?_
  refine y_sld (j := i + 2) hx hb hX hbl hbA hS rfl (by omega) (by omega) dL_law_112 ?_
  have hPc := hP.sub (ws' := wM bd cI cZ (nI st.1) (nI st.2.1) (b2i st.2.2.2.2.2) pairs costs wishes colours mrow mins) [0, 1, 2, 3, 4, 5, 6] rfl
  have hDc := hD.sub (ws' := wM bd cI cZ (nI st.1) (nI st.2.1) (b2i st.2.2.2.2.2) pairs costs wishes colours mrow mins) [0, 1, 2, 3, 4, 5, 6] (by decide) rfl
  have hFc := va_free (wc := wM bd cI cZ (nI st.1) (nI st.2.1) (b2i st.2.2.2.2.2) pairs costs wishes colours mrow mins) hD hS hA [0, 1, 2, 3, 4, 5, 6] rfl
  refine va_calli (va_runV (As := [.int (xs (i + 1)), .int (xs (i + 2))]) (rest := [.int r1]) ⟨hx, hb, hml, hown, hts⟩ (metM_begin l dC dI cI cZ H.size bd st (nI st.1) (nI st.2.1) (b2i st.2.2.2.2.2) pairs costs wishes colours mrow mins (xs (i + 1)) (xs (i + 2)) (fun _ => ⟨rfl, rfl, rfl, hM⟩)) (cwV 2 hts (lw_V q212 q181 q182 q13 q183) rfl rfl rfl (by decide +kernel) ⟨Nat.le_of_ble_eq_true rfl, Nat.le_of_ble_eq_true rfl⟩) (y_preW hK hPc hDc (ci := 3) (q0 := 0) rfl rfl) rfl rfl hl.1 rfl (lv_room (Nat.le_of_ble_eq_true rfl)) dL_law_113 ⟨Nat.le_of_ble_eq_true rfl, Nat.le_of_ble_eq_true rfl⟩) hS (fun q _ h => hFc q h) hFc (fun r2 u t H1 locs ht hvm hr2 hB hz1 hk1 hS => ?_)
  have hB : MW (dC, dI) (va_A (wM bd cI cZ (nI st.1) (nI st.2.1) (b2i st.2.2.2.2.2) pairs costs wishes colours mrow mins) H.size) bd cI cZ st2 t := by rw [hst2]; exact hB
  obtain ⟨pairs2, costs2, wishes2, colours2, mrow2, mins2, ⟨hP1, hK1, hD1⟩, hM2⟩ := hB
  rw [ht] at hP1
  obtain ⟨hP, hD⟩ := va_join (wr := wC ad cI cZ (nI st2.1) (nI st2.2.1) (b2i st2.2.2.2.2.2) cnt2 bits2 row2 cost2 wish2 degree2 left2 isOut2 order2 colour2) (w1 := wM bd cI cZ (nI st2.1) (nI st2.2.1) (b2i st2.2.2.2.2.2) pairs2 costs2 wishes2 colours2 mrow2 mins2) hP hD [0, 1, 2, 3, 4, 5, 6] [7, 8, 9, 10, 11, 12, 13, 14, 15, 16, 17, 18] rfl rfl (by decide) (by decide) hk1 hFc hP1 hD1
  generalize H1 = H at hP hS ⊢
  have hP : va_P (dC, dI) vwCl (wC ad cI cZ (nI st2.1) (nI st2.2.1) (b2i st2.2.2.2.2.2) cnt2 bits2 row2 cost2 wish2 degree2 left2 isOut2 order2 colour2 ++ wM bd cI cZ (nI st2.1) (nI st2.2.1) (b2i st2.2.2.2.2.2) pairs2 costs2 wishes2 colours2 mrow2 mins2) H := hP
  have hD : va_D A (wC ad cI cZ (nI st2.1) (nI st2.2.1) (b2i st2.2.2.2.2.2) cnt2 bits2 row2 cost2 wish2 degree2 left2 isOut2 order2 colour2 ++ wM bd cI cZ (nI st2.1) (nI st2.2.1) (b2i st2.2.2.2.2.2) pairs2 costs2 wishes2 colours2 mrow2 mins2) := hD
  refine lv_icmp_eq (tgt := 348) hx hb dL_law_116 (by decide) (fun ce => ?_) (fun ce => ?_)
  · exact kx st2 cnt2 bits2 row2 cost2 wish2 degree2 left2 isOut2 order2 colour2 pairs2 costs2 wishes2 colours2 mrow2 mins2 H locs ls (by rw [hst2]; exact ok_beg hok) hC2 hM2 hP hD hS hl
  · exact absurd (hr1.trans hr2.symm) ce
set_option maxHeartbeats 4000000 in
set_option maxRecDepth 100000 in
theorem law_join {p : Program} {l : Launch} {e : Env} {s : State} {m : MethodId} {below : List Frame} {meth : Method} {c : Code} {dC : Nat → ClassId} {dI : Nat → Nat → Nat} {cI cZ : ClassId} {A : Nat → Prop} {b L : Nat} {xs : Nat → Int32} {ad bd : Nat → Nat} (hL : L ≤ 192) (hx : p.tables.exec = Jvm.exec) (hb : c.code = cL_law) (hml : c.maxLocals = 4) (hown : s.vm.findClass R_law = some m.cls) (hts : ∀ w ∈ lw_all, w.before #[Value.ref b] s = true) (hK : va_K (dC, dI) vwCl (tyK cI cZ) s) (hA : ∀ q : Nat, s.heap.size ≤ q → A q) (hbA : ¬ A b) (hX : va_X b L xs s s.heap) (hbl : b < s.heap.size) (hr : meth.sig.returnType = ret) (hlk : meth.locks = false) {i : Nat} (hi : i + 3 ≤ L) (kx : ∀ (st : AS) (cnt : Int32) (bits row cost wish degree left isOut order colour pairs costs wishes colours mrow mins : Nat → Int32) (H : Heap) (locs : List Loc) (ls : Array Slot), okS st → CR st.1 st.2.1 st.2.2.1 st.2.2.2.1 st.2.2.2.2.1 st.2.2.2.2.2 bits cost wish degree order colour → MR st.1 st.2.1 st.2.2.1 st.2.2.2.1 st.2.2.2.2.1 st.2.2.2.2.2 pairs costs wishes colours mrow → va_P (dC, dI) vwCl (wC ad cI cZ (nI st.1) (nI st.2.1) (b2i st.2.2.2.2.2) cnt bits row cost wish degree left isOut order colour ++ wM bd cI cZ (nI st.1) (nI st.2.1) (b2i st.2.2.2.2.2) pairs costs wishes colours mrow mins) H → va_D A (wC ad cI cZ (nI st.1) (nI st.2.1) (b2i st.2.2.2.2.2) cnt bits row cost wish degree left isOut order colour ++ wM bd cI cZ (nI st.1) (nI st.2.1) (b2i st.2.2.2.2.2) pairs costs wishes colours mrow mins) → va_S A s.heap H locs → lv_has ls 4 [(3, .int (nI i)), (0, .ref b), (1, .ref (ad 0)), (2, .ref (bd 0))] → W p l e room_1 s m #[Value.ref b] below meth c H locs 600000 7302250 (lw_Z below #[Value.ref b] s) (F0 m 348 ls [])) : ∀ (st : AS) (cnt : Int32) (bits row cost wish degree left isOut order colour pairs costs wishes colours mrow mins : Nat → Int32) (H : Heap) (locs : List Loc) (ls : Array Slot), okS st → CR st.1 st.2.1 st.2.2.1 st.2.2.2.1 st.2.2.2.2.1 st.2.2.2.2.2 bits cost wish degree order colour → MR st.1 st.2.1 st.2.2.1 st.2.2.2.1 st.2.2.2.2.1 st.2.2.2.2.2 pairs costs wishes colours mrow → va_P (dC, dI) vwCl (wC ad cI cZ (nI st.1) (nI st.2.1) (b2i st.2.2.2.2.2) cnt bits row cost wish degree left isOut order colour ++ wM bd cI cZ (nI st.1) (nI st.2.1) (b2i st.2.2.2.2.2) pairs costs wishes colours mrow mins) H → va_D A (wC ad cI cZ (nI st.1) (nI st.2.1) (b2i st.2.2.2.2.2) cnt bits row cost wish degree left isOut order colour ++ wM bd cI cZ (nI st.1) (nI st.2.1) (b2i st.2.2.2.2.2) pairs costs wishes colours mrow mins) → va_S A s.heap H locs → lv_has ls 4 [(3, .int (nI i)), (0, .ref b), (1, .ref (ad 0)), (2, .ref (bd 0))] → W p l e room_1 s m #[Value.ref b] below meth c H locs 600000 7302250 (lw_Z below #[Value.ref b] s) (F0 m 121 ls []) := by
  intro st cnt bits row cost wish degree left isOut order colour pairs costs wishes colours mrow mins H locs ls hok hC hM hP hD hS hl
  refine lv_aload_n hx hb dL_law_121 rfl (lv_at hl 2 rfl) ?_
  refine lv_aload_n hx hb dL_law_122 rfl (lv_at hl 1 rfl) ?_
  refine lv_iload_n hx hb dL_law_123 rfl (lv_at hl 0 rfl) ?_
  refine lv_iconst (v := nI 1) hx hb dL_law_124 (by decide) ?_
  refine lv_iadd hx hb dL_law_125 ?_
  refine y_ti (y := nI (i + 1)) (nI_add i 1) ?_
  refine y_sld (j := i + 1) hx hb hX hbl hbA hS rfl (by omega) (by omega) dL_law_126 ?_
  refine lv_aload_n hx hb dL_law_127 rfl (lv_at hl 1 rfl) ?_
  refine lv_iload_n hx hb dL_law_128 rfl (lv_at hl 0 rfl) ?_
  refine lv_iconst (v := nI 2) hx hb dL_law_129 (by decide) ?_
  refine lv_iadd hx hb dL_law_130 ?_
  refine y_ti (y := nI (i + 2)) (nI_add i 2) ?_
  refine y_sld (j := i + 2) hx hb hX hbl hbA hS rfl (by omega) (by omega) dL_law_131 ?_
  obtain ⟨st2, hst2⟩ : ∃ z, z = joinS st (xs (i + 1)) (xs (i + 2)) := ⟨_, rfl⟩
  have hPc := hP.sub (ws' := wC ad cI cZ (nI st.1) (nI st.2.1) (b2i st.2.2.2.2.2) cnt bits row cost wish degree left isOut order colour) [0, 1, 2, 3, 4, 5, 6, 7, 8, 9, 10, 11] rfl
  have hDc := hD.sub (ws' := wC ad cI cZ (nI st.1) (nI st.2.1) (b2i st.2.2.2.2.2) cnt bits row cost wish degree left isOut order colour) [0, 1, 2, 3, 4, 5, 6, 7, 8, 9, 10, 11] (by decide) rfl
  have hFc := va_free (wc := wC ad cI cZ (nI st.1) (nI st.2.1) (b2i st.2.2.2.2.2) cnt bits row cost wish degree left isOut order colour) hD hS hA [0, 1, 2, 3, 4, 5, 6, 7, 8, 9, 10, 11] rfl
  refine va_calli (va_runV (As := [.int (xs (i + 1)), .int (xs (i + 2))]) (rest := []) ⟨hx, hb, hml, hown, hts⟩ (metC_join l dC dI cI cZ H.size ad st.1 st.2.1 st.2.2.1 st.2.2.2.1 st.2.2.2.2.1 st.2.2.2.2.2 cnt bits row cost wish degree left isOut order colour hok hC (xs (i + 1)) (xs (i + 2))) (cwV 2 hts (lw_V q92 q93 q94 q10 q95) rfl rfl rfl (by decide +kernel) ⟨Nat.le_of_ble_eq_true rfl, Nat.le_of_ble_eq_true rfl⟩) (y_preW hK hPc hDc (ci := 0) (q0 := 0) rfl rfl) rfl rfl hl.1 rfl (lv_room (Nat.le_of_ble_eq_true rfl)) dL_law_132 ⟨Nat.le_of_ble_eq_true rfl, Nat.le_of_ble_eq_true rfl⟩) hS (fun q _ h => hFc q h) hFc (fun r1 u t H1 locs ht hvm hr1 hB hz1 hk1 hS => ?_)
  have hB : CW (dC, dI) (va_A (wC ad cI cZ (nI st.1) (nI st.2.1) (b2i st.2.2.2.2.2) cnt bits row cost wish degree left isOut order colour) H.size) ad cI cZ st2 t := by rw [hst2]; exact hB
  obtain ⟨cnt2, bits2, row2, cost2, wish2, degree2, left2, isOut2, order2, colour2, ⟨hP1, hK1, hD1⟩, hC2⟩ := hB
  rw [ht] at hP1
  obtain ⟨hP, hD⟩ := va_join (wr := wM bd cI cZ (nI st.1) (nI st.2.1) (b2i st.2.2.2.2.2) pairs costs wishes colours mrow mins) (w1 := wC ad cI cZ (nI st2.1) (nI st2.2.1) (b2i st2.2.2.2.2.2) cnt2 bits2 row2 cost2 wish2 degree2 left2 isOut2 order2 colour2) hP hD [0, 1, 2, 3, 4, 5, 6, 7, 8, 9, 10, 11] [12, 13, 14, 15, 16, 17, 18] rfl rfl (by decide) (by decide) hk1 hFc hP1 hD1
  generalize H1 = H at hP hS ⊢
  have hP : va_P (dC, dI) vwCl (wM bd cI cZ (nI st.1) (nI st.2.1) (b2i st.2.2.2.2.2) pairs costs wishes colours mrow mins ++ wC ad cI cZ (nI st2.1) (nI st2.2.1) (b2i st2.2.2.2.2.2) cnt2 bits2 row2 cost2 wish2 degree2 left2 isOut2 order2 colour2) H := hP
  have hD : va_D A (wM bd cI cZ (nI st.1) (nI st.2.1) (b2i st.2.2.2.2.2) pairs costs wishes colours mrow mins ++ wC ad cI cZ (nI st2.1) (nI st2.2.1) (b2i st2.2.2.2.2.2) cnt2 bits2 row2 cost2 wish2 degree2 left2 isOut2 order2 colour2) := hD
  refine lv_aload_n hx hb dL_law_135 rfl (lv_at hl 3 rfl) ?_
  refine lv_aload_n hx hb dL_law_136 rfl (lv_at hl 1 rfl) ?_
  refine lv_iload_n hx hb dL_law_137 rfl (lv_at hl 0 rfl) ?_
  refine lv_iconst (v := nI 1) hx hb dL_law_138 (by decide) ?_
  refine lv_iadd hx hb dL_law_139 ?_
  refine y_ti (y := nI (i + 1)) (nI_add i 1) ?_
  refine y_sld (j := i + 1) hx hb hX hbl hbA hS rfl (by omega) (by omega) dL_law_140 ?_
  refine lv_aload_n hx hb dL_law_141 rfl (lv_at hl 1 rfl) ?_
  refine lv_iload_n hx hb dL_law_142 rfl (lv_at hl 0 rfl) ?_
  refine lv_iconst (v := nI 2) hx hb dL_law_143 (by decide) ?_
  refine lv_iadd hx hb dL_law_144 ?_
  refine y_ti (y := nI (i + 2)) (nI_add i 2) ?_
  refine y_sld (j := i + 2) hx hb hX hbl hbA hS rfl (by omega) (by omega) dL_law_145 ?_
  have hPc := hP.sub (ws' := wM bd cI cZ (nI st.1) (nI st.2.1) (b2i st.2.2.2.2.2) pairs costs wishes colours mrow mins) [0, 1, 2, 3, 4, 5, 6] rfl
  have hDc := hD.sub (ws' := wM bd cI cZ (nI st.1) (nI st.2.1) (b2i st.2.2.2.2.2) pairs costs wishes colours mrow mins) [0, 1, 2, 3, 4, 5, 6] (by decide) rfl
  have hFc := va_free (wc := wM bd cI cZ (nI st.1) (nI st.2.1) (b2i st.2.2.2.2.2) pairs costs wishes colours mrow mins) hD hS hA [0, 1, 2, 3, 4, 5, 6] rfl
  refine va_calli (va_runV (As := [.int (xs (i + 1)), .int (xs (i + 2))]) (rest := [.int r1]) ⟨hx, hb, hml, hown, hts⟩ (metM_join l dC dI cI cZ H.size bd st.1 st.2.1 st.2.2.1 st.2.2.2.1 st.2.2.2.2.1 st.2.2.2.2.2 pairs costs wishes colours mrow mins hok hM (xs (i + 1)) (xs (i + 2))) (cwV 2 hts (lw_V q213 q214 q215 q13 q216) rfl rfl rfl (by decide +kernel) ⟨Nat.le_of_ble_eq_true rfl, Nat.le_of_ble_eq_true rfl⟩) (y_preW hK hPc hDc (ci := 3) (q0 := 0) rfl rfl) rfl rfl hl.1 rfl (lv_room (Nat.le_of_ble_eq_true rfl)) dL_law_146 ⟨Nat.le_of_ble_eq_true rfl, Nat.le_of_ble_eq_true rfl⟩) hS (fun q _ h => hFc q h) hFc (fun r2 u t H1 locs ht hvm hr2 hB hz1 hk1 hS => ?_)
  have hB : MW (dC, dI) (va_A (wM bd cI cZ (nI st.1) (nI st.2.1) (b2i st.2.2.2.2.2) pairs costs wishes colours mrow mins) H.size) bd cI cZ st2 t := by rw [hst2]; exact hB
  obtain ⟨pairs2, costs2, wishes2, colours2, mrow2, mins2, ⟨hP1, hK1, hD1⟩, hM2⟩ := hB
  rw [ht] at hP1
  obtain ⟨hP, hD⟩ := va_join (wr := wC ad cI cZ (nI st2.1) (nI st2.2.1) (b2i st2.2.2.2.2.2) cnt2 bits2 row2 cost2 wish2 degree2 left2 isOut2 order2 colour2) (w1 := wM bd cI cZ (nI st2.1) (nI st2.2.1) (b2i st2.2.2.2.2.2) pairs2 costs2 wishes2 colours2 mrow2 mins2) hP hD [0, 1, 2, 3, 4, 5, 6] [7, 8, 9, 10, 11, 12, 13, 14, 15, 16, 17, 18] rfl rfl (by decide) (by decide) hk1 hFc hP1 hD1
  generalize H1 = H at hP hS ⊢
  have hP : va_P (dC, dI) vwCl (wC ad cI cZ (nI st2.1) (nI st2.2.1) (b2i st2.2.2.2.2.2) cnt2 bits2 row2 cost2 wish2 degree2 left2 isOut2 order2 colour2 ++ wM bd cI cZ (nI st2.1) (nI st2.2.1) (b2i st2.2.2.2.2.2) pairs2 costs2 wishes2 colours2 mrow2 mins2) H := hP
  have hD : va_D A (wC ad cI cZ (nI st2.1) (nI st2.2.1) (b2i st2.2.2.2.2.2) cnt2 bits2 row2 cost2 wish2 degree2 left2 isOut2 order2 colour2 ++ wM bd cI cZ (nI st2.1) (nI st2.2.1) (b2i st2.2.2.2.2.2) pairs2 costs2 wishes2 colours2 mrow2 mins2) := hD
  refine lv_icmp_eq (tgt := 348) hx hb dL_law_149 (by decide) (fun ce => ?_) (fun ce => ?_)
  · exact kx st2 cnt2 bits2 row2 cost2 wish2 degree2 left2 isOut2 order2 colour2 pairs2 costs2 wishes2 colours2 mrow2 mins2 H locs ls (by rw [hst2]; exact ok_join hok) hC2 hM2 hP hD hS hl
  · exact absurd (hr1.trans hr2.symm) ce
set_option maxHeartbeats 4000000 in
set_option maxRecDepth 100000 in
theorem law_cost {p : Program} {l : Launch} {e : Env} {s : State} {m : MethodId} {below : List Frame} {meth : Method} {c : Code} {dC : Nat → ClassId} {dI : Nat → Nat → Nat} {cI cZ : ClassId} {A : Nat → Prop} {b L : Nat} {xs : Nat → Int32} {ad bd : Nat → Nat} (hL : L ≤ 192) (hx : p.tables.exec = Jvm.exec) (hb : c.code = cL_law) (hml : c.maxLocals = 4) (hown : s.vm.findClass R_law = some m.cls) (hts : ∀ w ∈ lw_all, w.before #[Value.ref b] s = true) (hK : va_K (dC, dI) vwCl (tyK cI cZ) s) (hA : ∀ q : Nat, s.heap.size ≤ q → A q) (hbA : ¬ A b) (hX : va_X b L xs s s.heap) (hbl : b < s.heap.size) (hr : meth.sig.returnType = ret) (hlk : meth.locks = false) {i : Nat} (hi : i + 3 ≤ L) (kx : ∀ (st : AS) (cnt : Int32) (bits row cost wish degree left isOut order colour pairs costs wishes colours mrow mins : Nat → Int32) (H : Heap) (locs : List Loc) (ls : Array Slot), okS st → CR st.1 st.2.1 st.2.2.1 st.2.2.2.1 st.2.2.2.2.1 st.2.2.2.2.2 bits cost wish degree order colour → MR st.1 st.2.1 st.2.2.1 st.2.2.2.1 st.2.2.2.2.1 st.2.2.2.2.2 pairs costs wishes colours mrow → va_P (dC, dI) vwCl (wC ad cI cZ (nI st.1) (nI st.2.1) (b2i st.2.2.2.2.2) cnt bits row cost wish degree left isOut order colour ++ wM bd cI cZ (nI st.1) (nI st.2.1) (b2i st.2.2.2.2.2) pairs costs wishes colours mrow mins) H → va_D A (wC ad cI cZ (nI st.1) (nI st.2.1) (b2i st.2.2.2.2.2) cnt bits row cost wish degree left isOut order colour ++ wM bd cI cZ (nI st.1) (nI st.2.1) (b2i st.2.2.2.2.2) pairs costs wishes colours mrow mins) → va_S A s.heap H locs → lv_has ls 4 [(3, .int (nI i)), (0, .ref b), (1, .ref (ad 0)), (2, .ref (bd 0))] → W p l e room_1 s m #[Value.ref b] below meth c H locs 600000 7302250 (lw_Z below #[Value.ref b] s) (F0 m 348 ls [])) : ∀ (st : AS) (cnt : Int32) (bits row cost wish degree left isOut order colour pairs costs wishes colours mrow mins : Nat → Int32) (H : Heap) (locs : List Loc) (ls : Array Slot), okS st → CR st.1 st.2.1 st.2.2.1 st.2.2.2.1 st.2.2.2.2.1 st.2.2.2.2.2 bits cost wish degree order colour → MR st.1 st.2.1 st.2.2.1 st.2.2.2.1 st.2.2.2.2.1 st.2.2.2.2.2 pairs costs wishes colours mrow → va_P (dC, dI) vwCl (wC ad cI cZ (nI st.1) (nI st.2.1) (b2i st.2.2.2.2.2) cnt bits row cost wish degree left isOut order colour ++ wM bd cI cZ (nI st.1) (nI st.2.1) (b2i st.2.2.2.2.2) pairs costs wishes colours mrow mins) H → va_D A (wC ad cI cZ (nI st.1) (nI st.2.1) (b2i st.2.2.2.2.2) cnt bits row cost wish degree left isOut order colour ++ wM bd cI cZ (nI st.1) (nI st.2.1) (b2i st.2.2.2.2.2) pairs costs wishes colours mrow mins) → va_S A s.heap H locs → lv_has ls 4 [(3, .int (nI i)), (0, .ref b), (1, .ref (ad 0)), (2, .ref (bd 0))] → W p l e room_1 s m #[Value.ref b] below meth c H locs 600000 7302250 (lw_Z below #[Value.ref b] s) (F0 m 154 ls []) := by
  intro st cnt bits row cost wish degree left isOut order colour pairs costs wishes colours mrow mins H locs ls hok hC hM hP hD hS hl
  refine lv_aload_n hx hb dL_law_154 rfl (lv_at hl 2 rfl) ?_
  refine lv_aload_n hx hb dL_law_155 rfl (lv_at hl 1 rfl) ?_
  refine lv_iload_n hx hb dL_law_156 rfl (lv_at hl 0 rfl) ?_
  refine lv_iconst (v := nI 1) hx hb dL_law_157 (by decide) ?_
  refine lv_iadd hx hb dL_law_158 ?_
  refine y_ti (y := nI (i + 1)) (nI_add i 1) ?_
  refine y_sld (j := i + 1) hx hb hX hbl hbA hS rfl (by omega) (by omega) dL_law_159 ?_
  refine lv_aload_n hx hb dL_law_160 rfl (lv_at hl 1 rfl) ?_
  refine lv_iload_n hx hb dL_law_161 rfl (lv_at hl 0 rfl) ?_
  refine lv_iconst (v := nI 2) hx hb dL_law_162 (by decide) ?_
  refine lv_iadd hx hb dL_law_163 ?_
  refine y_ti (y := nI (i + 2)) (nI_add i 2) ?_
  refine y_sld (j := i + 2) hx hb hX hbl hbA hS rfl (by omega) (by omega) dL_law_164 ?_
  obtain ⟨st2, hst2⟩ : ∃ z, z = costS st (xs (i + 1)) (xs (i + 2)) := ⟨_, rfl⟩
  have hPc := hP.sub (ws' := wC ad cI cZ (nI st.1) (nI st.2.1) (b2i st.2.2.2.2.2) cnt bits row cost wish degree left isOut order colour) [0, 1, 2, 3, 4, 5, 6, 7, 8, 9, 10, 11] rfl
  have hDc := hD.sub (ws' := wC ad cI cZ (nI st.1) (nI st.2.1) (b2i st.2.2.2.2.2) cnt bits row cost wish degree left isOut order colour) [0, 1, 2, 3, 4, 5, 6, 7, 8, 9, 10, 11] (by decide) rfl
  have hFc := va_free (wc := wC ad cI cZ (nI st.1) (nI st.2.1) (b2i st.2.2.2.2.2) cnt bits row cost wish degree left isOut order colour) hD hS hA [0, 1, 2, 3, 4, 5, 6, 7, 8, 9, 10, 11] rfl
  refine va_calli (va_runV (As := [.int (xs (i + 1)), .int (xs (i + 2))]) (rest := []) ⟨hx, hb, hml, hown, hts⟩ (metC_cost l dC dI cI cZ H.size ad st.1 st.2.1 st.2.2.1 st.2.2.2.1 st.2.2.2.2.1 st.2.2.2.2.2 cnt bits row cost wish degree left isOut order colour hok hC (xs (i + 1)) (xs (i + 2))) (cwV 2 hts (lw_V q108 q109 q110 q10 q111) rfl rfl rfl (by decide +kernel) ⟨Nat.le_of_ble_eq_true rfl, Nat.le_of_ble_eq_true rfl⟩) (y_preW hK hPc hDc (ci := 0) (q0 := 0) rfl rfl) rfl rfl hl.1 rfl (lv_room (Nat.le_of_ble_eq_true rfl)) dL_law_165 ⟨Nat.le_of_ble_eq_true rfl, Nat.le_of_ble_eq_true rfl⟩) hS (fun q _ h => hFc q h) hFc (fun r1 u t H1 locs ht hvm hr1 hB hz1 hk1 hS => ?_)
  have hB : CW (dC, dI) (va_A (wC ad cI cZ (nI st.1) (nI st.2.1) (b2i st.2.2.2.2.2) cnt bits row cost wish degree left isOut order colour) H.size) ad cI cZ st2 t := by rw [hst2]; exact hB
  obtain ⟨cnt2, bits2, row2, cost2, wish2, degree2, left2, isOut2, order2, colour2, ⟨hP1, hK1, hD1⟩, hC2⟩ := hB
  rw [ht] at hP1
  obtain ⟨hP, hD⟩ := va_join (wr := wM bd cI cZ (nI st.1) (nI st.2.1) (b2i st.2.2.2.2.2) pairs costs wishes colours mrow mins) (w1 := wC ad cI cZ (nI st2.1) (nI st2.2.1) (b2i st2.2.2.2.2.2) cnt2 bits2 row2 cost2 wish2 degree2 left2 isOut2 order2 colour2) hP hD [0, 1, 2, 3, 4, 5, 6, 7, 8, 9, 10, 11] [12, 13, 14, 15, 16, 17, 18] rfl rfl (by decide) (by decide) hk1 hFc hP1 hD1
  generalize H1 = H at hP hS ⊢
  have hP : va_P (dC, dI) vwCl (wM bd cI cZ (nI st.1) (nI st.2.1) (b2i st.2.2.2.2.2) pairs costs wishes colours mrow mins ++ wC ad cI cZ (nI st2.1) (nI st2.2.1) (b2i st2.2.2.2.2.2) cnt2 bits2 row2 cost2 wish2 degree2 left2 isOut2 order2 colour2) H := hP
  have hD : va_D A (wM bd cI cZ (nI st.1) (nI st.2.1) (b2i st.2.2.2.2.2) pairs costs wishes colours mrow mins ++ wC ad cI cZ (nI st2.1) (nI st2.2.1) (b2i st2.2.2.2.2.2) cnt2 bits2 row2 cost2 wish2 degree2 left2 isOut2 order2 colour2) := hD
  refine lv_aload_n hx hb dL_law_168 rfl (lv_at hl 3 rfl) ?_
  refine lv_aload_n hx hb dL_law_169 rfl (lv_at hl 1 rfl) ?_
  refine lv_iload_n hx hb dL_law_170 rfl (lv_at hl 0 rfl) ?_
  refine lv_iconst (v := nI 1) hx hb dL_law_171 (by decide) ?_
  refine lv_iadd hx hb dL_law_172 ?_
  refine y_ti (y := nI (i + 1)) (nI_add i 1) ?_
  refine y_sld (j := i + 1) hx hb hX hbl hbA hS rfl (by omega) (by omega) dL_law_173 ?_
  refine lv_aload_n hx hb dL_law_174 rfl (lv_at hl 1 rfl) ?_
  refine lv_iload_n hx hb dL_law_175 rfl (lv_at hl 0 rfl) ?_
  refine lv_iconst (v := nI 2) hx hb dL_law_176 (by decide) ?_
  refine lv_iadd hx hb dL_law_177 ?_
  refine y_ti (y := nI (i + 2)) (nI_add i 2) ?_
  refine y_sld (j := i + 2) hx hb hX hbl hbA hS rfl (by omega) (by omega) dL_law_178 ?_
  have hPc := hP.sub (ws' := wM bd cI cZ (nI st.1) (nI st.2.1) (b2i st.2.2.2.2.2) pairs costs wishes colours mrow mins) [0, 1, 2, 3, 4, 5, 6] rfl
  have hDc := hD.sub (ws' := wM bd cI cZ (nI st.1) (nI st.2.1) (b2i st.2.2.2.2.2) pairs costs wishes colours mrow mins) [0, 1, 2, 3, 4, 5, 6] (by decide) rfl
  have hFc := va_free (wc := wM bd cI cZ (nI st.1) (nI st.2.1) (b2i st.2.2.2.2.2) pairs costs wishes colours mrow mins) hD hS hA [0, 1, 2, 3, 4, 5, 6] rfl
  refine va_calli (va_runV (As := [.int (xs (i + 1)), .int (xs (i + 2))]) (rest := [.int r1]) ⟨hx, hb, hml, hown, hts⟩ (metM_cost l dC dI cI cZ H.size bd st.1 st.2.1 st.2.2.1 st.2.2.2.1 st.2.2.2.2.1 st.2.2.2.2.2 pairs costs wishes colours mrow mins hok hM (xs (i + 1)) (xs (i + 2))) (cwV 2 hts (lw_V q221 q222 q223 q13 q224) rfl rfl rfl (by decide +kernel) ⟨Nat.le_of_ble_eq_true rfl, Nat.le_of_ble_eq_true rfl⟩) (y_preW hK hPc hDc (ci := 3) (q0 := 0) rfl rfl) rfl rfl hl.1 rfl (lv_room (Nat.le_of_ble_eq_true rfl)) dL_law_179 ⟨Nat.le_of_ble_eq_true rfl, Nat.le_of_ble_eq_true rfl⟩) hS (fun q _ h => hFc q h) hFc (fun r2 u t H1 locs ht hvm hr2 hB hz1 hk1 hS => ?_)
  have hB : MW (dC, dI) (va_A (wM bd cI cZ (nI st.1) (nI st.2.1) (b2i st.2.2.2.2.2) pairs costs wishes colours mrow mins) H.size) bd cI cZ st2 t := by rw [hst2]; exact hB
  obtain ⟨pairs2, costs2, wishes2, colours2, mrow2, mins2, ⟨hP1, hK1, hD1⟩, hM2⟩ := hB
  rw [ht] at hP1
  obtain ⟨hP, hD⟩ := va_join (wr := wC ad cI cZ (nI st2.1) (nI st2.2.1) (b2i st2.2.2.2.2.2) cnt2 bits2 row2 cost2 wish2 degree2 left2 isOut2 order2 colour2) (w1 := wM bd cI cZ (nI st2.1) (nI st2.2.1) (b2i st2.2.2.2.2.2) pairs2 costs2 wishes2 colours2 mrow2 mins2) hP hD [0, 1, 2, 3, 4, 5, 6] [7, 8, 9, 10, 11, 12, 13, 14, 15, 16, 17, 18] rfl rfl (by decide) (by decide) hk1 hFc hP1 hD1
  generalize H1 = H at hP hS ⊢
  have hP : va_P (dC, dI) vwCl (wC ad cI cZ (nI st2.1) (nI st2.2.1) (b2i st2.2.2.2.2.2) cnt2 bits2 row2 cost2 wish2 degree2 left2 isOut2 order2 colour2 ++ wM bd cI cZ (nI st2.1) (nI st2.2.1) (b2i st2.2.2.2.2.2) pairs2 costs2 wishes2 colours2 mrow2 mins2) H := hP
  have hD : va_D A (wC ad cI cZ (nI st2.1) (nI st2.2.1) (b2i st2.2.2.2.2.2) cnt2 bits2 row2 cost2 wish2 degree2 left2 isOut2 order2 colour2 ++ wM bd cI cZ (nI st2.1) (nI st2.2.1) (b2i st2.2.2.2.2.2) pairs2 costs2 wishes2 colours2 mrow2 mins2) := hD
  refine lv_icmp_eq (tgt := 348) hx hb dL_law_182 (by decide) (fun ce => ?_) (fun ce => ?_)
  · exact kx st2 cnt2 bits2 row2 cost2 wish2 degree2 left2 isOut2 order2 colour2 pairs2 costs2 wishes2 colours2 mrow2 mins2 H locs ls (by rw [hst2]; exact ok_cost hok) hC2 hM2 hP hD hS hl
  · exact absurd (hr1.trans hr2.symm) ce
set_option maxHeartbeats 4000000 in
set_option maxRecDepth 100000 in
theorem law_wish {p : Program} {l : Launch} {e : Env} {s : State} {m : MethodId} {below : List Frame} {meth : Method} {c : Code} {dC : Nat → ClassId} {dI : Nat → Nat → Nat} {cI cZ : ClassId} {A : Nat → Prop} {b L : Nat} {xs : Nat → Int32} {ad bd : Nat → Nat} (hL : L ≤ 192) (hx : p.tables.exec = Jvm.exec) (hb : c.code = cL_law) (hml : c.maxLocals = 4) (hown : s.vm.findClass R_law = some m.cls) (hts : ∀ w ∈ lw_all, w.before #[Value.ref b] s = true) (hK : va_K (dC, dI) vwCl (tyK cI cZ) s) (hA : ∀ q : Nat, s.heap.size ≤ q → A q) (hbA : ¬ A b) (hX : va_X b L xs s s.heap) (hbl : b < s.heap.size) (hr : meth.sig.returnType = ret) (hlk : meth.locks = false) {i : Nat} (hi : i + 3 ≤ L) (kx : ∀ (st : AS) (cnt : Int32) (bits row cost wish degree left isOut order colour pairs costs wishes colours mrow mins : Nat → Int32) (H : Heap) (locs : List Loc) (ls : Array Slot), okS st → CR st.1 st.2.1 st.2.2.1 st.2.2.2.1 st.2.2.2.2.1 st.2.2.2.2.2 bits cost wish degree order colour → MR st.1 st.2.1 st.2.2.1 st.2.2.2.1 st.2.2.2.2.1 st.2.2.2.2.2 pairs costs wishes colours mrow → va_P (dC, dI) vwCl (wC ad cI cZ (nI st.1) (nI st.2.1) (b2i st.2.2.2.2.2) cnt bits row cost wish degree left isOut order colour ++ wM bd cI cZ (nI st.1) (nI st.2.1) (b2i st.2.2.2.2.2) pairs costs wishes colours mrow mins) H → va_D A (wC ad cI cZ (nI st.1) (nI st.2.1) (b2i st.2.2.2.2.2) cnt bits row cost wish degree left isOut order colour ++ wM bd cI cZ (nI st.1) (nI st.2.1) (b2i st.2.2.2.2.2) pairs costs wishes colours mrow mins) → va_S A s.heap H locs → lv_has ls 4 [(3, .int (nI i)), (0, .ref b), (1, .ref (ad 0)), (2, .ref (bd 0))] → W p l e room_1 s m #[Value.ref b] below meth c H locs 600000 7302250 (lw_Z below #[Value.ref b] s) (F0 m 348 ls [])) : ∀ (st : AS) (cnt : Int32) (bits row cost wish degree left isOut order colour pairs costs wishes colours mrow mins : Nat → Int32) (H : Heap) (locs : List Loc) (ls : Array Slot), okS st → CR st.1 st.2.1 st.2.2.1 st.2.2.2.1 st.2.2.2.2.1 st.2.2.2.2.2 bits cost wish degree order colour → MR st.1 st.2.1 st.2.2.1 st.2.2.2.1 st.2.2.2.2.1 st.2.2.2.2.2 pairs costs wishes colours mrow → va_P (dC, dI) vwCl (wC ad cI cZ (nI st.1) (nI st.2.1) (b2i st.2.2.2.2.2) cnt bits row cost wish degree left isOut order colour ++ wM bd cI cZ (nI st.1) (nI st.2.1) (b2i st.2.2.2.2.2) pairs costs wishes colours mrow mins) H → va_D A (wC ad cI cZ (nI st.1) (nI st.2.1) (b2i st.2.2.2.2.2) cnt bits row cost wish degree left isOut order colour ++ wM bd cI cZ (nI st.1) (nI st.2.1) (b2i st.2.2.2.2.2) pairs costs wishes colours mrow mins) → va_S A s.heap H locs → lv_has ls 4 [(3, .int (nI i)), (0, .ref b), (1, .ref (ad 0)), (2, .ref (bd 0))] → W p l e room_1 s m #[Value.ref b] below meth c H locs 600000 7302250 (lw_Z below #[Value.ref b] s) (F0 m 187 ls []) := by
  intro st cnt bits row cost wish degree left isOut order colour pairs costs wishes colours mrow mins H locs ls hok hC hM hP hD hS hl
  refine lv_aload_n hx hb dL_law_187 rfl (lv_at hl 2 rfl) ?_
  refine lv_aload_n hx hb dL_law_188 rfl (lv_at hl 1 rfl) ?_
  refine lv_iload_n hx hb dL_law_189 rfl (lv_at hl 0 rfl) ?_
  refine lv_iconst (v := nI 1) hx hb dL_law_190 (by decide) ?_
  refine lv_iadd hx hb dL_law_191 ?_
  refine y_ti (y := nI (i + 1)) (nI_add i 1) ?_
  refine y_sld (j := i + 1) hx hb hX hbl hbA hS rfl (by omega) (by omega) dL_law_192 ?_
  refine lv_aload_n hx hb dL_law_193 rfl (lv_at hl 1 rfl) ?_
  refine lv_iload_n hx hb dL_law_194 rfl (lv_at hl 0 rfl) ?_
  refine lv_iconst (v := nI 2) hx hb dL_law_195 (by decide) ?_
  refine lv_iadd hx hb dL_law_196 ?_
  refine y_ti (y := nI (i + 2)) (nI_add i 2) ?_
  refine y_sld (j := i + 2) hx hb hX hbl hbA hS rfl (by omega) (by omega) dL_law_197 ?_
  obtain ⟨st2, hst2⟩ : ∃ z, z = wishS st (xs (i + 1)) (xs (i + 2)) := ⟨_, rfl⟩
  have hPc := hP.sub (ws' := wC ad cI cZ (nI st.1) (nI st.2.1) (b2i st.2.2.2.2.2) cnt bits row cost wish degree left isOut order colour) [0, 1, 2, 3, 4, 5, 6, 7, 8, 9, 10, 11] rfl
  have hDc := hD.sub (ws' := wC ad cI cZ (nI st.1) (nI st.2.1) (b2i st.2.2.2.2.2) cnt bits row cost wish degree left isOut order colour) [0, 1, 2, 3, 4, 5, 6, 7, 8, 9, 10, 11] (by decide) rfl
  have hFc := va_free (wc := wC ad cI cZ (nI st.1) (nI st.2.1) (b2i st.2.2.2.2.2) cnt bits row cost wish degree left isOut order colour) hD hS hA [0, 1, 2, 3, 4, 5, 6, 7, 8, 9, 10, 11] rfl
  refine va_calli (va_runV (As := [.int (xs (i + 1)), .int (xs (i + 2))]) (rest := []) ⟨hx, hb, hml, hown, hts⟩ (metC_wish l dC dI cI cZ H.size ad st.1 st.2.1 st.2.2.1 st.2.2.2.1 st.2.2.2.2.1 st.2.2.2.2.2 cnt bits row cost wish degree left isOut order colour hok hC (xs (i + 1)) (xs (i + 2))) (cwV 2 hts (lw_V q113 q114 q115 q10 q116) rfl rfl rfl (by decide +kernel) ⟨Nat.le_of_ble_eq_true rfl, Nat.le_of_ble_eq_true rfl⟩) (y_preW hK hPc hDc (ci := 0) (q0 := 0) rfl rfl) rfl rfl hl.1 rfl (lv_room (Nat.le_of_ble_eq_true rfl)) dL_law_198 ⟨Nat.le_of_ble_eq_true rfl, Nat.le_of_ble_eq_true rfl⟩) hS (fun q _ h => hFc q h) hFc (fun r1 u t H1 locs ht hvm hr1 hB hz1 hk1 hS => ?_)
  have hB : CW (dC, dI) (va_A (wC ad cI cZ (nI st.1) (nI st.2.1) (b2i st.2.2.2.2.2) cnt bits row cost wish degree left isOut order colour) H.size) ad cI cZ st2 t := by rw [hst2]; exact hB
  obtain ⟨cnt2, bits2, row2, cost2, wish2, degree2, left2, isOut2, order2, colour2, ⟨hP1, hK1, hD1⟩, hC2⟩ := hB
  rw [ht] at hP1
  obtain ⟨hP, hD⟩ := va_join (wr := wM bd cI cZ (nI st.1) (nI st.2.1) (b2i st.2.2.2.2.2) pairs costs wishes colours mrow mins) (w1 := wC ad cI cZ (nI st2.1) (nI st2.2.1) (b2i st2.2.2.2.2.2) cnt2 bits2 row2 cost2 wish2 degree2 left2 isOut2 order2 colour2) hP hD [0, 1, 2, 3, 4, 5, 6, 7, 8, 9, 10, 11] [12, 13, 14, 15, 16, 17, 18] rfl rfl (by decide) (by decide) hk1 hFc hP1 hD1
  generalize H1 = H at hP hS ⊢
  have hP : va_P (dC, dI) vwCl (wM bd cI cZ (nI st.1) (nI st.2.1) (b2i st.2.2.2.2.2) pairs costs wishes colours mrow mins ++ wC ad cI cZ (nI st2.1) (nI st2.2.1) (b2i st2.2.2.2.2.2) cnt2 bits2 row2 cost2 wish2 degree2 left2 isOut2 order2 colour2) H := hP
  have hD : va_D A (wM bd cI cZ (nI st.1) (nI st.2.1) (b2i st.2.2.2.2.2) pairs costs wishes colours mrow mins ++ wC ad cI cZ (nI st2.1) (nI st2.2.1) (b2i st2.2.2.2.2.2) cnt2 bits2 row2 cost2 wish2 degree2 left2 isOut2 order2 colour2) := hD
  refine lv_aload_n hx hb dL_law_201 rfl (lv_at hl 3 rfl) ?_
  refine lv_aload_n hx hb dL_law_202 rfl (lv_at hl 1 rfl) ?_
  refine lv_iload_n hx hb dL_law_203 rfl (lv_at hl 0 rfl) ?_
  refine lv_iconst (v := nI 1) hx hb dL_law_204 (by decide) ?_
  refine lv_iadd hx hb dL_law_205 ?_
  refine y_ti (y := nI (i + 1)) (nI_add i 1) ?_
  refine y_sld (j := i + 1) hx hb hX hbl hbA hS rfl (by omega) (by omega) dL_law_206 ?_
  refine lv_aload_n hx hb dL_law_207 rfl (lv_at hl 1 rfl) ?_
  refine lv_iload_n hx hb dL_law_208 rfl (lv_at hl 0 rfl) ?_
  refine lv_iconst (v := nI 2) hx hb dL_law_209 (by decide) ?_
  refine lv_iadd hx hb dL_law_210 ?_
  refine y_ti (y := nI (i + 2)) (nI_add i 2) ?_
  refine y_sld (j := i + 2) hx hb hX hbl hbA hS rfl (by omega) (by omega) dL_law_211 ?_
  have hPc := hP.sub (ws' := wM bd cI cZ (nI st.1) (nI st.2.1) (b2i st.2.2.2.2.2) pairs costs wishes colours mrow mins) [0, 1, 2, 3, 4, 5, 6] rfl
  have hDc := hD.sub (ws' := wM bd cI cZ (nI st.1) (nI st.2.1) (b2i st.2.2.2.2.2) pairs costs wishes colours mrow mins) [0, 1, 2, 3, 4, 5, 6] (by decide) rfl
  have hFc := va_free (wc := wM bd cI cZ (nI st.1) (nI st.2.1) (b2i st.2.2.2.2.2) pairs costs wishes colours mrow mins) hD hS hA [0, 1, 2, 3, 4, 5, 6] rfl
  refine va_calli (va_runV (As := [.int (xs (i + 1)), .int (xs (i + 2))]) (rest := [.int r1]) ⟨hx, hb, hml, hown, hts⟩ (metM_wish l dC dI cI cZ H.size bd st.1 st.2.1 st.2.2.1 st.2.2.2.1 st.2.2.2.2.1 st.2.2.2.2.2 pairs costs wishes colours mrow mins hok hM (xs (i + 1)) (xs (i + 2))) (cwV 2 hts (lw_V q226 q227 q228 q13 q229) rfl rfl rfl (by decide +kernel) ⟨Nat.le_of_ble_eq_true rfl, Nat.le_of_ble_eq_true rfl⟩) (y_preW hK hPc hDc (ci := 3) (q0 := 0) rfl rfl) rfl rfl hl.1 rfl (lv_room (Nat.le_of_ble_eq_true rfl)) dL_law_212 ⟨Nat.le_of_ble_eq_true rfl, Nat.le_of_ble_eq_true rfl⟩) hS (fun q _ h => hFc q h) hFc (fun r2 u t H1 locs ht hvm hr2 hB hz1 hk1 hS => ?_)
  have hB : MW (dC, dI) (va_A (wM bd cI cZ (nI st.1) (nI st.2.1) (b2i st.2.2.2.2.2) pairs costs wishes colours mrow mins) H.size) bd cI cZ st2 t := by rw [hst2]; exact hB
  obtain ⟨pairs2, costs2, wishes2, colours2, mrow2, mins2, ⟨hP1, hK1, hD1⟩, hM2⟩ := hB
  rw [ht] at hP1
  obtain ⟨hP, hD⟩ := va_join (wr := wC ad cI cZ (nI st2.1) (nI st2.2.1) (b2i st2.2.2.2.2.2) cnt2 bits2 row2 cost2 wish2 degree2 left2 isOut2 order2 colour2) (w1 := wM bd cI cZ (nI st2.1) (nI st2.2.1) (b2i st2.2.2.2.2.2) pairs2 costs2 wishes2 colours2 mrow2 mins2) hP hD [0, 1, 2, 3, 4, 5, 6] [7, 8, 9, 10, 11, 12, 13, 14, 15, 16, 17, 18] rfl rfl (by decide) (by decide) hk1 hFc hP1 hD1
  generalize H1 = H at hP hS ⊢
  have hP : va_P (dC, dI) vwCl (wC ad cI cZ (nI st2.1) (nI st2.2.1) (b2i st2.2.2.2.2.2) cnt2 bits2 row2 cost2 wish2 degree2 left2 isOut2 order2 colour2 ++ wM bd cI cZ (nI st2.1) (nI st2.2.1) (b2i st2.2.2.2.2.2) pairs2 costs2 wishes2 colours2 mrow2 mins2) H := hP
  have hD : va_D A (wC ad cI cZ (nI st2.1) (nI st2.2.1) (b2i st2.2.2.2.2.2) cnt2 bits2 row2 cost2 wish2 degree2 left2 isOut2 order2 colour2 ++ wM bd cI cZ (nI st2.1) (nI st2.2.1) (b2i st2.2.2.2.2.2) pairs2 costs2 wishes2 colours2 mrow2 mins2) := hD
  refine lv_icmp_eq (tgt := 348) hx hb dL_law_215 (by decide) (fun ce => ?_) (fun ce => ?_)
  · exact kx st2 cnt2 bits2 row2 cost2 wish2 degree2 left2 isOut2 order2 colour2 pairs2 costs2 wishes2 colours2 mrow2 mins2 H locs ls (by rw [hst2]; exact ok_wish hok) hC2 hM2 hP hD hS hl
  · exact absurd (hr1.trans hr2.symm) ce
set_option maxHeartbeats 4000000 in
set_option maxRecDepth 100000 in
theorem law_give {p : Program} {l : Launch} {e : Env} {s : State} {m : MethodId} {below : List Frame} {meth : Method} {c : Code} {dC : Nat → ClassId} {dI : Nat → Nat → Nat} {cI cZ : ClassId} {A : Nat → Prop} {b L : Nat} {xs : Nat → Int32} {ad bd : Nat → Nat} (hL : L ≤ 192) (hx : p.tables.exec = Jvm.exec) (hb : c.code = cL_law) (hml : c.maxLocals = 4) (hown : s.vm.findClass R_law = some m.cls) (hts : ∀ w ∈ lw_all, w.before #[Value.ref b] s = true) (hK : va_K (dC, dI) vwCl (tyK cI cZ) s) (hA : ∀ q : Nat, s.heap.size ≤ q → A q) (hbA : ¬ A b) (hX : va_X b L xs s s.heap) (hbl : b < s.heap.size) (hr : meth.sig.returnType = ret) (hlk : meth.locks = false) {i : Nat} (hi : i + 3 ≤ L) (kx : ∀ (st : AS) (cnt : Int32) (bits row cost wish degree left isOut order colour pairs costs wishes colours mrow mins : Nat → Int32) (H : Heap) (locs : List Loc) (ls : Array Slot), okS st → CR st.1 st.2.1 st.2.2.1 st.2.2.2.1 st.2.2.2.2.1 st.2.2.2.2.2 bits cost wish degree order colour → MR st.1 st.2.1 st.2.2.1 st.2.2.2.1 st.2.2.2.2.1 st.2.2.2.2.2 pairs costs wishes colours mrow → va_P (dC, dI) vwCl (wC ad cI cZ (nI st.1) (nI st.2.1) (b2i st.2.2.2.2.2) cnt bits row cost wish degree left isOut order colour ++ wM bd cI cZ (nI st.1) (nI st.2.1) (b2i st.2.2.2.2.2) pairs costs wishes colours mrow mins) H → va_D A (wC ad cI cZ (nI st.1) (nI st.2.1) (b2i st.2.2.2.2.2) cnt bits row cost wish degree left isOut order colour ++ wM bd cI cZ (nI st.1) (nI st.2.1) (b2i st.2.2.2.2.2) pairs costs wishes colours mrow mins) → va_S A s.heap H locs → lv_has ls 4 [(3, .int (nI i)), (0, .ref b), (1, .ref (ad 0)), (2, .ref (bd 0))] → W p l e room_1 s m #[Value.ref b] below meth c H locs 600000 7302250 (lw_Z below #[Value.ref b] s) (F0 m 348 ls [])) : ∀ (st : AS) (cnt : Int32) (bits row cost wish degree left isOut order colour pairs costs wishes colours mrow mins : Nat → Int32) (H : Heap) (locs : List Loc) (ls : Array Slot), okS st → CR st.1 st.2.1 st.2.2.1 st.2.2.2.1 st.2.2.2.2.1 st.2.2.2.2.2 bits cost wish degree order colour → MR st.1 st.2.1 st.2.2.1 st.2.2.2.1 st.2.2.2.2.1 st.2.2.2.2.2 pairs costs wishes colours mrow → va_P (dC, dI) vwCl (wC ad cI cZ (nI st.1) (nI st.2.1) (b2i st.2.2.2.2.2) cnt bits row cost wish degree left isOut order colour ++ wM bd cI cZ (nI st.1) (nI st.2.1) (b2i st.2.2.2.2.2) pairs costs wishes colours mrow mins) H → va_D A (wC ad cI cZ (nI st.1) (nI st.2.1) (b2i st.2.2.2.2.2) cnt bits row cost wish degree left isOut order colour ++ wM bd cI cZ (nI st.1) (nI st.2.1) (b2i st.2.2.2.2.2) pairs costs wishes colours mrow mins) → va_S A s.heap H locs → lv_has ls 4 [(3, .int (nI i)), (0, .ref b), (1, .ref (ad 0)), (2, .ref (bd 0))] → W p l e room_1 s m #[Value.ref b] below meth c H locs 600000 7302250 (lw_Z below #[Value.ref b] s) (F0 m 220 ls []) := by
  intro st cnt bits row cost wish degree left isOut order colour pairs costs wishes colours mrow mins H locs ls hok hC hM hP hD hS hl
  refine lv_aload_n hx hb dL_law_220 rfl (lv_at hl 2 rfl) ?_
  obtain ⟨st2, hst2⟩ : ∃ z, z = giveS st := ⟨_, rfl⟩
  have hPc := hP.sub (ws' := wC ad cI cZ (nI st.1) (nI st.2.1) (b2i st.2.2.2.2.2) cnt bits row cost wish degree left isOut order colour) [0, 1, 2, 3, 4, 5, 6, 7, 8, 9, 10, 11] rfl
  have hDc := hD.sub (ws' := wC ad cI cZ (nI st.1) (nI st.2.1) (b2i st.2.2.2.2.2) cnt bits row cost wish degree left isOut order colour) [0, 1, 2, 3, 4, 5, 6, 7, 8, 9, 10, 11] (by decide) rfl
  have hFc := va_free (wc := wC ad cI cZ (nI st.1) (nI st.2.1) (b2i st.2.2.2.2.2) cnt bits row cost wish degree left isOut order colour) hD hS hA [0, 1, 2, 3, 4, 5, 6, 7, 8, 9, 10, 11] rfl
  refine va_calli (va_runV (As := []) (rest := []) ⟨hx, hb, hml, hown, hts⟩ (metC_give l dC dI cI cZ H.size ad st.1 st.2.1 st.2.2.1 st.2.2.2.1 st.2.2.2.2.1 st.2.2.2.2.2 cnt bits row cost wish degree left isOut order colour hok hC ) (cwV 0 hts (lw_V q117 q118 q119 q10 q120) rfl rfl rfl (by decide +kernel) ⟨Nat.le_of_ble_eq_true rfl, Nat.le_of_ble_eq_true rfl⟩) (y_preW hK hPc hDc (ci := 0) (q0 := 0) rfl rfl) rfl rfl hl.1 rfl (lv_room (Nat.le_of_ble_eq_true rfl)) dL_law_221 ⟨Nat.le_of_ble_eq_true rfl, Nat.le_of_ble_eq_true rfl⟩) hS (fun q _ h => hFc q h) hFc (fun r1 u t H1 locs ht hvm hr1 hB hz1 hk1 hS => ?_)
  have hB : CW (dC, dI) (va_A (wC ad cI cZ (nI st.1) (nI st.2.1) (b2i st.2.2.2.2.2) cnt bits row cost wish degree left isOut order colour) H.size) ad cI cZ st2 t := by rw [hst2]; exact hB
  obtain ⟨cnt2, bits2, row2, cost2, wish2, degree2, left2, isOut2, order2, colour2, ⟨hP1, hK1, hD1⟩, hC2⟩ := hB
  rw [ht] at hP1
  obtain ⟨hP, hD⟩ := va_join (wr := wM bd cI cZ (nI st.1) (nI st.2.1) (b2i st.2.2.2.2.2) pairs costs wishes colours mrow mins) (w1 := wC ad cI cZ (nI st2.1) (nI st2.2.1) (b2i st2.2.2.2.2.2) cnt2 bits2 row2 cost2 wish2 degree2 left2 isOut2 order2 colour2) hP hD [0, 1, 2, 3, 4, 5, 6, 7, 8, 9, 10, 11] [12, 13, 14, 15, 16, 17, 18] rfl rfl (by decide) (by decide) hk1 hFc hP1 hD1
  generalize H1 = H at hP hS ⊢
  have hP : va_P (dC, dI) vwCl (wM bd cI cZ (nI st.1) (nI st.2.1) (b2i st.2.2.2.2.2) pairs costs wishes colours mrow mins ++ wC ad cI cZ (nI st2.1) (nI st2.2.1) (b2i st2.2.2.2.2.2) cnt2 bits2 row2 cost2 wish2 degree2 left2 isOut2 order2 colour2) H := hP
  have hD : va_D A (wM bd cI cZ (nI st.1) (nI st.2.1) (b2i st.2.2.2.2.2) pairs costs wishes colours mrow mins ++ wC ad cI cZ (nI st2.1) (nI st2.2.1) (b2i st2.2.2.2.2.2) cnt2 bits2 row2 cost2 wish2 degree2 left2 isOut2 order2 colour2) := hD
  refine lv_aload_n hx hb dL_law_224 rfl (lv_at hl 3 rfl) ?_
  have hPc := hP.sub (ws' := wM bd cI cZ (nI st.1) (nI st.2.1) (b2i st.2.2.2.2.2) pairs costs wishes colours mrow mins) [0, 1, 2, 3, 4, 5, 6] rfl
  have hDc := hD.sub (ws' := wM bd cI cZ (nI st.1) (nI st.2.1) (b2i st.2.2.2.2.2) pairs costs wishes colours mrow mins) [0, 1, 2, 3, 4, 5, 6] (by decide) rfl
  have hFc := va_free (wc := wM bd cI cZ (nI st.1) (nI st.2.1) (b2i st.2.2.2.2.2) pairs costs wishes colours mrow mins) hD hS hA [0, 1, 2, 3, 4, 5, 6] rfl
  refine va_calli (va_runV (As := []) (rest := [.int r1]) ⟨hx, hb, hml, hown, hts⟩ (metM_give l dC dI cI cZ H.size bd st.1 st.2.1 st.2.2.1 st.2.2.2.1 st.2.2.2.2.1 st.2.2.2.2.2 pairs costs wishes colours mrow mins hok hM ) (cwV 0 hts (lw_V q230 q231 q232 q13 q233) rfl rfl rfl (by decide +kernel) ⟨Nat.le_of_ble_eq_true rfl, Nat.le_of_ble_eq_true rfl⟩) (y_preW hK hPc hDc (ci := 3) (q0 := 0) rfl rfl) rfl rfl hl.1 rfl (lv_room (Nat.le_of_ble_eq_true rfl)) dL_law_225 ⟨Nat.le_of_ble_eq_true rfl, Nat.le_of_ble_eq_true rfl⟩) hS (fun q _ h => hFc q h) hFc (fun r2 u t H1 locs ht hvm hr2 hB hz1 hk1 hS => ?_)
  have hB : MW (dC, dI) (va_A (wM bd cI cZ (nI st.1) (nI st.2.1) (b2i st.2.2.2.2.2) pairs costs wishes colours mrow mins) H.size) bd cI cZ st2 t := by rw [hst2]; exact hB
  obtain ⟨pairs2, costs2, wishes2, colours2, mrow2, mins2, ⟨hP1, hK1, hD1⟩, hM2⟩ := hB
  rw [ht] at hP1
  obtain ⟨hP, hD⟩ := va_join (wr := wC ad cI cZ (nI st2.1) (nI st2.2.1) (b2i st2.2.2.2.2.2) cnt2 bits2 row2 cost2 wish2 degree2 left2 isOut2 order2 colour2) (w1 := wM bd cI cZ (nI st2.1) (nI st2.2.1) (b2i st2.2.2.2.2.2) pairs2 costs2 wishes2 colours2 mrow2 mins2) hP hD [0, 1, 2, 3, 4, 5, 6] [7, 8, 9, 10, 11, 12, 13, 14, 15, 16, 17, 18] rfl rfl (by decide) (by decide) hk1 hFc hP1 hD1
  generalize H1 = H at hP hS ⊢
  have hP : va_P (dC, dI) vwCl (wC ad cI cZ (nI st2.1) (nI st2.2.1) (b2i st2.2.2.2.2.2) cnt2 bits2 row2 cost2 wish2 degree2 left2 isOut2 order2 colour2 ++ wM bd cI cZ (nI st2.1) (nI st2.2.1) (b2i st2.2.2.2.2.2) pairs2 costs2 wishes2 colours2 mrow2 mins2) H := hP
  have hD : va_D A (wC ad cI cZ (nI st2.1) (nI st2.2.1) (b2i st2.2.2.2.2.2) cnt2 bits2 row2 cost2 wish2 degree2 left2 isOut2 order2 colour2 ++ wM bd cI cZ (nI st2.1) (nI st2.2.1) (b2i st2.2.2.2.2.2) pairs2 costs2 wishes2 colours2 mrow2 mins2) := hD
  refine lv_icmp_eq (tgt := 348) hx hb dL_law_228 (by decide) (fun ce => ?_) (fun ce => ?_)
  · exact kx st2 cnt2 bits2 row2 cost2 wish2 degree2 left2 isOut2 order2 colour2 pairs2 costs2 wishes2 colours2 mrow2 mins2 H locs ls (by rw [hst2]; exact ok_give hok) hC2 hM2 hP hD hS hl
  · exact absurd (hr1.trans hr2.symm) ce
set_option maxHeartbeats 4000000 in
set_option maxRecDepth 100000 in
theorem law_colour {p : Program} {l : Launch} {e : Env} {s : State} {m : MethodId} {below : List Frame} {meth : Method} {c : Code} {dC : Nat → ClassId} {dI : Nat → Nat → Nat} {cI cZ : ClassId} {A : Nat → Prop} {b L : Nat} {xs : Nat → Int32} {ad bd : Nat → Nat} (hL : L ≤ 192) (hx : p.tables.exec = Jvm.exec) (hb : c.code = cL_law) (hml : c.maxLocals = 4) (hown : s.vm.findClass R_law = some m.cls) (hts : ∀ w ∈ lw_all, w.before #[Value.ref b] s = true) (hK : va_K (dC, dI) vwCl (tyK cI cZ) s) (hA : ∀ q : Nat, s.heap.size ≤ q → A q) (hbA : ¬ A b) (hX : va_X b L xs s s.heap) (hbl : b < s.heap.size) (hr : meth.sig.returnType = ret) (hlk : meth.locks = false) {i : Nat} (hi : i + 3 ≤ L) (kx : ∀ (st : AS) (cnt : Int32) (bits row cost wish degree left isOut order colour pairs costs wishes colours mrow mins : Nat → Int32) (H : Heap) (locs : List Loc) (ls : Array Slot), okS st → CR st.1 st.2.1 st.2.2.1 st.2.2.2.1 st.2.2.2.2.1 st.2.2.2.2.2 bits cost wish degree order colour → MR st.1 st.2.1 st.2.2.1 st.2.2.2.1 st.2.2.2.2.1 st.2.2.2.2.2 pairs costs wishes colours mrow → va_P (dC, dI) vwCl (wC ad cI cZ (nI st.1) (nI st.2.1) (b2i st.2.2.2.2.2) cnt bits row cost wish degree left isOut order colour ++ wM bd cI cZ (nI st.1) (nI st.2.1) (b2i st.2.2.2.2.2) pairs costs wishes colours mrow mins) H → va_D A (wC ad cI cZ (nI st.1) (nI st.2.1) (b2i st.2.2.2.2.2) cnt bits row cost wish degree left isOut order colour ++ wM bd cI cZ (nI st.1) (nI st.2.1) (b2i st.2.2.2.2.2) pairs costs wishes colours mrow mins) → va_S A s.heap H locs → lv_has ls 4 [(3, .int (nI i)), (0, .ref b), (1, .ref (ad 0)), (2, .ref (bd 0))] → W p l e room_1 s m #[Value.ref b] below meth c H locs 600000 7302250 (lw_Z below #[Value.ref b] s) (F0 m 348 ls [])) : ∀ (st : AS) (cnt : Int32) (bits row cost wish degree left isOut order colour pairs costs wishes colours mrow mins : Nat → Int32) (H : Heap) (locs : List Loc) (ls : Array Slot), okS st → CR st.1 st.2.1 st.2.2.1 st.2.2.2.1 st.2.2.2.2.1 st.2.2.2.2.2 bits cost wish degree order colour → MR st.1 st.2.1 st.2.2.1 st.2.2.2.1 st.2.2.2.2.1 st.2.2.2.2.2 pairs costs wishes colours mrow → va_P (dC, dI) vwCl (wC ad cI cZ (nI st.1) (nI st.2.1) (b2i st.2.2.2.2.2) cnt bits row cost wish degree left isOut order colour ++ wM bd cI cZ (nI st.1) (nI st.2.1) (b2i st.2.2.2.2.2) pairs costs wishes colours mrow mins) H → va_D A (wC ad cI cZ (nI st.1) (nI st.2.1) (b2i st.2.2.2.2.2) cnt bits row cost wish degree left isOut order colour ++ wM bd cI cZ (nI st.1) (nI st.2.1) (b2i st.2.2.2.2.2) pairs costs wishes colours mrow mins) → va_S A s.heap H locs → lv_has ls 4 [(3, .int (nI i)), (0, .ref b), (1, .ref (ad 0)), (2, .ref (bd 0))] → W p l e room_1 s m #[Value.ref b] below meth c H locs 600000 7302250 (lw_Z below #[Value.ref b] s) (F0 m 233 ls []) := by
  intro st cnt bits row cost wish degree left isOut order colour pairs costs wishes colours mrow mins H locs ls hok hC hM hP hD hS hl
  refine lv_aload_n hx hb dL_law_233 rfl (lv_at hl 2 rfl) ?_
  refine lv_aload_n hx hb dL_law_234 rfl (lv_at hl 1 rfl) ?_
  refine lv_iload_n hx hb dL_law_235 rfl (lv_at hl 0 rfl) ?_
  refine lv_iconst (v := nI 1) hx hb dL_law_236 (by decide) ?_
  refine lv_iadd hx hb dL_law_237 ?_
  refine y_ti (y := nI (i + 1)) (nI_add i 1) ?_
  refine y_sld (j := i + 1) hx hb hX hbl hbA hS rfl (by omega) (by omega) dL_law_238 ?_
  have hPc := hP.sub (ws' := wC ad cI cZ (nI st.1) (nI st.2.1) (b2i st.2.2.2.2.2) cnt bits row cost wish degree left isOut order colour) [0, 1, 2, 3, 4, 5, 6, 7, 8, 9, 10, 11] rfl
  refine vp_callSi (W.runV (As := [.int (xs (i + 1))]) (rest := []) ⟨hx, hb, hml, hown, hts⟩ (metC_colour l dC dI cI cZ ad st.1 st.2.1 st.2.2.1 st.2.2.2.1 st.2.2.2.2.1 st.2.2.2.2.2 cnt bits row cost wish degree left isOut order colour hok hC (xs (i + 1))) (cwV 1 hts (lw_V q153 q154 q155 q10 q156) rfl rfl rfl (by decide +kernel) ⟨Nat.le_of_ble_eq_true rfl, Nat.le_of_ble_eq_true rfl⟩) (y_preR hK hPc (ci := 0) (q0 := 0) rfl rfl) rfl rfl hl.1 rfl (lv_room (Nat.le_of_ble_eq_true rfl)) dL_law_239 ⟨Nat.le_of_ble_eq_true rfl, Nat.le_of_ble_eq_true rfl⟩) (fun r1 hr1 => ?_)
  refine lv_aload_n hx hb dL_law_242 rfl (lv_at hl 3 rfl) ?_
  refine lv_aload_n hx hb dL_law_243 rfl (lv_at hl 1 rfl) ?_
  refine lv_iload_n hx hb dL_law_244 rfl (lv_at hl 0 rfl) ?_
  refine lv_iconst (v := nI 1) hx hb dL_law_245 (by decide) ?_
  refine lv_iadd hx hb dL_law_246 ?_
  refine y_ti (y := nI (i + 1)) (nI_add i 1) ?_
  refine y_sld (j := i + 1) hx hb hX hbl hbA hS rfl (by omega) (by omega) dL_law_247 ?_
  have hPc := hP.sub (ws' := wM bd cI cZ (nI st.1) (nI st.2.1) (b2i st.2.2.2.2.2) pairs costs wishes colours mrow mins) [12, 13, 14, 15, 16, 17, 18] rfl
  refine vp_callSi (W.runV (As := [.int (xs (i + 1))]) (rest := [.int r1]) ⟨hx, hb, hml, hown, hts⟩ (metM_colour l dC dI cI cZ bd st.1 st.2.1 st.2.2.1 st.2.2.2.1 st.2.2.2.2.1 st.2.2.2.2.2 pairs costs wishes colours mrow mins hok hM (xs (i + 1))) (cwV 1 hts (lw_V q250 q251 q252 q13 q253) rfl rfl rfl (by decide +kernel) ⟨Nat.le_of_ble_eq_true rfl, Nat.le_of_ble_eq_true rfl⟩) (y_preR hK hPc (ci := 3) (q0 := 0) rfl rfl) rfl rfl hl.1 rfl (lv_room (Nat.le_of_ble_eq_true rfl)) dL_law_248 ⟨Nat.le_of_ble_eq_true rfl, Nat.le_of_ble_eq_true rfl⟩) (fun r2 hr2 => ?_)
  refine lv_icmp_eq (tgt := 348) hx hb dL_law_251 (by decide) (fun ce => ?_) (fun ce => ?_)
  · exact kx st cnt bits row cost wish degree left isOut order colour pairs costs wishes colours mrow mins H locs ls hok hC hM hP hD hS hl
  · exact absurd (hr1.trans hr2.symm) ce
set_option maxHeartbeats 4000000 in
set_option maxRecDepth 100000 in
theorem law_taken {p : Program} {l : Launch} {e : Env} {s : State} {m : MethodId} {below : List Frame} {meth : Method} {c : Code} {dC : Nat → ClassId} {dI : Nat → Nat → Nat} {cI cZ : ClassId} {A : Nat → Prop} {b L : Nat} {xs : Nat → Int32} {ad bd : Nat → Nat} (hL : L ≤ 192) (hx : p.tables.exec = Jvm.exec) (hb : c.code = cL_law) (hml : c.maxLocals = 4) (hown : s.vm.findClass R_law = some m.cls) (hts : ∀ w ∈ lw_all, w.before #[Value.ref b] s = true) (hK : va_K (dC, dI) vwCl (tyK cI cZ) s) (hA : ∀ q : Nat, s.heap.size ≤ q → A q) (hbA : ¬ A b) (hX : va_X b L xs s s.heap) (hbl : b < s.heap.size) (hr : meth.sig.returnType = ret) (hlk : meth.locks = false) {i : Nat} (hi : i + 3 ≤ L) (kx : ∀ (st : AS) (cnt : Int32) (bits row cost wish degree left isOut order colour pairs costs wishes colours mrow mins : Nat → Int32) (H : Heap) (locs : List Loc) (ls : Array Slot), okS st → CR st.1 st.2.1 st.2.2.1 st.2.2.2.1 st.2.2.2.2.1 st.2.2.2.2.2 bits cost wish degree order colour → MR st.1 st.2.1 st.2.2.1 st.2.2.2.1 st.2.2.2.2.1 st.2.2.2.2.2 pairs costs wishes colours mrow → va_P (dC, dI) vwCl (wC ad cI cZ (nI st.1) (nI st.2.1) (b2i st.2.2.2.2.2) cnt bits row cost wish degree left isOut order colour ++ wM bd cI cZ (nI st.1) (nI st.2.1) (b2i st.2.2.2.2.2) pairs costs wishes colours mrow mins) H → va_D A (wC ad cI cZ (nI st.1) (nI st.2.1) (b2i st.2.2.2.2.2) cnt bits row cost wish degree left isOut order colour ++ wM bd cI cZ (nI st.1) (nI st.2.1) (b2i st.2.2.2.2.2) pairs costs wishes colours mrow mins) → va_S A s.heap H locs → lv_has ls 4 [(3, .int (nI i)), (0, .ref b), (1, .ref (ad 0)), (2, .ref (bd 0))] → W p l e room_1 s m #[Value.ref b] below meth c H locs 600000 7302250 (lw_Z below #[Value.ref b] s) (F0 m 348 ls [])) : ∀ (st : AS) (cnt : Int32) (bits row cost wish degree left isOut order colour pairs costs wishes colours mrow mins : Nat → Int32) (H : Heap) (locs : List Loc) (ls : Array Slot), okS st → CR st.1 st.2.1 st.2.2.1 st.2.2.2.1 st.2.2.2.2.1 st.2.2.2.2.2 bits cost wish degree order colour → MR st.1 st.2.1 st.2.2.1 st.2.2.2.1 st.2.2.2.2.1 st.2.2.2.2.2 pairs costs wishes colours mrow → va_P (dC, dI) vwCl (wC ad cI cZ (nI st.1) (nI st.2.1) (b2i st.2.2.2.2.2) cnt bits row cost wish degree left isOut order colour ++ wM bd cI cZ (nI st.1) (nI st.2.1) (b2i st.2.2.2.2.2) pairs costs wishes colours mrow mins) H → va_D A (wC ad cI cZ (nI st.1) (nI st.2.1) (b2i st.2.2.2.2.2) cnt bits row cost wish degree left isOut order colour ++ wM bd cI cZ (nI st.1) (nI st.2.1) (b2i st.2.2.2.2.2) pairs costs wishes colours mrow mins) → va_S A s.heap H locs → lv_has ls 4 [(3, .int (nI i)), (0, .ref b), (1, .ref (ad 0)), (2, .ref (bd 0))] → W p l e room_1 s m #[Value.ref b] below meth c H locs 600000 7302250 (lw_Z below #[Value.ref b] s) (F0 m 256 ls []) := by
  intro st cnt bits row cost wish degree left isOut order colour pairs costs wishes colours mrow mins H locs ls hok hC hM hP hD hS hl
  refine lv_aload_n hx hb dL_law_256 rfl (lv_at hl 2 rfl) ?_
  refine lv_aload_n hx hb dL_law_257 rfl (lv_at hl 1 rfl) ?_
  refine lv_iload_n hx hb dL_law_258 rfl (lv_at hl 0 rfl) ?_
  refine lv_iconst (v := nI 1) hx hb dL_law_259 (by decide) ?_
  refine lv_iadd hx hb dL_law_260 ?_
  refine y_ti (y := nI (i + 1)) (nI_add i 1) ?_
  refine y_sld (j := i + 1) hx hb hX hbl hbA hS rfl (by omega) (by omega) dL_law_261 ?_
  have hPc := hP.sub (ws' := wC ad cI cZ (nI st.1) (nI st.2.1) (b2i st.2.2.2.2.2) cnt bits row cost wish degree left isOut order colour) [0, 1, 2, 3, 4, 5, 6, 7, 8, 9, 10, 11] rfl
  refine vp_callSi (W.runV (As := [.int (xs (i + 1))]) (rest := []) ⟨hx, hb, hml, hown, hts⟩ (metC_taken l dC dI cI cZ ad st.1 st.2.1 st.2.2.1 st.2.2.2.1 st.2.2.2.2.1 st.2.2.2.2.2 cnt bits row cost wish degree left isOut order colour hok hC (xs (i + 1))) (cwV 1 hts (lw_V q157 q158 q159 q10 q160) rfl rfl rfl (by decide +kernel) ⟨Nat.le_of_ble_eq_true rfl, Nat.le_of_ble_eq_true rfl⟩) (y_preR hK hPc (ci := 0) (q0 := 0) rfl rfl) rfl rfl hl.1 rfl (lv_room (Nat.le_of_ble_eq_true rfl)) dL_law_262 ⟨Nat.le_of_ble_eq_true rfl, Nat.le_of_ble_eq_true rfl⟩) (fun r1 hr1 => ?_)
  refine lv_aload_n hx hb dL_law_265 rfl (lv_at hl 3 rfl) ?_
  refine lv_aload_n hx hb dL_law_266 rfl (lv_at hl 1 rfl) ?_
  refine lv_iload_n hx hb dL_law_267 rfl (lv_at hl 0 rfl) ?_
  refine lv_iconst (v := nI 1) hx hb dL_law_268 (by decide) ?_
  refine lv_iadd hx hb dL_law_269 ?_
  refine y_ti (y := nI (i + 1)) (nI_add i 1) ?_
  refine y_sld (j := i + 1) hx hb hX hbl hbA hS rfl (by omega) (by omega) dL_law_270 ?_
  have hPc := hP.sub (ws' := wM bd cI cZ (nI st.1) (nI st.2.1) (b2i st.2.2.2.2.2) pairs costs wishes colours mrow mins) [12, 13, 14, 15, 16, 17, 18] rfl
  refine vp_callSi (W.runV (As := [.int (xs (i + 1))]) (rest := [.int r1]) ⟨hx, hb, hml, hown, hts⟩ (metM_taken l dC dI cI cZ bd st.1 st.2.1 st.2.2.1 st.2.2.2.1 st.2.2.2.2.1 st.2.2.2.2.2 pairs costs wishes colours mrow mins hok hM (xs (i + 1))) (cwV 1 hts (lw_V q254 q255 q256 q13 q257) rfl rfl rfl (by decide +kernel) ⟨Nat.le_of_ble_eq_true rfl, Nat.le_of_ble_eq_true rfl⟩) (y_preR hK hPc (ci := 3) (q0 := 0) rfl rfl) rfl rfl hl.1 rfl (lv_room (Nat.le_of_ble_eq_true rfl)) dL_law_271 ⟨Nat.le_of_ble_eq_true rfl, Nat.le_of_ble_eq_true rfl⟩) (fun r2 hr2 => ?_)
  refine lv_icmp_eq (tgt := 348) hx hb dL_law_274 (by decide) (fun ce => ?_) (fun ce => ?_)
  · exact kx st cnt bits row cost wish degree left isOut order colour pairs costs wishes colours mrow mins H locs ls hok hC hM hP hD hS hl
  · exact absurd (hr1.trans hr2.symm) ce
set_option maxHeartbeats 4000000 in
set_option maxRecDepth 100000 in
theorem law_joined {p : Program} {l : Launch} {e : Env} {s : State} {m : MethodId} {below : List Frame} {meth : Method} {c : Code} {dC : Nat → ClassId} {dI : Nat → Nat → Nat} {cI cZ : ClassId} {A : Nat → Prop} {b L : Nat} {xs : Nat → Int32} {ad bd : Nat → Nat} (hL : L ≤ 192) (hx : p.tables.exec = Jvm.exec) (hb : c.code = cL_law) (hml : c.maxLocals = 4) (hown : s.vm.findClass R_law = some m.cls) (hts : ∀ w ∈ lw_all, w.before #[Value.ref b] s = true) (hK : va_K (dC, dI) vwCl (tyK cI cZ) s) (hA : ∀ q : Nat, s.heap.size ≤ q → A q) (hbA : ¬ A b) (hX : va_X b L xs s s.heap) (hbl : b < s.heap.size) (hr : meth.sig.returnType = ret) (hlk : meth.locks = false) {i : Nat} (hi : i + 3 ≤ L) (kx : ∀ (st : AS) (cnt : Int32) (bits row cost wish degree left isOut order colour pairs costs wishes colours mrow mins : Nat → Int32) (H : Heap) (locs : List Loc) (ls : Array Slot), okS st → CR st.1 st.2.1 st.2.2.1 st.2.2.2.1 st.2.2.2.2.1 st.2.2.2.2.2 bits cost wish degree order colour → MR st.1 st.2.1 st.2.2.1 st.2.2.2.1 st.2.2.2.2.1 st.2.2.2.2.2 pairs costs wishes colours mrow → va_P (dC, dI) vwCl (wC ad cI cZ (nI st.1) (nI st.2.1) (b2i st.2.2.2.2.2) cnt bits row cost wish degree left isOut order colour ++ wM bd cI cZ (nI st.1) (nI st.2.1) (b2i st.2.2.2.2.2) pairs costs wishes colours mrow mins) H → va_D A (wC ad cI cZ (nI st.1) (nI st.2.1) (b2i st.2.2.2.2.2) cnt bits row cost wish degree left isOut order colour ++ wM bd cI cZ (nI st.1) (nI st.2.1) (b2i st.2.2.2.2.2) pairs costs wishes colours mrow mins) → va_S A s.heap H locs → lv_has ls 4 [(3, .int (nI i)), (0, .ref b), (1, .ref (ad 0)), (2, .ref (bd 0))] → W p l e room_1 s m #[Value.ref b] below meth c H locs 600000 7302250 (lw_Z below #[Value.ref b] s) (F0 m 348 ls [])) : ∀ (st : AS) (cnt : Int32) (bits row cost wish degree left isOut order colour pairs costs wishes colours mrow mins : Nat → Int32) (H : Heap) (locs : List Loc) (ls : Array Slot), okS st → CR st.1 st.2.1 st.2.2.1 st.2.2.2.1 st.2.2.2.2.1 st.2.2.2.2.2 bits cost wish degree order colour → MR st.1 st.2.1 st.2.2.1 st.2.2.2.1 st.2.2.2.2.1 st.2.2.2.2.2 pairs costs wishes colours mrow → va_P (dC, dI) vwCl (wC ad cI cZ (nI st.1) (nI st.2.1) (b2i st.2.2.2.2.2) cnt bits row cost wish degree left isOut order colour ++ wM bd cI cZ (nI st.1) (nI st.2.1) (b2i st.2.2.2.2.2) pairs costs wishes colours mrow mins) H → va_D A (wC ad cI cZ (nI st.1) (nI st.2.1) (b2i st.2.2.2.2.2) cnt bits row cost wish degree left isOut order colour ++ wM bd cI cZ (nI st.1) (nI st.2.1) (b2i st.2.2.2.2.2) pairs costs wishes colours mrow mins) → va_S A s.heap H locs → lv_has ls 4 [(3, .int (nI i)), (0, .ref b), (1, .ref (ad 0)), (2, .ref (bd 0))] → W p l e room_1 s m #[Value.ref b] below meth c H locs 600000 7302250 (lw_Z below #[Value.ref b] s) (F0 m 279 ls []) := by
  intro st cnt bits row cost wish degree left isOut order colour pairs costs wishes colours mrow mins H locs ls hok hC hM hP hD hS hl
  refine lv_aload_n hx hb dL_law_279 rfl (lv_at hl 2 rfl) ?_
  refine lv_aload_n hx hb dL_law_280 rfl (lv_at hl 1 rfl) ?_
  refine lv_iload_n hx hb dL_law_281 rfl (lv_at hl 0 rfl) ?_
  refine lv_iconst (v := nI 1) hx hb dL_law_282 (by decide) ?_
  refine lv_iadd hx hb dL_law_283 ?_
  refine y_ti (y := nI (i + 1)) (nI_add i 1) ?_
  refine y_sld (j := i + 1) hx hb hX hbl hbA hS rfl (by omega) (by omega) dL_law_284 ?_
  refine lv_aload_n hx hb dL_law_285 rfl (lv_at hl 1 rfl) ?_
  refine lv_iload_n hx hb dL_law_286 rfl (lv_at hl 0 rfl) ?_
  refine lv_iconst (v := nI 2) hx hb dL_law_287 (by decide) ?_
  refine lv_iadd hx hb dL_law_288 ?_
  refine y_ti (y := nI (i + 2)) (nI_add i 2) ?_
  refine y_sld (j := i + 2) hx hb hX hbl hbA hS rfl (by omega) (by omega) dL_law_289 ?_
  have hPc := hP.sub (ws' := wC ad cI cZ (nI st.1) (nI st.2.1) (b2i st.2.2.2.2.2) cnt bits row cost wish degree left isOut order colour) [0, 1, 2, 3, 4, 5, 6, 7, 8, 9, 10, 11] rfl
  refine vp_callSi (W.runV (As := [.int (xs (i + 1)), .int (xs (i + 2))]) (rest := []) ⟨hx, hb, hml, hown, hts⟩ (metC_joined l dC dI cI cZ ad st.1 st.2.1 st.2.2.1 st.2.2.2.1 st.2.2.2.2.1 st.2.2.2.2.2 cnt bits row cost wish degree left isOut order colour hok hC (xs (i + 1)) (xs (i + 2))) (cwV 2 hts (lw_V q161 q162 q163 q10 q164) rfl rfl rfl (by decide +kernel) ⟨Nat.le_of_ble_eq_true rfl, Nat.le_of_ble_eq_true rfl⟩) (y_preR hK hPc (ci := 0) (q0 := 0) rfl rfl) rfl rfl hl.1 rfl (lv_room (Nat.le_of_ble_eq_true rfl)) dL_law_290 ⟨Nat.le_of_ble_eq_true rfl, Nat.le_of_ble_eq_true rfl⟩) (fun r1 hr1 => ?_)
  refine lv_aload_n hx hb dL_law_293 rfl (lv_at hl 3 rfl) ?_
  refine lv_aload_n hx hb dL_law_294 rfl (lv_at hl 1 rfl) ?_
  refine lv_iload_n hx hb dL_law_295 rfl (lv_at hl 0 rfl) ?_
  refine lv_iconst (v := nI 1) hx hb dL_law_296 (by decide) ?_
  refine lv_iadd hx hb dL_law_297 ?_
  refine y_ti (y := nI (i + 1)) (nI_add i 1) ?_
  refine y_sld (j := i + 1) hx hb hX hbl hbA hS rfl (by omega) (by omega) dL_law_298 ?_
  refine lv_aload_n hx hb dL_law_299 rfl (lv_at hl 1 rfl) ?_
  refine lv_iload_n hx hb dL_law_300 rfl (lv_at hl 0 rfl) ?_
  refine lv_iconst (v := nI 2) hx hb dL_law_301 (by decide) ?_
  refine lv_iadd hx hb dL_law_302 ?_
  refine y_ti (y := nI (i + 2)) (nI_add i 2) ?_
  refine y_sld (j := i + 2) hx hb hX hbl hbA hS rfl (by omega) (by omega) dL_law_303 ?_
  have hPc := hP.sub (ws' := wM bd cI cZ (nI st.1) (nI st.2.1) (b2i st.2.2.2.2.2) pairs costs wishes colours mrow mins) [12, 13, 14, 15, 16, 17, 18] rfl
  refine vp_callSi (W.runV (As := [.int (xs (i + 1)), .int (xs (i + 2))]) (rest := [.int r1]) ⟨hx, hb, hml, hown, hts⟩ (metM_joined l dC dI cI cZ bd st.1 st.2.1 st.2.2.1 st.2.2.2.1 st.2.2.2.2.1 st.2.2.2.2.2 pairs costs wishes colours mrow mins hok hM (xs (i + 1)) (xs (i + 2))) (cwV 2 hts (lw_V q258 q259 q260 q13 q261) rfl rfl rfl (by decide +kernel) ⟨Nat.le_of_ble_eq_true rfl, Nat.le_of_ble_eq_true rfl⟩) (y_preR hK hPc (ci := 3) (q0 := 0) rfl rfl) rfl rfl hl.1 rfl (lv_room (Nat.le_of_ble_eq_true rfl)) dL_law_304 ⟨Nat.le_of_ble_eq_true rfl, Nat.le_of_ble_eq_true rfl⟩) (fun r2 hr2 => ?_)
  refine lv_icmp_eq (tgt := 348) hx hb dL_law_307 (by decide) (fun ce => ?_) (fun ce => ?_)
  · exact kx st cnt bits row cost wish degree left isOut order colour pairs costs wishes colours mrow mins H locs ls hok hC hM hP hD hS hl
  · exact absurd (hr1.trans hr2.symm) ce
set_option maxHeartbeats 4000000 in
set_option maxRecDepth 100000 in
theorem law_degree {p : Program} {l : Launch} {e : Env} {s : State} {m : MethodId} {below : List Frame} {meth : Method} {c : Code} {dC : Nat → ClassId} {dI : Nat → Nat → Nat} {cI cZ : ClassId} {A : Nat → Prop} {b L : Nat} {xs : Nat → Int32} {ad bd : Nat → Nat} (hL : L ≤ 192) (hx : p.tables.exec = Jvm.exec) (hb : c.code = cL_law) (hml : c.maxLocals = 4) (hown : s.vm.findClass R_law = some m.cls) (hts : ∀ w ∈ lw_all, w.before #[Value.ref b] s = true) (hK : va_K (dC, dI) vwCl (tyK cI cZ) s) (hA : ∀ q : Nat, s.heap.size ≤ q → A q) (hbA : ¬ A b) (hX : va_X b L xs s s.heap) (hbl : b < s.heap.size) (hr : meth.sig.returnType = ret) (hlk : meth.locks = false) {i : Nat} (hi : i + 3 ≤ L) (kx : ∀ (st : AS) (cnt : Int32) (bits row cost wish degree left isOut order colour pairs costs wishes colours mrow mins : Nat → Int32) (H : Heap) (locs : List Loc) (ls : Array Slot), okS st → CR st.1 st.2.1 st.2.2.1 st.2.2.2.1 st.2.2.2.2.1 st.2.2.2.2.2 bits cost wish degree order colour → MR st.1 st.2.1 st.2.2.1 st.2.2.2.1 st.2.2.2.2.1 st.2.2.2.2.2 pairs costs wishes colours mrow → va_P (dC, dI) vwCl (wC ad cI cZ (nI st.1) (nI st.2.1) (b2i st.2.2.2.2.2) cnt bits row cost wish degree left isOut order colour ++ wM bd cI cZ (nI st.1) (nI st.2.1) (b2i st.2.2.2.2.2) pairs costs wishes colours mrow mins) H → va_D A (wC ad cI cZ (nI st.1) (nI st.2.1) (b2i st.2.2.2.2.2) cnt bits row cost wish degree left isOut order colour ++ wM bd cI cZ (nI st.1) (nI st.2.1) (b2i st.2.2.2.2.2) pairs costs wishes colours mrow mins) → va_S A s.heap H locs → lv_has ls 4 [(3, .int (nI i)), (0, .ref b), (1, .ref (ad 0)), (2, .ref (bd 0))] → W p l e room_1 s m #[Value.ref b] below meth c H locs 600000 7302250 (lw_Z below #[Value.ref b] s) (F0 m 348 ls [])) : ∀ (st : AS) (cnt : Int32) (bits row cost wish degree left isOut order colour pairs costs wishes colours mrow mins : Nat → Int32) (H : Heap) (locs : List Loc) (ls : Array Slot), okS st → CR st.1 st.2.1 st.2.2.1 st.2.2.2.1 st.2.2.2.2.1 st.2.2.2.2.2 bits cost wish degree order colour → MR st.1 st.2.1 st.2.2.1 st.2.2.2.1 st.2.2.2.2.1 st.2.2.2.2.2 pairs costs wishes colours mrow → va_P (dC, dI) vwCl (wC ad cI cZ (nI st.1) (nI st.2.1) (b2i st.2.2.2.2.2) cnt bits row cost wish degree left isOut order colour ++ wM bd cI cZ (nI st.1) (nI st.2.1) (b2i st.2.2.2.2.2) pairs costs wishes colours mrow mins) H → va_D A (wC ad cI cZ (nI st.1) (nI st.2.1) (b2i st.2.2.2.2.2) cnt bits row cost wish degree left isOut order colour ++ wM bd cI cZ (nI st.1) (nI st.2.1) (b2i st.2.2.2.2.2) pairs costs wishes colours mrow mins) → va_S A s.heap H locs → lv_has ls 4 [(3, .int (nI i)), (0, .ref b), (1, .ref (ad 0)), (2, .ref (bd 0))] → W p l e room_1 s m #[Value.ref b] below meth c H locs 600000 7302250 (lw_Z below #[Value.ref b] s) (F0 m 312 ls []) := by
  intro st cnt bits row cost wish degree left isOut order colour pairs costs wishes colours mrow mins H locs ls hok hC hM hP hD hS hl
  refine lv_aload_n hx hb dL_law_312 rfl (lv_at hl 2 rfl) ?_
  refine lv_aload_n hx hb dL_law_313 rfl (lv_at hl 1 rfl) ?_
  refine lv_iload_n hx hb dL_law_314 rfl (lv_at hl 0 rfl) ?_
  refine lv_iconst (v := nI 1) hx hb dL_law_315 (by decide) ?_
  refine lv_iadd hx hb dL_law_316 ?_
  refine y_ti (y := nI (i + 1)) (nI_add i 1) ?_
  refine y_sld (j := i + 1) hx hb hX hbl hbA hS rfl (by omega) (by omega) dL_law_317 ?_
  have hPc := hP.sub (ws' := wC ad cI cZ (nI st.1) (nI st.2.1) (b2i st.2.2.2.2.2) cnt bits row cost wish degree left isOut order colour) [0, 1, 2, 3, 4, 5, 6, 7, 8, 9, 10, 11] rfl
  refine vp_callSi (W.runV (As := [.int (xs (i + 1))]) (rest := []) ⟨hx, hb, hml, hown, hts⟩ (metC_degree l dC dI cI cZ ad st.1 st.2.1 st.2.2.1 st.2.2.2.1 st.2.2.2.2.1 st.2.2.2.2.2 cnt bits row cost wish degree left isOut order colour hok hC (xs (i + 1))) (cwV 1 hts (lw_V q165 q166 q167 q10 q168) rfl rfl rfl (by decide +kernel) ⟨Nat.le_of_ble_eq_true rfl, Nat.le_of_ble_eq_true rfl⟩) (y_preR hK hPc (ci := 0) (q0 := 0) rfl rfl) rfl rfl hl.1 rfl (lv_room (Nat.le_of_ble_eq_true rfl)) dL_law_318 ⟨Nat.le_of_ble_eq_true rfl, Nat.le_of_ble_eq_true rfl⟩) (fun r1 hr1 => ?_)
  refine lv_aload_n hx hb dL_law_321 rfl (lv_at hl 3 rfl) ?_
  refine lv_aload_n hx hb dL_law_322 rfl (lv_at hl 1 rfl) ?_
  refine lv_iload_n hx hb dL_law_323 rfl (lv_at hl 0 rfl) ?_
  refine lv_iconst (v := nI 1) hx hb dL_law_324 (by decide) ?_
  refine lv_iadd hx hb dL_law_325 ?_
  refine y_ti (y := nI (i + 1)) (nI_add i 1) ?_
  refine y_sld (j := i + 1) hx hb hX hbl hbA hS rfl (by omega) (by omega) dL_law_326 ?_
  have hPc := hP.sub (ws' := wM bd cI cZ (nI st.1) (nI st.2.1) (b2i st.2.2.2.2.2) pairs costs wishes colours mrow mins) [12, 13, 14, 15, 16, 17, 18] rfl
  refine vp_callSi (W.runV (As := [.int (xs (i + 1))]) (rest := [.int r1]) ⟨hx, hb, hml, hown, hts⟩ (metM_degree l dC dI cI cZ bd st.1 st.2.1 st.2.2.1 st.2.2.2.1 st.2.2.2.2.1 st.2.2.2.2.2 pairs costs wishes colours mrow mins hok hM (xs (i + 1))) (cwV 1 hts (lw_V q262 q263 q264 q13 q265) rfl rfl rfl (by decide +kernel) ⟨Nat.le_of_ble_eq_true rfl, Nat.le_of_ble_eq_true rfl⟩) (y_preR hK hPc (ci := 3) (q0 := 0) rfl rfl) rfl rfl hl.1 rfl (lv_room (Nat.le_of_ble_eq_true rfl)) dL_law_327 ⟨Nat.le_of_ble_eq_true rfl, Nat.le_of_ble_eq_true rfl⟩) (fun r2 hr2 => ?_)
  refine lv_icmp_eq (tgt := 348) hx hb dL_law_330 (by decide) (fun ce => ?_) (fun ce => ?_)
  · exact kx st cnt bits row cost wish degree left isOut order colour pairs costs wishes colours mrow mins H locs ls hok hC hM hP hD hS hl
  · exact absurd (hr1.trans hr2.symm) ce
set_option maxHeartbeats 4000000 in
set_option maxRecDepth 100000 in
theorem law_strays {p : Program} {l : Launch} {e : Env} {s : State} {m : MethodId} {below : List Frame} {meth : Method} {c : Code} {dC : Nat → ClassId} {dI : Nat → Nat → Nat} {cI cZ : ClassId} {A : Nat → Prop} {b L : Nat} {xs : Nat → Int32} {ad bd : Nat → Nat} (hL : L ≤ 192) (hx : p.tables.exec = Jvm.exec) (hb : c.code = cL_law) (hml : c.maxLocals = 4) (hown : s.vm.findClass R_law = some m.cls) (hts : ∀ w ∈ lw_all, w.before #[Value.ref b] s = true) (hK : va_K (dC, dI) vwCl (tyK cI cZ) s) (hA : ∀ q : Nat, s.heap.size ≤ q → A q) (hbA : ¬ A b) (hX : va_X b L xs s s.heap) (hbl : b < s.heap.size) (hr : meth.sig.returnType = ret) (hlk : meth.locks = false) {i : Nat} (hi : i + 3 ≤ L) (kx : ∀ (st : AS) (cnt : Int32) (bits row cost wish degree left isOut order colour pairs costs wishes colours mrow mins : Nat → Int32) (H : Heap) (locs : List Loc) (ls : Array Slot), okS st → CR st.1 st.2.1 st.2.2.1 st.2.2.2.1 st.2.2.2.2.1 st.2.2.2.2.2 bits cost wish degree order colour → MR st.1 st.2.1 st.2.2.1 st.2.2.2.1 st.2.2.2.2.1 st.2.2.2.2.2 pairs costs wishes colours mrow → va_P (dC, dI) vwCl (wC ad cI cZ (nI st.1) (nI st.2.1) (b2i st.2.2.2.2.2) cnt bits row cost wish degree left isOut order colour ++ wM bd cI cZ (nI st.1) (nI st.2.1) (b2i st.2.2.2.2.2) pairs costs wishes colours mrow mins) H → va_D A (wC ad cI cZ (nI st.1) (nI st.2.1) (b2i st.2.2.2.2.2) cnt bits row cost wish degree left isOut order colour ++ wM bd cI cZ (nI st.1) (nI st.2.1) (b2i st.2.2.2.2.2) pairs costs wishes colours mrow mins) → va_S A s.heap H locs → lv_has ls 4 [(3, .int (nI i)), (0, .ref b), (1, .ref (ad 0)), (2, .ref (bd 0))] → W p l e room_1 s m #[Value.ref b] below meth c H locs 600000 7302250 (lw_Z below #[Value.ref b] s) (F0 m 348 ls [])) : ∀ (st : AS) (cnt : Int32) (bits row cost wish degree left isOut order colour pairs costs wishes colours mrow mins : Nat → Int32) (H : Heap) (locs : List Loc) (ls : Array Slot), okS st → CR st.1 st.2.1 st.2.2.1 st.2.2.2.1 st.2.2.2.2.1 st.2.2.2.2.2 bits cost wish degree order colour → MR st.1 st.2.1 st.2.2.1 st.2.2.2.1 st.2.2.2.2.1 st.2.2.2.2.2 pairs costs wishes colours mrow → va_P (dC, dI) vwCl (wC ad cI cZ (nI st.1) (nI st.2.1) (b2i st.2.2.2.2.2) cnt bits row cost wish degree left isOut order colour ++ wM bd cI cZ (nI st.1) (nI st.2.1) (b2i st.2.2.2.2.2) pairs costs wishes colours mrow mins) H → va_D A (wC ad cI cZ (nI st.1) (nI st.2.1) (b2i st.2.2.2.2.2) cnt bits row cost wish degree left isOut order colour ++ wM bd cI cZ (nI st.1) (nI st.2.1) (b2i st.2.2.2.2.2) pairs costs wishes colours mrow mins) → va_S A s.heap H locs → lv_has ls 4 [(3, .int (nI i)), (0, .ref b), (1, .ref (ad 0)), (2, .ref (bd 0))] → W p l e room_1 s m #[Value.ref b] below meth c H locs 600000 7302250 (lw_Z below #[Value.ref b] s) (F0 m 335 ls []) := by
  intro st cnt bits row cost wish degree left isOut order colour pairs costs wishes colours mrow mins H locs ls hok hC hM hP hD hS hl
  refine lv_aload_n hx hb dL_law_335 rfl (lv_at hl 2 rfl) ?_
  have hPc := hP.sub (ws' := wC ad cI cZ (nI st.1) (nI st.2.1) (b2i st.2.2.2.2.2) cnt bits row cost wish degree left isOut order colour) [0, 1, 2, 3, 4, 5, 6, 7, 8, 9, 10, 11] rfl
  refine vp_callSi (W.runV (As := []) (rest := []) ⟨hx, hb, hml, hown, hts⟩ (metC_strays l dC dI cI cZ ad st.1 st.2.1 st.2.2.1 st.2.2.2.1 st.2.2.2.2.1 st.2.2.2.2.2 cnt bits row cost wish degree left isOut order colour hok hC ) (cwV 0 hts (lw_V q169 q170 q171 q10 q172) rfl rfl rfl (by decide +kernel) ⟨Nat.le_of_ble_eq_true rfl, Nat.le_of_ble_eq_true rfl⟩) (y_preR hK hPc (ci := 0) (q0 := 0) rfl rfl) rfl rfl hl.1 rfl (lv_room (Nat.le_of_ble_eq_true rfl)) dL_law_336 ⟨Nat.le_of_ble_eq_true rfl, Nat.le_of_ble_eq_true rfl⟩) (fun r1 hr1 => ?_)
  refine lv_aload_n hx hb dL_law_339 rfl (lv_at hl 3 rfl) ?_
  have hPc := hP.sub (ws' := wM bd cI cZ (nI st.1) (nI st.2.1) (b2i st.2.2.2.2.2) pairs costs wishes colours mrow mins) [12, 13, 14, 15, 16, 17, 18] rfl
  refine vp_callSi (W.runV (As := []) (rest := [.int r1]) ⟨hx, hb, hml, hown, hts⟩ (metM_strays l dC dI cI cZ bd st.1 st.2.1 st.2.2.1 st.2.2.2.1 st.2.2.2.2.1 st.2.2.2.2.2 pairs costs wishes colours mrow mins hok hM ) (cwV 0 hts (lw_V q266 q267 q268 q13 q269) rfl rfl rfl (by decide +kernel) ⟨Nat.le_of_ble_eq_true rfl, Nat.le_of_ble_eq_true rfl⟩) (y_preR hK hPc (ci := 3) (q0 := 0) rfl rfl) rfl rfl hl.1 rfl (lv_room (Nat.le_of_ble_eq_true rfl)) dL_law_340 ⟨Nat.le_of_ble_eq_true rfl, Nat.le_of_ble_eq_true rfl⟩) (fun r2 hr2 => ?_)
  refine lv_icmp_eq (tgt := 348) hx hb dL_law_343 (by decide) (fun ce => ?_) (fun ce => ?_)
  · exact kx st cnt bits row cost wish degree left isOut order colour pairs costs wishes colours mrow mins H locs ls hok hC hM hP hD hS hl
  · exact absurd (hr1.trans hr2.symm) ce
end
section
/-! the law: its loop, and the walk from its entry -/
set_option maxHeartbeats 4000000 in
set_option maxRecDepth 100000 in
theorem law_loop {p : Program} {l : Launch} {e : Env} {s : State} {m : MethodId} {below : List Frame} {meth : Method} {c : Code} {dC : Nat → ClassId} {dI : Nat → Nat → Nat} {cI cZ : ClassId} {A : Nat → Prop} {b L : Nat} {xs : Nat → Int32} {ad bd : Nat → Nat} (hL : L ≤ 192) (hx : p.tables.exec = Jvm.exec) (hb : c.code = cL_law) (hml : c.maxLocals = 4) (hown : s.vm.findClass R_law = some m.cls) (hts : ∀ w ∈ lw_all, w.before #[Value.ref b] s = true) (hK : va_K (dC, dI) vwCl (tyK cI cZ) s) (hA : ∀ q : Nat, s.heap.size ≤ q → A q) (hbA : ¬ A b) (hX : va_X b L xs s s.heap) (hbl : b < s.heap.size) (hr : meth.sig.returnType = ret) (hlk : meth.locks = false) (hA2 : ∀ q : Nat, A q → s.heap.size ≤ q) : ∀ (nn i : Nat) (st : AS) (cnt : Int32) (bits row cost wish degree left isOut order colour pairs costs wishes colours mrow mins : Nat → Int32) (H : Heap) (locs : List Loc) (ls : Array Slot), i ≤ L → L + 1 ≤ i + nn → okS st → CR st.1 st.2.1 st.2.2.1 st.2.2.2.1 st.2.2.2.2.1 st.2.2.2.2.2 bits cost wish degree order colour → MR st.1 st.2.1 st.2.2.1 st.2.2.2.1 st.2.2.2.2.1 st.2.2.2.2.2 pairs costs wishes colours mrow → va_P (dC, dI) vwCl (wC ad cI cZ (nI st.1) (nI st.2.1) (b2i st.2.2.2.2.2) cnt bits row cost wish degree left isOut order colour ++ wM bd cI cZ (nI st.1) (nI st.2.1) (b2i st.2.2.2.2.2) pairs costs wishes colours mrow mins) H → va_D A (wC ad cI cZ (nI st.1) (nI st.2.1) (b2i st.2.2.2.2.2) cnt bits row cost wish degree left isOut order colour ++ wM bd cI cZ (nI st.1) (nI st.2.1) (b2i st.2.2.2.2.2) pairs costs wishes colours mrow mins) → va_S A s.heap H locs → lv_has ls 4 [(3, .int (nI i)), (0, .ref b), (1, .ref (ad 0)), (2, .ref (bd 0))] → W p l e room_1 s m #[Value.ref b] below meth c H locs 600000 7302250 (lw_Z below #[Value.ref b] s) (F0 m 18 ls []) := by
  intro nn
  induction nn with
  | zero =>
    intro i st cnt bits row cost wish degree left isOut order colour pairs costs wishes colours mrow mins H locs ls h1 h2
    exact absurd h2 (by omega)
  | succ nn ih =>
    intro i st cnt bits row cost wish degree left isOut order colour pairs costs wishes colours mrow mins H locs ls hi hin hok hC hM hP hD hS hl
    refine lv_iload_n hx hb dL_law_18 rfl (lv_at hl 0 rfl) ?_
    refine lv_aload_n hx hb dL_law_19 rfl (lv_at hl 1 rfl) ?_
    refine va_slen hx hb hX hbl hbA hS dL_law_20 ?_
    refine lv_iconst (v := nI 3) hx hb dL_law_21 (by decide) ?_
    refine lv_isub hx hb dL_law_22 ?_
    refine lv_icmp_gt (tgt := 354) hx hb dL_law_23 (by decide) (fun c23 => ?_) (fun c23 => ?_)
    · refine lv_iconst (v := 1) hx hb dL_law_354 (by decide) ?_
      exact va_forget (fun q hq => hA2 _ (hS.2.2 q hq)) (lw_ret hx hb hr hlk dL_law_355)
    · have h3 : i + 3 ≤ L := law_more hL hi c23
      refine lv_aload_n hx hb dL_law_26 rfl (lv_at hl 1 rfl) ?_
      refine lv_iload_n hx hb dL_law_27 rfl (lv_at hl 0 rfl) ?_
      refine y_sld (j := i) hx hb hX hbl hbA hS rfl (by omega) (by omega) dL_law_28 ?_
      refine lv_bipush (v := nI 15) hx hb dL_law_29 (by decide) ?_
      obtain ⟨o, ho, hoe⟩ := pk_andE (xs i) (m := nI 15) 4 (by decide)
      refine lv_iand hx hb dL_law_31 ?_
      refine y_ti (y := nI o) (hoe) ?_
      have kx : ∀ (st : AS) (cnt : Int32) (bits row cost wish degree left isOut order colour pairs costs wishes colours mrow mins : Nat → Int32) (H : Heap) (locs : List Loc) (ls : Array Slot), okS st → CR st.1 st.2.1 st.2.2.1 st.2.2.2.1 st.2.2.2.2.1 st.2.2.2.2.2 bits cost wish degree order colour → MR st.1 st.2.1 st.2.2.1 st.2.2.2.1 st.2.2.2.2.1 st.2.2.2.2.2 pairs costs wishes colours mrow → va_P (dC, dI) vwCl (wC ad cI cZ (nI st.1) (nI st.2.1) (b2i st.2.2.2.2.2) cnt bits row cost wish degree left isOut order colour ++ wM bd cI cZ (nI st.1) (nI st.2.1) (b2i st.2.2.2.2.2) pairs costs wishes colours mrow mins) H → va_D A (wC ad cI cZ (nI st.1) (nI st.2.1) (b2i st.2.2.2.2.2) cnt bits row cost wish degree left isOut order colour ++ wM bd cI cZ (nI st.1) (nI st.2.1) (b2i st.2.2.2.2.2) pairs costs wishes colours mrow mins) → va_S A s.heap H locs → lv_has ls 4 [(3, .int (nI i)), (0, .ref b), (1, .ref (ad 0)), (2, .ref (bd 0))] → W p l e room_1 s m #[Value.ref b] below meth c H locs 600000 7302250 (lw_Z below #[Value.ref b] s) (F0 m 348 ls []) := by
        intro st cnt bits row cost wish degree left isOut order colour pairs costs wishes colours mrow mins H locs ls hok hC hM hP hD hS hl
        refine lv_iinc (v := nI (i + 3)) (lv' := [(3, .int (nI (i + 3))), (0, .ref b), (1, .ref (ad 0)), (2, .ref (bd 0))]) hx hb dL_law_348 hl (k := 0) rfl (nI_add i 3) (by decide) rfl (fun ls hl => ?_)
        refine lv_goto (tgt := 18) hx hb dL_law_351 (by decide) ?_
        exact ih (i + 3) st cnt bits row cost wish degree left isOut order colour pairs costs wishes colours mrow mins H locs ls (by omega) (by omega) hok hC hM hP hD hS hl
      rcases (show o = 0 ∨ o = 1 ∨ o = 2 ∨ o = 3 ∨ o = 4 ∨ o = 5 ∨ o = 6 ∨ o = 7 ∨ o = 8 ∨ o = 9 ∨ 10 ≤ o by omega) with rfl | rfl | rfl | rfl | rfl | rfl | rfl | rfl | rfl | rfl | ho10
      · refine lv_tableIn (off := 56) (tgt := 88) hx hb dL_law_32 (by decide) (by decide) (by decide) (by decide) ?_
        exact law_begin hL hx hb hml hown hts hK hA hbA hX hbl hr hlk h3 kx st cnt bits row cost wish degree left isOut order colour pairs costs wishes colours mrow mins H locs ls hok hC hM hP hD hS hl
      · refine lv_tableIn (off := 89) (tgt := 121) hx hb dL_law_32 (by decide) (by decide) (by decide) (by decide) ?_
        exact law_join hL hx hb hml hown hts hK hA hbA hX hbl hr hlk h3 kx st cnt bits row cost wish degree left isOut order colour pairs costs wishes colours mrow mins H locs ls hok hC hM hP hD hS hl
      · refine lv_tableIn (off := 122) (tgt := 154) hx hb dL_law_32 (by decide) (by decide) (by decide) (by decide) ?_
        exact law_cost hL hx hb hml hown hts hK hA hbA hX hbl hr hlk h3 kx st cnt bits row cost wish degree left isOut order colour pairs costs wishes colours mrow mins H locs ls hok hC hM hP hD hS hl
      · refine lv_tableIn (off := 155) (tgt := 187) hx hb dL_law_32 (by decide) (by decide) (by decide) (by decide) ?_
        exact law_wish hL hx hb hml hown hts hK hA hbA hX hbl hr hlk h3 kx st cnt bits row cost wish degree left isOut order colour pairs costs wishes colours mrow mins H locs ls hok hC hM hP hD hS hl
      · refine lv_tableIn (off := 188) (tgt := 220) hx hb dL_law_32 (by decide) (by decide) (by decide) (by decide) ?_
        exact law_give hL hx hb hml hown hts hK hA hbA hX hbl hr hlk h3 kx st cnt bits row cost wish degree left isOut order colour pairs costs wishes colours mrow mins H locs ls hok hC hM hP hD hS hl
      · refine lv_tableIn (off := 201) (tgt := 233) hx hb dL_law_32 (by decide) (by decide) (by decide) (by decide) ?_
        exact law_colour hL hx hb hml hown hts hK hA hbA hX hbl hr hlk h3 kx st cnt bits row cost wish degree left isOut order colour pairs costs wishes colours mrow mins H locs ls hok hC hM hP hD hS hl
      · refine lv_tableIn (off := 224) (tgt := 256) hx hb dL_law_32 (by decide) (by decide) (by decide) (by decide) ?_
        exact law_taken hL hx hb hml hown hts hK hA hbA hX hbl hr hlk h3 kx st cnt bits row cost wish degree left isOut order colour pairs costs wishes colours mrow mins H locs ls hok hC hM hP hD hS hl
      · refine lv_tableIn (off := 247) (tgt := 279) hx hb dL_law_32 (by decide) (by decide) (by decide) (by decide) ?_
        exact law_joined hL hx hb hml hown hts hK hA hbA hX hbl hr hlk h3 kx st cnt bits row cost wish degree left isOut order colour pairs costs wishes colours mrow mins H locs ls hok hC hM hP hD hS hl
      · refine lv_tableIn (off := 280) (tgt := 312) hx hb dL_law_32 (by decide) (by decide) (by decide) (by decide) ?_
        exact law_degree hL hx hb hml hown hts hK hA hbA hX hbl hr hlk h3 kx st cnt bits row cost wish degree left isOut order colour pairs costs wishes colours mrow mins H locs ls hok hC hM hP hD hS hl
      · refine lv_tableIn (off := 303) (tgt := 335) hx hb dL_law_32 (by decide) (by decide) (by decide) (by decide) ?_
        exact law_strays hL hx hb hml hown hts hK hA hbA hX hbl hr hlk h3 kx st cnt bits row cost wish degree left isOut order colour pairs costs wishes colours mrow mins H locs ls hok hC hM hP hD hS hl
      · refine lv_tableOut (tgt := 348) hx hb dL_law_32 (Or.inr (by rw [nI_toInt (by omega)]; omega)) (by decide) ?_
        exact kx st cnt bits row cost wish degree left isOut order colour pairs costs wishes colours mrow mins H locs ls hok hC hM hP hD hS hl
set_option maxHeartbeats 4000000 in
set_option maxRecDepth 100000 in
/-- from the entry, for every script of at most 192 ints, the law comes to its end with true -/
theorem whole_start {p : Program} {e : Env} {s : State} {m : MethodId} {below : List Frame} {meth : Method} {c : Code} (l : Launch) {b L : Nat} {xs : Nat → Int32} (hL : L ≤ 192) (C0 : lw_At p s m meth c b L xs) : W p l e room_1 s m #[Value.ref b] below meth c s.heap [] 0 0 (lw_Z below #[Value.ref b] s) (entryFrame m ([Value.ref b] : List Value).toArray 4) := by
  obtain ⟨hx, hb, hr, hml, hown, hts0, hX, hbl, hlk, hgv⟩ := C0
  have hts : ∀ w ∈ lw_all, w.before #[Value.ref b] s = true := fun w h => hts0 w (lw_all_tbl h)
  obtain ⟨A, hAe⟩ : ∃ A : Nat → Prop, A = fun q => s.heap.size ≤ q := ⟨_, rfl⟩
  have hA : ∀ q : Nat, s.heap.size ≤ q → A q := fun q h => by rw [hAe]; exact h
  have hA2 : ∀ q : Nat, A q → s.heap.size ≤ q := fun q h => by rw [hAe] at h; exact h
  have hbA : ¬ A b := fun h => Nat.not_le.mpr hbl (hA2 b h)
  have hN1 : va_Nw nw1 s := va_Nw.of rfl (hts0 _ q24)
  have hN2 : va_Nw nw2 s := va_Nw.of rfl (hts0 _ q35)
  obtain ⟨c0, iS0, hKn0⟩ := u_known (C := RX0) (T := TX0) (N := 12) (n := 12) hts0 (fun w h => lw_all_tbl (in_X0 w h)) (hts _ q15)
  obtain ⟨c1, iS1, hKn1⟩ := u_known (C := RX1) (T := TX1) (N := 1) (n := 1) hts0 (fun w h => lw_all_tbl (in_X1 w h)) (hts _ q23)
  obtain ⟨c2, iS2, hKn2⟩ := u_known (C := RX2) (T := TX2) (N := 2) (n := 2) hts0 (fun w h => lw_all_tbl (in_X2 w h)) (hts _ q34)
  obtain ⟨c3, iS3, hKn3⟩ := u_known (C := RX3) (T := TX3) (N := 9) (n := 9) hts0 (fun w h => lw_all_tbl (in_X3 w h)) (hts _ q174)
  obtain ⟨dC, dI, hKc⟩ : ∃ (dC : Nat → ClassId) (dI : Nat → Nat → Nat), ∀ (k : Nat) (q : vw_C), vwCl[k]? = some q → u_Kn s q.1 q.2.1 q.2.2 (dC k) (dI k) := by
    refine ⟨fun k => if k = 0 then c0 else if k = 1 then c1 else if k = 2 then c2 else c3, fun k => if k = 0 then iS0 else if k = 1 then iS1 else if k = 2 then iS2 else iS3, ?_⟩
    intro k q hq
    match k, hq with
    | 0, hq => cases hq; exact hKn0
    | 1, hq => cases hq; exact hKn1
    | 2, hq => cases hq; exact hKn2
    | 3, hq => cases hq; exact hKn3
    | k + 4, hq => simp [vwCl] at hq
  obtain ⟨cI, hcI1, hcI2⟩ := arr_K (hts _ q32)
  obtain ⟨cZ, hcZ1, hcZ2⟩ := arr_K (hts _ q83)
  have hK : va_K (dC, dI) vwCl (tyK cI cZ) s := by
    refine ⟨hKc, fun k q h => ?_⟩
    match k, h with
    | 0, h => cases h; exact ⟨hcI1, hcI2⟩
    | 1, h => cases h; exact ⟨hcZ1, hcZ2⟩
    | k + 2, h => simp [tyK] at h
  have hS : va_S A s.heap s.heap [] := va_S.rf
  have hP : va_P (dC, dI) vwCl [] s.heap := fun k q h => by simp at h
  have hD : va_D A [] := ⟨fun i j p q h => by simp at h, fun k q h => by simp at h⟩
  have hl := lv_entry ([.ref b]) (n := 4) (Nat.le_of_ble_eq_true rfl)
  rw [lg_entry_eq]
  generalize (lg_sl ([.ref b]) ++ List.replicate (4 - (lg_sl ([.ref b])).length) Slot.unset).toArray = ls at hl ⊢
  have hl : lv_has ls 4 [(0, .ref b)] := hl
  refine va_new (ci := 0) (fs := [.int 0, .int 0, .null, .null, .null, .null, .null, .null, .null, .null, .null, .int 0]) (C := RX0) (T := TX0) (N := 12) hx hb hts in_X0 tyX0 tyX0_ok hown (hts _ q14) (hts _ q15) (hts _ q10) hK hP hD hS hA rfl (fun j hj => by rcases (show j = 0 ∨ j = 1 ∨ j = 2 ∨ j = 3 ∨ j = 4 ∨ j = 5 ∨ j = 6 ∨ j = 7 ∨ j = 8 ∨ j = 9 ∨ j = 10 ∨ j = 11 by omega) with rfl | rfl | rfl | rfl | rfl | rfl | rfl | rfl | rfl | rfl | rfl | rfl <;> rfl) (Nat.le_of_ble_eq_true rfl) (Nat.le_of_ble_eq_true rfl) dL_law_0 (fun qx H hP hD hS => ?_)
  have hP : va_P (dC, dI) vwCl ([(qx, .inr (0, [.int 0, .int 0, .null, .null, .null, .null, .null, .null, .null, .null, .null, .int 0]))]) H := hP
  have hD : va_D A ([(qx, .inr (0, [.int 0, .int 0, .null, .null, .null, .null, .null, .null, .null, .null, .null, .int 0]))]) := hD
  refine lv_dup hx hb dL_law_3 rfl ?_
  have hPc := hP.sub (ws' := [(qx, .inr (0, [.int 0, .int 0, .null, .null, .null, .null, .null, .null, .null, .null, .null, .int 0]))]) [0] rfl
  have hDc := hD.sub (ws' := [(qx, .inr (0, [.int 0, .int 0, .null, .null, .null, .null, .null, .null, .null, .null, .null, .int 0]))]) [0] (by decide) rfl
  have hFc := va_free (wc := [(qx, .inr (0, [.int 0, .int 0, .null, .null, .null, .null, .null, .null, .null, .null, .null, .int 0]))]) hD hS hA [0] rfl
  refine va_callv (va_runI (As := []) (rest := [.ref qx]) ⟨hx, hb, hml, hown, hts⟩ (metC_init l dC dI cI cZ H.size qx) (cwI 0 hts (lw_meth q18) rfl rfl rfl (hts _ q10) (hts _ q16) (hts _ q17) rfl (by decide +kernel) ⟨Nat.le_of_ble_eq_true rfl, Nat.le_of_ble_eq_true rfl⟩) (y_preN hK hPc hDc hN1 hN2) rfl rfl hl.1 rfl (lv_room (Nat.le_of_ble_eq_true rfl)) dL_law_4 ⟨Nat.le_of_ble_eq_true rfl, Nat.le_of_ble_eq_true rfl⟩) hS (fun q _ h => hFc q h) hFc (fun ad t H1 locs ht hvm hw hB hz1 hk1 hS => ?_)
  have hqx : ad 0 = qx := hw
  obtain ⟨cnt, bits, row, cost, wish, degree, left, isOut, order, colour, ⟨hP1, hK1, hD1⟩, hC⟩ := hB
  rw [ht] at hP1
  obtain ⟨hP, hD⟩ := va_join (wr := []) (w1 := wC ad cI cZ (nI st0.1) (nI st0.2.1) (b2i st0.2.2.2.2.2) cnt bits row cost wish degree left isOut order colour) hP hD [0] [] rfl rfl (by decide) (by decide) hk1 hFc hP1 hD1
  generalize H1 = H at hP hS ⊢
  have hP : va_P (dC, dI) vwCl (wC ad cI cZ (nI st0.1) (nI st0.2.1) (b2i st0.2.2.2.2.2) cnt bits row cost wish degree left isOut order colour) H := hP
  have hD : va_D A (wC ad cI cZ (nI st0.1) (nI st0.2.1) (b2i st0.2.2.2.2.2) cnt bits row cost wish degree left isOut order colour) := hD
  rw [← hqx]
  refine lv_astore_n (lv' := [(1, .ref (ad 0)), (0, .ref b)]) hx hb dL_law_7 rfl hl (by decide) rfl (fun ls hl => ?_)
  refine va_new (ci := 3) (fs := [.null, .null, .null, .null, .null, .null, .int 0, .int 0, .int 0]) (C := RX3) (T := TX3) (N := 9) hx hb hts in_X3 tyX3 tyX3_ok hown (hts _ q173) (hts _ q174) (hts _ q13) hK hP hD hS hA rfl (fun j hj => by rcases (show j = 0 ∨ j = 1 ∨ j = 2 ∨ j = 3 ∨ j = 4 ∨ j = 5 ∨ j = 6 ∨ j = 7 ∨ j = 8 by omega) with rfl | rfl | rfl | rfl | rfl | rfl | rfl | rfl | rfl <;> rfl) (Nat.le_of_ble_eq_true rfl) (Nat.le_of_ble_eq_true rfl) dL_law_8 (fun qy H hP hD hS => ?_)
  refine lv_dup hx hb dL_law_11 rfl ?_
  have hPc := hP.sub (ws' := [(qy, .inr (3, [.null, .null, .null, .null, .null, .null, .int 0, .int 0, .int 0]))]) [12] rfl
  have hDc := hD.sub (ws' := [(qy, .inr (3, [.null, .null, .null, .null, .null, .null, .int 0, .int 0, .int 0]))]) [12] (by decide) rfl
  have hFc := va_free (wc := [(qy, .inr (3, [.null, .null, .null, .null, .null, .null, .int 0, .int 0, .int 0]))]) hD hS hA [12] rfl
  refine va_callv (va_runI (As := []) (rest := [.ref qy]) ⟨hx, hb, hml, hown, hts⟩ (metM_init l dC dI cI cZ H.size qy) (cwI 0 hts (lw_meth q177) rfl rfl rfl (hts _ q13) (hts _ q175) (hts _ q176) rfl (by decide +kernel) ⟨Nat.le_of_ble_eq_true rfl, Nat.le_of_ble_eq_true rfl⟩) (y_preI hK hPc hDc) rfl rfl hl.1 rfl (lv_room (Nat.le_of_ble_eq_true rfl)) dL_law_12 ⟨Nat.le_of_ble_eq_true rfl, Nat.le_of_ble_eq_true rfl⟩) hS (fun q _ h => hFc q h) hFc (fun bd t H1 locs ht hvm hw hB hz1 hk1 hS => ?_)
  have hqy : bd 0 = qy := hw
  obtain ⟨pairs, costs, wishes, colours, mrow, mins, ⟨hP1, hK1, hD1⟩, hM⟩ := hB
  rw [ht] at hP1
  obtain ⟨hP, hD⟩ := va_join (wr := wC ad cI cZ (nI st0.1) (nI st0.2.1) (b2i st0.2.2.2.2.2) cnt bits row cost wish degree left isOut order colour) (w1 := wM bd cI cZ (nI st0.1) (nI st0.2.1) (b2i st0.2.2.2.2.2) pairs costs wishes colours mrow mins) hP hD [12] [0, 1, 2, 3, 4, 5, 6, 7, 8, 9, 10, 11] rfl rfl (by decide) (by decide) hk1 hFc hP1 hD1
  generalize H1 = H at hP hS ⊢
  have hP : va_P (dC, dI) vwCl (wC ad cI cZ (nI st0.1) (nI st0.2.1) (b2i st0.2.2.2.2.2) cnt bits row cost wish degree left isOut order colour ++ wM bd cI cZ (nI st0.1) (nI st0.2.1) (b2i st0.2.2.2.2.2) pairs costs wishes colours mrow mins) H := hP
  have hD : va_D A (wC ad cI cZ (nI st0.1) (nI st0.2.1) (b2i st0.2.2.2.2.2) cnt bits row cost wish degree left isOut order colour ++ wM bd cI cZ (nI st0.1) (nI st0.2.1) (b2i st0.2.2.2.2.2) pairs costs wishes colours mrow mins) := hD
  rw [← hqy]
  refine lv_astore_n (lv' := [(2, .ref (bd 0)), (1, .ref (ad 0)), (0, .ref b)]) hx hb dL_law_15 rfl hl (by decide) rfl (fun ls hl => ?_)
  refine lv_iconst (v := nI 0) hx hb dL_law_16 (by decide) ?_
  refine lv_istore_n (lv' := [(3, .int (nI 0)), (2, .ref (bd 0)), (1, .ref (ad 0)), (0, .ref b)]) hx hb dL_law_17 rfl hl (by decide) rfl (fun ls hl => ?_)
  refine W.widen (k := 600000) (n := 7302250) (Nat.le_of_ble_eq_true rfl) (Nat.le_of_ble_eq_true rfl) ?_
  exact law_loop hL hx hb hml hown hts hK hA hbA hX hbl hr hlk hA2 (L + 1) 0 st0 cnt bits row cost wish degree left isOut order colour pairs costs wishes colours mrow mins H locs ls (Nat.zero_le L) (by omega) okS_0 hC hM hP hD hS (lv_sub hl [0, 3, 2, 1] rfl)
end
section
set_option maxHeartbeats 4000000 in
theorem lw_walk (l : Launch) (b : Addr) (xs : List Int32) : MetFree l x (headSpec (Jvm.Cond.code x code maxLocals ret :: tables_1) room_1) (lw_P b xs) (fun _ _ _ _ _ => True) lw_Q := by
  refine MetFree.of_bodyS (code := code) (maxLocals := maxLocals) (ret := ret) (by decide) ?_ ?_
  · intro args s m h hn
    obtain ⟨meth, c, h1, h2, h3, h4, h5, h6, -, -⟩ := Cond.code_spec hn (atoms_spec (ws := Jvm.Cond.code x code maxLocals ret :: tables_1) h _ List.mem_cons_self)
    exact ⟨meth, c, h1, h2, h3, h4, h5, h6⟩
  · intro p e s m args below meth c s₁ B hml0 hP _
    obtain ⟨rfl, hx, hbd, hgv⟩ := hP
    obtain ⟨scr, harrAt, hlist, hof, hsmall⟩ := hx
    obtain ⟨hcb, hkn, -, -⟩ := State.arrayAt?_spec harrAt
    have hown : s.vm.findClass R_law = some m.cls := findClass_of_methodNamed B.named
    have hts0 : ∀ c ∈ (Jvm.Cond.code x code maxLocals ret :: tables_1), c.before #[Value.ref b] s = true := atoms_spec (ws := Jvm.Cond.code x code maxLocals ret :: tables_1) B.pre
    have hts : ∀ w ∈ lw_tbl, w.before #[Value.ref b] s = true := k2_hts_sels lw_privs (fun w hw => hts0 w (List.mem_cons_of_mem _ hw)) lw_privs_ok
    have hml : c.maxLocals = 4 := B.maxLocals_eq (hts0 _ List.mem_cons_self)
    have X₀ : Stand p l e room_1 s m #[Value.ref b] below meth c s₁ [] 0 0 := Stand.of_body B
    have hh0 : s₁.heap = s.heap := by rw [B.state]; rfl
    have hsz : scr.slots.size = xs.length := by rw [← Array.length_toList, hlist, List.length_map]
    have hval : ∀ j : Nat, j < xs.length → scr.slots[j]? = some (.int (xs.getD j 0)) := fun j hj => by
      rw [← Array.getElem?_toList, hlist]
      simp [hj]
    have hbl : b < s.heap.size := (Array.getElem?_eq_some_iff.mp hcb).1
    have hX : va_X b xs.length (fun j => xs.getD j 0) s s.heap := ⟨scr, hcb, hof, hkn, hsz, hval⟩
    have K : W p l e room_1 s m #[Value.ref b] below meth c s₁.heap [] 0 0 (lw_Z below #[Value.ref b] s) (entryFrame m ([Value.ref b] : List Value).toArray 4) := by
      rw [hh0]
      exact whole_start l hbd ⟨B.exec, B.bytes, B.returns, hml, hown, hts, hX, hbl, B.notSynchronized, hgv⟩
    obtain ⟨t, a1, o, b1, b2, b3⟩ := K s₁ rfl X₀
    exact ⟨t, o, a1, b1, b2, b3⟩
theorem lw_pre_spec {args : Array Value} {s : State} (h : (Jvm.Cond.and given_1 narrow_1).before args s = true) (hr : rest_1_c.before args s = true) : ∃ (b : Addr) (xs : List Int32), lw_P b xs args s := by
  have hs := flat_of_before _ h
  have hq := flat_of_before _ hr
  have hc : (Cond.count 1).before args s = true := hs _ (by decide +kernel)
  have harr : (Cond.arrayOf (.arg 0) .int).before args s = true := hs _ (by decide +kernel)
  have hle : (Cond.le (.length (.arg 0)) (.int 192)).before args s = true := hs _ (by decide +kernel)
  have hlen : (Cond.isInt (.length (.arg 0))).before args s = true := hq _ (by decide +kernel)
  have hall : (Cond.all (.arg 0) (.isInt (.elem (.arg 0) (.index 0)))).before args s = true := hq _ (by decide +kernel)
  obtain ⟨b, xs, hb, hx⟩ := State.ints_of_pre rfl harr hlen hall
  have hsm : xs.length < 2 ^ 31 := hx.choose_spec.2.2.2
  have hev : (Term.length (.arg 0)).eval args s none [] s = some (.int xs.length.toInt32) := hx.length_eval hb
  have hv := Cond.le_ints hev (show (Term.int 192).eval args s none [] s = some (.int 192) from rfl)
  have hd : xs.length.toInt32 ≤ 192 := by
    simpa [Cond.before, Cond.holds, hv] using hle
  have hN : xs.length ≤ 192 := (Int32.ofNat_le_ofNat hsm (by decide)).mp (show Int32.ofNat xs.length ≤ Int32.ofNat 192 from hd)
  exact ⟨b, xs, Cond.one_arg hc (show args[0]? = some (.ref b) from hb), hx, hN, h⟩
theorem lw_comes (l : Launch) : Comes l x (Jvm.Cond.code x code maxLocals ret :: tables_1) room_1 (fun tb e args s => Calls_1 tb e args s ∧ rest_1 tb e args s ∧ Pre_1 tb e args s)
    (fun _ _ args s o t => lw_Q args s o t) := by
  intro p e ha hc hk s m args below hf hfit hheap happ hpre
  obtain ⟨b, xs, hP⟩ := lw_pre_spec hpre.2.2 hpre.2.1
  obtain ⟨k, o, h1, h2, h3, hQ⟩ := lw_walk l b xs p e ha hc hk s m args below hf ((Spec.applies_iff_loose hf).mp happ).1 hP trivial
  exact ⟨k, o, h1, h2, h3, hQ⟩
theorem lw_frame {s t : State} {o : Outcome} {args : Array Value} (h : Framed s o t [] 600000 7302250) :
    Framed s o t (fieldLocs frame_1_writes args s ++ arrayLocs frame_1_arrays args s ++ staticLocs frame_1_statics s) 600000 7302250 := h
theorem lw_limb (L : Cond) (hL : ∀ (args : Array Value) (s t : State), L.after args s (.returned (some (.int 1))) t = true) :
    ArmFor flags0 classFile x code maxLocals ret World_1 tables_1 room_1 Calls_1 rest_1 Pre_1
      (fun tb e a s o t => postC L tb e a s o t ∧ Framed s o t (fieldLocs frame_1_writes a s ++ arrayLocs frame_1_arrays a s ++ staticLocs frame_1_statics s) 600000 7302250) := by
  intro l _ _ _ p e ha hc hk s m args below hf hfit hheap happ hpre
  obtain ⟨k, o, h1, h2, h3, rfl, hF⟩ := lw_comes l p e ha hc hk s m args below hf hfit hheap happ hpre
  exact ⟨k, _, h1, h2, h3, hL args s _, lw_frame hF⟩
theorem i_vc : Claimed_1_1 ∧ Claimed_1_2 := ⟨lw_limb limb_1_1 (fun args s t => by simp [limb_1_1, Cond.after, Cond.holds, Cond.value]), lw_limb limb_1_2 (fun args s t => Cond.after_iff.mpr (by
  first | (rw [show limb_1_2 = Cond.eq .result (.int 1) from rfl, Cond.eq_ints (x := 1) (y := 1) rfl rfl]; simp; done) | (simp [limb_1_2, Cond.value, Term.eval]; done)))⟩
end
