section
-- ===== PART A: goes FIRST, ahead of the names: the tables' words, and 'selects' of the private methods out of them =====
/-- a private method of a class that the tables say can be made, by its rows of tables_1 -/
def lw_okq (q : MethodName × Nat) : Prop := (q.1.cls ≠ "java/lang/invoke/MethodHandle" ∧ q.1.cls ≠ "java/lang/invoke/VarHandle") ∧ Cond.instantiable q.1.cls q.2 ∈ tables_1 ∧ Cond.privateMethod q.1 ∈ tables_1 ∧ Cond.instanceMethod q.1 ∈ tables_1
set_option maxRecDepth 100000
theorem lw_p0 : lw_okq (⟨"DistanceMap", "workOut", "()V"⟩, 8) := ⟨⟨by decide +kernel, by decide +kernel⟩, List.mem_of_getElem? (i := 4) rfl, List.mem_of_getElem? (i := 54) rfl, List.mem_of_getElem? (i := 55) rfl⟩
theorem lw_p1 : lw_okq (⟨"DistanceMap", "sweepColumn", "(I)V"⟩, 8) := ⟨⟨by decide +kernel, by decide +kernel⟩, List.mem_of_getElem? (i := 4) rfl, List.mem_of_getElem? (i := 58) rfl, List.mem_of_getElem? (i := 59) rfl⟩
theorem lw_p2 : lw_okq (⟨"DistanceMap", "gatherRow", "(I)V"⟩, 8) := ⟨⟨by decide +kernel, by decide +kernel⟩, List.mem_of_getElem? (i := 4) rfl, List.mem_of_getElem? (i := 62) rfl, List.mem_of_getElem? (i := 63) rfl⟩
theorem lw_p3 : lw_okq (⟨"DistanceMap", "addParabola", "(II)V"⟩, 8) := ⟨⟨by decide +kernel, by decide +kernel⟩, List.mem_of_getElem? (i := 4) rfl, List.mem_of_getElem? (i := 66) rfl, List.mem_of_getElem? (i := 67) rfl⟩
theorem lw_p4 : lw_okq (⟨"DistanceMap", "lastPlace", "(III)I"⟩, 8) := ⟨⟨by decide +kernel, by decide +kernel⟩, List.mem_of_getElem? (i := 4) rfl, List.mem_of_getElem? (i := 70) rfl, List.mem_of_getElem? (i := 71) rfl⟩
theorem lw_p5 : lw_okq (⟨"DistanceMap", "heightOf", "(II)I"⟩, 8) := ⟨⟨by decide +kernel, by decide +kernel⟩, List.mem_of_getElem? (i := 4) rfl, List.mem_of_getElem? (i := 74) rfl, List.mem_of_getElem? (i := 75) rfl⟩
theorem lw_p6 : lw_okq (⟨"DistanceMap", "spreadRow", "(I)V"⟩, 8) := ⟨⟨by decide +kernel, by decide +kernel⟩, List.mem_of_getElem? (i := 4) rfl, List.mem_of_getElem? (i := 78) rfl, List.mem_of_getElem? (i := 79) rfl⟩
theorem lw_p7 : lw_okq (⟨"DistanceMap", "distanceOf", "(I)I"⟩, 8) := ⟨⟨by decide +kernel, by decide +kernel⟩, List.mem_of_getElem? (i := 4) rfl, List.mem_of_getElem? (i := 82) rfl, List.mem_of_getElem? (i := 83) rfl⟩
theorem lw_p8 : lw_okq (⟨"DistanceMapModel", "far", "(I)I"⟩, 1) := ⟨⟨by decide +kernel, by decide +kernel⟩, List.mem_of_getElem? (i := 110) rfl, List.mem_of_getElem? (i := 135) rfl, List.mem_of_getElem? (i := 136) rfl⟩
theorem lw_p9 : lw_okq (⟨"DistanceMapModel", "markOf", "(I)I"⟩, 1) := ⟨⟨by decide +kernel, by decide +kernel⟩, List.mem_of_getElem? (i := 110) rfl, List.mem_of_getElem? (i := 139) rfl, List.mem_of_getElem? (i := 140) rfl⟩
def lw_privs_1 : List (MethodName × Nat) := [(⟨"DistanceMap", "workOut", "()V"⟩, 8), (⟨"DistanceMap", "sweepColumn", "(I)V"⟩, 8), (⟨"DistanceMap", "gatherRow", "(I)V"⟩, 8), (⟨"DistanceMap", "addParabola", "(II)V"⟩, 8), (⟨"DistanceMap", "lastPlace", "(III)I"⟩, 8), (⟨"DistanceMap", "heightOf", "(II)I"⟩, 8), (⟨"DistanceMap", "spreadRow", "(I)V"⟩, 8), (⟨"DistanceMap", "distanceOf", "(I)I"⟩, 8), (⟨"DistanceMapModel", "far", "(I)I"⟩, 1), (⟨"DistanceMapModel", "markOf", "(I)I"⟩, 1)]
theorem lw_r1 : ∀ q ∈ lw_privs_1, lw_okq q := List.forall_mem_cons.mpr ⟨lw_p0, List.forall_mem_cons.mpr ⟨lw_p1, List.forall_mem_cons.mpr ⟨lw_p2, List.forall_mem_cons.mpr ⟨lw_p3, List.forall_mem_cons.mpr ⟨lw_p4, List.forall_mem_cons.mpr ⟨lw_p5, List.forall_mem_cons.mpr ⟨lw_p6, List.forall_mem_cons.mpr ⟨lw_p7, List.forall_mem_cons.mpr ⟨lw_p8, List.forall_mem_cons.mpr ⟨lw_p9, fun _ h => absurd h List.not_mem_nil⟩⟩⟩⟩⟩⟩⟩⟩⟩⟩
def lw_privs : List (MethodName × Nat) := lw_privs_1
def lw_tbl : List Cond := k2_sels lw_privs ++ tables_1
theorem lw_privs_ok : ∀ q ∈ lw_privs, lw_okq q := lw_r1
-- ===== ONE list of words for every method: the tables' words that hold all through a run =====
def lw_all : List Cond := lw_tbl.filter goodWord
/-- a word of the tables by its place: claim/WORDS.tsv -/
theorem lw_w {w : Cond} (i : Nat) (h : lw_tbl[i]? = some w) (g : goodWord w = true) : w ∈ lw_all := List.mem_filter.mpr ⟨List.mem_of_getElem? h, g⟩
theorem lw_all_tbl {w : Cond} (h : w ∈ lw_all) : w ∈ lw_tbl := (List.mem_filter.mp h).1
theorem lw_self : GoodIn lw_all lw_all := fun w h => ⟨h, good_of_word (List.mem_filter.mp h).2⟩
/-- a class's field words, by their places -/
theorem lw_in (ws : List Cond) (ps : List Nat) (hp : ws = ps.filterMap (fun i => lw_tbl[i]?)) (hg : ws.all goodWord = true) : ∀ w ∈ ws, w ∈ lw_all := by
  intro w h
  have h1 := List.all_eq_true.mp hg w h
  rw [hp] at h
  obtain ⟨i, -, hi⟩ := List.mem_filterMap.mp h
  exact lw_w i hi h1
/-- the words of a contract for the method y with code b, L locals, answer r -/
abbrev ws_ (y : MethodName) (b : ByteArray) (L : Nat) (r : Option FieldType) : List Cond := Cond.code y b L r :: lw_all
theorem lw_meth {y : MethodName} {b : ByteArray} {L : Nat} {r : Option FieldType} (h : Cond.code y b L r ∈ lw_all) : GoodIn lw_all (ws_ y b L r) := by
  intro w hw
  rcases List.mem_cons.mp hw with e | e
  · rw [e]
    exact lw_self _ h
  · exact lw_self _ e
theorem lw_app {a c : List Cond} (ha : ∀ w ∈ a, w ∈ lw_all) (hc : GoodIn lw_all c) : GoodIn lw_all (a ++ c) := by
  intro w hw
  rcases List.mem_append.mp hw with e | e
  · exact lw_self w (ha w e)
  · exact hc w e
/-- what a call through an object asks: cwV n hts (lw_V ..) -/
theorem lw_V {own : String} {idx : Nat} {C : String} {y : MethodName} {b : ByteArray} {L : Nat} {r : Option FieldType} (h1 : Cond.methodLink own idx y ∈ lw_all) (h2 : Cond.instanceMethod y ∈ lw_all) (h3 : Cond.selects C y y ∈ lw_all) (h4 : Cond.initialized C ∈ lw_all) (h5 : Cond.code y b L r ∈ lw_all) : GoodIn lw_all (wsV own idx C y (ws_ y b L r)) := by
  refine lw_app ?_ (lw_meth h5)
  intro w hw
  simp only [List.mem_cons, List.not_mem_nil, or_false] at hw
  rcases hw with e | e | e | e
  · rw [e]; exact h1
  · rw [e]; exact h2
  · rw [e]; exact h3
  · rw [e]; exact h4
/-- what a static call asks: va_cwS n hts (lw_S ..) -/
theorem lw_S {own : String} {idx : Nat} {y : MethodName} {b : ByteArray} {L : Nat} {r : Option FieldType} (h1 : Cond.methodLink own idx y ∈ lw_all) (h2 : Cond.static y ∈ lw_all) (h3 : Cond.initialized y.cls ∈ lw_all) (h4 : Cond.code y b L r ∈ lw_all) : GoodIn lw_all (va_wsS own idx y (ws_ y b L r)) := by
  refine lw_app ?_ (lw_meth h4)
  intro w hw
  simp only [List.mem_cons, List.not_mem_nil, or_false] at hw
  rcases hw with e | e | e
  · rw [e]; exact h1
  · rw [e]; exact h2
  · rw [e]; exact h3
/-- the words of a contract for a method WITH HANDLERS (hh: its table) -/
abbrev wsW_ (y : MethodName) (b : ByteArray) (L : Nat) (r : Option FieldType) (hh : List (Nat × Nat × Nat × Nat)) : List Cond := Cond.codeWith y b L r hh :: lw_all
theorem lw_methW {y : MethodName} {b : ByteArray} {L : Nat} {r : Option FieldType} {hh : List (Nat × Nat × Nat × Nat)} (h : Cond.codeWith y b L r hh ∈ lw_all) : GoodIn lw_all (wsW_ y b L r hh) := by
  intro w hw
  rcases List.mem_cons.mp hw with e | e
  · rw [e]
    exact lw_self _ h
  · exact lw_self _ e
/-- any list of words by their places (lw_in), good -/
theorem lw_good {ws : List Cond} (h : ∀ w ∈ ws, w ∈ lw_all) : GoodIn lw_all ws := fun w hw => lw_self w (h w hw)
/-- what a call of a method with handlers asks: vx_cwVW n hts (lw_VW ..), vx_cwSW n hts (lw_SW ..) -/
theorem lw_VW {own : String} {idx : Nat} {C : String} {y : MethodName} {b : ByteArray} {L : Nat} {r : Option FieldType} {hh : List (Nat × Nat × Nat × Nat)} (h1 : Cond.methodLink own idx y ∈ lw_all) (h2 : Cond.instanceMethod y ∈ lw_all) (h3 : Cond.selects C y y ∈ lw_all) (h4 : Cond.initialized C ∈ lw_all) (h5 : Cond.codeWith y b L r hh ∈ lw_all) : GoodIn lw_all (wsV own idx C y (wsW_ y b L r hh)) := by
  refine lw_app ?_ (lw_methW h5)
  intro w hw
  simp only [List.mem_cons, List.not_mem_nil, or_false] at hw
  rcases hw with e | e | e | e
  · rw [e]; exact h1
  · rw [e]; exact h2
  · rw [e]; exact h3
  · rw [e]; exact h4
theorem lw_SW {own : String} {idx : Nat} {y : MethodName} {b : ByteArray} {L : Nat} {r : Option FieldType} {hh : List (Nat × Nat × Nat × Nat)} (h1 : Cond.methodLink own idx y ∈ lw_all) (h2 : Cond.static y ∈ lw_all) (h3 : Cond.initialized y.cls ∈ lw_all) (h4 : Cond.codeWith y b L r hh ∈ lw_all) : GoodIn lw_all (va_wsS own idx y (wsW_ y b L r hh)) := by
  refine lw_app ?_ (lw_methW h4)
  intro w hw
  simp only [List.mem_cons, List.not_mem_nil, or_false] at hw
  rcases hw with e | e | e
  · rw [e]; exact h1
  · rw [e]; exact h2
  · rw [e]; exact h3
/-- a word by its place in its run of the tables -/
theorem lw_at {r : List Cond} (hr : ∀ w ∈ r, w ∈ lw_tbl) {w : Cond} (i : Nat) (h : r[i]? = some w) : w ∈ lw_tbl := hr w (List.mem_of_getElem? h)
theorem lw_g {w : Cond} (h : w ∈ lw_tbl) (g : goodWord w = true) : w ∈ lw_all := List.mem_filter.mpr ⟨h, g⟩
theorem lw_ms : ∀ w ∈ k2_sels lw_privs, w ∈ lw_tbl := fun w h => show w ∈ k2_sels lw_privs ++ tables_1 from List.mem_append_left _ h
theorem lw_m0 : ∀ w ∈ tables_1, w ∈ lw_tbl := fun w h => show w ∈ k2_sels lw_privs ++ tables_1 from List.mem_append_right (k2_sels lw_privs) h
theorem qs0 : (Cond.selects "DistanceMap" ⟨"DistanceMap", "workOut", "()V"⟩ ⟨"DistanceMap", "workOut", "()V"⟩) ∈ lw_all := lw_g (lw_at lw_ms 0 rfl) rfl
theorem qs1 : (Cond.selects "DistanceMap" ⟨"DistanceMap", "sweepColumn", "(I)V"⟩ ⟨"DistanceMap", "sweepColumn", "(I)V"⟩) ∈ lw_all := lw_g (lw_at lw_ms 1 rfl) rfl
theorem qs2 : (Cond.selects "DistanceMap" ⟨"DistanceMap", "gatherRow", "(I)V"⟩ ⟨"DistanceMap", "gatherRow", "(I)V"⟩) ∈ lw_all := lw_g (lw_at lw_ms 2 rfl) rfl
theorem qs3 : (Cond.selects "DistanceMap" ⟨"DistanceMap", "addParabola", "(II)V"⟩ ⟨"DistanceMap", "addParabola", "(II)V"⟩) ∈ lw_all := lw_g (lw_at lw_ms 3 rfl) rfl
theorem qs4 : (Cond.selects "DistanceMap" ⟨"DistanceMap", "lastPlace", "(III)I"⟩ ⟨"DistanceMap", "lastPlace", "(III)I"⟩) ∈ lw_all := lw_g (lw_at lw_ms 4 rfl) rfl
theorem qs5 : (Cond.selects "DistanceMap" ⟨"DistanceMap", "heightOf", "(II)I"⟩ ⟨"DistanceMap", "heightOf", "(II)I"⟩) ∈ lw_all := lw_g (lw_at lw_ms 5 rfl) rfl
theorem qs6 : (Cond.selects "DistanceMap" ⟨"DistanceMap", "spreadRow", "(I)V"⟩ ⟨"DistanceMap", "spreadRow", "(I)V"⟩) ∈ lw_all := lw_g (lw_at lw_ms 6 rfl) rfl
theorem qs7 : (Cond.selects "DistanceMap" ⟨"DistanceMap", "distanceOf", "(I)I"⟩ ⟨"DistanceMap", "distanceOf", "(I)I"⟩) ∈ lw_all := lw_g (lw_at lw_ms 7 rfl) rfl
theorem qs8 : (Cond.selects "DistanceMapModel" ⟨"DistanceMapModel", "far", "(I)I"⟩ ⟨"DistanceMapModel", "far", "(I)I"⟩) ∈ lw_all := lw_g (lw_at lw_ms 8 rfl) rfl
theorem qs9 : (Cond.selects "DistanceMapModel" ⟨"DistanceMapModel", "markOf", "(I)I"⟩ ⟨"DistanceMapModel", "markOf", "(I)I"⟩) ∈ lw_all := lw_g (lw_at lw_ms 9 rfl) rfl
-- ===== end of PART A; then your names; then what follows =====
end
section
/-! DistanceMap -/
set_option maxRecDepth 100000
def RX0 : String := "DistanceMap"
def TX0 : u_T := fun k => match k with
  | 0 => ("DistanceMap", "marked", "[Z", true)
  | 1 => ("DistanceMap", "marks", "I", false)
  | 2 => ("DistanceMap", "known", "Z", false)
  | 3 => ("DistanceMap", "markOf", "[I", true)
  | 4 => ("DistanceMap", "columnMark", "[I", true)
  | 5 => ("DistanceMap", "kept", "I", false)
  | 6 => ("DistanceMap", "keptColumn", "[I", true)
  | _ => ("DistanceMap", "takesOver", "[I", true)
def tyX0 : Nat → FieldType := fun k => match k with
  | 0 => .array .boolean
  | 1 => .int
  | 2 => .boolean
  | 3 => .array .int
  | 4 => .array .int
  | 5 => .int
  | 6 => .array .int
  | _ => .array .int
abbrev wsX00 : List Cond := u_ws RX0 TX0 8
theorem nmX0 : ∀ a, a < 8 → ∀ b, b < 8 → a ≠ b → (TX0 a).2.1 ≠ (TX0 b).2.1 := by decide +kernel
theorem tyX0_ok : ∀ k, k < 8 → parseFieldDescriptor (TX0 k).2.2.1 = some (tyX0 k) := by decide +kernel
abbrev cX0_init : ByteArray := prog_1_method_1_code
def yX0_init : MethodName := ⟨RX0, "<init>", "()V"⟩
theorem dX0_init_0 : decode cX0_init 0 = .ok (.aload_n 0, 1) := by decide +kernel
theorem dX0_init_1 : decode cX0_init 1 = .ok (.invokespecial 1, 3) := by decide +kernel
theorem dX0_init_4 : decode cX0_init 4 = .ok (.aload_n 0, 1) := by decide +kernel
theorem dX0_init_5 : decode cX0_init 5 = .ok (.sipush 192, 3) := by decide +kernel
theorem dX0_init_8 : decode cX0_init 8 = .ok (.newarray .boolean, 2) := by decide +kernel
theorem dX0_init_10 : decode cX0_init 10 = .ok (.putfield 7, 3) := by decide +kernel
theorem dX0_init_13 : decode cX0_init 13 = .ok (.aload_n 0, 1) := by decide +kernel
theorem dX0_init_14 : decode cX0_init 14 = .ok (.sipush 192, 3) := by decide +kernel
theorem dX0_init_17 : decode cX0_init 17 = .ok (.newarray .int, 2) := by decide +kernel
theorem dX0_init_19 : decode cX0_init 19 = .ok (.putfield 13, 3) := by decide +kernel
theorem dX0_init_22 : decode cX0_init 22 = .ok (.aload_n 0, 1) := by decide +kernel
theorem dX0_init_23 : decode cX0_init 23 = .ok (.sipush 192, 3) := by decide +kernel
theorem dX0_init_26 : decode cX0_init 26 = .ok (.newarray .int, 2) := by decide +kernel
theorem dX0_init_28 : decode cX0_init 28 = .ok (.putfield 17, 3) := by decide +kernel
theorem dX0_init_31 : decode cX0_init 31 = .ok (.aload_n 0, 1) := by decide +kernel
theorem dX0_init_32 : decode cX0_init 32 = .ok (.bipush 16, 2) := by decide +kernel
theorem dX0_init_34 : decode cX0_init 34 = .ok (.newarray .int, 2) := by decide +kernel
theorem dX0_init_36 : decode cX0_init 36 = .ok (.putfield 20, 3) := by decide +kernel
theorem dX0_init_39 : decode cX0_init 39 = .ok (.aload_n 0, 1) := by decide +kernel
theorem dX0_init_40 : decode cX0_init 40 = .ok (.bipush 16, 2) := by decide +kernel
theorem dX0_init_42 : decode cX0_init 42 = .ok (.newarray .int, 2) := by decide +kernel
theorem dX0_init_44 : decode cX0_init 44 = .ok (.putfield 23, 3) := by decide +kernel
theorem dX0_init_47 : decode cX0_init 47 = .ok (.return_, 1) := by decide +kernel
abbrev cX0_mark : ByteArray := prog_1_method_2_code
def yX0_mark : MethodName := ⟨RX0, "mark", "(II)I"⟩
theorem dX0_mark_0 : decode cX0_mark 0 = .ok (.iload_n 1, 1) := by decide +kernel
theorem dX0_mark_1 : decode cX0_mark 1 = .ok (.iload_n 2, 1) := by decide +kernel
theorem dX0_mark_2 : decode cX0_mark 2 = .ok (.invokestatic 26, 3) := by decide +kernel
theorem dX0_mark_5 : decode cX0_mark 5 = .ok (.ifCond .ne 5, 3) := by decide +kernel
theorem dX0_mark_8 : decode cX0_mark 8 = .ok (.iconst (-1), 1) := by decide +kernel
theorem dX0_mark_9 : decode cX0_mark 9 = .ok (.ireturn, 1) := by decide +kernel
theorem dX0_mark_10 : decode cX0_mark 10 = .ok (.bipush 16, 2) := by decide +kernel
theorem dX0_mark_12 : decode cX0_mark 12 = .ok (.iload_n 2, 1) := by decide +kernel
theorem dX0_mark_13 : decode cX0_mark 13 = .ok (.imul, 1) := by decide +kernel
theorem dX0_mark_14 : decode cX0_mark 14 = .ok (.iload_n 1, 1) := by decide +kernel
theorem dX0_mark_15 : decode cX0_mark 15 = .ok (.iadd, 1) := by decide +kernel
theorem dX0_mark_16 : decode cX0_mark 16 = .ok (.istore_n 3, 1) := by decide +kernel
theorem dX0_mark_17 : decode cX0_mark 17 = .ok (.aload_n 0, 1) := by decide +kernel
theorem dX0_mark_18 : decode cX0_mark 18 = .ok (.getfield 7, 3) := by decide +kernel
theorem dX0_mark_21 : decode cX0_mark 21 = .ok (.iload_n 3, 1) := by decide +kernel
theorem dX0_mark_22 : decode cX0_mark 22 = .ok (.baload, 1) := by decide +kernel
theorem dX0_mark_23 : decode cX0_mark 23 = .ok (.ifCond .eq 7, 3) := by decide +kernel
theorem dX0_mark_26 : decode cX0_mark 26 = .ok (.iconst 0, 1) := by decide +kernel
theorem dX0_mark_27 : decode cX0_mark 27 = .ok (.goto 4, 3) := by decide +kernel
theorem dX0_mark_30 : decode cX0_mark 30 = .ok (.iconst 1, 1) := by decide +kernel
theorem dX0_mark_31 : decode cX0_mark 31 = .ok (.istore 4, 2) := by decide +kernel
theorem dX0_mark_33 : decode cX0_mark 33 = .ok (.aload_n 0, 1) := by decide +kernel
theorem dX0_mark_34 : decode cX0_mark 34 = .ok (.getfield 7, 3) := by decide +kernel
theorem dX0_mark_37 : decode cX0_mark 37 = .ok (.iload_n 3, 1) := by decide +kernel
theorem dX0_mark_38 : decode cX0_mark 38 = .ok (.iconst 1, 1) := by decide +kernel
theorem dX0_mark_39 : decode cX0_mark 39 = .ok (.bastore, 1) := by decide +kernel
theorem dX0_mark_40 : decode cX0_mark 40 = .ok (.aload_n 0, 1) := by decide +kernel
theorem dX0_mark_41 : decode cX0_mark 41 = .ok (.dup, 1) := by decide +kernel
theorem dX0_mark_42 : decode cX0_mark 42 = .ok (.getfield 30, 3) := by decide +kernel
theorem dX0_mark_45 : decode cX0_mark 45 = .ok (.iload 4, 2) := by decide +kernel
theorem dX0_mark_47 : decode cX0_mark 47 = .ok (.iadd, 1) := by decide +kernel
theorem dX0_mark_48 : decode cX0_mark 48 = .ok (.putfield 30, 3) := by decide +kernel
theorem dX0_mark_51 : decode cX0_mark 51 = .ok (.aload_n 0, 1) := by decide +kernel
theorem dX0_mark_52 : decode cX0_mark 52 = .ok (.aload_n 0, 1) := by decide +kernel
theorem dX0_mark_53 : decode cX0_mark 53 = .ok (.getfield 34, 3) := by decide +kernel
theorem dX0_mark_56 : decode cX0_mark 56 = .ok (.ifCond .eq 12, 3) := by decide +kernel
theorem dX0_mark_59 : decode cX0_mark 59 = .ok (.iload 4, 2) := by decide +kernel
theorem dX0_mark_61 : decode cX0_mark 61 = .ok (.ifCond .ne 7, 3) := by decide +kernel
theorem dX0_mark_64 : decode cX0_mark 64 = .ok (.iconst 1, 1) := by decide +kernel
theorem dX0_mark_65 : decode cX0_mark 65 = .ok (.goto 4, 3) := by decide +kernel
theorem dX0_mark_68 : decode cX0_mark 68 = .ok (.iconst 0, 1) := by decide +kernel
theorem dX0_mark_69 : decode cX0_mark 69 = .ok (.putfield 34, 3) := by decide +kernel
theorem dX0_mark_72 : decode cX0_mark 72 = .ok (.iload 4, 2) := by decide +kernel
theorem dX0_mark_74 : decode cX0_mark 74 = .ok (.ireturn, 1) := by decide +kernel
abbrev cX0_isPlace : ByteArray := prog_1_method_11_code
def yX0_isPlace : MethodName := ⟨RX0, "isPlace", "(II)Z"⟩
theorem dX0_isPlace_0 : decode cX0_isPlace 0 = .ok (.iload_n 0, 1) := by decide +kernel
theorem dX0_isPlace_1 : decode cX0_isPlace 1 = .ok (.ifCond .lt 23, 3) := by decide +kernel
theorem dX0_isPlace_4 : decode cX0_isPlace 4 = .ok (.iload_n 0, 1) := by decide +kernel
theorem dX0_isPlace_5 : decode cX0_isPlace 5 = .ok (.bipush 15, 2) := by decide +kernel
theorem dX0_isPlace_7 : decode cX0_isPlace 7 = .ok (.if_icmp .gt 17, 3) := by decide +kernel
theorem dX0_isPlace_10 : decode cX0_isPlace 10 = .ok (.iload_n 1, 1) := by decide +kernel
theorem dX0_isPlace_11 : decode cX0_isPlace 11 = .ok (.ifCond .lt 13, 3) := by decide +kernel
theorem dX0_isPlace_14 : decode cX0_isPlace 14 = .ok (.iload_n 1, 1) := by decide +kernel
theorem dX0_isPlace_15 : decode cX0_isPlace 15 = .ok (.bipush 11, 2) := by decide +kernel
theorem dX0_isPlace_17 : decode cX0_isPlace 17 = .ok (.if_icmp .gt 7, 3) := by decide +kernel
theorem dX0_isPlace_20 : decode cX0_isPlace 20 = .ok (.iconst 1, 1) := by decide +kernel
theorem dX0_isPlace_21 : decode cX0_isPlace 21 = .ok (.goto 4, 3) := by decide +kernel
theorem dX0_isPlace_24 : decode cX0_isPlace 24 = .ok (.iconst 0, 1) := by decide +kernel
theorem dX0_isPlace_25 : decode cX0_isPlace 25 = .ok (.ireturn, 1) := by decide +kernel
abbrev cX0_clear : ByteArray := prog_1_method_3_code
def yX0_clear : MethodName := ⟨RX0, "clear", "(II)I"⟩
theorem dX0_clear_0 : decode cX0_clear 0 = .ok (.iload_n 1, 1) := by decide +kernel
theorem dX0_clear_1 : decode cX0_clear 1 = .ok (.iload_n 2, 1) := by decide +kernel
theorem dX0_clear_2 : decode cX0_clear 2 = .ok (.invokestatic 26, 3) := by decide +kernel
theorem dX0_clear_5 : decode cX0_clear 5 = .ok (.ifCond .ne 5, 3) := by decide +kernel
theorem dX0_clear_8 : decode cX0_clear 8 = .ok (.iconst (-1), 1) := by decide +kernel
theorem dX0_clear_9 : decode cX0_clear 9 = .ok (.ireturn, 1) := by decide +kernel
theorem dX0_clear_10 : decode cX0_clear 10 = .ok (.bipush 16, 2) := by decide +kernel
theorem dX0_clear_12 : decode cX0_clear 12 = .ok (.iload_n 2, 1) := by decide +kernel
theorem dX0_clear_13 : decode cX0_clear 13 = .ok (.imul, 1) := by decide +kernel
theorem dX0_clear_14 : decode cX0_clear 14 = .ok (.iload_n 1, 1) := by decide +kernel
theorem dX0_clear_15 : decode cX0_clear 15 = .ok (.iadd, 1) := by decide +kernel
theorem dX0_clear_16 : decode cX0_clear 16 = .ok (.istore_n 3, 1) := by decide +kernel
theorem dX0_clear_17 : decode cX0_clear 17 = .ok (.aload_n 0, 1) := by decide +kernel
theorem dX0_clear_18 : decode cX0_clear 18 = .ok (.getfield 7, 3) := by decide +kernel
theorem dX0_clear_21 : decode cX0_clear 21 = .ok (.iload_n 3, 1) := by decide +kernel
theorem dX0_clear_22 : decode cX0_clear 22 = .ok (.baload, 1) := by decide +kernel
theorem dX0_clear_23 : decode cX0_clear 23 = .ok (.ifCond .eq 7, 3) := by decide +kernel
theorem dX0_clear_26 : decode cX0_clear 26 = .ok (.iconst 1, 1) := by decide +kernel
theorem dX0_clear_27 : decode cX0_clear 27 = .ok (.goto 4, 3) := by decide +kernel
theorem dX0_clear_30 : decode cX0_clear 30 = .ok (.iconst 0, 1) := by decide +kernel
theorem dX0_clear_31 : decode cX0_clear 31 = .ok (.istore 4, 2) := by decide +kernel
theorem dX0_clear_33 : decode cX0_clear 33 = .ok (.aload_n 0, 1) := by decide +kernel
theorem dX0_clear_34 : decode cX0_clear 34 = .ok (.getfield 7, 3) := by decide +kernel
theorem dX0_clear_37 : decode cX0_clear 37 = .ok (.iload_n 3, 1) := by decide +kernel
theorem dX0_clear_38 : decode cX0_clear 38 = .ok (.iconst 0, 1) := by decide +kernel
theorem dX0_clear_39 : decode cX0_clear 39 = .ok (.bastore, 1) := by decide +kernel
theorem dX0_clear_40 : decode cX0_clear 40 = .ok (.aload_n 0, 1) := by decide +kernel
theorem dX0_clear_41 : decode cX0_clear 41 = .ok (.dup, 1) := by decide +kernel
theorem dX0_clear_42 : decode cX0_clear 42 = .ok (.getfield 30, 3) := by decide +kernel
theorem dX0_clear_45 : decode cX0_clear 45 = .ok (.iload 4, 2) := by decide +kernel
theorem dX0_clear_47 : decode cX0_clear 47 = .ok (.isub, 1) := by decide +kernel
theorem dX0_clear_48 : decode cX0_clear 48 = .ok (.putfield 30, 3) := by decide +kernel
theorem dX0_clear_51 : decode cX0_clear 51 = .ok (.aload_n 0, 1) := by decide +kernel
theorem dX0_clear_52 : decode cX0_clear 52 = .ok (.aload_n 0, 1) := by decide +kernel
theorem dX0_clear_53 : decode cX0_clear 53 = .ok (.getfield 34, 3) := by decide +kernel
theorem dX0_clear_56 : decode cX0_clear 56 = .ok (.ifCond .eq 12, 3) := by decide +kernel
theorem dX0_clear_59 : decode cX0_clear 59 = .ok (.iload 4, 2) := by decide +kernel
theorem dX0_clear_61 : decode cX0_clear 61 = .ok (.ifCond .ne 7, 3) := by decide +kernel
theorem dX0_clear_64 : decode cX0_clear 64 = .ok (.iconst 1, 1) := by decide +kernel
theorem dX0_clear_65 : decode cX0_clear 65 = .ok (.goto 4, 3) := by decide +kernel
theorem dX0_clear_68 : decode cX0_clear 68 = .ok (.iconst 0, 1) := by decide +kernel
theorem dX0_clear_69 : decode cX0_clear 69 = .ok (.putfield 34, 3) := by decide +kernel
theorem dX0_clear_72 : decode cX0_clear 72 = .ok (.iload 4, 2) := by decide +kernel
theorem dX0_clear_74 : decode cX0_clear 74 = .ok (.ireturn, 1) := by decide +kernel
abbrev cX0_distance : ByteArray := prog_1_method_4_code
def yX0_distance : MethodName := ⟨RX0, "distance", "(II)I"⟩
theorem dX0_distance_0 : decode cX0_distance 0 = .ok (.iload_n 1, 1) := by decide +kernel
theorem dX0_distance_1 : decode cX0_distance 1 = .ok (.iload_n 2, 1) := by decide +kernel
theorem dX0_distance_2 : decode cX0_distance 2 = .ok (.invokestatic 26, 3) := by decide +kernel
theorem dX0_distance_5 : decode cX0_distance 5 = .ok (.ifCond .eq 10, 3) := by decide +kernel
theorem dX0_distance_8 : decode cX0_distance 8 = .ok (.aload_n 0, 1) := by decide +kernel
theorem dX0_distance_9 : decode cX0_distance 9 = .ok (.getfield 30, 3) := by decide +kernel
theorem dX0_distance_12 : decode cX0_distance 12 = .ok (.ifCond .ne 5, 3) := by decide +kernel
theorem dX0_distance_15 : decode cX0_distance 15 = .ok (.iconst (-1), 1) := by decide +kernel
theorem dX0_distance_16 : decode cX0_distance 16 = .ok (.ireturn, 1) := by decide +kernel
theorem dX0_distance_17 : decode cX0_distance 17 = .ok (.aload_n 0, 1) := by decide +kernel
theorem dX0_distance_18 : decode cX0_distance 18 = .ok (.invokevirtual 38, 3) := by decide +kernel
theorem dX0_distance_21 : decode cX0_distance 21 = .ok (.aload_n 0, 1) := by decide +kernel
theorem dX0_distance_22 : decode cX0_distance 22 = .ok (.bipush 16, 2) := by decide +kernel
theorem dX0_distance_24 : decode cX0_distance 24 = .ok (.iload_n 2, 1) := by decide +kernel
theorem dX0_distance_25 : decode cX0_distance 25 = .ok (.imul, 1) := by decide +kernel
theorem dX0_distance_26 : decode cX0_distance 26 = .ok (.iload_n 1, 1) := by decide +kernel
theorem dX0_distance_27 : decode cX0_distance 27 = .ok (.iadd, 1) := by decide +kernel
theorem dX0_distance_28 : decode cX0_distance 28 = .ok (.invokevirtual 41, 3) := by decide +kernel
theorem dX0_distance_31 : decode cX0_distance 31 = .ok (.ireturn, 1) := by decide +kernel
abbrev cX0_workOut : ByteArray := prog_1_method_13_code
def yX0_workOut : MethodName := ⟨RX0, "workOut", "()V"⟩
theorem dX0_workOut_0 : decode cX0_workOut 0 = .ok (.aload_n 0, 1) := by decide +kernel
theorem dX0_workOut_1 : decode cX0_workOut 1 = .ok (.getfield 34, 3) := by decide +kernel
theorem dX0_workOut_4 : decode cX0_workOut 4 = .ok (.ifCond .eq 4, 3) := by decide +kernel
theorem dX0_workOut_7 : decode cX0_workOut 7 = .ok (.return_, 1) := by decide +kernel
theorem dX0_workOut_8 : decode cX0_workOut 8 = .ok (.aload_n 0, 1) := by decide +kernel
theorem dX0_workOut_9 : decode cX0_workOut 9 = .ok (.iconst 1, 1) := by decide +kernel
theorem dX0_workOut_10 : decode cX0_workOut 10 = .ok (.putfield 34, 3) := by decide +kernel
theorem dX0_workOut_13 : decode cX0_workOut 13 = .ok (.iconst 0, 1) := by decide +kernel
theorem dX0_workOut_14 : decode cX0_workOut 14 = .ok (.istore_n 1, 1) := by decide +kernel
theorem dX0_workOut_15 : decode cX0_workOut 15 = .ok (.iload_n 1, 1) := by decide +kernel
theorem dX0_workOut_16 : decode cX0_workOut 16 = .ok (.bipush 16, 2) := by decide +kernel
theorem dX0_workOut_18 : decode cX0_workOut 18 = .ok (.if_icmp .ge 14, 3) := by decide +kernel
theorem dX0_workOut_21 : decode cX0_workOut 21 = .ok (.aload_n 0, 1) := by decide +kernel
theorem dX0_workOut_22 : decode cX0_workOut 22 = .ok (.iload_n 1, 1) := by decide +kernel
theorem dX0_workOut_23 : decode cX0_workOut 23 = .ok (.invokevirtual 45, 3) := by decide +kernel
theorem dX0_workOut_26 : decode cX0_workOut 26 = .ok (.iinc 1 1, 3) := by decide +kernel
theorem dX0_workOut_29 : decode cX0_workOut 29 = .ok (.goto (-14), 3) := by decide +kernel
theorem dX0_workOut_32 : decode cX0_workOut 32 = .ok (.iconst 0, 1) := by decide +kernel
theorem dX0_workOut_33 : decode cX0_workOut 33 = .ok (.istore_n 1, 1) := by decide +kernel
theorem dX0_workOut_34 : decode cX0_workOut 34 = .ok (.iload_n 1, 1) := by decide +kernel
theorem dX0_workOut_35 : decode cX0_workOut 35 = .ok (.bipush 12, 2) := by decide +kernel
theorem dX0_workOut_37 : decode cX0_workOut 37 = .ok (.if_icmp .ge 19, 3) := by decide +kernel
theorem dX0_workOut_40 : decode cX0_workOut 40 = .ok (.aload_n 0, 1) := by decide +kernel
theorem dX0_workOut_41 : decode cX0_workOut 41 = .ok (.iload_n 1, 1) := by decide +kernel
theorem dX0_workOut_42 : decode cX0_workOut 42 = .ok (.invokevirtual 49, 3) := by decide +kernel
theorem dX0_workOut_45 : decode cX0_workOut 45 = .ok (.aload_n 0, 1) := by decide +kernel
theorem dX0_workOut_46 : decode cX0_workOut 46 = .ok (.iload_n 1, 1) := by decide +kernel
theorem dX0_workOut_47 : decode cX0_workOut 47 = .ok (.invokevirtual 52, 3) := by decide +kernel
theorem dX0_workOut_50 : decode cX0_workOut 50 = .ok (.iinc 1 1, 3) := by decide +kernel
theorem dX0_workOut_53 : decode cX0_workOut 53 = .ok (.goto (-19), 3) := by decide +kernel
theorem dX0_workOut_56 : decode cX0_workOut 56 = .ok (.return_, 1) := by decide +kernel
abbrev cX0_sweepColumn : ByteArray := prog_1_method_14_code
def yX0_sweepColumn : MethodName := ⟨RX0, "sweepColumn", "(I)V"⟩
theorem dX0_sweepColumn_0 : decode cX0_sweepColumn 0 = .ok (.iconst (-1), 1) := by decide +kernel
theorem dX0_sweepColumn_1 : decode cX0_sweepColumn 1 = .ok (.istore_n 2, 1) := by decide +kernel
theorem dX0_sweepColumn_2 : decode cX0_sweepColumn 2 = .ok (.iload_n 1, 1) := by decide +kernel
theorem dX0_sweepColumn_3 : decode cX0_sweepColumn 3 = .ok (.istore_n 3, 1) := by decide +kernel
theorem dX0_sweepColumn_4 : decode cX0_sweepColumn 4 = .ok (.iload_n 3, 1) := by decide +kernel
theorem dX0_sweepColumn_5 : decode cX0_sweepColumn 5 = .ok (.sipush 192, 3) := by decide +kernel
theorem dX0_sweepColumn_8 : decode cX0_sweepColumn 8 = .ok (.if_icmp .ge 31, 3) := by decide +kernel
theorem dX0_sweepColumn_11 : decode cX0_sweepColumn 11 = .ok (.aload_n 0, 1) := by decide +kernel
theorem dX0_sweepColumn_12 : decode cX0_sweepColumn 12 = .ok (.getfield 7, 3) := by decide +kernel
theorem dX0_sweepColumn_15 : decode cX0_sweepColumn 15 = .ok (.iload_n 3, 1) := by decide +kernel
theorem dX0_sweepColumn_16 : decode cX0_sweepColumn 16 = .ok (.baload, 1) := by decide +kernel
theorem dX0_sweepColumn_17 : decode cX0_sweepColumn 17 = .ok (.ifCond .eq 7, 3) := by decide +kernel
theorem dX0_sweepColumn_20 : decode cX0_sweepColumn 20 = .ok (.iload_n 3, 1) := by decide +kernel
theorem dX0_sweepColumn_21 : decode cX0_sweepColumn 21 = .ok (.goto 4, 3) := by decide +kernel
theorem dX0_sweepColumn_24 : decode cX0_sweepColumn 24 = .ok (.iload_n 2, 1) := by decide +kernel
theorem dX0_sweepColumn_25 : decode cX0_sweepColumn 25 = .ok (.istore_n 2, 1) := by decide +kernel
theorem dX0_sweepColumn_26 : decode cX0_sweepColumn 26 = .ok (.aload_n 0, 1) := by decide +kernel
theorem dX0_sweepColumn_27 : decode cX0_sweepColumn 27 = .ok (.getfield 17, 3) := by decide +kernel
theorem dX0_sweepColumn_30 : decode cX0_sweepColumn 30 = .ok (.iload_n 3, 1) := by decide +kernel
theorem dX0_sweepColumn_31 : decode cX0_sweepColumn 31 = .ok (.iload_n 2, 1) := by decide +kernel
theorem dX0_sweepColumn_32 : decode cX0_sweepColumn 32 = .ok (.iastore, 1) := by decide +kernel
theorem dX0_sweepColumn_33 : decode cX0_sweepColumn 33 = .ok (.iinc 3 16, 3) := by decide +kernel
theorem dX0_sweepColumn_36 : decode cX0_sweepColumn 36 = .ok (.goto (-32), 3) := by decide +kernel
theorem dX0_sweepColumn_39 : decode cX0_sweepColumn 39 = .ok (.iconst (-1), 1) := by decide +kernel
theorem dX0_sweepColumn_40 : decode cX0_sweepColumn 40 = .ok (.istore_n 2, 1) := by decide +kernel
theorem dX0_sweepColumn_41 : decode cX0_sweepColumn 41 = .ok (.sipush 176, 3) := by decide +kernel
theorem dX0_sweepColumn_44 : decode cX0_sweepColumn 44 = .ok (.iload_n 1, 1) := by decide +kernel
theorem dX0_sweepColumn_45 : decode cX0_sweepColumn 45 = .ok (.iadd, 1) := by decide +kernel
theorem dX0_sweepColumn_46 : decode cX0_sweepColumn 46 = .ok (.istore_n 3, 1) := by decide +kernel
theorem dX0_sweepColumn_47 : decode cX0_sweepColumn 47 = .ok (.iload_n 3, 1) := by decide +kernel
theorem dX0_sweepColumn_48 : decode cX0_sweepColumn 48 = .ok (.ifCond .lt 58, 3) := by decide +kernel
theorem dX0_sweepColumn_51 : decode cX0_sweepColumn 51 = .ok (.aload_n 0, 1) := by decide +kernel
theorem dX0_sweepColumn_52 : decode cX0_sweepColumn 52 = .ok (.getfield 7, 3) := by decide +kernel
theorem dX0_sweepColumn_55 : decode cX0_sweepColumn 55 = .ok (.iload_n 3, 1) := by decide +kernel
theorem dX0_sweepColumn_56 : decode cX0_sweepColumn 56 = .ok (.baload, 1) := by decide +kernel
theorem dX0_sweepColumn_57 : decode cX0_sweepColumn 57 = .ok (.ifCond .eq 7, 3) := by decide +kernel
theorem dX0_sweepColumn_60 : decode cX0_sweepColumn 60 = .ok (.iload_n 3, 1) := by decide +kernel
theorem dX0_sweepColumn_61 : decode cX0_sweepColumn 61 = .ok (.goto 4, 3) := by decide +kernel
theorem dX0_sweepColumn_64 : decode cX0_sweepColumn 64 = .ok (.iload_n 2, 1) := by decide +kernel
theorem dX0_sweepColumn_65 : decode cX0_sweepColumn 65 = .ok (.istore_n 2, 1) := by decide +kernel
theorem dX0_sweepColumn_66 : decode cX0_sweepColumn 66 = .ok (.aload_n 0, 1) := by decide +kernel
theorem dX0_sweepColumn_67 : decode cX0_sweepColumn 67 = .ok (.getfield 17, 3) := by decide +kernel
theorem dX0_sweepColumn_70 : decode cX0_sweepColumn 70 = .ok (.iload_n 3, 1) := by decide +kernel
theorem dX0_sweepColumn_71 : decode cX0_sweepColumn 71 = .ok (.iaload, 1) := by decide +kernel
theorem dX0_sweepColumn_72 : decode cX0_sweepColumn 72 = .ok (.istore 4, 2) := by decide +kernel
theorem dX0_sweepColumn_74 : decode cX0_sweepColumn 74 = .ok (.iload_n 2, 1) := by decide +kernel
theorem dX0_sweepColumn_75 : decode cX0_sweepColumn 75 = .ok (.ifCond .lt 25, 3) := by decide +kernel
theorem dX0_sweepColumn_78 : decode cX0_sweepColumn 78 = .ok (.iload 4, 2) := by decide +kernel
theorem dX0_sweepColumn_80 : decode cX0_sweepColumn 80 = .ok (.ifCond .lt 13, 3) := by decide +kernel
theorem dX0_sweepColumn_83 : decode cX0_sweepColumn 83 = .ok (.iload_n 2, 1) := by decide +kernel
theorem dX0_sweepColumn_84 : decode cX0_sweepColumn 84 = .ok (.iload_n 3, 1) := by decide +kernel
theorem dX0_sweepColumn_85 : decode cX0_sweepColumn 85 = .ok (.isub, 1) := by decide +kernel
theorem dX0_sweepColumn_86 : decode cX0_sweepColumn 86 = .ok (.iload_n 3, 1) := by decide +kernel
theorem dX0_sweepColumn_87 : decode cX0_sweepColumn 87 = .ok (.iload 4, 2) := by decide +kernel
theorem dX0_sweepColumn_89 : decode cX0_sweepColumn 89 = .ok (.isub, 1) := by decide +kernel
theorem dX0_sweepColumn_90 : decode cX0_sweepColumn 90 = .ok (.if_icmp .ge 10, 3) := by decide +kernel
theorem dX0_sweepColumn_93 : decode cX0_sweepColumn 93 = .ok (.aload_n 0, 1) := by decide +kernel
theorem dX0_sweepColumn_94 : decode cX0_sweepColumn 94 = .ok (.getfield 17, 3) := by decide +kernel
theorem dX0_sweepColumn_97 : decode cX0_sweepColumn 97 = .ok (.iload_n 3, 1) := by decide +kernel
theorem dX0_sweepColumn_98 : decode cX0_sweepColumn 98 = .ok (.iload_n 2, 1) := by decide +kernel
theorem dX0_sweepColumn_99 : decode cX0_sweepColumn 99 = .ok (.iastore, 1) := by decide +kernel
theorem dX0_sweepColumn_100 : decode cX0_sweepColumn 100 = .ok (.iinc 3 (-16), 3) := by decide +kernel
theorem dX0_sweepColumn_103 : decode cX0_sweepColumn 103 = .ok (.goto (-56), 3) := by decide +kernel
theorem dX0_sweepColumn_106 : decode cX0_sweepColumn 106 = .ok (.return_, 1) := by decide +kernel
abbrev cX0_gatherRow : ByteArray := prog_1_method_16_code
def yX0_gatherRow : MethodName := ⟨RX0, "gatherRow", "(I)V"⟩
theorem dX0_gatherRow_0 : decode cX0_gatherRow 0 = .ok (.aload_n 0, 1) := by decide +kernel
theorem dX0_gatherRow_1 : decode cX0_gatherRow 1 = .ok (.iconst 0, 1) := by decide +kernel
theorem dX0_gatherRow_2 : decode cX0_gatherRow 2 = .ok (.putfield 55, 3) := by decide +kernel
theorem dX0_gatherRow_5 : decode cX0_gatherRow 5 = .ok (.iconst 0, 1) := by decide +kernel
theorem dX0_gatherRow_6 : decode cX0_gatherRow 6 = .ok (.istore_n 2, 1) := by decide +kernel
theorem dX0_gatherRow_7 : decode cX0_gatherRow 7 = .ok (.iload_n 2, 1) := by decide +kernel
theorem dX0_gatherRow_8 : decode cX0_gatherRow 8 = .ok (.bipush 16, 2) := by decide +kernel
theorem dX0_gatherRow_10 : decode cX0_gatherRow 10 = .ok (.if_icmp .ge 29, 3) := by decide +kernel
theorem dX0_gatherRow_13 : decode cX0_gatherRow 13 = .ok (.aload_n 0, 1) := by decide +kernel
theorem dX0_gatherRow_14 : decode cX0_gatherRow 14 = .ok (.getfield 17, 3) := by decide +kernel
theorem dX0_gatherRow_17 : decode cX0_gatherRow 17 = .ok (.bipush 16, 2) := by decide +kernel
theorem dX0_gatherRow_19 : decode cX0_gatherRow 19 = .ok (.iload_n 1, 1) := by decide +kernel
theorem dX0_gatherRow_20 : decode cX0_gatherRow 20 = .ok (.imul, 1) := by decide +kernel
theorem dX0_gatherRow_21 : decode cX0_gatherRow 21 = .ok (.iload_n 2, 1) := by decide +kernel
theorem dX0_gatherRow_22 : decode cX0_gatherRow 22 = .ok (.iadd, 1) := by decide +kernel
theorem dX0_gatherRow_23 : decode cX0_gatherRow 23 = .ok (.iaload, 1) := by decide +kernel
theorem dX0_gatherRow_24 : decode cX0_gatherRow 24 = .ok (.ifCond .lt 9, 3) := by decide +kernel
theorem dX0_gatherRow_27 : decode cX0_gatherRow 27 = .ok (.aload_n 0, 1) := by decide +kernel
theorem dX0_gatherRow_28 : decode cX0_gatherRow 28 = .ok (.iload_n 2, 1) := by decide +kernel
theorem dX0_gatherRow_29 : decode cX0_gatherRow 29 = .ok (.iload_n 1, 1) := by decide +kernel
theorem dX0_gatherRow_30 : decode cX0_gatherRow 30 = .ok (.invokevirtual 58, 3) := by decide +kernel
theorem dX0_gatherRow_33 : decode cX0_gatherRow 33 = .ok (.iinc 2 1, 3) := by decide +kernel
theorem dX0_gatherRow_36 : decode cX0_gatherRow 36 = .ok (.goto (-29), 3) := by decide +kernel
theorem dX0_gatherRow_39 : decode cX0_gatherRow 39 = .ok (.return_, 1) := by decide +kernel
abbrev cX0_addParabola : ByteArray := prog_1_method_17_code
def yX0_addParabola : MethodName := ⟨RX0, "addParabola", "(II)V"⟩
theorem dX0_addParabola_0 : decode cX0_addParabola 0 = .ok (.iconst 0, 1) := by decide +kernel
theorem dX0_addParabola_1 : decode cX0_addParabola 1 = .ok (.istore_n 3, 1) := by decide +kernel
theorem dX0_addParabola_2 : decode cX0_addParabola 2 = .ok (.iconst 0, 1) := by decide +kernel
theorem dX0_addParabola_3 : decode cX0_addParabola 3 = .ok (.istore 4, 2) := by decide +kernel
theorem dX0_addParabola_5 : decode cX0_addParabola 5 = .ok (.iload 4, 2) := by decide +kernel
theorem dX0_addParabola_7 : decode cX0_addParabola 7 = .ok (.bipush 16, 2) := by decide +kernel
theorem dX0_addParabola_9 : decode cX0_addParabola 9 = .ok (.if_icmp .ge 64, 3) := by decide +kernel
theorem dX0_addParabola_12 : decode cX0_addParabola 12 = .ok (.aload_n 0, 1) := by decide +kernel
theorem dX0_addParabola_13 : decode cX0_addParabola 13 = .ok (.getfield 55, 3) := by decide +kernel
theorem dX0_addParabola_16 : decode cX0_addParabola 16 = .ok (.ifCond .le 57, 3) := by decide +kernel
theorem dX0_addParabola_19 : decode cX0_addParabola 19 = .ok (.aload_n 0, 1) := by decide +kernel
theorem dX0_addParabola_20 : decode cX0_addParabola 20 = .ok (.aload_n 0, 1) := by decide +kernel
theorem dX0_addParabola_21 : decode cX0_addParabola 21 = .ok (.getfield 20, 3) := by decide +kernel
theorem dX0_addParabola_24 : decode cX0_addParabola 24 = .ok (.aload_n 0, 1) := by decide +kernel
theorem dX0_addParabola_25 : decode cX0_addParabola 25 = .ok (.getfield 55, 3) := by decide +kernel
theorem dX0_addParabola_28 : decode cX0_addParabola 28 = .ok (.iconst 1, 1) := by decide +kernel
theorem dX0_addParabola_29 : decode cX0_addParabola 29 = .ok (.isub, 1) := by decide +kernel
theorem dX0_addParabola_30 : decode cX0_addParabola 30 = .ok (.iaload, 1) := by decide +kernel
theorem dX0_addParabola_31 : decode cX0_addParabola 31 = .ok (.iload_n 1, 1) := by decide +kernel
theorem dX0_addParabola_32 : decode cX0_addParabola 32 = .ok (.iload_n 2, 1) := by decide +kernel
theorem dX0_addParabola_33 : decode cX0_addParabola 33 = .ok (.invokevirtual 62, 3) := by decide +kernel
theorem dX0_addParabola_36 : decode cX0_addParabola 36 = .ok (.iconst 1, 1) := by decide +kernel
theorem dX0_addParabola_37 : decode cX0_addParabola 37 = .ok (.iadd, 1) := by decide +kernel
theorem dX0_addParabola_38 : decode cX0_addParabola 38 = .ok (.istore_n 3, 1) := by decide +kernel
theorem dX0_addParabola_39 : decode cX0_addParabola 39 = .ok (.iload_n 3, 1) := by decide +kernel
theorem dX0_addParabola_40 : decode cX0_addParabola 40 = .ok (.aload_n 0, 1) := by decide +kernel
theorem dX0_addParabola_41 : decode cX0_addParabola 41 = .ok (.getfield 23, 3) := by decide +kernel
theorem dX0_addParabola_44 : decode cX0_addParabola 44 = .ok (.aload_n 0, 1) := by decide +kernel
theorem dX0_addParabola_45 : decode cX0_addParabola 45 = .ok (.getfield 55, 3) := by decide +kernel
theorem dX0_addParabola_48 : decode cX0_addParabola 48 = .ok (.iconst 1, 1) := by decide +kernel
theorem dX0_addParabola_49 : decode cX0_addParabola 49 = .ok (.isub, 1) := by decide +kernel
theorem dX0_addParabola_50 : decode cX0_addParabola 50 = .ok (.iaload, 1) := by decide +kernel
theorem dX0_addParabola_51 : decode cX0_addParabola 51 = .ok (.if_icmp .le 6, 3) := by decide +kernel
theorem dX0_addParabola_54 : decode cX0_addParabola 54 = .ok (.goto 19, 3) := by decide +kernel
theorem dX0_addParabola_57 : decode cX0_addParabola 57 = .ok (.aload_n 0, 1) := by decide +kernel
theorem dX0_addParabola_58 : decode cX0_addParabola 58 = .ok (.dup, 1) := by decide +kernel
theorem dX0_addParabola_59 : decode cX0_addParabola 59 = .ok (.getfield 55, 3) := by decide +kernel
theorem dX0_addParabola_62 : decode cX0_addParabola 62 = .ok (.iconst 1, 1) := by decide +kernel
theorem dX0_addParabola_63 : decode cX0_addParabola 63 = .ok (.isub, 1) := by decide +kernel
theorem dX0_addParabola_64 : decode cX0_addParabola 64 = .ok (.putfield 55, 3) := by decide +kernel
theorem dX0_addParabola_67 : decode cX0_addParabola 67 = .ok (.iinc 4 1, 3) := by decide +kernel
theorem dX0_addParabola_70 : decode cX0_addParabola 70 = .ok (.goto (-65), 3) := by decide +kernel
theorem dX0_addParabola_73 : decode cX0_addParabola 73 = .ok (.aload_n 0, 1) := by decide +kernel
theorem dX0_addParabola_74 : decode cX0_addParabola 74 = .ok (.getfield 55, 3) := by decide +kernel
theorem dX0_addParabola_77 : decode cX0_addParabola 77 = .ok (.ifCond .ne 5, 3) := by decide +kernel
theorem dX0_addParabola_80 : decode cX0_addParabola 80 = .ok (.iconst 0, 1) := by decide +kernel
theorem dX0_addParabola_81 : decode cX0_addParabola 81 = .ok (.istore_n 3, 1) := by decide +kernel
theorem dX0_addParabola_82 : decode cX0_addParabola 82 = .ok (.iload_n 3, 1) := by decide +kernel
theorem dX0_addParabola_83 : decode cX0_addParabola 83 = .ok (.bipush 16, 2) := by decide +kernel
theorem dX0_addParabola_85 : decode cX0_addParabola 85 = .ok (.if_icmp .ge 33, 3) := by decide +kernel
theorem dX0_addParabola_88 : decode cX0_addParabola 88 = .ok (.aload_n 0, 1) := by decide +kernel
theorem dX0_addParabola_89 : decode cX0_addParabola 89 = .ok (.getfield 20, 3) := by decide +kernel
theorem dX0_addParabola_92 : decode cX0_addParabola 92 = .ok (.aload_n 0, 1) := by decide +kernel
theorem dX0_addParabola_93 : decode cX0_addParabola 93 = .ok (.getfield 55, 3) := by decide +kernel
theorem dX0_addParabola_96 : decode cX0_addParabola 96 = .ok (.iload_n 1, 1) := by decide +kernel
theorem dX0_addParabola_97 : decode cX0_addParabola 97 = .ok (.iastore, 1) := by decide +kernel
theorem dX0_addParabola_98 : decode cX0_addParabola 98 = .ok (.aload_n 0, 1) := by decide +kernel
theorem dX0_addParabola_99 : decode cX0_addParabola 99 = .ok (.getfield 23, 3) := by decide +kernel
theorem dX0_addParabola_102 : decode cX0_addParabola 102 = .ok (.aload_n 0, 1) := by decide +kernel
theorem dX0_addParabola_103 : decode cX0_addParabola 103 = .ok (.getfield 55, 3) := by decide +kernel
theorem dX0_addParabola_106 : decode cX0_addParabola 106 = .ok (.iload_n 3, 1) := by decide +kernel
theorem dX0_addParabola_107 : decode cX0_addParabola 107 = .ok (.iastore, 1) := by decide +kernel
theorem dX0_addParabola_108 : decode cX0_addParabola 108 = .ok (.aload_n 0, 1) := by decide +kernel
theorem dX0_addParabola_109 : decode cX0_addParabola 109 = .ok (.dup, 1) := by decide +kernel
theorem dX0_addParabola_110 : decode cX0_addParabola 110 = .ok (.getfield 55, 3) := by decide +kernel
theorem dX0_addParabola_113 : decode cX0_addParabola 113 = .ok (.iconst 1, 1) := by decide +kernel
theorem dX0_addParabola_114 : decode cX0_addParabola 114 = .ok (.iadd, 1) := by decide +kernel
theorem dX0_addParabola_115 : decode cX0_addParabola 115 = .ok (.putfield 55, 3) := by decide +kernel
theorem dX0_addParabola_118 : decode cX0_addParabola 118 = .ok (.return_, 1) := by decide +kernel
end
section
set_option maxRecDepth 100000
abbrev cX0_lastPlace : ByteArray := prog_1_method_18_code
def yX0_lastPlace : MethodName := ⟨RX0, "lastPlace", "(III)I"⟩
theorem dX0_lastPlace_0 : decode cX0_lastPlace 0 = .ok (.sipush 256, 3) := by decide +kernel
theorem dX0_lastPlace_3 : decode cX0_lastPlace 3 = .ok (.iload_n 2, 1) := by decide +kernel
theorem dX0_lastPlace_4 : decode cX0_lastPlace 4 = .ok (.iload_n 2, 1) := by decide +kernel
theorem dX0_lastPlace_5 : decode cX0_lastPlace 5 = .ok (.imul, 1) := by decide +kernel
theorem dX0_lastPlace_6 : decode cX0_lastPlace 6 = .ok (.iload_n 1, 1) := by decide +kernel
theorem dX0_lastPlace_7 : decode cX0_lastPlace 7 = .ok (.iload_n 1, 1) := by decide +kernel
theorem dX0_lastPlace_8 : decode cX0_lastPlace 8 = .ok (.imul, 1) := by decide +kernel
theorem dX0_lastPlace_9 : decode cX0_lastPlace 9 = .ok (.isub, 1) := by decide +kernel
theorem dX0_lastPlace_10 : decode cX0_lastPlace 10 = .ok (.imul, 1) := by decide +kernel
theorem dX0_lastPlace_11 : decode cX0_lastPlace 11 = .ok (.aload_n 0, 1) := by decide +kernel
theorem dX0_lastPlace_12 : decode cX0_lastPlace 12 = .ok (.iload_n 2, 1) := by decide +kernel
theorem dX0_lastPlace_13 : decode cX0_lastPlace 13 = .ok (.iload_n 3, 1) := by decide +kernel
theorem dX0_lastPlace_14 : decode cX0_lastPlace 14 = .ok (.invokevirtual 66, 3) := by decide +kernel
theorem dX0_lastPlace_17 : decode cX0_lastPlace 17 = .ok (.iadd, 1) := by decide +kernel
theorem dX0_lastPlace_18 : decode cX0_lastPlace 18 = .ok (.aload_n 0, 1) := by decide +kernel
theorem dX0_lastPlace_19 : decode cX0_lastPlace 19 = .ok (.iload_n 1, 1) := by decide +kernel
theorem dX0_lastPlace_20 : decode cX0_lastPlace 20 = .ok (.iload_n 3, 1) := by decide +kernel
theorem dX0_lastPlace_21 : decode cX0_lastPlace 21 = .ok (.invokevirtual 66, 3) := by decide +kernel
theorem dX0_lastPlace_24 : decode cX0_lastPlace 24 = .ok (.isub, 1) := by decide +kernel
theorem dX0_lastPlace_25 : decode cX0_lastPlace 25 = .ok (.istore 4, 2) := by decide +kernel
theorem dX0_lastPlace_27 : decode cX0_lastPlace 27 = .ok (.sipush 512, 3) := by decide +kernel
theorem dX0_lastPlace_30 : decode cX0_lastPlace 30 = .ok (.iload_n 2, 1) := by decide +kernel
theorem dX0_lastPlace_31 : decode cX0_lastPlace 31 = .ok (.iload_n 1, 1) := by decide +kernel
theorem dX0_lastPlace_32 : decode cX0_lastPlace 32 = .ok (.isub, 1) := by decide +kernel
theorem dX0_lastPlace_33 : decode cX0_lastPlace 33 = .ok (.imul, 1) := by decide +kernel
theorem dX0_lastPlace_34 : decode cX0_lastPlace 34 = .ok (.istore 5, 2) := by decide +kernel
theorem dX0_lastPlace_36 : decode cX0_lastPlace 36 = .ok (.iload 4, 2) := by decide +kernel
theorem dX0_lastPlace_38 : decode cX0_lastPlace 38 = .ok (.iload 5, 2) := by decide +kernel
theorem dX0_lastPlace_40 : decode cX0_lastPlace 40 = .ok (.idiv, 1) := by decide +kernel
theorem dX0_lastPlace_41 : decode cX0_lastPlace 41 = .ok (.istore 6, 2) := by decide +kernel
theorem dX0_lastPlace_43 : decode cX0_lastPlace 43 = .ok (.iload 4, 2) := by decide +kernel
theorem dX0_lastPlace_45 : decode cX0_lastPlace 45 = .ok (.iload 5, 2) := by decide +kernel
theorem dX0_lastPlace_47 : decode cX0_lastPlace 47 = .ok (.irem, 1) := by decide +kernel
theorem dX0_lastPlace_48 : decode cX0_lastPlace 48 = .ok (.ifCond .ge 10, 3) := by decide +kernel
theorem dX0_lastPlace_51 : decode cX0_lastPlace 51 = .ok (.iload 6, 2) := by decide +kernel
theorem dX0_lastPlace_53 : decode cX0_lastPlace 53 = .ok (.iconst 1, 1) := by decide +kernel
theorem dX0_lastPlace_54 : decode cX0_lastPlace 54 = .ok (.isub, 1) := by decide +kernel
theorem dX0_lastPlace_55 : decode cX0_lastPlace 55 = .ok (.goto 5, 3) := by decide +kernel
theorem dX0_lastPlace_58 : decode cX0_lastPlace 58 = .ok (.iload 6, 2) := by decide +kernel
theorem dX0_lastPlace_60 : decode cX0_lastPlace 60 = .ok (.ireturn, 1) := by decide +kernel
abbrev cX0_heightOf : ByteArray := prog_1_method_15_code
def yX0_heightOf : MethodName := ⟨RX0, "heightOf", "(II)I"⟩
theorem dX0_heightOf_0 : decode cX0_heightOf 0 = .ok (.aload_n 0, 1) := by decide +kernel
theorem dX0_heightOf_1 : decode cX0_heightOf 1 = .ok (.getfield 17, 3) := by decide +kernel
theorem dX0_heightOf_4 : decode cX0_heightOf 4 = .ok (.bipush 16, 2) := by decide +kernel
theorem dX0_heightOf_6 : decode cX0_heightOf 6 = .ok (.iload_n 2, 1) := by decide +kernel
theorem dX0_heightOf_7 : decode cX0_heightOf 7 = .ok (.imul, 1) := by decide +kernel
theorem dX0_heightOf_8 : decode cX0_heightOf 8 = .ok (.iload_n 1, 1) := by decide +kernel
theorem dX0_heightOf_9 : decode cX0_heightOf 9 = .ok (.iadd, 1) := by decide +kernel
theorem dX0_heightOf_10 : decode cX0_heightOf 10 = .ok (.iaload, 1) := by decide +kernel
theorem dX0_heightOf_11 : decode cX0_heightOf 11 = .ok (.istore_n 3, 1) := by decide +kernel
theorem dX0_heightOf_12 : decode cX0_heightOf 12 = .ok (.iload_n 3, 1) := by decide +kernel
theorem dX0_heightOf_13 : decode cX0_heightOf 13 = .ok (.iconst 4, 1) := by decide +kernel
theorem dX0_heightOf_14 : decode cX0_heightOf 14 = .ok (.ishr, 1) := by decide +kernel
theorem dX0_heightOf_15 : decode cX0_heightOf 15 = .ok (.iload_n 2, 1) := by decide +kernel
theorem dX0_heightOf_16 : decode cX0_heightOf 16 = .ok (.isub, 1) := by decide +kernel
theorem dX0_heightOf_17 : decode cX0_heightOf 17 = .ok (.istore 4, 2) := by decide +kernel
theorem dX0_heightOf_19 : decode cX0_heightOf 19 = .ok (.sipush 256, 3) := by decide +kernel
theorem dX0_heightOf_22 : decode cX0_heightOf 22 = .ok (.iload 4, 2) := by decide +kernel
theorem dX0_heightOf_24 : decode cX0_heightOf 24 = .ok (.imul, 1) := by decide +kernel
theorem dX0_heightOf_25 : decode cX0_heightOf 25 = .ok (.iload 4, 2) := by decide +kernel
theorem dX0_heightOf_27 : decode cX0_heightOf 27 = .ok (.imul, 1) := by decide +kernel
theorem dX0_heightOf_28 : decode cX0_heightOf 28 = .ok (.iload_n 3, 1) := by decide +kernel
theorem dX0_heightOf_29 : decode cX0_heightOf 29 = .ok (.iadd, 1) := by decide +kernel
theorem dX0_heightOf_30 : decode cX0_heightOf 30 = .ok (.ireturn, 1) := by decide +kernel
abbrev cX0_spreadRow : ByteArray := prog_1_method_19_code
def yX0_spreadRow : MethodName := ⟨RX0, "spreadRow", "(I)V"⟩
theorem dX0_spreadRow_0 : decode cX0_spreadRow 0 = .ok (.aload_n 0, 1) := by decide +kernel
theorem dX0_spreadRow_1 : decode cX0_spreadRow 1 = .ok (.getfield 55, 3) := by decide +kernel
theorem dX0_spreadRow_4 : decode cX0_spreadRow 4 = .ok (.iconst 1, 1) := by decide +kernel
theorem dX0_spreadRow_5 : decode cX0_spreadRow 5 = .ok (.isub, 1) := by decide +kernel
theorem dX0_spreadRow_6 : decode cX0_spreadRow 6 = .ok (.istore_n 2, 1) := by decide +kernel
theorem dX0_spreadRow_7 : decode cX0_spreadRow 7 = .ok (.bipush 15, 2) := by decide +kernel
theorem dX0_spreadRow_9 : decode cX0_spreadRow 9 = .ok (.istore_n 3, 1) := by decide +kernel
theorem dX0_spreadRow_10 : decode cX0_spreadRow 10 = .ok (.iload_n 3, 1) := by decide +kernel
theorem dX0_spreadRow_11 : decode cX0_spreadRow 11 = .ok (.ifCond .lt 56, 3) := by decide +kernel
theorem dX0_spreadRow_14 : decode cX0_spreadRow 14 = .ok (.iload_n 2, 1) := by decide +kernel
theorem dX0_spreadRow_15 : decode cX0_spreadRow 15 = .ok (.ifCond .le 19, 3) := by decide +kernel
theorem dX0_spreadRow_18 : decode cX0_spreadRow 18 = .ok (.aload_n 0, 1) := by decide +kernel
theorem dX0_spreadRow_19 : decode cX0_spreadRow 19 = .ok (.getfield 23, 3) := by decide +kernel
theorem dX0_spreadRow_22 : decode cX0_spreadRow 22 = .ok (.iload_n 2, 1) := by decide +kernel
theorem dX0_spreadRow_23 : decode cX0_spreadRow 23 = .ok (.iaload, 1) := by decide +kernel
theorem dX0_spreadRow_24 : decode cX0_spreadRow 24 = .ok (.iload_n 3, 1) := by decide +kernel
theorem dX0_spreadRow_25 : decode cX0_spreadRow 25 = .ok (.if_icmp .le 9, 3) := by decide +kernel
theorem dX0_spreadRow_28 : decode cX0_spreadRow 28 = .ok (.iinc 2 (-1), 3) := by decide +kernel
theorem dX0_spreadRow_31 : decode cX0_spreadRow 31 = .ok (.goto (-17), 3) := by decide +kernel
theorem dX0_spreadRow_34 : decode cX0_spreadRow 34 = .ok (.aload_n 0, 1) := by decide +kernel
theorem dX0_spreadRow_35 : decode cX0_spreadRow 35 = .ok (.getfield 13, 3) := by decide +kernel
theorem dX0_spreadRow_38 : decode cX0_spreadRow 38 = .ok (.bipush 16, 2) := by decide +kernel
theorem dX0_spreadRow_40 : decode cX0_spreadRow 40 = .ok (.iload_n 1, 1) := by decide +kernel
theorem dX0_spreadRow_41 : decode cX0_spreadRow 41 = .ok (.imul, 1) := by decide +kernel
theorem dX0_spreadRow_42 : decode cX0_spreadRow 42 = .ok (.iload_n 3, 1) := by decide +kernel
theorem dX0_spreadRow_43 : decode cX0_spreadRow 43 = .ok (.iadd, 1) := by decide +kernel
theorem dX0_spreadRow_44 : decode cX0_spreadRow 44 = .ok (.aload_n 0, 1) := by decide +kernel
theorem dX0_spreadRow_45 : decode cX0_spreadRow 45 = .ok (.getfield 17, 3) := by decide +kernel
theorem dX0_spreadRow_48 : decode cX0_spreadRow 48 = .ok (.bipush 16, 2) := by decide +kernel
theorem dX0_spreadRow_50 : decode cX0_spreadRow 50 = .ok (.iload_n 1, 1) := by decide +kernel
theorem dX0_spreadRow_51 : decode cX0_spreadRow 51 = .ok (.imul, 1) := by decide +kernel
theorem dX0_spreadRow_52 : decode cX0_spreadRow 52 = .ok (.aload_n 0, 1) := by decide +kernel
theorem dX0_spreadRow_53 : decode cX0_spreadRow 53 = .ok (.getfield 20, 3) := by decide +kernel
theorem dX0_spreadRow_56 : decode cX0_spreadRow 56 = .ok (.iload_n 2, 1) := by decide +kernel
theorem dX0_spreadRow_57 : decode cX0_spreadRow 57 = .ok (.iaload, 1) := by decide +kernel
theorem dX0_spreadRow_58 : decode cX0_spreadRow 58 = .ok (.iadd, 1) := by decide +kernel
theorem dX0_spreadRow_59 : decode cX0_spreadRow 59 = .ok (.iaload, 1) := by decide +kernel
theorem dX0_spreadRow_60 : decode cX0_spreadRow 60 = .ok (.iastore, 1) := by decide +kernel
theorem dX0_spreadRow_61 : decode cX0_spreadRow 61 = .ok (.iinc 3 (-1), 3) := by decide +kernel
theorem dX0_spreadRow_64 : decode cX0_spreadRow 64 = .ok (.goto (-54), 3) := by decide +kernel
theorem dX0_spreadRow_67 : decode cX0_spreadRow 67 = .ok (.return_, 1) := by decide +kernel
abbrev cX0_distanceOf : ByteArray := prog_1_method_12_code
def yX0_distanceOf : MethodName := ⟨RX0, "distanceOf", "(I)I"⟩
theorem dX0_distanceOf_0 : decode cX0_distanceOf 0 = .ok (.iload_n 1, 1) := by decide +kernel
theorem dX0_distanceOf_1 : decode cX0_distanceOf 1 = .ok (.bipush 15, 2) := by decide +kernel
theorem dX0_distanceOf_3 : decode cX0_distanceOf 3 = .ok (.iand, 1) := by decide +kernel
theorem dX0_distanceOf_4 : decode cX0_distanceOf 4 = .ok (.aload_n 0, 1) := by decide +kernel
theorem dX0_distanceOf_5 : decode cX0_distanceOf 5 = .ok (.getfield 13, 3) := by decide +kernel
theorem dX0_distanceOf_8 : decode cX0_distanceOf 8 = .ok (.iload_n 1, 1) := by decide +kernel
theorem dX0_distanceOf_9 : decode cX0_distanceOf 9 = .ok (.iaload, 1) := by decide +kernel
theorem dX0_distanceOf_10 : decode cX0_distanceOf 10 = .ok (.bipush 15, 2) := by decide +kernel
theorem dX0_distanceOf_12 : decode cX0_distanceOf 12 = .ok (.iand, 1) := by decide +kernel
theorem dX0_distanceOf_13 : decode cX0_distanceOf 13 = .ok (.isub, 1) := by decide +kernel
theorem dX0_distanceOf_14 : decode cX0_distanceOf 14 = .ok (.istore_n 2, 1) := by decide +kernel
theorem dX0_distanceOf_15 : decode cX0_distanceOf 15 = .ok (.iload_n 1, 1) := by decide +kernel
theorem dX0_distanceOf_16 : decode cX0_distanceOf 16 = .ok (.iconst 4, 1) := by decide +kernel
theorem dX0_distanceOf_17 : decode cX0_distanceOf 17 = .ok (.ishr, 1) := by decide +kernel
theorem dX0_distanceOf_18 : decode cX0_distanceOf 18 = .ok (.aload_n 0, 1) := by decide +kernel
theorem dX0_distanceOf_19 : decode cX0_distanceOf 19 = .ok (.getfield 13, 3) := by decide +kernel
theorem dX0_distanceOf_22 : decode cX0_distanceOf 22 = .ok (.iload_n 1, 1) := by decide +kernel
theorem dX0_distanceOf_23 : decode cX0_distanceOf 23 = .ok (.iaload, 1) := by decide +kernel
theorem dX0_distanceOf_24 : decode cX0_distanceOf 24 = .ok (.iconst 4, 1) := by decide +kernel
theorem dX0_distanceOf_25 : decode cX0_distanceOf 25 = .ok (.ishr, 1) := by decide +kernel
theorem dX0_distanceOf_26 : decode cX0_distanceOf 26 = .ok (.isub, 1) := by decide +kernel
theorem dX0_distanceOf_27 : decode cX0_distanceOf 27 = .ok (.istore_n 3, 1) := by decide +kernel
theorem dX0_distanceOf_28 : decode cX0_distanceOf 28 = .ok (.iload_n 2, 1) := by decide +kernel
theorem dX0_distanceOf_29 : decode cX0_distanceOf 29 = .ok (.iload_n 2, 1) := by decide +kernel
theorem dX0_distanceOf_30 : decode cX0_distanceOf 30 = .ok (.imul, 1) := by decide +kernel
theorem dX0_distanceOf_31 : decode cX0_distanceOf 31 = .ok (.iload_n 3, 1) := by decide +kernel
theorem dX0_distanceOf_32 : decode cX0_distanceOf 32 = .ok (.iload_n 3, 1) := by decide +kernel
theorem dX0_distanceOf_33 : decode cX0_distanceOf 33 = .ok (.imul, 1) := by decide +kernel
theorem dX0_distanceOf_34 : decode cX0_distanceOf 34 = .ok (.iadd, 1) := by decide +kernel
theorem dX0_distanceOf_35 : decode cX0_distanceOf 35 = .ok (.ireturn, 1) := by decide +kernel
abbrev cX0_nearest : ByteArray := prog_1_method_5_code
def yX0_nearest : MethodName := ⟨RX0, "nearest", "(II)I"⟩
theorem dX0_nearest_0 : decode cX0_nearest 0 = .ok (.iload_n 1, 1) := by decide +kernel
theorem dX0_nearest_1 : decode cX0_nearest 1 = .ok (.iload_n 2, 1) := by decide +kernel
theorem dX0_nearest_2 : decode cX0_nearest 2 = .ok (.invokestatic 26, 3) := by decide +kernel
theorem dX0_nearest_5 : decode cX0_nearest 5 = .ok (.ifCond .eq 10, 3) := by decide +kernel
theorem dX0_nearest_8 : decode cX0_nearest 8 = .ok (.aload_n 0, 1) := by decide +kernel
theorem dX0_nearest_9 : decode cX0_nearest 9 = .ok (.getfield 30, 3) := by decide +kernel
theorem dX0_nearest_12 : decode cX0_nearest 12 = .ok (.ifCond .ne 5, 3) := by decide +kernel
theorem dX0_nearest_15 : decode cX0_nearest 15 = .ok (.iconst (-1), 1) := by decide +kernel
theorem dX0_nearest_16 : decode cX0_nearest 16 = .ok (.ireturn, 1) := by decide +kernel
theorem dX0_nearest_17 : decode cX0_nearest 17 = .ok (.aload_n 0, 1) := by decide +kernel
theorem dX0_nearest_18 : decode cX0_nearest 18 = .ok (.invokevirtual 38, 3) := by decide +kernel
theorem dX0_nearest_21 : decode cX0_nearest 21 = .ok (.aload_n 0, 1) := by decide +kernel
theorem dX0_nearest_22 : decode cX0_nearest 22 = .ok (.getfield 13, 3) := by decide +kernel
theorem dX0_nearest_25 : decode cX0_nearest 25 = .ok (.bipush 16, 2) := by decide +kernel
theorem dX0_nearest_27 : decode cX0_nearest 27 = .ok (.iload_n 2, 1) := by decide +kernel
theorem dX0_nearest_28 : decode cX0_nearest 28 = .ok (.imul, 1) := by decide +kernel
theorem dX0_nearest_29 : decode cX0_nearest 29 = .ok (.iload_n 1, 1) := by decide +kernel
theorem dX0_nearest_30 : decode cX0_nearest 30 = .ok (.iadd, 1) := by decide +kernel
theorem dX0_nearest_31 : decode cX0_nearest 31 = .ok (.iaload, 1) := by decide +kernel
theorem dX0_nearest_32 : decode cX0_nearest 32 = .ok (.ireturn, 1) := by decide +kernel
abbrev cX0_reach : ByteArray := prog_1_method_6_code
def yX0_reach : MethodName := ⟨RX0, "reach", "(II)I"⟩
theorem dX0_reach_0 : decode cX0_reach 0 = .ok (.iload_n 1, 1) := by decide +kernel
theorem dX0_reach_1 : decode cX0_reach 1 = .ok (.iload_n 2, 1) := by decide +kernel
theorem dX0_reach_2 : decode cX0_reach 2 = .ok (.invokestatic 26, 3) := by decide +kernel
theorem dX0_reach_5 : decode cX0_reach 5 = .ok (.ifCond .ne 5, 3) := by decide +kernel
theorem dX0_reach_8 : decode cX0_reach 8 = .ok (.iconst (-1), 1) := by decide +kernel
theorem dX0_reach_9 : decode cX0_reach 9 = .ok (.ireturn, 1) := by decide +kernel
theorem dX0_reach_10 : decode cX0_reach 10 = .ok (.aload_n 0, 1) := by decide +kernel
theorem dX0_reach_11 : decode cX0_reach 11 = .ok (.getfield 30, 3) := by decide +kernel
theorem dX0_reach_14 : decode cX0_reach 14 = .ok (.ifCond .ne 5, 3) := by decide +kernel
theorem dX0_reach_17 : decode cX0_reach 17 = .ok (.iconst 0, 1) := by decide +kernel
theorem dX0_reach_18 : decode cX0_reach 18 = .ok (.ireturn, 1) := by decide +kernel
theorem dX0_reach_19 : decode cX0_reach 19 = .ok (.aload_n 0, 1) := by decide +kernel
theorem dX0_reach_20 : decode cX0_reach 20 = .ok (.invokevirtual 38, 3) := by decide +kernel
theorem dX0_reach_23 : decode cX0_reach 23 = .ok (.iconst 0, 1) := by decide +kernel
theorem dX0_reach_24 : decode cX0_reach 24 = .ok (.istore_n 3, 1) := by decide +kernel
theorem dX0_reach_25 : decode cX0_reach 25 = .ok (.iconst 0, 1) := by decide +kernel
theorem dX0_reach_26 : decode cX0_reach 26 = .ok (.istore 4, 2) := by decide +kernel
theorem dX0_reach_28 : decode cX0_reach 28 = .ok (.iload 4, 2) := by decide +kernel
theorem dX0_reach_30 : decode cX0_reach 30 = .ok (.sipush 192, 3) := by decide +kernel
theorem dX0_reach_33 : decode cX0_reach 33 = .ok (.if_icmp .ge 33, 3) := by decide +kernel
theorem dX0_reach_36 : decode cX0_reach 36 = .ok (.iload_n 3, 1) := by decide +kernel
theorem dX0_reach_37 : decode cX0_reach 37 = .ok (.aload_n 0, 1) := by decide +kernel
theorem dX0_reach_38 : decode cX0_reach 38 = .ok (.getfield 13, 3) := by decide +kernel
theorem dX0_reach_41 : decode cX0_reach 41 = .ok (.iload 4, 2) := by decide +kernel
theorem dX0_reach_43 : decode cX0_reach 43 = .ok (.iaload, 1) := by decide +kernel
theorem dX0_reach_44 : decode cX0_reach 44 = .ok (.bipush 16, 2) := by decide +kernel
theorem dX0_reach_46 : decode cX0_reach 46 = .ok (.iload_n 2, 1) := by decide +kernel
theorem dX0_reach_47 : decode cX0_reach 47 = .ok (.imul, 1) := by decide +kernel
theorem dX0_reach_48 : decode cX0_reach 48 = .ok (.iload_n 1, 1) := by decide +kernel
theorem dX0_reach_49 : decode cX0_reach 49 = .ok (.iadd, 1) := by decide +kernel
theorem dX0_reach_50 : decode cX0_reach 50 = .ok (.if_icmp .ne 7, 3) := by decide +kernel
theorem dX0_reach_53 : decode cX0_reach 53 = .ok (.iconst 1, 1) := by decide +kernel
theorem dX0_reach_54 : decode cX0_reach 54 = .ok (.goto 4, 3) := by decide +kernel
theorem dX0_reach_57 : decode cX0_reach 57 = .ok (.iconst 0, 1) := by decide +kernel
theorem dX0_reach_58 : decode cX0_reach 58 = .ok (.iadd, 1) := by decide +kernel
theorem dX0_reach_59 : decode cX0_reach 59 = .ok (.istore_n 3, 1) := by decide +kernel
theorem dX0_reach_60 : decode cX0_reach 60 = .ok (.iinc 4 1, 3) := by decide +kernel
theorem dX0_reach_63 : decode cX0_reach 63 = .ok (.goto (-35), 3) := by decide +kernel
theorem dX0_reach_66 : decode cX0_reach 66 = .ok (.iload_n 3, 1) := by decide +kernel
theorem dX0_reach_67 : decode cX0_reach 67 = .ok (.ireturn, 1) := by decide +kernel
abbrev cX0_farthest : ByteArray := prog_1_method_7_code
def yX0_farthest : MethodName := ⟨RX0, "farthest", "()I"⟩
theorem dX0_farthest_0 : decode cX0_farthest 0 = .ok (.aload_n 0, 1) := by decide +kernel
theorem dX0_farthest_1 : decode cX0_farthest 1 = .ok (.getfield 30, 3) := by decide +kernel
theorem dX0_farthest_4 : decode cX0_farthest 4 = .ok (.ifCond .ne 5, 3) := by decide +kernel
theorem dX0_farthest_7 : decode cX0_farthest 7 = .ok (.iconst (-1), 1) := by decide +kernel
theorem dX0_farthest_8 : decode cX0_farthest 8 = .ok (.ireturn, 1) := by decide +kernel
theorem dX0_farthest_9 : decode cX0_farthest 9 = .ok (.aload_n 0, 1) := by decide +kernel
theorem dX0_farthest_10 : decode cX0_farthest 10 = .ok (.invokevirtual 38, 3) := by decide +kernel
theorem dX0_farthest_13 : decode cX0_farthest 13 = .ok (.iconst 0, 1) := by decide +kernel
theorem dX0_farthest_14 : decode cX0_farthest 14 = .ok (.istore_n 1, 1) := by decide +kernel
theorem dX0_farthest_15 : decode cX0_farthest 15 = .ok (.iconst 0, 1) := by decide +kernel
theorem dX0_farthest_16 : decode cX0_farthest 16 = .ok (.istore_n 2, 1) := by decide +kernel
theorem dX0_farthest_17 : decode cX0_farthest 17 = .ok (.iload_n 2, 1) := by decide +kernel
theorem dX0_farthest_18 : decode cX0_farthest 18 = .ok (.sipush 192, 3) := by decide +kernel
theorem dX0_farthest_21 : decode cX0_farthest 21 = .ok (.if_icmp .ge 26, 3) := by decide +kernel
theorem dX0_farthest_24 : decode cX0_farthest 24 = .ok (.aload_n 0, 1) := by decide +kernel
theorem dX0_farthest_25 : decode cX0_farthest 25 = .ok (.iload_n 2, 1) := by decide +kernel
theorem dX0_farthest_26 : decode cX0_farthest 26 = .ok (.invokevirtual 41, 3) := by decide +kernel
theorem dX0_farthest_29 : decode cX0_farthest 29 = .ok (.istore_n 3, 1) := by decide +kernel
theorem dX0_farthest_30 : decode cX0_farthest 30 = .ok (.iload_n 3, 1) := by decide +kernel
theorem dX0_farthest_31 : decode cX0_farthest 31 = .ok (.iload_n 1, 1) := by decide +kernel
theorem dX0_farthest_32 : decode cX0_farthest 32 = .ok (.if_icmp .le 7, 3) := by decide +kernel
theorem dX0_farthest_35 : decode cX0_farthest 35 = .ok (.iload_n 3, 1) := by decide +kernel
theorem dX0_farthest_36 : decode cX0_farthest 36 = .ok (.goto 4, 3) := by decide +kernel
theorem dX0_farthest_39 : decode cX0_farthest 39 = .ok (.iload_n 1, 1) := by decide +kernel
theorem dX0_farthest_40 : decode cX0_farthest 40 = .ok (.istore_n 1, 1) := by decide +kernel
theorem dX0_farthest_41 : decode cX0_farthest 41 = .ok (.iinc 2 1, 3) := by decide +kernel
theorem dX0_farthest_44 : decode cX0_farthest 44 = .ok (.goto (-27), 3) := by decide +kernel
theorem dX0_farthest_47 : decode cX0_farthest 47 = .ok (.iload_n 1, 1) := by decide +kernel
theorem dX0_farthest_48 : decode cX0_farthest 48 = .ok (.ireturn, 1) := by decide +kernel
abbrev cX0_within : ByteArray := prog_1_method_8_code
def yX0_within : MethodName := ⟨RX0, "within", "(I)I"⟩
theorem dX0_within_0 : decode cX0_within 0 = .ok (.aload_n 0, 1) := by decide +kernel
theorem dX0_within_1 : decode cX0_within 1 = .ok (.getfield 30, 3) := by decide +kernel
theorem dX0_within_4 : decode cX0_within 4 = .ok (.ifCond .ne 5, 3) := by decide +kernel
theorem dX0_within_7 : decode cX0_within 7 = .ok (.iconst 0, 1) := by decide +kernel
theorem dX0_within_8 : decode cX0_within 8 = .ok (.ireturn, 1) := by decide +kernel
theorem dX0_within_9 : decode cX0_within 9 = .ok (.aload_n 0, 1) := by decide +kernel
theorem dX0_within_10 : decode cX0_within 10 = .ok (.invokevirtual 38, 3) := by decide +kernel
theorem dX0_within_13 : decode cX0_within 13 = .ok (.iconst 0, 1) := by decide +kernel
theorem dX0_within_14 : decode cX0_within 14 = .ok (.istore_n 2, 1) := by decide +kernel
theorem dX0_within_15 : decode cX0_within 15 = .ok (.iconst 0, 1) := by decide +kernel
theorem dX0_within_16 : decode cX0_within 16 = .ok (.istore_n 3, 1) := by decide +kernel
theorem dX0_within_17 : decode cX0_within 17 = .ok (.iload_n 3, 1) := by decide +kernel
theorem dX0_within_18 : decode cX0_within 18 = .ok (.sipush 192, 3) := by decide +kernel
theorem dX0_within_21 : decode cX0_within 21 = .ok (.if_icmp .ge 30, 3) := by decide +kernel
theorem dX0_within_24 : decode cX0_within 24 = .ok (.aload_n 0, 1) := by decide +kernel
theorem dX0_within_25 : decode cX0_within 25 = .ok (.iload_n 3, 1) := by decide +kernel
theorem dX0_within_26 : decode cX0_within 26 = .ok (.invokevirtual 41, 3) := by decide +kernel
theorem dX0_within_29 : decode cX0_within 29 = .ok (.istore 4, 2) := by decide +kernel
theorem dX0_within_31 : decode cX0_within 31 = .ok (.iload_n 2, 1) := by decide +kernel
theorem dX0_within_32 : decode cX0_within 32 = .ok (.iload 4, 2) := by decide +kernel
theorem dX0_within_34 : decode cX0_within 34 = .ok (.iload_n 1, 1) := by decide +kernel
theorem dX0_within_35 : decode cX0_within 35 = .ok (.if_icmp .gt 7, 3) := by decide +kernel
theorem dX0_within_38 : decode cX0_within 38 = .ok (.iconst 1, 1) := by decide +kernel
theorem dX0_within_39 : decode cX0_within 39 = .ok (.goto 4, 3) := by decide +kernel
theorem dX0_within_42 : decode cX0_within 42 = .ok (.iconst 0, 1) := by decide +kernel
theorem dX0_within_43 : decode cX0_within 43 = .ok (.iadd, 1) := by decide +kernel
theorem dX0_within_44 : decode cX0_within 44 = .ok (.istore_n 2, 1) := by decide +kernel
theorem dX0_within_45 : decode cX0_within 45 = .ok (.iinc 3 1, 3) := by decide +kernel
theorem dX0_within_48 : decode cX0_within 48 = .ok (.goto (-31), 3) := by decide +kernel
theorem dX0_within_51 : decode cX0_within 51 = .ok (.iload_n 2, 1) := by decide +kernel
theorem dX0_within_52 : decode cX0_within 52 = .ok (.ireturn, 1) := by decide +kernel
abbrev cX0_edges : ByteArray := prog_1_method_9_code
def yX0_edges : MethodName := ⟨RX0, "edges", "()I"⟩
theorem dX0_edges_0 : decode cX0_edges 0 = .ok (.aload_n 0, 1) := by decide +kernel
theorem dX0_edges_1 : decode cX0_edges 1 = .ok (.getfield 30, 3) := by decide +kernel
theorem dX0_edges_4 : decode cX0_edges 4 = .ok (.ifCond .ne 5, 3) := by decide +kernel
theorem dX0_edges_7 : decode cX0_edges 7 = .ok (.iconst 0, 1) := by decide +kernel
theorem dX0_edges_8 : decode cX0_edges 8 = .ok (.ireturn, 1) := by decide +kernel
theorem dX0_edges_9 : decode cX0_edges 9 = .ok (.aload_n 0, 1) := by decide +kernel
theorem dX0_edges_10 : decode cX0_edges 10 = .ok (.invokevirtual 38, 3) := by decide +kernel
theorem dX0_edges_13 : decode cX0_edges 13 = .ok (.iconst 0, 1) := by decide +kernel
theorem dX0_edges_14 : decode cX0_edges 14 = .ok (.istore_n 1, 1) := by decide +kernel
theorem dX0_edges_15 : decode cX0_edges 15 = .ok (.iconst 0, 1) := by decide +kernel
theorem dX0_edges_16 : decode cX0_edges 16 = .ok (.istore_n 2, 1) := by decide +kernel
theorem dX0_edges_17 : decode cX0_edges 17 = .ok (.iload_n 2, 1) := by decide +kernel
theorem dX0_edges_18 : decode cX0_edges 18 = .ok (.sipush 192, 3) := by decide +kernel
theorem dX0_edges_21 : decode cX0_edges 21 = .ok (.if_icmp .ge 76, 3) := by decide +kernel
theorem dX0_edges_24 : decode cX0_edges 24 = .ok (.iload_n 1, 1) := by decide +kernel
theorem dX0_edges_25 : decode cX0_edges 25 = .ok (.iload_n 2, 1) := by decide +kernel
theorem dX0_edges_26 : decode cX0_edges 26 = .ok (.bipush 15, 2) := by decide +kernel
theorem dX0_edges_28 : decode cX0_edges 28 = .ok (.iand, 1) := by decide +kernel
theorem dX0_edges_29 : decode cX0_edges 29 = .ok (.bipush 15, 2) := by decide +kernel
theorem dX0_edges_31 : decode cX0_edges 31 = .ok (.if_icmp .ge 24, 3) := by decide +kernel
theorem dX0_edges_34 : decode cX0_edges 34 = .ok (.aload_n 0, 1) := by decide +kernel
theorem dX0_edges_35 : decode cX0_edges 35 = .ok (.getfield 13, 3) := by decide +kernel
theorem dX0_edges_38 : decode cX0_edges 38 = .ok (.iload_n 2, 1) := by decide +kernel
theorem dX0_edges_39 : decode cX0_edges 39 = .ok (.iaload, 1) := by decide +kernel
theorem dX0_edges_40 : decode cX0_edges 40 = .ok (.aload_n 0, 1) := by decide +kernel
theorem dX0_edges_41 : decode cX0_edges 41 = .ok (.getfield 13, 3) := by decide +kernel
theorem dX0_edges_44 : decode cX0_edges 44 = .ok (.iload_n 2, 1) := by decide +kernel
theorem dX0_edges_45 : decode cX0_edges 45 = .ok (.iconst 1, 1) := by decide +kernel
theorem dX0_edges_46 : decode cX0_edges 46 = .ok (.iadd, 1) := by decide +kernel
theorem dX0_edges_47 : decode cX0_edges 47 = .ok (.iaload, 1) := by decide +kernel
theorem dX0_edges_48 : decode cX0_edges 48 = .ok (.if_icmp .eq 7, 3) := by decide +kernel
theorem dX0_edges_51 : decode cX0_edges 51 = .ok (.iconst 1, 1) := by decide +kernel
theorem dX0_edges_52 : decode cX0_edges 52 = .ok (.goto 4, 3) := by decide +kernel
theorem dX0_edges_55 : decode cX0_edges 55 = .ok (.iconst 0, 1) := by decide +kernel
theorem dX0_edges_56 : decode cX0_edges 56 = .ok (.iadd, 1) := by decide +kernel
theorem dX0_edges_57 : decode cX0_edges 57 = .ok (.istore_n 1, 1) := by decide +kernel
theorem dX0_edges_58 : decode cX0_edges 58 = .ok (.iload_n 1, 1) := by decide +kernel
theorem dX0_edges_59 : decode cX0_edges 59 = .ok (.iload_n 2, 1) := by decide +kernel
theorem dX0_edges_60 : decode cX0_edges 60 = .ok (.sipush 176, 3) := by decide +kernel
theorem dX0_edges_63 : decode cX0_edges 63 = .ok (.if_icmp .ge 25, 3) := by decide +kernel
theorem dX0_edges_66 : decode cX0_edges 66 = .ok (.aload_n 0, 1) := by decide +kernel
theorem dX0_edges_67 : decode cX0_edges 67 = .ok (.getfield 13, 3) := by decide +kernel
theorem dX0_edges_70 : decode cX0_edges 70 = .ok (.iload_n 2, 1) := by decide +kernel
theorem dX0_edges_71 : decode cX0_edges 71 = .ok (.iaload, 1) := by decide +kernel
theorem dX0_edges_72 : decode cX0_edges 72 = .ok (.aload_n 0, 1) := by decide +kernel
theorem dX0_edges_73 : decode cX0_edges 73 = .ok (.getfield 13, 3) := by decide +kernel
theorem dX0_edges_76 : decode cX0_edges 76 = .ok (.iload_n 2, 1) := by decide +kernel
theorem dX0_edges_77 : decode cX0_edges 77 = .ok (.bipush 16, 2) := by decide +kernel
theorem dX0_edges_79 : decode cX0_edges 79 = .ok (.iadd, 1) := by decide +kernel
theorem dX0_edges_80 : decode cX0_edges 80 = .ok (.iaload, 1) := by decide +kernel
theorem dX0_edges_81 : decode cX0_edges 81 = .ok (.if_icmp .eq 7, 3) := by decide +kernel
theorem dX0_edges_84 : decode cX0_edges 84 = .ok (.iconst 1, 1) := by decide +kernel
theorem dX0_edges_85 : decode cX0_edges 85 = .ok (.goto 4, 3) := by decide +kernel
theorem dX0_edges_88 : decode cX0_edges 88 = .ok (.iconst 0, 1) := by decide +kernel
theorem dX0_edges_89 : decode cX0_edges 89 = .ok (.iadd, 1) := by decide +kernel
theorem dX0_edges_90 : decode cX0_edges 90 = .ok (.istore_n 1, 1) := by decide +kernel
theorem dX0_edges_91 : decode cX0_edges 91 = .ok (.iinc 2 1, 3) := by decide +kernel
theorem dX0_edges_94 : decode cX0_edges 94 = .ok (.goto (-77), 3) := by decide +kernel
theorem dX0_edges_97 : decode cX0_edges 97 = .ok (.iload_n 1, 1) := by decide +kernel
theorem dX0_edges_98 : decode cX0_edges 98 = .ok (.ireturn, 1) := by decide +kernel
abbrev cX0_total : ByteArray := prog_1_method_10_code
def yX0_total : MethodName := ⟨RX0, "total", "()I"⟩
theorem dX0_total_0 : decode cX0_total 0 = .ok (.aload_n 0, 1) := by decide +kernel
theorem dX0_total_1 : decode cX0_total 1 = .ok (.getfield 30, 3) := by decide +kernel
theorem dX0_total_4 : decode cX0_total 4 = .ok (.ifCond .ne 5, 3) := by decide +kernel
theorem dX0_total_7 : decode cX0_total 7 = .ok (.iconst (-1), 1) := by decide +kernel
theorem dX0_total_8 : decode cX0_total 8 = .ok (.ireturn, 1) := by decide +kernel
theorem dX0_total_9 : decode cX0_total 9 = .ok (.aload_n 0, 1) := by decide +kernel
theorem dX0_total_10 : decode cX0_total 10 = .ok (.invokevirtual 38, 3) := by decide +kernel
theorem dX0_total_13 : decode cX0_total 13 = .ok (.iconst 0, 1) := by decide +kernel
theorem dX0_total_14 : decode cX0_total 14 = .ok (.istore_n 1, 1) := by decide +kernel
theorem dX0_total_15 : decode cX0_total 15 = .ok (.iconst 0, 1) := by decide +kernel
theorem dX0_total_16 : decode cX0_total 16 = .ok (.istore_n 2, 1) := by decide +kernel
theorem dX0_total_17 : decode cX0_total 17 = .ok (.iload_n 2, 1) := by decide +kernel
theorem dX0_total_18 : decode cX0_total 18 = .ok (.sipush 192, 3) := by decide +kernel
theorem dX0_total_21 : decode cX0_total 21 = .ok (.if_icmp .ge 17, 3) := by decide +kernel
theorem dX0_total_24 : decode cX0_total 24 = .ok (.iload_n 1, 1) := by decide +kernel
theorem dX0_total_25 : decode cX0_total 25 = .ok (.aload_n 0, 1) := by decide +kernel
theorem dX0_total_26 : decode cX0_total 26 = .ok (.iload_n 2, 1) := by decide +kernel
theorem dX0_total_27 : decode cX0_total 27 = .ok (.invokevirtual 41, 3) := by decide +kernel
theorem dX0_total_30 : decode cX0_total 30 = .ok (.iadd, 1) := by decide +kernel
theorem dX0_total_31 : decode cX0_total 31 = .ok (.istore_n 1, 1) := by decide +kernel
theorem dX0_total_32 : decode cX0_total 32 = .ok (.iinc 2 1, 3) := by decide +kernel
theorem dX0_total_35 : decode cX0_total 35 = .ok (.goto (-18), 3) := by decide +kernel
theorem dX0_total_38 : decode cX0_total 38 = .ok (.iload_n 1, 1) := by decide +kernel
theorem dX0_total_39 : decode cX0_total 39 = .ok (.ireturn, 1) := by decide +kernel
theorem q11 : (Jvm.Cond.initialized "DistanceMap") ∈ lw_all := lw_g (lw_at lw_m0 1 rfl) rfl
theorem q14 : (Jvm.Cond.instantiable "DistanceMap" (8 : Nat)) ∈ lw_all := lw_g (lw_at lw_m0 4 rfl) rfl
theorem q16 : (Jvm.Cond.instanceMethod ({ cls := "DistanceMap", name := "<init>", desc := "()V" } : Jvm.MethodName)) ∈ lw_all := lw_g (lw_at lw_m0 6 rfl) rfl
theorem q17 : (Jvm.Cond.code ({ cls := "DistanceMap", name := "<init>", desc := "()V" } : Jvm.MethodName) prog_1_method_1_code (1 : Nat) (Option.none : Option Jvm.ClassFile.FieldType)) ∈ lw_all := lw_g (lw_at lw_m0 7 rfl) rfl
theorem q18 : (Jvm.Cond.methodLink "DistanceMap" (1 : Nat) ({ cls := "java/lang/Object", name := "<init>", desc := "()V" } : Jvm.MethodName)) ∈ lw_all := lw_g (lw_at lw_m0 8 rfl) rfl
theorem q21 : (Jvm.Cond.fieldLink "DistanceMap" (7 : Nat) "DistanceMap" "marked" "[Z") ∈ lw_all := lw_g (lw_at lw_m0 11 rfl) rfl
theorem q22 : (Jvm.Cond.fieldLink "DistanceMap" (30 : Nat) "DistanceMap" "marks" "I") ∈ lw_all := lw_g (lw_at lw_m0 12 rfl) rfl
theorem q23 : (Jvm.Cond.fieldLink "DistanceMap" (34 : Nat) "DistanceMap" "known" "Z") ∈ lw_all := lw_g (lw_at lw_m0 13 rfl) rfl
theorem q24 : (Jvm.Cond.fieldLink "DistanceMap" (13 : Nat) "DistanceMap" "markOf" "[I") ∈ lw_all := lw_g (lw_at lw_m0 14 rfl) rfl
theorem q25 : (Jvm.Cond.fieldLink "DistanceMap" (17 : Nat) "DistanceMap" "columnMark" "[I") ∈ lw_all := lw_g (lw_at lw_m0 15 rfl) rfl
theorem q26 : (Jvm.Cond.fieldLink "DistanceMap" (55 : Nat) "DistanceMap" "kept" "I") ∈ lw_all := lw_g (lw_at lw_m0 16 rfl) rfl
theorem q27 : (Jvm.Cond.fieldLink "DistanceMap" (20 : Nat) "DistanceMap" "keptColumn" "[I") ∈ lw_all := lw_g (lw_at lw_m0 17 rfl) rfl
theorem q28 : (Jvm.Cond.fieldLink "DistanceMap" (23 : Nat) "DistanceMap" "takesOver" "[I") ∈ lw_all := lw_g (lw_at lw_m0 18 rfl) rfl
theorem q29 : (Jvm.Cond.laysFinal "DistanceMap" "DistanceMap" "marked" "[Z") ∈ lw_all := lw_g (lw_at lw_m0 19 rfl) rfl
theorem q30 : (Jvm.Cond.soleField "DistanceMap" "marked") ∈ lw_all := lw_g (lw_at lw_m0 20 rfl) rfl
theorem q31 : (Jvm.Cond.lays "DistanceMap" "DistanceMap" "marks" "I") ∈ lw_all := lw_g (lw_at lw_m0 21 rfl) rfl
theorem q32 : (Jvm.Cond.soleField "DistanceMap" "marks") ∈ lw_all := lw_g (lw_at lw_m0 22 rfl) rfl
theorem q33 : (Jvm.Cond.lays "DistanceMap" "DistanceMap" "known" "Z") ∈ lw_all := lw_g (lw_at lw_m0 23 rfl) rfl
theorem q34 : (Jvm.Cond.soleField "DistanceMap" "known") ∈ lw_all := lw_g (lw_at lw_m0 24 rfl) rfl
theorem q35 : (Jvm.Cond.laysFinal "DistanceMap" "DistanceMap" "markOf" "[I") ∈ lw_all := lw_g (lw_at lw_m0 25 rfl) rfl
theorem q36 : (Jvm.Cond.soleField "DistanceMap" "markOf") ∈ lw_all := lw_g (lw_at lw_m0 26 rfl) rfl
theorem q37 : (Jvm.Cond.laysFinal "DistanceMap" "DistanceMap" "columnMark" "[I") ∈ lw_all := lw_g (lw_at lw_m0 27 rfl) rfl
theorem q38 : (Jvm.Cond.soleField "DistanceMap" "columnMark") ∈ lw_all := lw_g (lw_at lw_m0 28 rfl) rfl
theorem q39 : (Jvm.Cond.lays "DistanceMap" "DistanceMap" "kept" "I") ∈ lw_all := lw_g (lw_at lw_m0 29 rfl) rfl
theorem q40 : (Jvm.Cond.soleField "DistanceMap" "kept") ∈ lw_all := lw_g (lw_at lw_m0 30 rfl) rfl
theorem q41 : (Jvm.Cond.laysFinal "DistanceMap" "DistanceMap" "keptColumn" "[I") ∈ lw_all := lw_g (lw_at lw_m0 31 rfl) rfl
theorem q42 : (Jvm.Cond.soleField "DistanceMap" "keptColumn") ∈ lw_all := lw_g (lw_at lw_m0 32 rfl) rfl
theorem q43 : (Jvm.Cond.laysFinal "DistanceMap" "DistanceMap" "takesOver" "[I") ∈ lw_all := lw_g (lw_at lw_m0 33 rfl) rfl
theorem q44 : (Jvm.Cond.soleField "DistanceMap" "takesOver") ∈ lw_all := lw_g (lw_at lw_m0 34 rfl) rfl
theorem q45 : (Jvm.Cond.superclass "DistanceMap" "java/lang/Object") ∈ lw_all := lw_g (lw_at lw_m0 35 rfl) rfl
theorem q49 : (Jvm.Cond.instanceMethod ({ cls := "DistanceMap", name := "mark", desc := "(II)I" } : Jvm.MethodName)) ∈ lw_all := lw_g (lw_at lw_m0 39 rfl) rfl
theorem q50 : (Jvm.Cond.selects "DistanceMap" ({ cls := "DistanceMap", name := "mark", desc := "(II)I" } : Jvm.MethodName) ({ cls := "DistanceMap", name := "mark", desc := "(II)I" } : Jvm.MethodName)) ∈ lw_all := lw_g (lw_at lw_m0 40 rfl) rfl
theorem q51 : (Jvm.Cond.code ({ cls := "DistanceMap", name := "mark", desc := "(II)I" } : Jvm.MethodName) prog_1_method_2_code (5 : Nat) (Option.some Jvm.ClassFile.FieldType.int)) ∈ lw_all := lw_g (lw_at lw_m0 41 rfl) rfl
theorem q52 : (Jvm.Cond.methodLink "DistanceMap" (26 : Nat) ({ cls := "DistanceMap", name := "isPlace", desc := "(II)Z" } : Jvm.MethodName)) ∈ lw_all := lw_g (lw_at lw_m0 42 rfl) rfl
theorem q53 : (Jvm.Cond.static ({ cls := "DistanceMap", name := "isPlace", desc := "(II)Z" } : Jvm.MethodName)) ∈ lw_all := lw_g (lw_at lw_m0 43 rfl) rfl
theorem q54 : (Jvm.Cond.code ({ cls := "DistanceMap", name := "isPlace", desc := "(II)Z" } : Jvm.MethodName) prog_1_method_11_code (2 : Nat) (Option.some Jvm.ClassFile.FieldType.boolean)) ∈ lw_all := lw_g (lw_at lw_m0 44 rfl) rfl
theorem q56 : (Jvm.Cond.instanceMethod ({ cls := "DistanceMap", name := "clear", desc := "(II)I" } : Jvm.MethodName)) ∈ lw_all := lw_g (lw_at lw_m0 46 rfl) rfl
theorem q57 : (Jvm.Cond.selects "DistanceMap" ({ cls := "DistanceMap", name := "clear", desc := "(II)I" } : Jvm.MethodName) ({ cls := "DistanceMap", name := "clear", desc := "(II)I" } : Jvm.MethodName)) ∈ lw_all := lw_g (lw_at lw_m0 47 rfl) rfl
theorem q58 : (Jvm.Cond.code ({ cls := "DistanceMap", name := "clear", desc := "(II)I" } : Jvm.MethodName) prog_1_method_3_code (5 : Nat) (Option.some Jvm.ClassFile.FieldType.int)) ∈ lw_all := lw_g (lw_at lw_m0 48 rfl) rfl
theorem q60 : (Jvm.Cond.instanceMethod ({ cls := "DistanceMap", name := "distance", desc := "(II)I" } : Jvm.MethodName)) ∈ lw_all := lw_g (lw_at lw_m0 50 rfl) rfl
theorem q61 : (Jvm.Cond.selects "DistanceMap" ({ cls := "DistanceMap", name := "distance", desc := "(II)I" } : Jvm.MethodName) ({ cls := "DistanceMap", name := "distance", desc := "(II)I" } : Jvm.MethodName)) ∈ lw_all := lw_g (lw_at lw_m0 51 rfl) rfl
theorem q62 : (Jvm.Cond.code ({ cls := "DistanceMap", name := "distance", desc := "(II)I" } : Jvm.MethodName) prog_1_method_4_code (3 : Nat) (Option.some Jvm.ClassFile.FieldType.int)) ∈ lw_all := lw_g (lw_at lw_m0 52 rfl) rfl
theorem q63 : (Jvm.Cond.methodLink "DistanceMap" (38 : Nat) ({ cls := "DistanceMap", name := "workOut", desc := "()V" } : Jvm.MethodName)) ∈ lw_all := lw_g (lw_at lw_m0 53 rfl) rfl
theorem q64 : (Jvm.Cond.privateMethod ({ cls := "DistanceMap", name := "workOut", desc := "()V" } : Jvm.MethodName)) ∈ lw_tbl := lw_at lw_m0 54 rfl
theorem q65 : (Jvm.Cond.instanceMethod ({ cls := "DistanceMap", name := "workOut", desc := "()V" } : Jvm.MethodName)) ∈ lw_all := lw_g (lw_at lw_m0 55 rfl) rfl
theorem q66 : (Jvm.Cond.code ({ cls := "DistanceMap", name := "workOut", desc := "()V" } : Jvm.MethodName) prog_1_method_13_code (2 : Nat) (Option.none : Option Jvm.ClassFile.FieldType)) ∈ lw_all := lw_g (lw_at lw_m0 56 rfl) rfl
theorem q67 : (Jvm.Cond.methodLink "DistanceMap" (45 : Nat) ({ cls := "DistanceMap", name := "sweepColumn", desc := "(I)V" } : Jvm.MethodName)) ∈ lw_all := lw_g (lw_at lw_m0 57 rfl) rfl
theorem q68 : (Jvm.Cond.privateMethod ({ cls := "DistanceMap", name := "sweepColumn", desc := "(I)V" } : Jvm.MethodName)) ∈ lw_tbl := lw_at lw_m0 58 rfl
theorem q69 : (Jvm.Cond.instanceMethod ({ cls := "DistanceMap", name := "sweepColumn", desc := "(I)V" } : Jvm.MethodName)) ∈ lw_all := lw_g (lw_at lw_m0 59 rfl) rfl
theorem q70 : (Jvm.Cond.code ({ cls := "DistanceMap", name := "sweepColumn", desc := "(I)V" } : Jvm.MethodName) prog_1_method_14_code (5 : Nat) (Option.none : Option Jvm.ClassFile.FieldType)) ∈ lw_all := lw_g (lw_at lw_m0 60 rfl) rfl
theorem q71 : (Jvm.Cond.methodLink "DistanceMap" (49 : Nat) ({ cls := "DistanceMap", name := "gatherRow", desc := "(I)V" } : Jvm.MethodName)) ∈ lw_all := lw_g (lw_at lw_m0 61 rfl) rfl
theorem q72 : (Jvm.Cond.privateMethod ({ cls := "DistanceMap", name := "gatherRow", desc := "(I)V" } : Jvm.MethodName)) ∈ lw_tbl := lw_at lw_m0 62 rfl
theorem q73 : (Jvm.Cond.instanceMethod ({ cls := "DistanceMap", name := "gatherRow", desc := "(I)V" } : Jvm.MethodName)) ∈ lw_all := lw_g (lw_at lw_m0 63 rfl) rfl
theorem q74 : (Jvm.Cond.code ({ cls := "DistanceMap", name := "gatherRow", desc := "(I)V" } : Jvm.MethodName) prog_1_method_16_code (3 : Nat) (Option.none : Option Jvm.ClassFile.FieldType)) ∈ lw_all := lw_g (lw_at lw_m0 64 rfl) rfl
theorem q75 : (Jvm.Cond.methodLink "DistanceMap" (58 : Nat) ({ cls := "DistanceMap", name := "addParabola", desc := "(II)V" } : Jvm.MethodName)) ∈ lw_all := lw_g (lw_at lw_m0 65 rfl) rfl
theorem q76 : (Jvm.Cond.privateMethod ({ cls := "DistanceMap", name := "addParabola", desc := "(II)V" } : Jvm.MethodName)) ∈ lw_tbl := lw_at lw_m0 66 rfl
theorem q77 : (Jvm.Cond.instanceMethod ({ cls := "DistanceMap", name := "addParabola", desc := "(II)V" } : Jvm.MethodName)) ∈ lw_all := lw_g (lw_at lw_m0 67 rfl) rfl
theorem q78 : (Jvm.Cond.code ({ cls := "DistanceMap", name := "addParabola", desc := "(II)V" } : Jvm.MethodName) prog_1_method_17_code (5 : Nat) (Option.none : Option Jvm.ClassFile.FieldType)) ∈ lw_all := lw_g (lw_at lw_m0 68 rfl) rfl
theorem q79 : (Jvm.Cond.methodLink "DistanceMap" (62 : Nat) ({ cls := "DistanceMap", name := "lastPlace", desc := "(III)I" } : Jvm.MethodName)) ∈ lw_all := lw_g (lw_at lw_m0 69 rfl) rfl
theorem q80 : (Jvm.Cond.privateMethod ({ cls := "DistanceMap", name := "lastPlace", desc := "(III)I" } : Jvm.MethodName)) ∈ lw_tbl := lw_at lw_m0 70 rfl
theorem q81 : (Jvm.Cond.instanceMethod ({ cls := "DistanceMap", name := "lastPlace", desc := "(III)I" } : Jvm.MethodName)) ∈ lw_all := lw_g (lw_at lw_m0 71 rfl) rfl
theorem q82 : (Jvm.Cond.code ({ cls := "DistanceMap", name := "lastPlace", desc := "(III)I" } : Jvm.MethodName) prog_1_method_18_code (7 : Nat) (Option.some Jvm.ClassFile.FieldType.int)) ∈ lw_all := lw_g (lw_at lw_m0 72 rfl) rfl
theorem q83 : (Jvm.Cond.methodLink "DistanceMap" (66 : Nat) ({ cls := "DistanceMap", name := "heightOf", desc := "(II)I" } : Jvm.MethodName)) ∈ lw_all := lw_g (lw_at lw_m0 73 rfl) rfl
theorem q84 : (Jvm.Cond.privateMethod ({ cls := "DistanceMap", name := "heightOf", desc := "(II)I" } : Jvm.MethodName)) ∈ lw_tbl := lw_at lw_m0 74 rfl
theorem q85 : (Jvm.Cond.instanceMethod ({ cls := "DistanceMap", name := "heightOf", desc := "(II)I" } : Jvm.MethodName)) ∈ lw_all := lw_g (lw_at lw_m0 75 rfl) rfl
theorem q86 : (Jvm.Cond.code ({ cls := "DistanceMap", name := "heightOf", desc := "(II)I" } : Jvm.MethodName) prog_1_method_15_code (5 : Nat) (Option.some Jvm.ClassFile.FieldType.int)) ∈ lw_all := lw_g (lw_at lw_m0 76 rfl) rfl
theorem q87 : (Jvm.Cond.methodLink "DistanceMap" (52 : Nat) ({ cls := "DistanceMap", name := "spreadRow", desc := "(I)V" } : Jvm.MethodName)) ∈ lw_all := lw_g (lw_at lw_m0 77 rfl) rfl
theorem q88 : (Jvm.Cond.privateMethod ({ cls := "DistanceMap", name := "spreadRow", desc := "(I)V" } : Jvm.MethodName)) ∈ lw_tbl := lw_at lw_m0 78 rfl
theorem q89 : (Jvm.Cond.instanceMethod ({ cls := "DistanceMap", name := "spreadRow", desc := "(I)V" } : Jvm.MethodName)) ∈ lw_all := lw_g (lw_at lw_m0 79 rfl) rfl
theorem q90 : (Jvm.Cond.code ({ cls := "DistanceMap", name := "spreadRow", desc := "(I)V" } : Jvm.MethodName) prog_1_method_19_code (4 : Nat) (Option.none : Option Jvm.ClassFile.FieldType)) ∈ lw_all := lw_g (lw_at lw_m0 80 rfl) rfl
theorem q91 : (Jvm.Cond.methodLink "DistanceMap" (41 : Nat) ({ cls := "DistanceMap", name := "distanceOf", desc := "(I)I" } : Jvm.MethodName)) ∈ lw_all := lw_g (lw_at lw_m0 81 rfl) rfl
theorem q92 : (Jvm.Cond.privateMethod ({ cls := "DistanceMap", name := "distanceOf", desc := "(I)I" } : Jvm.MethodName)) ∈ lw_tbl := lw_at lw_m0 82 rfl
theorem q93 : (Jvm.Cond.instanceMethod ({ cls := "DistanceMap", name := "distanceOf", desc := "(I)I" } : Jvm.MethodName)) ∈ lw_all := lw_g (lw_at lw_m0 83 rfl) rfl
theorem q94 : (Jvm.Cond.code ({ cls := "DistanceMap", name := "distanceOf", desc := "(I)I" } : Jvm.MethodName) prog_1_method_12_code (4 : Nat) (Option.some Jvm.ClassFile.FieldType.int)) ∈ lw_all := lw_g (lw_at lw_m0 84 rfl) rfl
theorem q96 : (Jvm.Cond.instanceMethod ({ cls := "DistanceMap", name := "nearest", desc := "(II)I" } : Jvm.MethodName)) ∈ lw_all := lw_g (lw_at lw_m0 86 rfl) rfl
theorem q97 : (Jvm.Cond.selects "DistanceMap" ({ cls := "DistanceMap", name := "nearest", desc := "(II)I" } : Jvm.MethodName) ({ cls := "DistanceMap", name := "nearest", desc := "(II)I" } : Jvm.MethodName)) ∈ lw_all := lw_g (lw_at lw_m0 87 rfl) rfl
theorem q98 : (Jvm.Cond.code ({ cls := "DistanceMap", name := "nearest", desc := "(II)I" } : Jvm.MethodName) prog_1_method_5_code (3 : Nat) (Option.some Jvm.ClassFile.FieldType.int)) ∈ lw_all := lw_g (lw_at lw_m0 88 rfl) rfl
theorem q100 : (Jvm.Cond.instanceMethod ({ cls := "DistanceMap", name := "reach", desc := "(II)I" } : Jvm.MethodName)) ∈ lw_all := lw_g (lw_at lw_m0 90 rfl) rfl
theorem q101 : (Jvm.Cond.selects "DistanceMap" ({ cls := "DistanceMap", name := "reach", desc := "(II)I" } : Jvm.MethodName) ({ cls := "DistanceMap", name := "reach", desc := "(II)I" } : Jvm.MethodName)) ∈ lw_all := lw_g (lw_at lw_m0 91 rfl) rfl
theorem q102 : (Jvm.Cond.code ({ cls := "DistanceMap", name := "reach", desc := "(II)I" } : Jvm.MethodName) prog_1_method_6_code (5 : Nat) (Option.some Jvm.ClassFile.FieldType.int)) ∈ lw_all := lw_g (lw_at lw_m0 92 rfl) rfl
theorem q104 : (Jvm.Cond.instanceMethod ({ cls := "DistanceMap", name := "farthest", desc := "()I" } : Jvm.MethodName)) ∈ lw_all := lw_g (lw_at lw_m0 94 rfl) rfl
theorem q105 : (Jvm.Cond.selects "DistanceMap" ({ cls := "DistanceMap", name := "farthest", desc := "()I" } : Jvm.MethodName) ({ cls := "DistanceMap", name := "farthest", desc := "()I" } : Jvm.MethodName)) ∈ lw_all := lw_g (lw_at lw_m0 95 rfl) rfl
theorem q106 : (Jvm.Cond.code ({ cls := "DistanceMap", name := "farthest", desc := "()I" } : Jvm.MethodName) prog_1_method_7_code (4 : Nat) (Option.some Jvm.ClassFile.FieldType.int)) ∈ lw_all := lw_g (lw_at lw_m0 96 rfl) rfl
theorem q108 : (Jvm.Cond.instanceMethod ({ cls := "DistanceMap", name := "within", desc := "(I)I" } : Jvm.MethodName)) ∈ lw_all := lw_g (lw_at lw_m0 98 rfl) rfl
theorem q109 : (Jvm.Cond.selects "DistanceMap" ({ cls := "DistanceMap", name := "within", desc := "(I)I" } : Jvm.MethodName) ({ cls := "DistanceMap", name := "within", desc := "(I)I" } : Jvm.MethodName)) ∈ lw_all := lw_g (lw_at lw_m0 99 rfl) rfl
theorem q110 : (Jvm.Cond.code ({ cls := "DistanceMap", name := "within", desc := "(I)I" } : Jvm.MethodName) prog_1_method_8_code (5 : Nat) (Option.some Jvm.ClassFile.FieldType.int)) ∈ lw_all := lw_g (lw_at lw_m0 100 rfl) rfl
theorem q112 : (Jvm.Cond.instanceMethod ({ cls := "DistanceMap", name := "edges", desc := "()I" } : Jvm.MethodName)) ∈ lw_all := lw_g (lw_at lw_m0 102 rfl) rfl
theorem q113 : (Jvm.Cond.selects "DistanceMap" ({ cls := "DistanceMap", name := "edges", desc := "()I" } : Jvm.MethodName) ({ cls := "DistanceMap", name := "edges", desc := "()I" } : Jvm.MethodName)) ∈ lw_all := lw_g (lw_at lw_m0 103 rfl) rfl
theorem q114 : (Jvm.Cond.code ({ cls := "DistanceMap", name := "edges", desc := "()I" } : Jvm.MethodName) prog_1_method_9_code (3 : Nat) (Option.some Jvm.ClassFile.FieldType.int)) ∈ lw_all := lw_g (lw_at lw_m0 104 rfl) rfl
theorem q116 : (Jvm.Cond.instanceMethod ({ cls := "DistanceMap", name := "total", desc := "()I" } : Jvm.MethodName)) ∈ lw_all := lw_g (lw_at lw_m0 106 rfl) rfl
theorem q117 : (Jvm.Cond.selects "DistanceMap" ({ cls := "DistanceMap", name := "total", desc := "()I" } : Jvm.MethodName) ({ cls := "DistanceMap", name := "total", desc := "()I" } : Jvm.MethodName)) ∈ lw_all := lw_g (lw_at lw_m0 107 rfl) rfl
theorem q118 : (Jvm.Cond.code ({ cls := "DistanceMap", name := "total", desc := "()I" } : Jvm.MethodName) prog_1_method_10_code (3 : Nat) (Option.some Jvm.ClassFile.FieldType.int)) ∈ lw_all := lw_g (lw_at lw_m0 108 rfl) rfl
theorem in_X0 : ∀ w ∈ wsX00, w ∈ lw_all := lw_in wsX00 [29, 31, 33, 35, 37, 39, 41, 43] (by decide +kernel) (by decide +kernel)
end
section
/-! java/lang/Object -/
set_option maxRecDepth 100000
def RJ0 : String := "java/lang/Object"
abbrev cJ0_init : ByteArray := object_method_1_code
def yJ0_init : MethodName := ⟨RJ0, "<init>", "()V"⟩
theorem dJ0_init_0 : decode cJ0_init 0 = .ok (.return_, 1) := by decide +kernel
theorem q19 : (Jvm.Cond.instanceMethod ({ cls := "java/lang/Object", name := "<init>", desc := "()V" } : Jvm.MethodName)) ∈ lw_all := lw_g (lw_at lw_m0 9 rfl) rfl
theorem q20 : (Jvm.Cond.code ({ cls := "java/lang/Object", name := "<init>", desc := "()V" } : Jvm.MethodName) object_method_1_code (1 : Nat) (Option.none : Option Jvm.ClassFile.FieldType)) ∈ lw_all := lw_g (lw_at lw_m0 10 rfl) rfl
/-! DistanceMapModel -/
set_option maxRecDepth 100000
def RX1 : String := "DistanceMapModel"
def TX1 : u_T := fun k => match k with
  | _ => ("DistanceMapModel", "marked", "[Z", true)
def tyX1 : Nat → FieldType := fun k => match k with
  | _ => .array .boolean
abbrev wsX10 : List Cond := u_ws RX1 TX1 1
theorem nmX1 : ∀ a, a < 1 → ∀ b, b < 1 → a ≠ b → (TX1 a).2.1 ≠ (TX1 b).2.1 := by decide +kernel
theorem tyX1_ok : ∀ k, k < 1 → parseFieldDescriptor (TX1 k).2.2.1 = some (tyX1 k) := by decide +kernel
abbrev cX1_init : ByteArray := prog_3_method_1_code
def yX1_init : MethodName := ⟨RX1, "<init>", "()V"⟩
theorem dX1_init_0 : decode cX1_init 0 = .ok (.aload_n 0, 1) := by decide +kernel
theorem dX1_init_1 : decode cX1_init 1 = .ok (.invokespecial 1, 3) := by decide +kernel
theorem dX1_init_4 : decode cX1_init 4 = .ok (.aload_n 0, 1) := by decide +kernel
theorem dX1_init_5 : decode cX1_init 5 = .ok (.sipush 192, 3) := by decide +kernel
theorem dX1_init_8 : decode cX1_init 8 = .ok (.newarray .boolean, 2) := by decide +kernel
theorem dX1_init_10 : decode cX1_init 10 = .ok (.putfield 7, 3) := by decide +kernel
theorem dX1_init_13 : decode cX1_init 13 = .ok (.return_, 1) := by decide +kernel
abbrev cX1_mark : ByteArray := prog_3_method_3_code
def yX1_mark : MethodName := ⟨RX1, "mark", "(II)I"⟩
theorem dX1_mark_0 : decode cX1_mark 0 = .ok (.iload_n 1, 1) := by decide +kernel
theorem dX1_mark_1 : decode cX1_mark 1 = .ok (.iload_n 2, 1) := by decide +kernel
theorem dX1_mark_2 : decode cX1_mark 2 = .ok (.invokestatic 13, 3) := by decide +kernel
theorem dX1_mark_5 : decode cX1_mark 5 = .ok (.ifCond .eq 5, 3) := by decide +kernel
theorem dX1_mark_8 : decode cX1_mark 8 = .ok (.iconst (-1), 1) := by decide +kernel
theorem dX1_mark_9 : decode cX1_mark 9 = .ok (.ireturn, 1) := by decide +kernel
theorem dX1_mark_10 : decode cX1_mark 10 = .ok (.aload_n 0, 1) := by decide +kernel
theorem dX1_mark_11 : decode cX1_mark 11 = .ok (.getfield 7, 3) := by decide +kernel
theorem dX1_mark_14 : decode cX1_mark 14 = .ok (.bipush 16, 2) := by decide +kernel
theorem dX1_mark_16 : decode cX1_mark 16 = .ok (.iload_n 2, 1) := by decide +kernel
theorem dX1_mark_17 : decode cX1_mark 17 = .ok (.imul, 1) := by decide +kernel
theorem dX1_mark_18 : decode cX1_mark 18 = .ok (.iload_n 1, 1) := by decide +kernel
theorem dX1_mark_19 : decode cX1_mark 19 = .ok (.iadd, 1) := by decide +kernel
theorem dX1_mark_20 : decode cX1_mark 20 = .ok (.baload, 1) := by decide +kernel
theorem dX1_mark_21 : decode cX1_mark 21 = .ok (.istore_n 3, 1) := by decide +kernel
theorem dX1_mark_22 : decode cX1_mark 22 = .ok (.aload_n 0, 1) := by decide +kernel
theorem dX1_mark_23 : decode cX1_mark 23 = .ok (.getfield 7, 3) := by decide +kernel
theorem dX1_mark_26 : decode cX1_mark 26 = .ok (.bipush 16, 2) := by decide +kernel
theorem dX1_mark_28 : decode cX1_mark 28 = .ok (.iload_n 2, 1) := by decide +kernel
theorem dX1_mark_29 : decode cX1_mark 29 = .ok (.imul, 1) := by decide +kernel
theorem dX1_mark_30 : decode cX1_mark 30 = .ok (.iload_n 1, 1) := by decide +kernel
theorem dX1_mark_31 : decode cX1_mark 31 = .ok (.iadd, 1) := by decide +kernel
theorem dX1_mark_32 : decode cX1_mark 32 = .ok (.iconst 1, 1) := by decide +kernel
theorem dX1_mark_33 : decode cX1_mark 33 = .ok (.bastore, 1) := by decide +kernel
theorem dX1_mark_34 : decode cX1_mark 34 = .ok (.iload_n 3, 1) := by decide +kernel
theorem dX1_mark_35 : decode cX1_mark 35 = .ok (.ifCond .eq 7, 3) := by decide +kernel
theorem dX1_mark_38 : decode cX1_mark 38 = .ok (.iconst 0, 1) := by decide +kernel
theorem dX1_mark_39 : decode cX1_mark 39 = .ok (.goto 4, 3) := by decide +kernel
theorem dX1_mark_42 : decode cX1_mark 42 = .ok (.iconst 1, 1) := by decide +kernel
theorem dX1_mark_43 : decode cX1_mark 43 = .ok (.ireturn, 1) := by decide +kernel
abbrev cX1_bad : ByteArray := prog_3_method_2_code
def yX1_bad : MethodName := ⟨RX1, "bad", "(II)Z"⟩
theorem dX1_bad_0 : decode cX1_bad 0 = .ok (.iload_n 0, 1) := by decide +kernel
theorem dX1_bad_1 : decode cX1_bad 1 = .ok (.ifCond .lt 19, 3) := by decide +kernel
theorem dX1_bad_4 : decode cX1_bad 4 = .ok (.iload_n 0, 1) := by decide +kernel
theorem dX1_bad_5 : decode cX1_bad 5 = .ok (.bipush 15, 2) := by decide +kernel
theorem dX1_bad_7 : decode cX1_bad 7 = .ok (.if_icmp .gt 13, 3) := by decide +kernel
theorem dX1_bad_10 : decode cX1_bad 10 = .ok (.iload_n 1, 1) := by decide +kernel
theorem dX1_bad_11 : decode cX1_bad 11 = .ok (.ifCond .lt 9, 3) := by decide +kernel
theorem dX1_bad_14 : decode cX1_bad 14 = .ok (.iload_n 1, 1) := by decide +kernel
theorem dX1_bad_15 : decode cX1_bad 15 = .ok (.bipush 11, 2) := by decide +kernel
theorem dX1_bad_17 : decode cX1_bad 17 = .ok (.if_icmp .le 7, 3) := by decide +kernel
theorem dX1_bad_20 : decode cX1_bad 20 = .ok (.iconst 1, 1) := by decide +kernel
theorem dX1_bad_21 : decode cX1_bad 21 = .ok (.goto 4, 3) := by decide +kernel
theorem dX1_bad_24 : decode cX1_bad 24 = .ok (.iconst 0, 1) := by decide +kernel
theorem dX1_bad_25 : decode cX1_bad 25 = .ok (.ireturn, 1) := by decide +kernel
abbrev cX1_clear : ByteArray := prog_3_method_4_code
def yX1_clear : MethodName := ⟨RX1, "clear", "(II)I"⟩
theorem dX1_clear_0 : decode cX1_clear 0 = .ok (.iload_n 1, 1) := by decide +kernel
theorem dX1_clear_1 : decode cX1_clear 1 = .ok (.iload_n 2, 1) := by decide +kernel
theorem dX1_clear_2 : decode cX1_clear 2 = .ok (.invokestatic 13, 3) := by decide +kernel
theorem dX1_clear_5 : decode cX1_clear 5 = .ok (.ifCond .eq 5, 3) := by decide +kernel
theorem dX1_clear_8 : decode cX1_clear 8 = .ok (.iconst (-1), 1) := by decide +kernel
theorem dX1_clear_9 : decode cX1_clear 9 = .ok (.ireturn, 1) := by decide +kernel
theorem dX1_clear_10 : decode cX1_clear 10 = .ok (.aload_n 0, 1) := by decide +kernel
theorem dX1_clear_11 : decode cX1_clear 11 = .ok (.getfield 7, 3) := by decide +kernel
theorem dX1_clear_14 : decode cX1_clear 14 = .ok (.bipush 16, 2) := by decide +kernel
theorem dX1_clear_16 : decode cX1_clear 16 = .ok (.iload_n 2, 1) := by decide +kernel
theorem dX1_clear_17 : decode cX1_clear 17 = .ok (.imul, 1) := by decide +kernel
theorem dX1_clear_18 : decode cX1_clear 18 = .ok (.iload_n 1, 1) := by decide +kernel
theorem dX1_clear_19 : decode cX1_clear 19 = .ok (.iadd, 1) := by decide +kernel
theorem dX1_clear_20 : decode cX1_clear 20 = .ok (.baload, 1) := by decide +kernel
theorem dX1_clear_21 : decode cX1_clear 21 = .ok (.istore_n 3, 1) := by decide +kernel
theorem dX1_clear_22 : decode cX1_clear 22 = .ok (.aload_n 0, 1) := by decide +kernel
theorem dX1_clear_23 : decode cX1_clear 23 = .ok (.getfield 7, 3) := by decide +kernel
theorem dX1_clear_26 : decode cX1_clear 26 = .ok (.bipush 16, 2) := by decide +kernel
theorem dX1_clear_28 : decode cX1_clear 28 = .ok (.iload_n 2, 1) := by decide +kernel
theorem dX1_clear_29 : decode cX1_clear 29 = .ok (.imul, 1) := by decide +kernel
theorem dX1_clear_30 : decode cX1_clear 30 = .ok (.iload_n 1, 1) := by decide +kernel
theorem dX1_clear_31 : decode cX1_clear 31 = .ok (.iadd, 1) := by decide +kernel
theorem dX1_clear_32 : decode cX1_clear 32 = .ok (.iconst 0, 1) := by decide +kernel
theorem dX1_clear_33 : decode cX1_clear 33 = .ok (.bastore, 1) := by decide +kernel
theorem dX1_clear_34 : decode cX1_clear 34 = .ok (.iload_n 3, 1) := by decide +kernel
theorem dX1_clear_35 : decode cX1_clear 35 = .ok (.ifCond .eq 7, 3) := by decide +kernel
theorem dX1_clear_38 : decode cX1_clear 38 = .ok (.iconst 1, 1) := by decide +kernel
theorem dX1_clear_39 : decode cX1_clear 39 = .ok (.goto 4, 3) := by decide +kernel
theorem dX1_clear_42 : decode cX1_clear 42 = .ok (.iconst 0, 1) := by decide +kernel
theorem dX1_clear_43 : decode cX1_clear 43 = .ok (.ireturn, 1) := by decide +kernel
abbrev cX1_distance : ByteArray := prog_3_method_8_code
def yX1_distance : MethodName := ⟨RX1, "distance", "(II)I"⟩
theorem dX1_distance_0 : decode cX1_distance 0 = .ok (.iload_n 1, 1) := by decide +kernel
theorem dX1_distance_1 : decode cX1_distance 1 = .ok (.iload_n 2, 1) := by decide +kernel
theorem dX1_distance_2 : decode cX1_distance 2 = .ok (.invokestatic 13, 3) := by decide +kernel
theorem dX1_distance_5 : decode cX1_distance 5 = .ok (.ifCond .eq 7, 3) := by decide +kernel
theorem dX1_distance_8 : decode cX1_distance 8 = .ok (.iconst (-1), 1) := by decide +kernel
theorem dX1_distance_9 : decode cX1_distance 9 = .ok (.goto 13, 3) := by decide +kernel
theorem dX1_distance_12 : decode cX1_distance 12 = .ok (.aload_n 0, 1) := by decide +kernel
theorem dX1_distance_13 : decode cX1_distance 13 = .ok (.bipush 16, 2) := by decide +kernel
theorem dX1_distance_15 : decode cX1_distance 15 = .ok (.iload_n 2, 1) := by decide +kernel
theorem dX1_distance_16 : decode cX1_distance 16 = .ok (.imul, 1) := by decide +kernel
theorem dX1_distance_17 : decode cX1_distance 17 = .ok (.iload_n 1, 1) := by decide +kernel
theorem dX1_distance_18 : decode cX1_distance 18 = .ok (.iadd, 1) := by decide +kernel
theorem dX1_distance_19 : decode cX1_distance 19 = .ok (.invokevirtual 25, 3) := by decide +kernel
theorem dX1_distance_22 : decode cX1_distance 22 = .ok (.ireturn, 1) := by decide +kernel
abbrev cX1_far : ByteArray := prog_3_method_7_code
def yX1_far : MethodName := ⟨RX1, "far", "(I)I"⟩
theorem dX1_far_0 : decode cX1_far 0 = .ok (.aload_n 0, 1) := by decide +kernel
theorem dX1_far_1 : decode cX1_far 1 = .ok (.iload_n 1, 1) := by decide +kernel
theorem dX1_far_2 : decode cX1_far 2 = .ok (.invokevirtual 21, 3) := by decide +kernel
theorem dX1_far_5 : decode cX1_far 5 = .ok (.istore_n 2, 1) := by decide +kernel
theorem dX1_far_6 : decode cX1_far 6 = .ok (.iload_n 2, 1) := by decide +kernel
theorem dX1_far_7 : decode cX1_far 7 = .ok (.ifCond .ge 7, 3) := by decide +kernel
theorem dX1_far_10 : decode cX1_far 10 = .ok (.iconst (-1), 1) := by decide +kernel
theorem dX1_far_11 : decode cX1_far 11 = .ok (.goto 8, 3) := by decide +kernel
theorem dX1_far_14 : decode cX1_far 14 = .ok (.iload_n 1, 1) := by decide +kernel
theorem dX1_far_15 : decode cX1_far 15 = .ok (.iload_n 2, 1) := by decide +kernel
theorem dX1_far_16 : decode cX1_far 16 = .ok (.invokestatic 17, 3) := by decide +kernel
theorem dX1_far_19 : decode cX1_far 19 = .ok (.ireturn, 1) := by decide +kernel
abbrev cX1_markOf : ByteArray := prog_3_method_6_code
def yX1_markOf : MethodName := ⟨RX1, "markOf", "(I)I"⟩
theorem dX1_markOf_0 : decode cX1_markOf 0 = .ok (.iconst (-1), 1) := by decide +kernel
theorem dX1_markOf_1 : decode cX1_markOf 1 = .ok (.istore_n 2, 1) := by decide +kernel
theorem dX1_markOf_2 : decode cX1_markOf 2 = .ok (.iconst 0, 1) := by decide +kernel
theorem dX1_markOf_3 : decode cX1_markOf 3 = .ok (.istore_n 3, 1) := by decide +kernel
theorem dX1_markOf_4 : decode cX1_markOf 4 = .ok (.iload_n 3, 1) := by decide +kernel
theorem dX1_markOf_5 : decode cX1_markOf 5 = .ok (.sipush 192, 3) := by decide +kernel
theorem dX1_markOf_8 : decode cX1_markOf 8 = .ok (.if_icmp .ge 37, 3) := by decide +kernel
theorem dX1_markOf_11 : decode cX1_markOf 11 = .ok (.aload_n 0, 1) := by decide +kernel
theorem dX1_markOf_12 : decode cX1_markOf 12 = .ok (.getfield 7, 3) := by decide +kernel
theorem dX1_markOf_15 : decode cX1_markOf 15 = .ok (.iload_n 3, 1) := by decide +kernel
theorem dX1_markOf_16 : decode cX1_markOf 16 = .ok (.baload, 1) := by decide +kernel
theorem dX1_markOf_17 : decode cX1_markOf 17 = .ok (.ifCond .eq 22, 3) := by decide +kernel
theorem dX1_markOf_20 : decode cX1_markOf 20 = .ok (.iload_n 2, 1) := by decide +kernel
theorem dX1_markOf_21 : decode cX1_markOf 21 = .ok (.ifCond .lt 16, 3) := by decide +kernel
theorem dX1_markOf_24 : decode cX1_markOf 24 = .ok (.iload_n 1, 1) := by decide +kernel
theorem dX1_markOf_25 : decode cX1_markOf 25 = .ok (.iload_n 3, 1) := by decide +kernel
theorem dX1_markOf_26 : decode cX1_markOf 26 = .ok (.invokestatic 17, 3) := by decide +kernel
theorem dX1_markOf_29 : decode cX1_markOf 29 = .ok (.iload_n 1, 1) := by decide +kernel
theorem dX1_markOf_30 : decode cX1_markOf 30 = .ok (.iload_n 2, 1) := by decide +kernel
theorem dX1_markOf_31 : decode cX1_markOf 31 = .ok (.invokestatic 17, 3) := by decide +kernel
theorem dX1_markOf_34 : decode cX1_markOf 34 = .ok (.if_icmp .ge 5, 3) := by decide +kernel
theorem dX1_markOf_37 : decode cX1_markOf 37 = .ok (.iload_n 3, 1) := by decide +kernel
theorem dX1_markOf_38 : decode cX1_markOf 38 = .ok (.istore_n 2, 1) := by decide +kernel
theorem dX1_markOf_39 : decode cX1_markOf 39 = .ok (.iinc 3 1, 3) := by decide +kernel
theorem dX1_markOf_42 : decode cX1_markOf 42 = .ok (.goto (-38), 3) := by decide +kernel
theorem dX1_markOf_45 : decode cX1_markOf 45 = .ok (.iload_n 2, 1) := by decide +kernel
theorem dX1_markOf_46 : decode cX1_markOf 46 = .ok (.ireturn, 1) := by decide +kernel
abbrev cX1_apart : ByteArray := prog_3_method_5_code
def yX1_apart : MethodName := ⟨RX1, "apart", "(II)I"⟩
theorem dX1_apart_0 : decode cX1_apart 0 = .ok (.iload_n 0, 1) := by decide +kernel
theorem dX1_apart_1 : decode cX1_apart 1 = .ok (.bipush 16, 2) := by decide +kernel
theorem dX1_apart_3 : decode cX1_apart 3 = .ok (.irem, 1) := by decide +kernel
theorem dX1_apart_4 : decode cX1_apart 4 = .ok (.iload_n 1, 1) := by decide +kernel
theorem dX1_apart_5 : decode cX1_apart 5 = .ok (.bipush 16, 2) := by decide +kernel
theorem dX1_apart_7 : decode cX1_apart 7 = .ok (.irem, 1) := by decide +kernel
theorem dX1_apart_8 : decode cX1_apart 8 = .ok (.isub, 1) := by decide +kernel
theorem dX1_apart_9 : decode cX1_apart 9 = .ok (.istore_n 2, 1) := by decide +kernel
theorem dX1_apart_10 : decode cX1_apart 10 = .ok (.iload_n 0, 1) := by decide +kernel
theorem dX1_apart_11 : decode cX1_apart 11 = .ok (.bipush 16, 2) := by decide +kernel
theorem dX1_apart_13 : decode cX1_apart 13 = .ok (.idiv, 1) := by decide +kernel
theorem dX1_apart_14 : decode cX1_apart 14 = .ok (.iload_n 1, 1) := by decide +kernel
theorem dX1_apart_15 : decode cX1_apart 15 = .ok (.bipush 16, 2) := by decide +kernel
theorem dX1_apart_17 : decode cX1_apart 17 = .ok (.idiv, 1) := by decide +kernel
theorem dX1_apart_18 : decode cX1_apart 18 = .ok (.isub, 1) := by decide +kernel
theorem dX1_apart_19 : decode cX1_apart 19 = .ok (.istore_n 3, 1) := by decide +kernel
theorem dX1_apart_20 : decode cX1_apart 20 = .ok (.iload_n 2, 1) := by decide +kernel
theorem dX1_apart_21 : decode cX1_apart 21 = .ok (.iload_n 2, 1) := by decide +kernel
theorem dX1_apart_22 : decode cX1_apart 22 = .ok (.imul, 1) := by decide +kernel
theorem dX1_apart_23 : decode cX1_apart 23 = .ok (.iload_n 3, 1) := by decide +kernel
theorem dX1_apart_24 : decode cX1_apart 24 = .ok (.iload_n 3, 1) := by decide +kernel
theorem dX1_apart_25 : decode cX1_apart 25 = .ok (.imul, 1) := by decide +kernel
theorem dX1_apart_26 : decode cX1_apart 26 = .ok (.iadd, 1) := by decide +kernel
theorem dX1_apart_27 : decode cX1_apart 27 = .ok (.ireturn, 1) := by decide +kernel
abbrev cX1_nearest : ByteArray := prog_3_method_9_code
def yX1_nearest : MethodName := ⟨RX1, "nearest", "(II)I"⟩
theorem dX1_nearest_0 : decode cX1_nearest 0 = .ok (.iload_n 1, 1) := by decide +kernel
theorem dX1_nearest_1 : decode cX1_nearest 1 = .ok (.iload_n 2, 1) := by decide +kernel
theorem dX1_nearest_2 : decode cX1_nearest 2 = .ok (.invokestatic 13, 3) := by decide +kernel
theorem dX1_nearest_5 : decode cX1_nearest 5 = .ok (.ifCond .eq 7, 3) := by decide +kernel
theorem dX1_nearest_8 : decode cX1_nearest 8 = .ok (.iconst (-1), 1) := by decide +kernel
theorem dX1_nearest_9 : decode cX1_nearest 9 = .ok (.goto 13, 3) := by decide +kernel
theorem dX1_nearest_12 : decode cX1_nearest 12 = .ok (.aload_n 0, 1) := by decide +kernel
theorem dX1_nearest_13 : decode cX1_nearest 13 = .ok (.bipush 16, 2) := by decide +kernel
theorem dX1_nearest_15 : decode cX1_nearest 15 = .ok (.iload_n 2, 1) := by decide +kernel
theorem dX1_nearest_16 : decode cX1_nearest 16 = .ok (.imul, 1) := by decide +kernel
theorem dX1_nearest_17 : decode cX1_nearest 17 = .ok (.iload_n 1, 1) := by decide +kernel
theorem dX1_nearest_18 : decode cX1_nearest 18 = .ok (.iadd, 1) := by decide +kernel
theorem dX1_nearest_19 : decode cX1_nearest 19 = .ok (.invokevirtual 21, 3) := by decide +kernel
theorem dX1_nearest_22 : decode cX1_nearest 22 = .ok (.ireturn, 1) := by decide +kernel
abbrev cX1_reach : ByteArray := prog_3_method_10_code
def yX1_reach : MethodName := ⟨RX1, "reach", "(II)I"⟩
theorem dX1_reach_0 : decode cX1_reach 0 = .ok (.iload_n 1, 1) := by decide +kernel
theorem dX1_reach_1 : decode cX1_reach 1 = .ok (.iload_n 2, 1) := by decide +kernel
theorem dX1_reach_2 : decode cX1_reach 2 = .ok (.invokestatic 13, 3) := by decide +kernel
theorem dX1_reach_5 : decode cX1_reach 5 = .ok (.ifCond .eq 5, 3) := by decide +kernel
theorem dX1_reach_8 : decode cX1_reach 8 = .ok (.iconst (-1), 1) := by decide +kernel
theorem dX1_reach_9 : decode cX1_reach 9 = .ok (.ireturn, 1) := by decide +kernel
theorem dX1_reach_10 : decode cX1_reach 10 = .ok (.iconst 0, 1) := by decide +kernel
theorem dX1_reach_11 : decode cX1_reach 11 = .ok (.istore_n 3, 1) := by decide +kernel
theorem dX1_reach_12 : decode cX1_reach 12 = .ok (.iconst 0, 1) := by decide +kernel
theorem dX1_reach_13 : decode cX1_reach 13 = .ok (.istore 4, 2) := by decide +kernel
theorem dX1_reach_15 : decode cX1_reach 15 = .ok (.iload 4, 2) := by decide +kernel
theorem dX1_reach_17 : decode cX1_reach 17 = .ok (.sipush 192, 3) := by decide +kernel
theorem dX1_reach_20 : decode cX1_reach 20 = .ok (.if_icmp .ge 27, 3) := by decide +kernel
theorem dX1_reach_23 : decode cX1_reach 23 = .ok (.aload_n 0, 1) := by decide +kernel
theorem dX1_reach_24 : decode cX1_reach 24 = .ok (.iload 4, 2) := by decide +kernel
theorem dX1_reach_26 : decode cX1_reach 26 = .ok (.invokevirtual 21, 3) := by decide +kernel
theorem dX1_reach_29 : decode cX1_reach 29 = .ok (.bipush 16, 2) := by decide +kernel
theorem dX1_reach_31 : decode cX1_reach 31 = .ok (.iload_n 2, 1) := by decide +kernel
theorem dX1_reach_32 : decode cX1_reach 32 = .ok (.imul, 1) := by decide +kernel
theorem dX1_reach_33 : decode cX1_reach 33 = .ok (.iload_n 1, 1) := by decide +kernel
theorem dX1_reach_34 : decode cX1_reach 34 = .ok (.iadd, 1) := by decide +kernel
theorem dX1_reach_35 : decode cX1_reach 35 = .ok (.if_icmp .ne 6, 3) := by decide +kernel
theorem dX1_reach_38 : decode cX1_reach 38 = .ok (.iinc 3 1, 3) := by decide +kernel
theorem dX1_reach_41 : decode cX1_reach 41 = .ok (.iinc 4 1, 3) := by decide +kernel
theorem dX1_reach_44 : decode cX1_reach 44 = .ok (.goto (-29), 3) := by decide +kernel
theorem dX1_reach_47 : decode cX1_reach 47 = .ok (.iload_n 3, 1) := by decide +kernel
theorem dX1_reach_48 : decode cX1_reach 48 = .ok (.ireturn, 1) := by decide +kernel
abbrev cX1_farthest : ByteArray := prog_3_method_11_code
def yX1_farthest : MethodName := ⟨RX1, "farthest", "()I"⟩
theorem dX1_farthest_0 : decode cX1_farthest 0 = .ok (.iconst (-1), 1) := by decide +kernel
theorem dX1_farthest_1 : decode cX1_farthest 1 = .ok (.istore_n 1, 1) := by decide +kernel
theorem dX1_farthest_2 : decode cX1_farthest 2 = .ok (.iconst 0, 1) := by decide +kernel
theorem dX1_farthest_3 : decode cX1_farthest 3 = .ok (.istore_n 2, 1) := by decide +kernel
theorem dX1_farthest_4 : decode cX1_farthest 4 = .ok (.iload_n 2, 1) := by decide +kernel
theorem dX1_farthest_5 : decode cX1_farthest 5 = .ok (.sipush 192, 3) := by decide +kernel
theorem dX1_farthest_8 : decode cX1_farthest 8 = .ok (.if_icmp .ge 22, 3) := by decide +kernel
theorem dX1_farthest_11 : decode cX1_farthest 11 = .ok (.aload_n 0, 1) := by decide +kernel
theorem dX1_farthest_12 : decode cX1_farthest 12 = .ok (.iload_n 2, 1) := by decide +kernel
theorem dX1_farthest_13 : decode cX1_farthest 13 = .ok (.invokevirtual 25, 3) := by decide +kernel
theorem dX1_farthest_16 : decode cX1_farthest 16 = .ok (.istore_n 3, 1) := by decide +kernel
theorem dX1_farthest_17 : decode cX1_farthest 17 = .ok (.iload_n 3, 1) := by decide +kernel
theorem dX1_farthest_18 : decode cX1_farthest 18 = .ok (.iload_n 1, 1) := by decide +kernel
theorem dX1_farthest_19 : decode cX1_farthest 19 = .ok (.if_icmp .le 5, 3) := by decide +kernel
theorem dX1_farthest_22 : decode cX1_farthest 22 = .ok (.iload_n 3, 1) := by decide +kernel
theorem dX1_farthest_23 : decode cX1_farthest 23 = .ok (.istore_n 1, 1) := by decide +kernel
theorem dX1_farthest_24 : decode cX1_farthest 24 = .ok (.iinc 2 1, 3) := by decide +kernel
theorem dX1_farthest_27 : decode cX1_farthest 27 = .ok (.goto (-23), 3) := by decide +kernel
theorem dX1_farthest_30 : decode cX1_farthest 30 = .ok (.iload_n 1, 1) := by decide +kernel
theorem dX1_farthest_31 : decode cX1_farthest 31 = .ok (.ireturn, 1) := by decide +kernel
abbrev cX1_within : ByteArray := prog_3_method_12_code
def yX1_within : MethodName := ⟨RX1, "within", "(I)I"⟩
theorem dX1_within_0 : decode cX1_within 0 = .ok (.iconst 0, 1) := by decide +kernel
theorem dX1_within_1 : decode cX1_within 1 = .ok (.istore_n 2, 1) := by decide +kernel
theorem dX1_within_2 : decode cX1_within 2 = .ok (.iconst 0, 1) := by decide +kernel
theorem dX1_within_3 : decode cX1_within 3 = .ok (.istore_n 3, 1) := by decide +kernel
theorem dX1_within_4 : decode cX1_within 4 = .ok (.iload_n 3, 1) := by decide +kernel
theorem dX1_within_5 : decode cX1_within 5 = .ok (.sipush 192, 3) := by decide +kernel
theorem dX1_within_8 : decode cX1_within 8 = .ok (.if_icmp .ge 30, 3) := by decide +kernel
theorem dX1_within_11 : decode cX1_within 11 = .ok (.aload_n 0, 1) := by decide +kernel
theorem dX1_within_12 : decode cX1_within 12 = .ok (.iload_n 3, 1) := by decide +kernel
theorem dX1_within_13 : decode cX1_within 13 = .ok (.invokevirtual 25, 3) := by decide +kernel
theorem dX1_within_16 : decode cX1_within 16 = .ok (.istore 4, 2) := by decide +kernel
theorem dX1_within_18 : decode cX1_within 18 = .ok (.iload 4, 2) := by decide +kernel
theorem dX1_within_20 : decode cX1_within 20 = .ok (.ifCond .lt 12, 3) := by decide +kernel
theorem dX1_within_23 : decode cX1_within 23 = .ok (.iload 4, 2) := by decide +kernel
theorem dX1_within_25 : decode cX1_within 25 = .ok (.iload_n 1, 1) := by decide +kernel
theorem dX1_within_26 : decode cX1_within 26 = .ok (.if_icmp .gt 6, 3) := by decide +kernel
theorem dX1_within_29 : decode cX1_within 29 = .ok (.iinc 2 1, 3) := by decide +kernel
theorem dX1_within_32 : decode cX1_within 32 = .ok (.iinc 3 1, 3) := by decide +kernel
theorem dX1_within_35 : decode cX1_within 35 = .ok (.goto (-31), 3) := by decide +kernel
theorem dX1_within_38 : decode cX1_within 38 = .ok (.iload_n 2, 1) := by decide +kernel
theorem dX1_within_39 : decode cX1_within 39 = .ok (.ireturn, 1) := by decide +kernel
abbrev cX1_edges : ByteArray := prog_3_method_13_code
def yX1_edges : MethodName := ⟨RX1, "edges", "()I"⟩
theorem dX1_edges_0 : decode cX1_edges 0 = .ok (.iconst 0, 1) := by decide +kernel
theorem dX1_edges_1 : decode cX1_edges 1 = .ok (.istore_n 1, 1) := by decide +kernel
theorem dX1_edges_2 : decode cX1_edges 2 = .ok (.iconst 0, 1) := by decide +kernel
theorem dX1_edges_3 : decode cX1_edges 3 = .ok (.istore_n 2, 1) := by decide +kernel
theorem dX1_edges_4 : decode cX1_edges 4 = .ok (.iload_n 2, 1) := by decide +kernel
theorem dX1_edges_5 : decode cX1_edges 5 = .ok (.sipush 192, 3) := by decide +kernel
theorem dX1_edges_8 : decode cX1_edges 8 = .ok (.if_icmp .ge 62, 3) := by decide +kernel
theorem dX1_edges_11 : decode cX1_edges 11 = .ok (.iload_n 2, 1) := by decide +kernel
theorem dX1_edges_12 : decode cX1_edges 12 = .ok (.bipush 16, 2) := by decide +kernel
theorem dX1_edges_14 : decode cX1_edges 14 = .ok (.irem, 1) := by decide +kernel
theorem dX1_edges_15 : decode cX1_edges 15 = .ok (.bipush 15, 2) := by decide +kernel
theorem dX1_edges_17 : decode cX1_edges 17 = .ok (.if_icmp .ge 21, 3) := by decide +kernel
theorem dX1_edges_20 : decode cX1_edges 20 = .ok (.aload_n 0, 1) := by decide +kernel
theorem dX1_edges_21 : decode cX1_edges 21 = .ok (.iload_n 2, 1) := by decide +kernel
theorem dX1_edges_22 : decode cX1_edges 22 = .ok (.invokevirtual 21, 3) := by decide +kernel
theorem dX1_edges_25 : decode cX1_edges 25 = .ok (.aload_n 0, 1) := by decide +kernel
theorem dX1_edges_26 : decode cX1_edges 26 = .ok (.iload_n 2, 1) := by decide +kernel
theorem dX1_edges_27 : decode cX1_edges 27 = .ok (.iconst 1, 1) := by decide +kernel
theorem dX1_edges_28 : decode cX1_edges 28 = .ok (.iadd, 1) := by decide +kernel
theorem dX1_edges_29 : decode cX1_edges 29 = .ok (.invokevirtual 21, 3) := by decide +kernel
theorem dX1_edges_32 : decode cX1_edges 32 = .ok (.if_icmp .eq 6, 3) := by decide +kernel
theorem dX1_edges_35 : decode cX1_edges 35 = .ok (.iinc 1 1, 3) := by decide +kernel
theorem dX1_edges_38 : decode cX1_edges 38 = .ok (.iload_n 2, 1) := by decide +kernel
theorem dX1_edges_39 : decode cX1_edges 39 = .ok (.sipush 176, 3) := by decide +kernel
theorem dX1_edges_42 : decode cX1_edges 42 = .ok (.if_icmp .ge 22, 3) := by decide +kernel
theorem dX1_edges_45 : decode cX1_edges 45 = .ok (.aload_n 0, 1) := by decide +kernel
theorem dX1_edges_46 : decode cX1_edges 46 = .ok (.iload_n 2, 1) := by decide +kernel
theorem dX1_edges_47 : decode cX1_edges 47 = .ok (.invokevirtual 21, 3) := by decide +kernel
theorem dX1_edges_50 : decode cX1_edges 50 = .ok (.aload_n 0, 1) := by decide +kernel
theorem dX1_edges_51 : decode cX1_edges 51 = .ok (.iload_n 2, 1) := by decide +kernel
theorem dX1_edges_52 : decode cX1_edges 52 = .ok (.bipush 16, 2) := by decide +kernel
theorem dX1_edges_54 : decode cX1_edges 54 = .ok (.iadd, 1) := by decide +kernel
theorem dX1_edges_55 : decode cX1_edges 55 = .ok (.invokevirtual 21, 3) := by decide +kernel
theorem dX1_edges_58 : decode cX1_edges 58 = .ok (.if_icmp .eq 6, 3) := by decide +kernel
theorem dX1_edges_61 : decode cX1_edges 61 = .ok (.iinc 1 1, 3) := by decide +kernel
theorem dX1_edges_64 : decode cX1_edges 64 = .ok (.iinc 2 1, 3) := by decide +kernel
theorem dX1_edges_67 : decode cX1_edges 67 = .ok (.goto (-63), 3) := by decide +kernel
theorem dX1_edges_70 : decode cX1_edges 70 = .ok (.iload_n 1, 1) := by decide +kernel
theorem dX1_edges_71 : decode cX1_edges 71 = .ok (.ireturn, 1) := by decide +kernel
abbrev cX1_total : ByteArray := prog_3_method_14_code
def yX1_total : MethodName := ⟨RX1, "total", "()I"⟩
theorem dX1_total_0 : decode cX1_total 0 = .ok (.iconst 0, 1) := by decide +kernel
theorem dX1_total_1 : decode cX1_total 1 = .ok (.istore_n 1, 1) := by decide +kernel
theorem dX1_total_2 : decode cX1_total 2 = .ok (.iconst 0, 1) := by decide +kernel
theorem dX1_total_3 : decode cX1_total 3 = .ok (.istore_n 2, 1) := by decide +kernel
theorem dX1_total_4 : decode cX1_total 4 = .ok (.iload_n 2, 1) := by decide +kernel
theorem dX1_total_5 : decode cX1_total 5 = .ok (.sipush 192, 3) := by decide +kernel
theorem dX1_total_8 : decode cX1_total 8 = .ok (.if_icmp .ge 25, 3) := by decide +kernel
theorem dX1_total_11 : decode cX1_total 11 = .ok (.aload_n 0, 1) := by decide +kernel
theorem dX1_total_12 : decode cX1_total 12 = .ok (.iload_n 2, 1) := by decide +kernel
theorem dX1_total_13 : decode cX1_total 13 = .ok (.invokevirtual 25, 3) := by decide +kernel
theorem dX1_total_16 : decode cX1_total 16 = .ok (.istore_n 3, 1) := by decide +kernel
theorem dX1_total_17 : decode cX1_total 17 = .ok (.iload_n 3, 1) := by decide +kernel
theorem dX1_total_18 : decode cX1_total 18 = .ok (.ifCond .ge 5, 3) := by decide +kernel
theorem dX1_total_21 : decode cX1_total 21 = .ok (.iconst (-1), 1) := by decide +kernel
theorem dX1_total_22 : decode cX1_total 22 = .ok (.ireturn, 1) := by decide +kernel
theorem dX1_total_23 : decode cX1_total 23 = .ok (.iload_n 1, 1) := by decide +kernel
theorem dX1_total_24 : decode cX1_total 24 = .ok (.iload_n 3, 1) := by decide +kernel
theorem dX1_total_25 : decode cX1_total 25 = .ok (.iadd, 1) := by decide +kernel
theorem dX1_total_26 : decode cX1_total 26 = .ok (.istore_n 1, 1) := by decide +kernel
theorem dX1_total_27 : decode cX1_total 27 = .ok (.iinc 2 1, 3) := by decide +kernel
theorem dX1_total_30 : decode cX1_total 30 = .ok (.goto (-26), 3) := by decide +kernel
theorem dX1_total_33 : decode cX1_total 33 = .ok (.iload_n 1, 1) := by decide +kernel
theorem dX1_total_34 : decode cX1_total 34 = .ok (.ireturn, 1) := by decide +kernel
theorem q12 : (Jvm.Cond.initialized "DistanceMapModel") ∈ lw_all := lw_g (lw_at lw_m0 2 rfl) rfl
theorem q120 : (Jvm.Cond.instantiable "DistanceMapModel" (1 : Nat)) ∈ lw_all := lw_g (lw_at lw_m0 110 rfl) rfl
theorem q122 : (Jvm.Cond.instanceMethod ({ cls := "DistanceMapModel", name := "<init>", desc := "()V" } : Jvm.MethodName)) ∈ lw_all := lw_g (lw_at lw_m0 112 rfl) rfl
theorem q123 : (Jvm.Cond.code ({ cls := "DistanceMapModel", name := "<init>", desc := "()V" } : Jvm.MethodName) prog_3_method_1_code (1 : Nat) (Option.none : Option Jvm.ClassFile.FieldType)) ∈ lw_all := lw_g (lw_at lw_m0 113 rfl) rfl
theorem q124 : (Jvm.Cond.methodLink "DistanceMapModel" (1 : Nat) ({ cls := "java/lang/Object", name := "<init>", desc := "()V" } : Jvm.MethodName)) ∈ lw_all := lw_g (lw_at lw_m0 114 rfl) rfl
theorem q125 : (Jvm.Cond.fieldLink "DistanceMapModel" (7 : Nat) "DistanceMapModel" "marked" "[Z") ∈ lw_all := lw_g (lw_at lw_m0 115 rfl) rfl
theorem q126 : (Jvm.Cond.laysFinal "DistanceMapModel" "DistanceMapModel" "marked" "[Z") ∈ lw_all := lw_g (lw_at lw_m0 116 rfl) rfl
theorem q127 : (Jvm.Cond.soleField "DistanceMapModel" "marked") ∈ lw_all := lw_g (lw_at lw_m0 117 rfl) rfl
theorem q128 : (Jvm.Cond.superclass "DistanceMapModel" "java/lang/Object") ∈ lw_all := lw_g (lw_at lw_m0 118 rfl) rfl
theorem q130 : (Jvm.Cond.instanceMethod ({ cls := "DistanceMapModel", name := "mark", desc := "(II)I" } : Jvm.MethodName)) ∈ lw_all := lw_g (lw_at lw_m0 120 rfl) rfl
theorem q131 : (Jvm.Cond.selects "DistanceMapModel" ({ cls := "DistanceMapModel", name := "mark", desc := "(II)I" } : Jvm.MethodName) ({ cls := "DistanceMapModel", name := "mark", desc := "(II)I" } : Jvm.MethodName)) ∈ lw_all := lw_g (lw_at lw_m0 121 rfl) rfl
theorem q132 : (Jvm.Cond.code ({ cls := "DistanceMapModel", name := "mark", desc := "(II)I" } : Jvm.MethodName) prog_3_method_3_code (4 : Nat) (Option.some Jvm.ClassFile.FieldType.int)) ∈ lw_all := lw_g (lw_at lw_m0 122 rfl) rfl
theorem q133 : (Jvm.Cond.methodLink "DistanceMapModel" (13 : Nat) ({ cls := "DistanceMapModel", name := "bad", desc := "(II)Z" } : Jvm.MethodName)) ∈ lw_all := lw_g (lw_at lw_m0 123 rfl) rfl
theorem q134 : (Jvm.Cond.static ({ cls := "DistanceMapModel", name := "bad", desc := "(II)Z" } : Jvm.MethodName)) ∈ lw_all := lw_g (lw_at lw_m0 124 rfl) rfl
theorem q135 : (Jvm.Cond.code ({ cls := "DistanceMapModel", name := "bad", desc := "(II)Z" } : Jvm.MethodName) prog_3_method_2_code (2 : Nat) (Option.some Jvm.ClassFile.FieldType.boolean)) ∈ lw_all := lw_g (lw_at lw_m0 125 rfl) rfl
theorem q137 : (Jvm.Cond.instanceMethod ({ cls := "DistanceMapModel", name := "clear", desc := "(II)I" } : Jvm.MethodName)) ∈ lw_all := lw_g (lw_at lw_m0 127 rfl) rfl
theorem q138 : (Jvm.Cond.selects "DistanceMapModel" ({ cls := "DistanceMapModel", name := "clear", desc := "(II)I" } : Jvm.MethodName) ({ cls := "DistanceMapModel", name := "clear", desc := "(II)I" } : Jvm.MethodName)) ∈ lw_all := lw_g (lw_at lw_m0 128 rfl) rfl
theorem q139 : (Jvm.Cond.code ({ cls := "DistanceMapModel", name := "clear", desc := "(II)I" } : Jvm.MethodName) prog_3_method_4_code (4 : Nat) (Option.some Jvm.ClassFile.FieldType.int)) ∈ lw_all := lw_g (lw_at lw_m0 129 rfl) rfl
theorem q141 : (Jvm.Cond.instanceMethod ({ cls := "DistanceMapModel", name := "distance", desc := "(II)I" } : Jvm.MethodName)) ∈ lw_all := lw_g (lw_at lw_m0 131 rfl) rfl
theorem q142 : (Jvm.Cond.selects "DistanceMapModel" ({ cls := "DistanceMapModel", name := "distance", desc := "(II)I" } : Jvm.MethodName) ({ cls := "DistanceMapModel", name := "distance", desc := "(II)I" } : Jvm.MethodName)) ∈ lw_all := lw_g (lw_at lw_m0 132 rfl) rfl
theorem q143 : (Jvm.Cond.code ({ cls := "DistanceMapModel", name := "distance", desc := "(II)I" } : Jvm.MethodName) prog_3_method_8_code (3 : Nat) (Option.some Jvm.ClassFile.FieldType.int)) ∈ lw_all := lw_g (lw_at lw_m0 133 rfl) rfl
theorem q144 : (Jvm.Cond.methodLink "DistanceMapModel" (25 : Nat) ({ cls := "DistanceMapModel", name := "far", desc := "(I)I" } : Jvm.MethodName)) ∈ lw_all := lw_g (lw_at lw_m0 134 rfl) rfl
theorem q145 : (Jvm.Cond.privateMethod ({ cls := "DistanceMapModel", name := "far", desc := "(I)I" } : Jvm.MethodName)) ∈ lw_tbl := lw_at lw_m0 135 rfl
theorem q146 : (Jvm.Cond.instanceMethod ({ cls := "DistanceMapModel", name := "far", desc := "(I)I" } : Jvm.MethodName)) ∈ lw_all := lw_g (lw_at lw_m0 136 rfl) rfl
theorem q147 : (Jvm.Cond.code ({ cls := "DistanceMapModel", name := "far", desc := "(I)I" } : Jvm.MethodName) prog_3_method_7_code (3 : Nat) (Option.some Jvm.ClassFile.FieldType.int)) ∈ lw_all := lw_g (lw_at lw_m0 137 rfl) rfl
theorem q148 : (Jvm.Cond.methodLink "DistanceMapModel" (21 : Nat) ({ cls := "DistanceMapModel", name := "markOf", desc := "(I)I" } : Jvm.MethodName)) ∈ lw_all := lw_g (lw_at lw_m0 138 rfl) rfl
theorem q149 : (Jvm.Cond.privateMethod ({ cls := "DistanceMapModel", name := "markOf", desc := "(I)I" } : Jvm.MethodName)) ∈ lw_tbl := lw_at lw_m0 139 rfl
theorem q150 : (Jvm.Cond.instanceMethod ({ cls := "DistanceMapModel", name := "markOf", desc := "(I)I" } : Jvm.MethodName)) ∈ lw_all := lw_g (lw_at lw_m0 140 rfl) rfl
theorem q151 : (Jvm.Cond.code ({ cls := "DistanceMapModel", name := "markOf", desc := "(I)I" } : Jvm.MethodName) prog_3_method_6_code (4 : Nat) (Option.some Jvm.ClassFile.FieldType.int)) ∈ lw_all := lw_g (lw_at lw_m0 141 rfl) rfl
theorem q152 : (Jvm.Cond.methodLink "DistanceMapModel" (17 : Nat) ({ cls := "DistanceMapModel", name := "apart", desc := "(II)I" } : Jvm.MethodName)) ∈ lw_all := lw_g (lw_at lw_m0 142 rfl) rfl
theorem q153 : (Jvm.Cond.static ({ cls := "DistanceMapModel", name := "apart", desc := "(II)I" } : Jvm.MethodName)) ∈ lw_all := lw_g (lw_at lw_m0 143 rfl) rfl
theorem q154 : (Jvm.Cond.code ({ cls := "DistanceMapModel", name := "apart", desc := "(II)I" } : Jvm.MethodName) prog_3_method_5_code (4 : Nat) (Option.some Jvm.ClassFile.FieldType.int)) ∈ lw_all := lw_g (lw_at lw_m0 144 rfl) rfl
theorem q156 : (Jvm.Cond.instanceMethod ({ cls := "DistanceMapModel", name := "nearest", desc := "(II)I" } : Jvm.MethodName)) ∈ lw_all := lw_g (lw_at lw_m0 146 rfl) rfl
theorem q157 : (Jvm.Cond.selects "DistanceMapModel" ({ cls := "DistanceMapModel", name := "nearest", desc := "(II)I" } : Jvm.MethodName) ({ cls := "DistanceMapModel", name := "nearest", desc := "(II)I" } : Jvm.MethodName)) ∈ lw_all := lw_g (lw_at lw_m0 147 rfl) rfl
theorem q158 : (Jvm.Cond.code ({ cls := "DistanceMapModel", name := "nearest", desc := "(II)I" } : Jvm.MethodName) prog_3_method_9_code (3 : Nat) (Option.some Jvm.ClassFile.FieldType.int)) ∈ lw_all := lw_g (lw_at lw_m0 148 rfl) rfl
theorem q160 : (Jvm.Cond.instanceMethod ({ cls := "DistanceMapModel", name := "reach", desc := "(II)I" } : Jvm.MethodName)) ∈ lw_all := lw_g (lw_at lw_m0 150 rfl) rfl
theorem q161 : (Jvm.Cond.selects "DistanceMapModel" ({ cls := "DistanceMapModel", name := "reach", desc := "(II)I" } : Jvm.MethodName) ({ cls := "DistanceMapModel", name := "reach", desc := "(II)I" } : Jvm.MethodName)) ∈ lw_all := lw_g (lw_at lw_m0 151 rfl) rfl
theorem q162 : (Jvm.Cond.code ({ cls := "DistanceMapModel", name := "reach", desc := "(II)I" } : Jvm.MethodName) prog_3_method_10_code (5 : Nat) (Option.some Jvm.ClassFile.FieldType.int)) ∈ lw_all := lw_g (lw_at lw_m0 152 rfl) rfl
theorem q164 : (Jvm.Cond.instanceMethod ({ cls := "DistanceMapModel", name := "farthest", desc := "()I" } : Jvm.MethodName)) ∈ lw_all := lw_g (lw_at lw_m0 154 rfl) rfl
theorem q165 : (Jvm.Cond.selects "DistanceMapModel" ({ cls := "DistanceMapModel", name := "farthest", desc := "()I" } : Jvm.MethodName) ({ cls := "DistanceMapModel", name := "farthest", desc := "()I" } : Jvm.MethodName)) ∈ lw_all := lw_g (lw_at lw_m0 155 rfl) rfl
theorem q166 : (Jvm.Cond.code ({ cls := "DistanceMapModel", name := "farthest", desc := "()I" } : Jvm.MethodName) prog_3_method_11_code (4 : Nat) (Option.some Jvm.ClassFile.FieldType.int)) ∈ lw_all := lw_g (lw_at lw_m0 156 rfl) rfl
theorem q168 : (Jvm.Cond.instanceMethod ({ cls := "DistanceMapModel", name := "within", desc := "(I)I" } : Jvm.MethodName)) ∈ lw_all := lw_g (lw_at lw_m0 158 rfl) rfl
theorem q169 : (Jvm.Cond.selects "DistanceMapModel" ({ cls := "DistanceMapModel", name := "within", desc := "(I)I" } : Jvm.MethodName) ({ cls := "DistanceMapModel", name := "within", desc := "(I)I" } : Jvm.MethodName)) ∈ lw_all := lw_g (lw_at lw_m0 159 rfl) rfl
theorem q170 : (Jvm.Cond.code ({ cls := "DistanceMapModel", name := "within", desc := "(I)I" } : Jvm.MethodName) prog_3_method_12_code (5 : Nat) (Option.some Jvm.ClassFile.FieldType.int)) ∈ lw_all := lw_g (lw_at lw_m0 160 rfl) rfl
theorem q172 : (Jvm.Cond.instanceMethod ({ cls := "DistanceMapModel", name := "edges", desc := "()I" } : Jvm.MethodName)) ∈ lw_all := lw_g (lw_at lw_m0 162 rfl) rfl
theorem q173 : (Jvm.Cond.selects "DistanceMapModel" ({ cls := "DistanceMapModel", name := "edges", desc := "()I" } : Jvm.MethodName) ({ cls := "DistanceMapModel", name := "edges", desc := "()I" } : Jvm.MethodName)) ∈ lw_all := lw_g (lw_at lw_m0 163 rfl) rfl
theorem q174 : (Jvm.Cond.code ({ cls := "DistanceMapModel", name := "edges", desc := "()I" } : Jvm.MethodName) prog_3_method_13_code (3 : Nat) (Option.some Jvm.ClassFile.FieldType.int)) ∈ lw_all := lw_g (lw_at lw_m0 164 rfl) rfl
theorem q176 : (Jvm.Cond.instanceMethod ({ cls := "DistanceMapModel", name := "total", desc := "()I" } : Jvm.MethodName)) ∈ lw_all := lw_g (lw_at lw_m0 166 rfl) rfl
theorem q177 : (Jvm.Cond.selects "DistanceMapModel" ({ cls := "DistanceMapModel", name := "total", desc := "()I" } : Jvm.MethodName) ({ cls := "DistanceMapModel", name := "total", desc := "()I" } : Jvm.MethodName)) ∈ lw_all := lw_g (lw_at lw_m0 167 rfl) rfl
theorem q178 : (Jvm.Cond.code ({ cls := "DistanceMapModel", name := "total", desc := "()I" } : Jvm.MethodName) prog_3_method_14_code (4 : Nat) (Option.some Jvm.ClassFile.FieldType.int)) ∈ lw_all := lw_g (lw_at lw_m0 168 rfl) rfl
theorem in_X1 : ∀ w ∈ wsX10, w ∈ lw_all := lw_in wsX10 [126] (by decide +kernel) (by decide +kernel)
theorem q46 : (Jvm.Cond.arrayClass Jvm.ClassFile.FieldType.boolean) ∈ lw_all := lw_g (lw_at lw_m0 36 rfl) rfl
set_option maxRecDepth 100000
theorem q47 : (Jvm.Cond.arrayClass Jvm.ClassFile.FieldType.int) ∈ lw_all := lw_g (lw_at lw_m0 37 rfl) rfl
theorem q10 : (Jvm.Cond.initialized "DistanceMapLaw") ∈ lw_all := lw_g (lw_at lw_m0 0 rfl) rfl
set_option maxRecDepth 100000
theorem q13 : (Jvm.Cond.classLink "DistanceMapLaw" (7 : Nat) "DistanceMap") ∈ lw_all := lw_g (lw_at lw_m0 3 rfl) rfl
theorem q15 : (Jvm.Cond.methodLink "DistanceMapLaw" (9 : Nat) ({ cls := "DistanceMap", name := "<init>", desc := "()V" } : Jvm.MethodName)) ∈ lw_all := lw_g (lw_at lw_m0 5 rfl) rfl
theorem q48 : (Jvm.Cond.methodLink "DistanceMapLaw" (13 : Nat) ({ cls := "DistanceMap", name := "mark", desc := "(II)I" } : Jvm.MethodName)) ∈ lw_all := lw_g (lw_at lw_m0 38 rfl) rfl
theorem q55 : (Jvm.Cond.methodLink "DistanceMapLaw" (18 : Nat) ({ cls := "DistanceMap", name := "clear", desc := "(II)I" } : Jvm.MethodName)) ∈ lw_all := lw_g (lw_at lw_m0 45 rfl) rfl
theorem q59 : (Jvm.Cond.methodLink "DistanceMapLaw" (22 : Nat) ({ cls := "DistanceMap", name := "distance", desc := "(II)I" } : Jvm.MethodName)) ∈ lw_all := lw_g (lw_at lw_m0 49 rfl) rfl
theorem q95 : (Jvm.Cond.methodLink "DistanceMapLaw" (26 : Nat) ({ cls := "DistanceMap", name := "nearest", desc := "(II)I" } : Jvm.MethodName)) ∈ lw_all := lw_g (lw_at lw_m0 85 rfl) rfl
theorem q99 : (Jvm.Cond.methodLink "DistanceMapLaw" (30 : Nat) ({ cls := "DistanceMap", name := "reach", desc := "(II)I" } : Jvm.MethodName)) ∈ lw_all := lw_g (lw_at lw_m0 89 rfl) rfl
theorem q103 : (Jvm.Cond.methodLink "DistanceMapLaw" (34 : Nat) ({ cls := "DistanceMap", name := "farthest", desc := "()I" } : Jvm.MethodName)) ∈ lw_all := lw_g (lw_at lw_m0 93 rfl) rfl
theorem q107 : (Jvm.Cond.methodLink "DistanceMapLaw" (39 : Nat) ({ cls := "DistanceMap", name := "within", desc := "(I)I" } : Jvm.MethodName)) ∈ lw_all := lw_g (lw_at lw_m0 97 rfl) rfl
theorem q111 : (Jvm.Cond.methodLink "DistanceMapLaw" (44 : Nat) ({ cls := "DistanceMap", name := "edges", desc := "()I" } : Jvm.MethodName)) ∈ lw_all := lw_g (lw_at lw_m0 101 rfl) rfl
theorem q115 : (Jvm.Cond.methodLink "DistanceMapLaw" (48 : Nat) ({ cls := "DistanceMap", name := "total", desc := "()I" } : Jvm.MethodName)) ∈ lw_all := lw_g (lw_at lw_m0 105 rfl) rfl
theorem q119 : (Jvm.Cond.classLink "DistanceMapLaw" (10 : Nat) "DistanceMapModel") ∈ lw_all := lw_g (lw_at lw_m0 109 rfl) rfl
theorem q121 : (Jvm.Cond.methodLink "DistanceMapLaw" (12 : Nat) ({ cls := "DistanceMapModel", name := "<init>", desc := "()V" } : Jvm.MethodName)) ∈ lw_all := lw_g (lw_at lw_m0 111 rfl) rfl
theorem q129 : (Jvm.Cond.methodLink "DistanceMapLaw" (17 : Nat) ({ cls := "DistanceMapModel", name := "mark", desc := "(II)I" } : Jvm.MethodName)) ∈ lw_all := lw_g (lw_at lw_m0 119 rfl) rfl
theorem q136 : (Jvm.Cond.methodLink "DistanceMapLaw" (21 : Nat) ({ cls := "DistanceMapModel", name := "clear", desc := "(II)I" } : Jvm.MethodName)) ∈ lw_all := lw_g (lw_at lw_m0 126 rfl) rfl
theorem q140 : (Jvm.Cond.methodLink "DistanceMapLaw" (25 : Nat) ({ cls := "DistanceMapModel", name := "distance", desc := "(II)I" } : Jvm.MethodName)) ∈ lw_all := lw_g (lw_at lw_m0 130 rfl) rfl
theorem q155 : (Jvm.Cond.methodLink "DistanceMapLaw" (29 : Nat) ({ cls := "DistanceMapModel", name := "nearest", desc := "(II)I" } : Jvm.MethodName)) ∈ lw_all := lw_g (lw_at lw_m0 145 rfl) rfl
theorem q159 : (Jvm.Cond.methodLink "DistanceMapLaw" (33 : Nat) ({ cls := "DistanceMapModel", name := "reach", desc := "(II)I" } : Jvm.MethodName)) ∈ lw_all := lw_g (lw_at lw_m0 149 rfl) rfl
theorem q163 : (Jvm.Cond.methodLink "DistanceMapLaw" (38 : Nat) ({ cls := "DistanceMapModel", name := "farthest", desc := "()I" } : Jvm.MethodName)) ∈ lw_all := lw_g (lw_at lw_m0 153 rfl) rfl
theorem q167 : (Jvm.Cond.methodLink "DistanceMapLaw" (43 : Nat) ({ cls := "DistanceMapModel", name := "within", desc := "(I)I" } : Jvm.MethodName)) ∈ lw_all := lw_g (lw_at lw_m0 157 rfl) rfl
theorem q171 : (Jvm.Cond.methodLink "DistanceMapLaw" (47 : Nat) ({ cls := "DistanceMapModel", name := "edges", desc := "()I" } : Jvm.MethodName)) ∈ lw_all := lw_g (lw_at lw_m0 161 rfl) rfl
theorem q175 : (Jvm.Cond.methodLink "DistanceMapLaw" (51 : Nat) ({ cls := "DistanceMapModel", name := "total", desc := "()I" } : Jvm.MethodName)) ∈ lw_all := lw_g (lw_at lw_m0 165 rfl) rfl
end
section
/-! the law's own entry -/
set_option maxRecDepth 100000
abbrev cL_law : ByteArray := code
theorem dL_law_0 : decode cL_law 0 = .ok (.new 7, 3) := by decide +kernel
theorem dL_law_3 : decode cL_law 3 = .ok (.dup, 1) := by decide +kernel
theorem dL_law_4 : decode cL_law 4 = .ok (.invokespecial 9, 3) := by decide +kernel
theorem dL_law_7 : decode cL_law 7 = .ok (.astore_n 1, 1) := by decide +kernel
theorem dL_law_8 : decode cL_law 8 = .ok (.new 10, 3) := by decide +kernel
theorem dL_law_11 : decode cL_law 11 = .ok (.dup, 1) := by decide +kernel
theorem dL_law_12 : decode cL_law 12 = .ok (.invokespecial 12, 3) := by decide +kernel
theorem dL_law_15 : decode cL_law 15 = .ok (.astore_n 2, 1) := by decide +kernel
theorem dL_law_16 : decode cL_law 16 = .ok (.iconst 0, 1) := by decide +kernel
theorem dL_law_17 : decode cL_law 17 = .ok (.istore_n 3, 1) := by decide +kernel
theorem dL_law_18 : decode cL_law 18 = .ok (.iload_n 3, 1) := by decide +kernel
theorem dL_law_19 : decode cL_law 19 = .ok (.aload_n 0, 1) := by decide +kernel
theorem dL_law_20 : decode cL_law 20 = .ok (.arraylength, 1) := by decide +kernel
theorem dL_law_21 : decode cL_law 21 = .ok (.iconst 3, 1) := by decide +kernel
theorem dL_law_22 : decode cL_law 22 = .ok (.isub, 1) := by decide +kernel
theorem dL_law_23 : decode cL_law 23 = .ok (.if_icmp .gt 294, 3) := by decide +kernel
theorem dL_law_26 : decode cL_law 26 = .ok (.aload_n 0, 1) := by decide +kernel
theorem dL_law_27 : decode cL_law 27 = .ok (.iload_n 3, 1) := by decide +kernel
theorem dL_law_28 : decode cL_law 28 = .ok (.iaload, 1) := by decide +kernel
theorem dL_law_29 : decode cL_law 29 = .ok (.bipush 15, 2) := by decide +kernel
theorem dL_law_31 : decode cL_law 31 = .ok (.iand, 1) := by decide +kernel
theorem dL_law_32 : decode cL_law 32 = .ok (.tableswitch 279 0 8 #[52, 85, 118, 151, 184, 217, 230, 253, 266], 52) := by decide +kernel
theorem dL_law_84 : decode cL_law 84 = .ok (.aload_n 1, 1) := by decide +kernel
theorem dL_law_85 : decode cL_law 85 = .ok (.aload_n 0, 1) := by decide +kernel
theorem dL_law_86 : decode cL_law 86 = .ok (.iload_n 3, 1) := by decide +kernel
theorem dL_law_87 : decode cL_law 87 = .ok (.iconst 1, 1) := by decide +kernel
theorem dL_law_88 : decode cL_law 88 = .ok (.iadd, 1) := by decide +kernel
theorem dL_law_89 : decode cL_law 89 = .ok (.iaload, 1) := by decide +kernel
theorem dL_law_90 : decode cL_law 90 = .ok (.aload_n 0, 1) := by decide +kernel
theorem dL_law_91 : decode cL_law 91 = .ok (.iload_n 3, 1) := by decide +kernel
theorem dL_law_92 : decode cL_law 92 = .ok (.iconst 2, 1) := by decide +kernel
theorem dL_law_93 : decode cL_law 93 = .ok (.iadd, 1) := by decide +kernel
theorem dL_law_94 : decode cL_law 94 = .ok (.iaload, 1) := by decide +kernel
theorem dL_law_95 : decode cL_law 95 = .ok (.invokevirtual 13, 3) := by decide +kernel
theorem dL_law_98 : decode cL_law 98 = .ok (.aload_n 2, 1) := by decide +kernel
theorem dL_law_99 : decode cL_law 99 = .ok (.aload_n 0, 1) := by decide +kernel
theorem dL_law_100 : decode cL_law 100 = .ok (.iload_n 3, 1) := by decide +kernel
theorem dL_law_101 : decode cL_law 101 = .ok (.iconst 1, 1) := by decide +kernel
theorem dL_law_102 : decode cL_law 102 = .ok (.iadd, 1) := by decide +kernel
theorem dL_law_103 : decode cL_law 103 = .ok (.iaload, 1) := by decide +kernel
theorem dL_law_104 : decode cL_law 104 = .ok (.aload_n 0, 1) := by decide +kernel
theorem dL_law_105 : decode cL_law 105 = .ok (.iload_n 3, 1) := by decide +kernel
theorem dL_law_106 : decode cL_law 106 = .ok (.iconst 2, 1) := by decide +kernel
theorem dL_law_107 : decode cL_law 107 = .ok (.iadd, 1) := by decide +kernel
theorem dL_law_108 : decode cL_law 108 = .ok (.iaload, 1) := by decide +kernel
theorem dL_law_109 : decode cL_law 109 = .ok (.invokevirtual 17, 3) := by decide +kernel
theorem dL_law_112 : decode cL_law 112 = .ok (.if_icmp .eq 199, 3) := by decide +kernel
theorem dL_law_115 : decode cL_law 115 = .ok (.iconst 0, 1) := by decide +kernel
theorem dL_law_116 : decode cL_law 116 = .ok (.ireturn, 1) := by decide +kernel
theorem dL_law_117 : decode cL_law 117 = .ok (.aload_n 1, 1) := by decide +kernel
theorem dL_law_118 : decode cL_law 118 = .ok (.aload_n 0, 1) := by decide +kernel
theorem dL_law_119 : decode cL_law 119 = .ok (.iload_n 3, 1) := by decide +kernel
theorem dL_law_120 : decode cL_law 120 = .ok (.iconst 1, 1) := by decide +kernel
theorem dL_law_121 : decode cL_law 121 = .ok (.iadd, 1) := by decide +kernel
theorem dL_law_122 : decode cL_law 122 = .ok (.iaload, 1) := by decide +kernel
theorem dL_law_123 : decode cL_law 123 = .ok (.aload_n 0, 1) := by decide +kernel
theorem dL_law_124 : decode cL_law 124 = .ok (.iload_n 3, 1) := by decide +kernel
theorem dL_law_125 : decode cL_law 125 = .ok (.iconst 2, 1) := by decide +kernel
theorem dL_law_126 : decode cL_law 126 = .ok (.iadd, 1) := by decide +kernel
theorem dL_law_127 : decode cL_law 127 = .ok (.iaload, 1) := by decide +kernel
theorem dL_law_128 : decode cL_law 128 = .ok (.invokevirtual 18, 3) := by decide +kernel
theorem dL_law_131 : decode cL_law 131 = .ok (.aload_n 2, 1) := by decide +kernel
theorem dL_law_132 : decode cL_law 132 = .ok (.aload_n 0, 1) := by decide +kernel
theorem dL_law_133 : decode cL_law 133 = .ok (.iload_n 3, 1) := by decide +kernel
theorem dL_law_134 : decode cL_law 134 = .ok (.iconst 1, 1) := by decide +kernel
theorem dL_law_135 : decode cL_law 135 = .ok (.iadd, 1) := by decide +kernel
theorem dL_law_136 : decode cL_law 136 = .ok (.iaload, 1) := by decide +kernel
theorem dL_law_137 : decode cL_law 137 = .ok (.aload_n 0, 1) := by decide +kernel
theorem dL_law_138 : decode cL_law 138 = .ok (.iload_n 3, 1) := by decide +kernel
theorem dL_law_139 : decode cL_law 139 = .ok (.iconst 2, 1) := by decide +kernel
theorem dL_law_140 : decode cL_law 140 = .ok (.iadd, 1) := by decide +kernel
theorem dL_law_141 : decode cL_law 141 = .ok (.iaload, 1) := by decide +kernel
theorem dL_law_142 : decode cL_law 142 = .ok (.invokevirtual 21, 3) := by decide +kernel
theorem dL_law_145 : decode cL_law 145 = .ok (.if_icmp .eq 166, 3) := by decide +kernel
theorem dL_law_148 : decode cL_law 148 = .ok (.iconst 0, 1) := by decide +kernel
theorem dL_law_149 : decode cL_law 149 = .ok (.ireturn, 1) := by decide +kernel
theorem dL_law_150 : decode cL_law 150 = .ok (.aload_n 1, 1) := by decide +kernel
theorem dL_law_151 : decode cL_law 151 = .ok (.aload_n 0, 1) := by decide +kernel
theorem dL_law_152 : decode cL_law 152 = .ok (.iload_n 3, 1) := by decide +kernel
theorem dL_law_153 : decode cL_law 153 = .ok (.iconst 1, 1) := by decide +kernel
theorem dL_law_154 : decode cL_law 154 = .ok (.iadd, 1) := by decide +kernel
theorem dL_law_155 : decode cL_law 155 = .ok (.iaload, 1) := by decide +kernel
theorem dL_law_156 : decode cL_law 156 = .ok (.aload_n 0, 1) := by decide +kernel
theorem dL_law_157 : decode cL_law 157 = .ok (.iload_n 3, 1) := by decide +kernel
theorem dL_law_158 : decode cL_law 158 = .ok (.iconst 2, 1) := by decide +kernel
theorem dL_law_159 : decode cL_law 159 = .ok (.iadd, 1) := by decide +kernel
theorem dL_law_160 : decode cL_law 160 = .ok (.iaload, 1) := by decide +kernel
theorem dL_law_161 : decode cL_law 161 = .ok (.invokevirtual 22, 3) := by decide +kernel
theorem dL_law_164 : decode cL_law 164 = .ok (.aload_n 2, 1) := by decide +kernel
theorem dL_law_165 : decode cL_law 165 = .ok (.aload_n 0, 1) := by decide +kernel
theorem dL_law_166 : decode cL_law 166 = .ok (.iload_n 3, 1) := by decide +kernel
theorem dL_law_167 : decode cL_law 167 = .ok (.iconst 1, 1) := by decide +kernel
theorem dL_law_168 : decode cL_law 168 = .ok (.iadd, 1) := by decide +kernel
theorem dL_law_169 : decode cL_law 169 = .ok (.iaload, 1) := by decide +kernel
theorem dL_law_170 : decode cL_law 170 = .ok (.aload_n 0, 1) := by decide +kernel
theorem dL_law_171 : decode cL_law 171 = .ok (.iload_n 3, 1) := by decide +kernel
theorem dL_law_172 : decode cL_law 172 = .ok (.iconst 2, 1) := by decide +kernel
theorem dL_law_173 : decode cL_law 173 = .ok (.iadd, 1) := by decide +kernel
theorem dL_law_174 : decode cL_law 174 = .ok (.iaload, 1) := by decide +kernel
theorem dL_law_175 : decode cL_law 175 = .ok (.invokevirtual 25, 3) := by decide +kernel
theorem dL_law_178 : decode cL_law 178 = .ok (.if_icmp .eq 133, 3) := by decide +kernel
theorem dL_law_181 : decode cL_law 181 = .ok (.iconst 0, 1) := by decide +kernel
theorem dL_law_182 : decode cL_law 182 = .ok (.ireturn, 1) := by decide +kernel
theorem dL_law_183 : decode cL_law 183 = .ok (.aload_n 1, 1) := by decide +kernel
theorem dL_law_184 : decode cL_law 184 = .ok (.aload_n 0, 1) := by decide +kernel
theorem dL_law_185 : decode cL_law 185 = .ok (.iload_n 3, 1) := by decide +kernel
theorem dL_law_186 : decode cL_law 186 = .ok (.iconst 1, 1) := by decide +kernel
theorem dL_law_187 : decode cL_law 187 = .ok (.iadd, 1) := by decide +kernel
theorem dL_law_188 : decode cL_law 188 = .ok (.iaload, 1) := by decide +kernel
theorem dL_law_189 : decode cL_law 189 = .ok (.aload_n 0, 1) := by decide +kernel
theorem dL_law_190 : decode cL_law 190 = .ok (.iload_n 3, 1) := by decide +kernel
theorem dL_law_191 : decode cL_law 191 = .ok (.iconst 2, 1) := by decide +kernel
theorem dL_law_192 : decode cL_law 192 = .ok (.iadd, 1) := by decide +kernel
theorem dL_law_193 : decode cL_law 193 = .ok (.iaload, 1) := by decide +kernel
theorem dL_law_194 : decode cL_law 194 = .ok (.invokevirtual 26, 3) := by decide +kernel
theorem dL_law_197 : decode cL_law 197 = .ok (.aload_n 2, 1) := by decide +kernel
theorem dL_law_198 : decode cL_law 198 = .ok (.aload_n 0, 1) := by decide +kernel
theorem dL_law_199 : decode cL_law 199 = .ok (.iload_n 3, 1) := by decide +kernel
theorem dL_law_200 : decode cL_law 200 = .ok (.iconst 1, 1) := by decide +kernel
theorem dL_law_201 : decode cL_law 201 = .ok (.iadd, 1) := by decide +kernel
theorem dL_law_202 : decode cL_law 202 = .ok (.iaload, 1) := by decide +kernel
theorem dL_law_203 : decode cL_law 203 = .ok (.aload_n 0, 1) := by decide +kernel
theorem dL_law_204 : decode cL_law 204 = .ok (.iload_n 3, 1) := by decide +kernel
theorem dL_law_205 : decode cL_law 205 = .ok (.iconst 2, 1) := by decide +kernel
theorem dL_law_206 : decode cL_law 206 = .ok (.iadd, 1) := by decide +kernel
theorem dL_law_207 : decode cL_law 207 = .ok (.iaload, 1) := by decide +kernel
theorem dL_law_208 : decode cL_law 208 = .ok (.invokevirtual 29, 3) := by decide +kernel
theorem dL_law_211 : decode cL_law 211 = .ok (.if_icmp .eq 100, 3) := by decide +kernel
theorem dL_law_214 : decode cL_law 214 = .ok (.iconst 0, 1) := by decide +kernel
theorem dL_law_215 : decode cL_law 215 = .ok (.ireturn, 1) := by decide +kernel
theorem dL_law_216 : decode cL_law 216 = .ok (.aload_n 1, 1) := by decide +kernel
theorem dL_law_217 : decode cL_law 217 = .ok (.aload_n 0, 1) := by decide +kernel
theorem dL_law_218 : decode cL_law 218 = .ok (.iload_n 3, 1) := by decide +kernel
theorem dL_law_219 : decode cL_law 219 = .ok (.iconst 1, 1) := by decide +kernel
theorem dL_law_220 : decode cL_law 220 = .ok (.iadd, 1) := by decide +kernel
theorem dL_law_221 : decode cL_law 221 = .ok (.iaload, 1) := by decide +kernel
theorem dL_law_222 : decode cL_law 222 = .ok (.aload_n 0, 1) := by decide +kernel
theorem dL_law_223 : decode cL_law 223 = .ok (.iload_n 3, 1) := by decide +kernel
theorem dL_law_224 : decode cL_law 224 = .ok (.iconst 2, 1) := by decide +kernel
theorem dL_law_225 : decode cL_law 225 = .ok (.iadd, 1) := by decide +kernel
theorem dL_law_226 : decode cL_law 226 = .ok (.iaload, 1) := by decide +kernel
theorem dL_law_227 : decode cL_law 227 = .ok (.invokevirtual 30, 3) := by decide +kernel
theorem dL_law_230 : decode cL_law 230 = .ok (.aload_n 2, 1) := by decide +kernel
theorem dL_law_231 : decode cL_law 231 = .ok (.aload_n 0, 1) := by decide +kernel
theorem dL_law_232 : decode cL_law 232 = .ok (.iload_n 3, 1) := by decide +kernel
theorem dL_law_233 : decode cL_law 233 = .ok (.iconst 1, 1) := by decide +kernel
theorem dL_law_234 : decode cL_law 234 = .ok (.iadd, 1) := by decide +kernel
theorem dL_law_235 : decode cL_law 235 = .ok (.iaload, 1) := by decide +kernel
theorem dL_law_236 : decode cL_law 236 = .ok (.aload_n 0, 1) := by decide +kernel
theorem dL_law_237 : decode cL_law 237 = .ok (.iload_n 3, 1) := by decide +kernel
theorem dL_law_238 : decode cL_law 238 = .ok (.iconst 2, 1) := by decide +kernel
theorem dL_law_239 : decode cL_law 239 = .ok (.iadd, 1) := by decide +kernel
theorem dL_law_240 : decode cL_law 240 = .ok (.iaload, 1) := by decide +kernel
theorem dL_law_241 : decode cL_law 241 = .ok (.invokevirtual 33, 3) := by decide +kernel
theorem dL_law_244 : decode cL_law 244 = .ok (.if_icmp .eq 67, 3) := by decide +kernel
theorem dL_law_247 : decode cL_law 247 = .ok (.iconst 0, 1) := by decide +kernel
theorem dL_law_248 : decode cL_law 248 = .ok (.ireturn, 1) := by decide +kernel
theorem dL_law_249 : decode cL_law 249 = .ok (.aload_n 1, 1) := by decide +kernel
theorem dL_law_250 : decode cL_law 250 = .ok (.invokevirtual 34, 3) := by decide +kernel
theorem dL_law_253 : decode cL_law 253 = .ok (.aload_n 2, 1) := by decide +kernel
theorem dL_law_254 : decode cL_law 254 = .ok (.invokevirtual 38, 3) := by decide +kernel
theorem dL_law_257 : decode cL_law 257 = .ok (.if_icmp .eq 54, 3) := by decide +kernel
theorem dL_law_260 : decode cL_law 260 = .ok (.iconst 0, 1) := by decide +kernel
theorem dL_law_261 : decode cL_law 261 = .ok (.ireturn, 1) := by decide +kernel
theorem dL_law_262 : decode cL_law 262 = .ok (.aload_n 1, 1) := by decide +kernel
theorem dL_law_263 : decode cL_law 263 = .ok (.aload_n 0, 1) := by decide +kernel
theorem dL_law_264 : decode cL_law 264 = .ok (.iload_n 3, 1) := by decide +kernel
theorem dL_law_265 : decode cL_law 265 = .ok (.iconst 1, 1) := by decide +kernel
theorem dL_law_266 : decode cL_law 266 = .ok (.iadd, 1) := by decide +kernel
theorem dL_law_267 : decode cL_law 267 = .ok (.iaload, 1) := by decide +kernel
theorem dL_law_268 : decode cL_law 268 = .ok (.invokevirtual 39, 3) := by decide +kernel
theorem dL_law_271 : decode cL_law 271 = .ok (.aload_n 2, 1) := by decide +kernel
theorem dL_law_272 : decode cL_law 272 = .ok (.aload_n 0, 1) := by decide +kernel
theorem dL_law_273 : decode cL_law 273 = .ok (.iload_n 3, 1) := by decide +kernel
theorem dL_law_274 : decode cL_law 274 = .ok (.iconst 1, 1) := by decide +kernel
theorem dL_law_275 : decode cL_law 275 = .ok (.iadd, 1) := by decide +kernel
theorem dL_law_276 : decode cL_law 276 = .ok (.iaload, 1) := by decide +kernel
theorem dL_law_277 : decode cL_law 277 = .ok (.invokevirtual 43, 3) := by decide +kernel
theorem dL_law_280 : decode cL_law 280 = .ok (.if_icmp .eq 31, 3) := by decide +kernel
theorem dL_law_283 : decode cL_law 283 = .ok (.iconst 0, 1) := by decide +kernel
theorem dL_law_284 : decode cL_law 284 = .ok (.ireturn, 1) := by decide +kernel
theorem dL_law_285 : decode cL_law 285 = .ok (.aload_n 1, 1) := by decide +kernel
theorem dL_law_286 : decode cL_law 286 = .ok (.invokevirtual 44, 3) := by decide +kernel
theorem dL_law_289 : decode cL_law 289 = .ok (.aload_n 2, 1) := by decide +kernel
theorem dL_law_290 : decode cL_law 290 = .ok (.invokevirtual 47, 3) := by decide +kernel
theorem dL_law_293 : decode cL_law 293 = .ok (.if_icmp .eq 18, 3) := by decide +kernel
theorem dL_law_296 : decode cL_law 296 = .ok (.iconst 0, 1) := by decide +kernel
theorem dL_law_297 : decode cL_law 297 = .ok (.ireturn, 1) := by decide +kernel
theorem dL_law_298 : decode cL_law 298 = .ok (.aload_n 1, 1) := by decide +kernel
theorem dL_law_299 : decode cL_law 299 = .ok (.invokevirtual 48, 3) := by decide +kernel
theorem dL_law_302 : decode cL_law 302 = .ok (.aload_n 2, 1) := by decide +kernel
theorem dL_law_303 : decode cL_law 303 = .ok (.invokevirtual 51, 3) := by decide +kernel
theorem dL_law_306 : decode cL_law 306 = .ok (.if_icmp .eq 5, 3) := by decide +kernel
theorem dL_law_309 : decode cL_law 309 = .ok (.iconst 0, 1) := by decide +kernel
theorem dL_law_310 : decode cL_law 310 = .ok (.ireturn, 1) := by decide +kernel
theorem dL_law_311 : decode cL_law 311 = .ok (.iinc 3 3, 3) := by decide +kernel
theorem dL_law_314 : decode cL_law 314 = .ok (.goto (-296), 3) := by decide +kernel
theorem dL_law_317 : decode cL_law 317 = .ok (.iconst 1, 1) := by decide +kernel
theorem dL_law_318 : decode cL_law 318 = .ok (.ireturn, 1) := by decide +kernel
end
section
/-! own rows: numbers by Int, loops, joins, array places by Nat, calls that read, calls that write -/
def iI (x : Int) : Int32 := Int32.ofInt x
theorem iI_n (n : Nat) : nI n = iI (n : Int) := Int32.ofInt_eq_ofNat.symm
theorem iI_add (a b : Int) : iI a + iI b = iI (a + b) := (Int32.ofInt_add a b).symm
theorem iI_sub (a b : Int) : iI a - iI b = iI (a - b) := (Int32.ofInt_sub a b).symm
theorem iI_mul (a b : Int) : iI a * iI b = iI (a * b) := (Int32.ofInt_mul a b).symm
theorem iI_toInt {a : Int} (h1 : -2147483648 ≤ a) (h2 : a < 2147483648) : (iI a).toInt = a := Int32.toInt_ofInt_of_le (by omega) (by omega)
theorem iI_le {a b : Int} (h1 : -2147483648 ≤ a) (h2 : a < 2147483648) (h3 : -2147483648 ≤ b) (h4 : b < 2147483648) : iI a ≤ iI b ↔ a ≤ b := by
  rw [Int32.le_iff_toInt_le, iI_toInt h1 h2, iI_toInt h3 h4]
theorem iI_lt {a b : Int} (h1 : -2147483648 ≤ a) (h2 : a < 2147483648) (h3 : -2147483648 ≤ b) (h4 : b < 2147483648) : iI a < iI b ↔ a < b := by
  rw [Int32.lt_iff_toInt_lt, iI_toInt h1 h2, iI_toInt h3 h4]
theorem iI_eq {a b : Int} (h1 : -2147483648 ≤ a) (h2 : a < 2147483648) (h3 : -2147483648 ≤ b) (h4 : b < 2147483648) : iI a = iI b ↔ a = b := by
  constructor
  · intro h
    have := congrArg Int32.toInt h
    rwa [iI_toInt h1 h2, iI_toInt h3 h4] at this
  · intro h
    rw [h]
theorem iI_lt0 {a : Int} (h1 : -2147483648 ≤ a) (h2 : a < 2147483648) : iI a < 0 ↔ a < 0 := iI_lt (b := 0) h1 h2 (by omega) (by omega)
theorem iI_div {a b : Int} (h1 : -2147483648 ≤ a) (h2 : a < 2147483648) (h3 : -2147483648 ≤ b) (h4 : b < 2147483648) : iI a / iI b = iI (a.tdiv b) :=
  (Int32.ofInt_tdiv (show (-2147483648 : Int) ≤ a from h1) (show a ≤ (2147483647 : Int) by omega) (show (-2147483648 : Int) ≤ b from h3) (show b ≤ (2147483647 : Int) by omega)).symm
/-- two names of one number -/
theorem iI_of {x y : Int} (h : x = y) : iI x = iI y := by rw [h]
section DK
variable {p : Program} {l : Launch} {e : Env} {R : Room} {s : State} {m : MethodId} {args : Array Value} {below : List Frame} {meth : Method} {c : Code} {H : Heap} {locs : List Loc} {cells slots : Nat} {Q : State → Prop}
variable {cc : ByteArray} {pc : Nat} {ls : Array Slot} {rest : List Value}
/-- the number on top under another name -/
theorem dk_top {x : Int32} (y : Int32) (h : x = y) (k : W p l e R s m args below meth c H locs cells slots Q (F0 m pc ls (.int y :: rest))) : W p l e R s m args below meth c H locs cells slots Q (F0 m pc ls (.int x :: rest)) := by
  subst h
  exact k
/-- a loop whose measure falls; the heap may change -/
theorem dk_loop {σ : Type} (Inv : σ → Heap → List Loc → Array Slot → Prop) (μ : σ → Nat) (hpc : Nat) (st : List Value)
    (a : σ) (h : Inv a H locs ls)
    (step : ∀ (a : σ) (H : Heap) (locs : List Loc) (ls : Array Slot), Inv a H locs ls → (∀ (b : σ) (H' : Heap) (locs' : List Loc) (ls' : Array Slot), μ b < μ a → Inv b H' locs' ls' → W p l e R s m args below meth c H' locs' cells slots Q (F0 m hpc ls' st)) → W p l e R s m args below meth c H locs cells slots Q (F0 m hpc ls st)) :
    W p l e R s m args below meth c H locs cells slots Q (F0 m hpc ls st) := by
  have key : ∀ (n : Nat) (a : σ) (H : Heap) (locs : List Loc) (ls : Array Slot), μ a < n → Inv a H locs ls → W p l e R s m args below meth c H locs cells slots Q (F0 m hpc ls st) := by
    intro n
    induction n with
    | zero => intro a H locs ls hm; exact absurd hm (Nat.not_lt_zero _)
    | succ n ih => intro a H locs ls hm hI; exact step a H locs ls hI (fun b H' locs' ls' hb hI' => ih b H' locs' ls' (by omega) hI')
  exact key (μ a + 1) a H locs ls (Nat.lt_succ_self _) h
/-- a loop that writes no cell -/
theorem dk_loopR {σ : Type} (Inv : σ → Array Slot → Prop) (μ : σ → Nat) (hpc : Nat) (st : List Value)
    (a : σ) (h : Inv a ls)
    (step : ∀ (a : σ) (ls : Array Slot), Inv a ls → (∀ (b : σ) (ls' : Array Slot), μ b < μ a → Inv b ls' → W p l e R s m args below meth c H locs cells slots Q (F0 m hpc ls' st)) → W p l e R s m args below meth c H locs cells slots Q (F0 m hpc ls st)) :
    W p l e R s m args below meth c H locs cells slots Q (F0 m hpc ls st) := by
  have key : ∀ (n : Nat) (a : σ) (ls : Array Slot), μ a < n → Inv a ls → W p l e R s m args below meth c H locs cells slots Q (F0 m hpc ls st) := by
    intro n
    induction n with
    | zero => intro a ls hm; exact absurd hm (Nat.not_lt_zero _)
    | succ n ih => intro a ls hm hI; exact step a ls hI (fun b ls' hb hI' => ih b ls' (by omega) hI')
  exact key (μ a + 1) a ls (Nat.lt_succ_self _) h
/-- several ways come together with a number on top -/
theorem dk_join {g : JFrame} (P : Int32 → Prop) (pc2 : Nat) (ls2 : Array Slot) (rest2 : List Value)
    (k : (∀ v : Int32, P v → W p l e R s m args below meth c H locs cells slots Q (F0 m pc2 ls2 (.int v :: rest2))) → W p l e R s m args below meth c H locs cells slots Q g)
    (J : ∀ v : Int32, P v → W p l e R s m args below meth c H locs cells slots Q (F0 m pc2 ls2 (.int v :: rest2))) : W p l e R s m args below meth c H locs cells slots Q g := k J
section DKA
variable {D : va_G} {cl : List vw_C} {A : Nat → Prop} {a : Nat} {tys : List (ClassId × FieldType)} {ws : va_W} {H0 : Heap}
theorem dk_iald (hexec : p.tables.exec = Jvm.exec) (hb : c.code = cc) (hK : va_K D cl tys s) (hP : va_P D cl ws H) (q0 t0 : Nat) {cA : ClassId} {n : Nat} {f : Nat → Int32} (ha : ws[q0]? = some (a, .inl (cA, n, .inl f))) (ht : tys[t0]? = some (cA, .int)) {j : Nat} (hj : j < n) (hn : n < 2 ^ 31) (hdg : decode cc pc = .ok (.iaload, 1))
    (kk : W p l e R s m args below meth c H locs cells slots Q (F0 m (pc + 1) ls (.int (f j) :: rest))) : W p l e R s m args below meth c H locs cells slots Q (F0 m pc ls (.int (nI j) :: .ref a :: rest)) :=
  va_iald hexec hb hK hP q0 t0 ha ht (vp_in_nI hj hn) hdg (by rw [nI_clamp (show j < 2 ^ 31 by omega)]; exact kk)
theorem dk_zald (hexec : p.tables.exec = Jvm.exec) (hb : c.code = cc) (hK : va_K D cl tys s) (hP : va_P D cl ws H) (q0 t0 : Nat) {cA : ClassId} {n : Nat} {f : Nat → Int32} (ha : ws[q0]? = some (a, .inl (cA, n, .inl f))) (ht : tys[t0]? = some (cA, .boolean)) {j : Nat} (hj : j < n) (hn : n < 2 ^ 31) (hdg : decode cc pc = .ok (.baload, 1))
    (kk : W p l e R s m args below meth c H locs cells slots Q (F0 m (pc + 1) ls (.int (f j) :: rest))) : W p l e R s m args below meth c H locs cells slots Q (F0 m pc ls (.int (nI j) :: .ref a :: rest)) :=
  va_zald hexec hb hK hP q0 t0 ha ht (vp_in_nI hj hn) hdg (by rw [nI_clamp (show j < 2 ^ 31 by omega)]; exact kk)
theorem dk_iast (hexec : p.tables.exec = Jvm.exec) (hb : c.code = cc) (hK : va_K D cl tys s) (hP : va_P D cl ws H) (hD : va_D A ws) (hS : va_S A H0 H locs) (q0 t0 : Nat) {cA : ClassId} {n : Nat} {f : Nat → Int32} (ha : ws[q0]? = some (a, .inl (cA, n, .inl f))) (ht : tys[t0]? = some (cA, .int)) {j : Nat} {x : Int32} (hj : j < n) (hn : n < 2 ^ 31) (hdg : decode cc pc = .ok (.iastore, 1))
    (kk : ∀ (H1 : Heap) (locs1 : List Loc), va_P D cl (ws.set q0 (a, .inl (cA, n, .inl (upd f j x)))) H1 → va_S A H0 H1 locs1 → W p l e R s m args below meth c H1 locs1 cells slots Q (F0 m (pc + 1) ls rest)) : W p l e R s m args below meth c H locs cells slots Q (F0 m pc ls (.int x :: .int (nI j) :: .ref a :: rest)) :=
  va_iast hexec hb hK hP hD hS q0 t0 ha ht (vp_in_nI hj hn) hdg (fun H1 l1 h1 _ h3 => kk H1 l1 (by rw [nI_clamp (show j < 2 ^ 31 by omega)] at h1; exact h1) h3)
theorem dk_zast (hexec : p.tables.exec = Jvm.exec) (hb : c.code = cc) (hK : va_K D cl tys s) (hP : va_P D cl ws H) (hD : va_D A ws) (hS : va_S A H0 H locs) (q0 t0 : Nat) {cA : ClassId} {n : Nat} {f : Nat → Int32} (ha : ws[q0]? = some (a, .inl (cA, n, .inl f))) (ht : tys[t0]? = some (cA, .boolean)) {j : Nat} {x : Int32} (hx : vp_nar .boolean x = x) (hj : j < n) (hn : n < 2 ^ 31) (hdg : decode cc pc = .ok (.bastore, 1))
    (kk : ∀ (H1 : Heap) (locs1 : List Loc), va_P D cl (ws.set q0 (a, .inl (cA, n, .inl (upd f j x)))) H1 → va_S A H0 H1 locs1 → W p l e R s m args below meth c H1 locs1 cells slots Q (F0 m (pc + 1) ls rest)) : W p l e R s m args below meth c H locs cells slots Q (F0 m pc ls (.int x :: .int (nI j) :: .ref a :: rest)) :=
  va_zast hexec hb hK hP hD hS q0 t0 ha ht (vp_in_nI hj hn) hdg (fun H1 l1 h1 _ h3 => kk H1 l1 (by rw [nI_clamp (show j < 2 ^ 31 by omega), hx] at h1; exact h1) h3)
end DKA
end DK
abbrev vwCl : List vw_C := [(RX0, TX0, 8), (RX1, TX1, 1)]
/-- a method's start: its arguments, its cells, the classes -/
abbrev roP (D : va_G) (av : List Value) (ws : va_W) (tys : List (ClassId × FieldType)) : Array Value → State → Prop := va_Pc av (fun U => va_P D vwCl ws U.heap ∧ va_K D vwCl tys U)
theorem roP_blind {D : va_G} {av : List Value} {ws : va_W} {tys : List (ClassId × FieldType)} : FrameBlind (roP D av ws tys) := fun a U g mk q => ⟨q.1, q.2.1, va_K.moved (u := U) (U := U.calling g mk a) (Vm.Alike.refl U.vm) q.2.2⟩
/-- a writing method's end: what it answers, its cells, nothing else changed -/
abbrev muI {σ : Type} (D : va_G) (post : Int32 → σ → Prop) (w' : σ → va_W) (A : Nat → Prop) : Array Value → State → Outcome → State → Prop := va_Qi post (fun u t => va_P D vwCl (w' u) t.heap) A
abbrev muV {σ : Type} (D : va_G) (post : σ → Prop) (w' : σ → va_W) (A : Nat → Prop) : Array Value → State → Outcome → State → Prop := va_Qv post (fun u t => va_P D vwCl (w' u) t.heap) A
section DC
variable {p : Program} {l : Launch} {e : Env} {R : Room} {s : State} {m : MethodId} {args : Array Value} {below : List Frame} {meth : Method} {c : Code} {H : Heap} {locs : List Loc} {cells slots : Nat} {Q : State → Prop}
variable {D : va_G} {cs : va_W} {tys : List (ClassId × FieldType)} {cc bytes : ByteArray} {pc nL maxL n index : Nat} {Ts : List Cond} {own C : String} {y : MethodName} {ret : Option FieldType} {ws : List Cond} {rm : Room} {r : Int32} {b : Nat} {As st0 rest : List Value} {ls : Array Slot} {A0 A1 : Nat → Prop} {H0 : Heap}
/-- a call of a method that only reads -/
theorem dk_roV (S : CallFix p m c cc nL s args Ts own) (hM : Met l y ws rm (roP D (.ref b :: As) cs tys) (QcRead r) 0 0 (fun _ => False)) (cw : CallW R s args own C index y bytes maxL ret ws rm 0 0 n) (hK : va_K D vwCl tys s) (hP : va_P D vwCl cs H) (ci : Nat) {q : vw_C} {fs : List Value} (hc : vwCl[ci]? = some q) (hC : q.1 = C) (he : cs[0]? = some (b, .inr (ci, fs)))
    (hn : As.length = n) (hsize : ls.size = nL) (hst : st0 = As.reverse ++ .ref b :: rest) (hroom : (rest.map fun v => v.category).sum ≤ 8) (hf : cells ≤ R.cells ∧ slots ≤ R.slots) (hdg : decode cc pc = .ok (.invokevirtual index, 3))
    (kk : W p l e R s m args below meth c H locs cells slots Q (F0 m (pc + 3) ls (.int r :: rest))) : W p l e R s m args below meth c H locs cells slots Q (F0 m pc ls st0) := by
  subst hst
  subst hC
  exact W.callR (W.runV (As := As) (rest := rest) S hM cw ⟨roP_blind, va_recv hK hP hc he, fun U hU hW => ⟨rfl, by rw [hU]; exact hP, va_K.moved hW.alike hK⟩⟩ rfl hn hsize rfl (lv_room hroom) hdg hf) kk
/-- a static call of a method that looks at its arguments alone -/
theorem dk_roS (S : CallFix p m c cc nL s args Ts own) (hM : Met l y ws rm (fun v _ => v = As.toArray) (QcRead r) 0 0 (fun _ => False)) (cw : CallB R s args own index y bytes maxL ret ws rm 0 0 n ∧ (Cond.static y).before args s = true)
    (hn : As.length = n) (hsize : ls.size = nL) (hst : st0 = As.reverse ++ rest) (hroom : (rest.map fun v => v.category).sum ≤ 8) (hf : cells ≤ R.cells ∧ slots ≤ R.slots) (hdg : decode cc pc = .ok (.invokestatic index, 3))
    (kk : W p l e R s m args below meth c H locs cells slots Q (F0 m (pc + 3) ls (.int r :: rest))) : W p l e R s m args below meth c H locs cells slots Q (F0 m pc ls st0) := by
  subst hst
  exact W.callR (W.runS (As := As) (rest := rest) S hM cw preEq rfl hn hsize rfl (lv_room hroom) hdg hf) kk
/-- a call of a method that writes its own cells, and answers nothing -/
theorem dk_muV {σ : Type} {post : σ → Prop} {w' : σ → va_W} (S : CallFix p m c cc nL s args Ts own) (hM : Met l y ws rm (roP D (.ref b :: As) cs tys) (muV D post w' A1) 0 0 A1) (cw : CallW R s args own C index y bytes maxL ret ws rm 0 0 n) (hK : va_K D vwCl tys s) (hP : va_P D vwCl cs H) (ci : Nat) {q : vw_C} {fs : List Value} (hc : vwCl[ci]? = some q) (hC : q.1 = C) (he : cs[0]? = some (b, .inr (ci, fs)))
    (hn : As.length = n) (hsize : ls.size = nL) (hst : st0 = As.reverse ++ .ref b :: rest) (hroom : (rest.map fun v => v.category).sum ≤ 8) (hf : cells ≤ R.cells ∧ slots ≤ R.slots) (hS : va_S A0 H0 H locs) (hA : ∀ q, A1 q → A0 q) (hdg : decode cc pc = .ok (.invokevirtual index, 3))
    (kk : ∀ (u : σ) (H1 : Heap) (locs1 : List Loc), post u → va_P D vwCl (w' u) H1 → (∀ q : Nat, q < H.size → ¬ A1 q → H1[q]? = H[q]?) → va_S A0 H0 H1 locs1 → W p l e R s m args below meth c H1 locs1 cells slots Q (F0 m (pc + 3) ls rest)) : W p l e R s m args below meth c H locs cells slots Q (F0 m pc ls st0) := by
  subst hst
  subst hC
  exact va_callv (va_runV (As := As) (rest := rest) S hM cw ⟨roP_blind, va_recv hK hP hc he, fun U hU hW => ⟨rfl, by rw [hU]; exact hP, va_K.moved hW.alike hK⟩⟩ rfl hn hsize rfl (lv_room hroom) hdg hf) hS (fun q _ h => hA q h) hA (fun u t H1 locs1 ht _ hp hB _ hk hS1 => kk u H1 locs1 hp (by rw [← ht]; exact hB) hk hS1)
/-- a call of a method that writes its own cells, and answers a number -/
theorem dk_muI {σ : Type} {post : Int32 → σ → Prop} {w' : σ → va_W} (S : CallFix p m c cc nL s args Ts own) (hM : Met l y ws rm (roP D (.ref b :: As) cs tys) (muI D post w' A1) 0 0 A1) (cw : CallW R s args own C index y bytes maxL ret ws rm 0 0 n) (hK : va_K D vwCl tys s) (hP : va_P D vwCl cs H) (ci : Nat) {q : vw_C} {fs : List Value} (hc : vwCl[ci]? = some q) (hC : q.1 = C) (he : cs[0]? = some (b, .inr (ci, fs)))
    (hn : As.length = n) (hsize : ls.size = nL) (hst : st0 = As.reverse ++ .ref b :: rest) (hroom : (rest.map fun v => v.category).sum ≤ 8) (hf : cells ≤ R.cells ∧ slots ≤ R.slots) (hS : va_S A0 H0 H locs) (hA : ∀ q, A1 q → A0 q) (hdg : decode cc pc = .ok (.invokevirtual index, 3))
    (kk : ∀ (r : Int32) (u : σ) (H1 : Heap) (locs1 : List Loc), post r u → va_P D vwCl (w' u) H1 → (∀ q : Nat, q < H.size → ¬ A1 q → H1[q]? = H[q]?) → va_S A0 H0 H1 locs1 → W p l e R s m args below meth c H1 locs1 cells slots Q (F0 m (pc + 3) ls (.int r :: rest))) : W p l e R s m args below meth c H locs cells slots Q (F0 m pc ls st0) := by
  subst hst
  subst hC
  exact va_calli (va_runV (As := As) (rest := rest) S hM cw ⟨roP_blind, va_recv hK hP hc he, fun U hU hW => ⟨rfl, by rw [hU]; exact hP, va_K.moved hW.alike hK⟩⟩ rfl hn hsize rfl (lv_room hroom) hdg hf) hS (fun q _ h => hA q h) hA (fun r u t H1 locs1 ht _ hp hB _ hk hS1 => kk r u H1 locs1 hp (by rw [← ht]; exact hB) hk hS1)
end DC
/-! the two worlds -/
/-- a DistanceMap: ad 0 the object, ad 1 .. ad 5 its arrays -/
abbrev dmW (ad : Nat → Nat) (ct : Nat → ClassId) (fM : Nat → Int32) (nM kn : Int32) (fO fC : Nat → Int32) (kp : Int32) (fK fT : Nat → Int32) : va_W :=
  [(ad 0, .inr (0, [.ref (ad 1), .int nM, .int kn, .ref (ad 2), .ref (ad 3), .int kp, .ref (ad 4), .ref (ad 5)])),
   (ad 1, .inl (ct 1, 192, .inl fM)), (ad 2, .inl (ct 2, 192, .inl fO)), (ad 3, .inl (ct 3, 192, .inl fC)), (ad 4, .inl (ct 4, 16, .inl fK)), (ad 5, .inl (ct 5, 16, .inl fT))]
abbrev dmT (ct : Nat → ClassId) : List (ClassId × FieldType) := [(ct 1, .boolean), (ct 2, .int), (ct 3, .int), (ct 4, .int), (ct 5, .int)]
/-- its own addresses -/
def dmA (ad : Nat → Nat) : Nat → Prop := fun q => ∃ k, k < 6 ∧ q = ad k
def dmJ (ad : Nat → Nat) : Prop := ∀ i j, i < 6 → j < 6 → ad i = ad j → i = j
theorem dm_D {ad : Nat → Nat} (hJ : dmJ ad) (ct : Nat → ClassId) (fM : Nat → Int32) (nM kn : Int32) (fO fC : Nat → Int32) (kp : Int32) (fK fT : Nat → Int32) : va_D (dmA ad) (dmW ad ct fM nM kn fO fC kp fK fT) := by
  have key : ∀ (k : Nat) (q : Nat × va_E), (dmW ad ct fM nM kn fO fC kp fK fT)[k]? = some q → k < 6 ∧ q.1 = ad k := by
    intro k q hk
    have hl : k < 6 := (List.getElem?_eq_some_iff.mp hk).1
    refine ⟨hl, ?_⟩
    match k, hl, hk with
    | 0, _, hk => cases hk; rfl
    | 1, _, hk => cases hk; rfl
    | 2, _, hk => cases hk; rfl
    | 3, _, hk => cases hk; rfl
    | 4, _, hk => cases hk; rfl
    | 5, _, hk => cases hk; rfl
  refine ⟨fun i j x y hi hj hxy => ?_, fun k q hk => ?_⟩
  · obtain ⟨h1, h2⟩ := key i x hi
    obtain ⟨h3, h4⟩ := key j y hj
    exact hJ i j h1 h3 (by rw [← h2, ← h4]; exact hxy)
  · obtain ⟨h1, h2⟩ := key k q hk
    exact ⟨k, h1, h2⟩
/-- a DistanceMapModel: the object and its array -/
abbrev mdW (h a : Nat) (ct : ClassId) (f : Nat → Int32) : va_W := [(h, .inr (1, [.ref a])), (a, .inl (ct, 192, .inl f))]
abbrev mdT (ct : ClassId) : List (ClassId × FieldType) := [(ct, .boolean)]
def mdA (h a : Nat) : Nat → Prop := fun q => q = h ∨ q = a
theorem md_D {h a : Nat} (hJ : h ≠ a) (ct : ClassId) (f : Nat → Int32) : va_D (mdA h a) (mdW h a ct f) := by
  have key : ∀ (k : Nat) (q : Nat × va_E), (mdW h a ct f)[k]? = some q → (k = 0 ∧ q.1 = h) ∨ (k = 1 ∧ q.1 = a) := by
    intro k q hk
    have hl : k < 2 := (List.getElem?_eq_some_iff.mp hk).1
    match k, hl, hk with
    | 0, _, hk => cases hk; exact Or.inl ⟨rfl, rfl⟩
    | 1, _, hk => cases hk; exact Or.inr ⟨rfl, rfl⟩
  refine ⟨fun i j x y hi hj hxy => ?_, fun k q hk => ?_⟩
  · rcases key i x hi with ⟨h1, h2⟩ | ⟨h1, h2⟩ <;> rcases key j y hj with ⟨h3, h4⟩ | ⟨h3, h4⟩
    · omega
    · exact absurd (h2.symm.trans (hxy.trans h4)) hJ
    · exact absurd (h4.symm.trans (hxy.symm.trans h2)) hJ
    · omega
  · rcases key k q hk with ⟨-, h2⟩ | ⟨-, h2⟩
    · exact Or.inl h2
    · exact Or.inr h2
end
section
/-! the plain law: no program in sight -/
/-- the squared distance of two places -/
def ap (a b : Nat) : Int := (((a % 16 : Nat) : Int) - ((b % 16 : Nat) : Int)) * (((a % 16 : Nat) : Int) - ((b % 16 : Nat) : Int)) + (((a / 16 : Nat) : Int) - ((b / 16 : Nat) : Int)) * (((a / 16 : Nat) : Int) - ((b / 16 : Nat) : Int))
theorem sq_nn (x : Int) : 0 ≤ x * x := by
  rcases Int.le_total 0 x with h | h
  · exact Int.mul_nonneg h h
  · have := Int.mul_nonneg (a := -x) (b := -x) (by omega) (by omega)
    rwa [Int.neg_mul_neg] at this
theorem sq_le {x k : Int} (h1 : -k ≤ x) (h2 : x ≤ k) : x * x ≤ k * k := by
  have h := Int.mul_nonneg (a := k - x) (b := k + x) (by omega) (by omega)
  have e : (k - x) * (k + x) = k * k - x * x := by grind
  omega
theorem ap_b {a b : Nat} (ha : a < 192) (hb : b < 192) : 0 ≤ ap a b ∧ ap a b ≤ 346 := by
  have h1 := sq_nn (((a % 16 : Nat) : Int) - ((b % 16 : Nat) : Int))
  have h2 := sq_nn (((a / 16 : Nat) : Int) - ((b / 16 : Nat) : Int))
  have h3 := sq_le (x := (((a % 16 : Nat) : Int) - ((b % 16 : Nat) : Int))) (k := 15) (by omega) (by omega)
  have h4 := sq_le (x := (((a / 16 : Nat) : Int) - ((b / 16 : Nat) : Int))) (k := 11) (by omega) (by omega)
  unfold ap
  omega
/-- the reference's search: the mark of the place p among the numbers below n, or -1 -/
def nr (f : Nat → Int32) (p : Nat) : Nat → Int
  | 0 => -1
  | n + 1 => if f n = 0 then nr f p n else if nr f p n < 0 ∨ ap p n < ap p (nr f p n).toNat then (n : Int) else nr f p n
theorem nr_spec (f : Nat → Int32) (p : Nat) : ∀ n, (nr f p n = -1 ∧ ∀ j, j < n → f j = 0) ∨ ∃ v : Nat, v < n ∧ f v ≠ 0 ∧ nr f p n = (v : Int) ∧ ∀ j, j < n → f j ≠ 0 → ap p v < ap p j ∨ (ap p v = ap p j ∧ v ≤ j) := by
  intro n
  induction n with
  | zero => exact Or.inl ⟨rfl, fun j h => absurd h (Nat.not_lt_zero _)⟩
  | succ n ih =>
    by_cases h0 : f n = 0
    · have e : nr f p (n + 1) = nr f p n := by
        simp only [nr]
        rw [if_pos h0]
      rw [e]
      rcases ih with ⟨h1, h2⟩ | ⟨v, h1, h2, h3, h4⟩
      · refine Or.inl ⟨h1, fun j hj => ?_⟩
        rcases Nat.lt_or_ge j n with q | q
        · exact h2 j q
        · rw [show j = n by omega]
          exact h0
      · refine Or.inr ⟨v, by omega, h2, h3, fun j hj hf => ?_⟩
        rcases Nat.lt_or_ge j n with q | q
        · exact h4 j q hf
        · rw [show j = n by omega] at hf
          exact absurd h0 hf
    · rcases ih with ⟨h1, h2⟩ | ⟨v, h1, h2, h3, h4⟩
      · have e : nr f p (n + 1) = (n : Int) := by
          simp only [nr]
          rw [if_neg h0, if_pos (Or.inl (by omega))]
        refine Or.inr ⟨n, by omega, h0, e, fun j hj hf => ?_⟩
        rcases Nat.lt_or_ge j n with q | q
        · exact absurd (h2 j q) hf
        · rw [show j = n by omega]
          exact Or.inr ⟨rfl, Nat.le_refl _⟩
      · by_cases h5 : ap p n < ap p v
        · have e : nr f p (n + 1) = (n : Int) := by
            simp only [nr]
            rw [if_neg h0, if_pos (Or.inr (by rw [h3]; exact h5))]
          refine Or.inr ⟨n, by omega, h0, e, fun j hj hf => ?_⟩
          rcases Nat.lt_or_ge j n with q | q
          · have := h4 j q hf
            left
            omega
          · rw [show j = n by omega]
            exact Or.inr ⟨rfl, Nat.le_refl _⟩
        · have e : nr f p (n + 1) = (v : Int) := by
            simp only [nr]
            rw [if_neg h0, if_neg, h3]
            rw [h3]
            intro h
            rcases h with h | h
            · omega
            · exact h5 h
          refine Or.inr ⟨v, by omega, h2, e, fun j hj hf => ?_⟩
          rcases Nat.lt_or_ge j n with q | q
          · exact h4 j q hf
          · rw [show j = n by omega]
            omega
theorem nr_uniq {f : Nat → Int32} {p n v : Nat} (hv : v < n) (hf : f v ≠ 0) (hm : ∀ j, j < n → f j ≠ 0 → ap p v < ap p j ∨ (ap p v = ap p j ∧ v ≤ j)) : nr f p n = (v : Int) := by
  rcases nr_spec f p n with ⟨-, h2⟩ | ⟨w, h1, h2, h3, h4⟩
  · exact absurd (h2 v hv) hf
  · have a := hm w h1 h2
    have b := h4 v hv hf
    rw [h3, show w = v by omega]
theorem nr_congr {f g : Nat → Int32} {p : Nat} : ∀ {n : Nat}, (∀ j, j < n → (f j = 0 ↔ g j = 0)) → nr f p n = nr g p n := by
  intro n
  induction n with
  | zero => intro _; rfl
  | succ n ih =>
    intro h
    have e := ih (fun j hj => h j (by omega))
    have hn := h n (by omega)
    simp only [nr]
    rw [e]
    by_cases h0 : f n = 0
    · rw [if_pos h0, if_pos (hn.mp h0)]
    · rw [if_neg h0, if_neg (fun q => h0 (hn.mpr q))]
theorem nr_b (f : Nat → Int32) (p n : Nat) : -1 ≤ nr f p n ∧ nr f p n < n := by
  rcases nr_spec f p n with ⟨h1, -⟩ | ⟨w, h1, -, h3, -⟩
  · omega
  · omega
theorem nr_pos {f : Nat → Int32} {p n j : Nat} (hj : j < n) (hf : f j ≠ 0) : 0 ≤ nr f p n := by
  rcases nr_spec f p n with ⟨-, h2⟩ | ⟨w, -, -, h3, -⟩
  · exact absurd (h2 j hj) hf
  · omega
theorem nr_none {f : Nat → Int32} {p n : Nat} (h : ∀ j, j < n → f j = 0) : nr f p n = -1 := by
  rcases nr_spec f p n with ⟨h1, -⟩ | ⟨w, h1, h2, -, -⟩
  · exact h1
  · exact absurd (h w h1) h2
/-- how many are marked below n -/
def cn (f : Nat → Int32) : Nat → Nat
  | 0 => 0
  | n + 1 => cn f n + (if f n = 0 then 0 else 1)
theorem cn_le (f : Nat → Int32) : ∀ n, cn f n ≤ n := by
  intro n
  induction n with
  | zero => exact Nat.le_refl _
  | succ n ih =>
    simp only [cn]
    split <;> omega
theorem cn_zero {f : Nat → Int32} : ∀ {n : Nat}, cn f n = 0 ↔ ∀ j, j < n → f j = 0 := by
  intro n
  induction n with
  | zero => exact ⟨fun _ j h => absurd h (Nat.not_lt_zero _), fun _ => rfl⟩
  | succ n ih =>
    simp only [cn]
    by_cases h0 : f n = 0
    · rw [if_pos h0]
      constructor
      · intro h j hj
        rcases Nat.lt_or_ge j n with q | q
        · exact ih.mp (by omega) j q
        · rw [show j = n by omega]
          exact h0
      · intro h
        have := ih.mpr (fun j hj => h j (by omega))
        omega
    · rw [if_neg h0]
      constructor
      · intro h
        omega
      · intro h
        exact absurd (h n (by omega)) h0
theorem cn_congr {f g : Nat → Int32} : ∀ {n : Nat}, (∀ j, j < n → (f j = 0 ↔ g j = 0)) → cn f n = cn g n := by
  intro n
  induction n with
  | zero => intro _; rfl
  | succ n ih =>
    intro h
    have e := ih (fun j hj => h j (by omega))
    have hn := h n (by omega)
    simp only [cn]
    rw [e]
    by_cases h0 : f n = 0
    · rw [if_pos h0, if_pos (hn.mp h0)]
    · rw [if_neg h0, if_neg (fun q => h0 (hn.mpr q))]
theorem cn_add {f : Nat → Int32} {k : Nat} {x : Int32} (hx : x ≠ 0) (h0 : f k = 0) : ∀ {n : Nat}, k < n → cn (upd f k x) n = cn f n + 1 := by
  intro n
  induction n with
  | zero => intro h; exact absurd h (Nat.not_lt_zero _)
  | succ n ih =>
    intro h
    simp only [cn]
    by_cases hk : k = n
    · subst hk
      rw [pk_us, if_neg hx, if_pos h0, cn_congr (f := upd f k x) (g := f) (fun j hj => by rw [pk_un (by omega)])]
    · rw [ih (by omega), pk_un (fun q => hk q.symm)]
      omega
theorem cn_sub {f : Nat → Int32} {k : Nat} (h0 : f k ≠ 0) : ∀ {n : Nat}, k < n → cn (upd f k 0) n + 1 = cn f n := by
  intro n
  induction n with
  | zero => intro h; exact absurd h (Nat.not_lt_zero _)
  | succ n ih =>
    intro h
    simp only [cn]
    by_cases hk : k = n
    · subst hk
      rw [pk_us, if_pos rfl, if_neg h0, cn_congr (f := upd f k 0) (g := f) (fun j hj => by rw [pk_un (by omega)])]
    · rw [← ih (by omega), pk_un (fun q => hk q.symm)]
      omega
/-! the columns -/
def up (f : Nat → Int32) (x : Nat) : Nat → Int
  | 0 => -1
  | k + 1 => if f (x + 16 * k) = 0 then up f x k else ((x + 16 * k : Nat) : Int)
def dn (f : Nat → Int32) (x : Nat) : Nat → Int
  | 0 => -1
  | j + 1 => if f (x + 16 * (11 - j)) = 0 then dn f x j else ((x + 16 * (11 - j) : Nat) : Int)
theorem up_spec (f : Nat → Int32) (x : Nat) : ∀ k, (up f x k = -1 ∧ ∀ j, j < k → f (x + 16 * j) = 0) ∨ ∃ m : Nat, m < k ∧ up f x k = ((x + 16 * m : Nat) : Int) ∧ f (x + 16 * m) ≠ 0 ∧ ∀ j, m < j → j < k → f (x + 16 * j) = 0 := by
  intro k
  induction k with
  | zero => exact Or.inl ⟨rfl, fun j h => absurd h (Nat.not_lt_zero _)⟩
  | succ k ih =>
    simp only [up]
    by_cases h0 : f (x + 16 * k) = 0
    · rw [if_pos h0]
      rcases ih with ⟨h1, h2⟩ | ⟨m, h1, h2, h3, h4⟩
      · refine Or.inl ⟨h1, fun j hj => ?_⟩
        rcases Nat.lt_or_ge j k with q | q
        · exact h2 j q
        · rw [show j = k by omega]
          exact h0
      · refine Or.inr ⟨m, by omega, h2, h3, fun j hj hk => ?_⟩
        rcases Nat.lt_or_ge j k with q | q
        · exact h4 j hj q
        · rw [show j = k by omega]
          exact h0
    · rw [if_neg h0]
      exact Or.inr ⟨k, by omega, rfl, h0, fun j h1 h2 => by omega⟩
theorem dn_spec (f : Nat → Int32) (x : Nat) : ∀ k, k ≤ 12 → (dn f x k = -1 ∧ ∀ j, 12 - k ≤ j → j < 12 → f (x + 16 * j) = 0) ∨ ∃ m : Nat, 12 - k ≤ m ∧ m < 12 ∧ dn f x k = ((x + 16 * m : Nat) : Int) ∧ f (x + 16 * m) ≠ 0 ∧ ∀ j, 12 - k ≤ j → j < m → f (x + 16 * j) = 0 := by
  intro k
  induction k with
  | zero => exact fun _ => Or.inl ⟨rfl, fun j h1 h2 => by omega⟩
  | succ k ih =>
    intro hk
    simp only [dn]
    by_cases h0 : f (x + 16 * (11 - k)) = 0
    · rw [if_pos h0]
      rcases ih (by omega) with ⟨h1, h2⟩ | ⟨m, h1, h2, h3, h4, h5⟩
      · refine Or.inl ⟨h1, fun j h3 h4 => ?_⟩
        rcases Nat.lt_or_ge j (12 - k) with q | q
        · rw [show j = 11 - k by omega]
          exact h0
        · exact h2 j q h4
      · refine Or.inr ⟨m, by omega, h2, h3, h4, fun j h6 h7 => ?_⟩
        rcases Nat.lt_or_ge j (12 - k) with q | q
        · rw [show j = 11 - k by omega]
          exact h0
        · exact h5 j q h7
    · rw [if_neg h0]
      exact Or.inr ⟨11 - k, by omega, by omega, rfl, h0, fun j h1 h2 => by omega⟩
/-- what the column sweep leaves at row r of column x -/
def cmv (f : Nat → Int32) (x r : Nat) : Int := if 0 ≤ dn f x (12 - r) ∧ (up f x (r + 1) < 0 ∨ dn f x (12 - r) - ((x + 16 * r : Nat) : Int) < ((x + 16 * r : Nat) : Int) - up f x (r + 1)) then dn f x (12 - r) else up f x (r + 1)
/-- v is the number of the nearest mark in column x, seen from row r (the lower of two), or -1 -/
def cs (f : Nat → Int32) (x r : Nat) (v : Int) : Prop := (v = -1 ∧ ∀ j, j < 12 → f (x + 16 * j) = 0) ∨ ∃ m : Nat, m < 12 ∧ v = ((x + 16 * m : Nat) : Int) ∧ f (x + 16 * m) ≠ 0 ∧ ∀ j, j < 12 → f (x + 16 * j) ≠ 0 → (m - r) + (r - m) < (j - r) + (r - j) ∨ ((m - r) + (r - m) = (j - r) + (r - j) ∧ m ≤ j)
theorem cmv_cs (f : Nat → Int32) (x r : Nat) (hr : r < 12) : cs f x r (cmv f x r) := by
  have hD := dn_spec f x (12 - r) (by omega)
  rw [show 12 - (12 - r) = r by omega] at hD
  rcases up_spec f x (r + 1) with ⟨u1, u2⟩ | ⟨mu, u1, u2, u3, u4⟩ <;> rcases hD with ⟨d1, d2⟩ | ⟨md, d0, d1, d2, d3, d4⟩
  · left
    refine ⟨?_, fun j hj => ?_⟩
    · unfold cmv
      rw [if_neg (by omega)]
      exact u1
    · rcases Nat.lt_or_ge j (r + 1) with q | q
      · exact u2 j q
      · exact d2 j (by omega) hj
  · right
    refine ⟨md, d1, ?_, d3, fun j hj hf => ?_⟩
    · unfold cmv
      rw [if_pos (by omega)]
      exact d2
    · have h1 : r + 1 ≤ j := by
        rcases Nat.lt_or_ge j (r + 1) with q | q
        · exact absurd (u2 j q) hf
        · exact q
      have h2 : md ≤ j := by
        rcases Nat.lt_or_ge j md with q | q
        · exact absurd (d4 j (by omega) q) hf
        · exact q
      omega
  · right
    refine ⟨mu, by omega, ?_, u3, fun j hj hf => ?_⟩
    · unfold cmv
      rw [if_neg (by omega)]
      exact u2
    · have h1 : j < r := by
        rcases Nat.lt_or_ge j r with q | q
        · exact q
        · exact absurd (d2 j q hj) hf
      have h2 : j ≤ mu := by
        rcases Nat.lt_or_ge mu j with q | q
        · exact absurd (u4 j q (by omega)) hf
        · exact q
      omega
  · have key : ∀ j, j < 12 → f (x + 16 * j) ≠ 0 → j ≤ mu ∨ md ≤ j := by
      intro j hj hf
      rcases Nat.lt_or_ge j (r + 1) with q | q
      · left
        rcases Nat.lt_or_ge mu j with q2 | q2
        · exact absurd (u4 j q2 q) hf
        · exact q2
      · right
        rcases Nat.lt_or_ge j md with q2 | q2
        · exact absurd (d4 j (by omega) q2) hf
        · exact q2
    right
    by_cases hc : md - r < r - mu
    · refine ⟨md, d1, ?_, d3, fun j hj hf => ?_⟩
      · unfold cmv
        rw [if_pos (by omega)]
        exact d2
      · have := key j hj hf
        omega
    · refine ⟨mu, by omega, ?_, u3, fun j hj hf => ?_⟩
      · unfold cmv
        rw [if_neg (by omega)]
        exact u2
      · have := key j hj hf
        omega
theorem cs_b {f : Nat → Int32} {x r : Nat} {v : Int} (hx : x < 16) (h : cs f x r v) : v = -1 ∨ (0 ≤ v ∧ v < 192 ∧ v % 16 = (x : Int)) := by
  rcases h with ⟨h, -⟩ | ⟨m, h1, h2, -⟩
  · exact Or.inl h
  · right
    omega
theorem sq_abs (m Y : Nat) : ((m : Int) - (Y : Int)) * ((m : Int) - (Y : Int)) = (((m - Y) + (Y - m) : Nat) : Int) * (((m - Y) + (Y - m) : Nat) : Int) := by
  rcases Nat.le_total m Y with h | h
  · rw [show (((m - Y) + (Y - m) : Nat) : Int) = -((m : Int) - (Y : Int)) by omega, Int.neg_mul_neg]
  · rw [show (((m - Y) + (Y - m) : Nat) : Int) = ((m : Int) - (Y : Int)) by omega]
theorem ap_eq {x c : Nat} (Y m : Nat) (hx : x < 16) (hc : c < 16) : ap (16 * Y + x) (c + 16 * m) = ((x : Int) - (c : Int)) * ((x : Int) - (c : Int)) + ((m : Int) - (Y : Int)) * ((m : Int) - (Y : Int)) := by
  unfold ap
  rw [show (16 * Y + x) % 16 = x by omega, show (c + 16 * m) % 16 = c by omega, show (16 * Y + x) / 16 = Y by omega, show (c + 16 * m) / 16 = m by omega]
  grind
/-- the parabola of column c at place x of row Y -/
def co (Y : Nat) (v : Nat → Int) (c : Nat) (x : Int) : Int := 256 * ((x - c) * (x - c)) + (256 * (v c / 16 - Y) * (v c / 16 - Y) + v c)
/-- the column whose parabola is lowest has the nearest mark -/
theorem row_near {f : Nat → Int32} {Y : Nat} {v : Nat → Int} (hY : Y < 12) (hv : ∀ c, c < 16 → cs f c Y (v c)) {x c : Nat} (hx : x < 16) (hc : c < 16) (h0 : 0 ≤ v c) (hb : ∀ c', c' < 16 → 0 ≤ v c' → co Y v c x ≤ co Y v c' x) : nr f (16 * Y + x) 192 = v c := by
  rcases hv c hc with ⟨h, -⟩ | ⟨m, m1, m2, m3, m4⟩
  · omega
  rw [m2]
  refine nr_uniq (by omega) m3 (fun j hj hf => ?_)
  have hj16 : j % 16 < 16 := by omega
  have ej : j = j % 16 + 16 * (j / 16) := by omega
  generalize j % 16 = c' at hj16 ej
  have hr : j / 16 < 12 := by omega
  generalize j / 16 = r' at hr ej
  subst ej
  rcases hv c' hj16 with ⟨-, h⟩ | ⟨m', n1, n2, n3, n4⟩
  · exact absurd (h r' hr) hf
  have h1 := hb c' hj16 (by omega)
  have h2 := n4 r' hr hf
  have a1 := ap_eq (x := x) (c := c) Y m hx hc
  have a2 := ap_eq (x := x) (c := c') Y r' hx hj16
  have e1 : v c / 16 = (m : Int) := by omega
  have e2 : v c' / 16 = (m' : Int) := by omega
  have b1 : co Y v c x = 256 * ap (16 * Y + x) (c + 16 * m) + ((c + 16 * m : Nat) : Int) := by
    unfold co
    rw [a1, e1, m2]
    grind
  have b2 : co Y v c' x + 256 * (((r' : Int) - Y) * ((r' : Int) - Y)) = 256 * ap (16 * Y + x) (c' + 16 * r') + 256 * (((m' : Int) - Y) * ((m' : Int) - Y)) + ((c' + 16 * m' : Nat) : Int) := by
    unfold co
    rw [a2, e2, n2]
    grind
  have b3 : 256 * (((m' : Int) - Y) * ((m' : Int) - Y)) + ((c' + 16 * m' : Nat) : Int) ≤ 256 * (((r' : Int) - Y) * ((r' : Int) - Y)) + ((c' + 16 * r' : Nat) : Int) := by
    rw [sq_abs m' Y, sq_abs r' Y]
    rcases h2 with h2 | ⟨h2, h3⟩
    · have h4 := Int.mul_self_le_mul_self (a := (((m' - Y) + (Y - m') + 1 : Nat) : Int)) (b := (((r' - Y) + (Y - r') : Nat) : Int)) (by omega) (by omega)
      have h5 : (((m' - Y) + (Y - m') + 1 : Nat) : Int) * (((m' - Y) + (Y - m') + 1 : Nat) : Int) = (((m' - Y) + (Y - m') : Nat) : Int) * (((m' - Y) + (Y - m') : Nat) : Int) + 2 * (((m' - Y) + (Y - m') : Nat) : Int) + 1 := by
        rw [Int.natCast_add ((m' - Y) + (Y - m')) 1]
        generalize (((m' - Y) + (Y - m') : Nat) : Int) = t
        grind
      omega
    · rw [h2]
      omega
  omega
/-! two parabolas -/
def lpU (Y : Nat) (v : Nat → Int) (i u : Nat) : Int := 256 * ((u : Int) * u - (i : Int) * i) + (256 * (v u / 16 - Y) * (v u / 16 - Y) + v u) - (256 * (v i / 16 - Y) * (v i / 16 - Y) + v i)
def lpL (i u : Nat) : Int := 512 * ((u : Int) - i)
def lp (Y : Nat) (v : Nat → Int) (i u : Nat) : Int := lpU Y v i u / lpL i u
theorem lp_cross {Y : Nat} {v : Nat → Int} {i u : Nat} (hi : i < u) (h1 : 0 ≤ v i) (h2 : v i < 192) (h3 : 0 ≤ v u) (h4 : v u < 192) (hne : v i ≠ v u) (x : Int) : x ≤ lp Y v i u ↔ co Y v i x < co Y v u x := by
  have hpos : 0 < lpL i u := by
    unfold lpL
    omega
  unfold lp
  rw [Int.le_ediv_iff_mul_le hpos]
  have e : co Y v u x - co Y v i x = lpU Y v i u - x * lpL i u := by
    unfold co lpU lpL
    generalize v u / 16 = a
    generalize v i / 16 = b
    grind
  have e2 : lpU Y v i u - x * lpL i u = 256 * ((u : Int) * u - (i : Int) * i + (v u / 16 - Y) * (v u / 16 - Y) - (v i / 16 - Y) * (v i / 16 - Y) - 2 * (x * ((u : Int) - i))) + (v u - v i) := by
    unfold lpU lpL
    generalize v u / 16 = a
    generalize v i / 16 = b
    grind
  generalize ((u : Int) * u - (i : Int) * i + (v u / 16 - Y) * (v u / 16 - Y) - (v i / 16 - Y) * (v i / 16 - Y) - 2 * (x * ((u : Int) - i))) = t at e2
  omega
theorem lp_U {Y : Nat} {v : Nat → Int} {i u : Nat} (hi : i < u) (hu : u < 16) (hY : Y < 12) (h1 : 0 ≤ v i) (h2 : v i < 192) (h3 : 0 ≤ v u) (h4 : v u < 192) : -130000 ≤ lpU Y v i u ∧ lpU Y v i u ≤ 130000 := by
  have a1 := sq_le (x := v u / 16 - Y) (k := 11) (by omega) (by omega)
  have a2 := sq_le (x := v i / 16 - Y) (k := 11) (by omega) (by omega)
  have a3 := sq_nn (v u / 16 - Y)
  have a4 := sq_nn (v i / 16 - Y)
  have a5 := sq_le (x := (u : Int)) (k := 15) (by omega) (by omega)
  have a6 := sq_le (x := (i : Int)) (k := 15) (by omega) (by omega)
  have a7 := sq_nn (u : Int)
  have a8 := sq_nn (i : Int)
  unfold lpU
  rw [Int.mul_assoc 256 (v u / 16 - Y), Int.mul_assoc 256 (v i / 16 - Y)]
  omega
theorem lp_b {Y : Nat} {v : Nat → Int} {i u : Nat} (hi : i < u) (hu : u < 16) (hY : Y < 12) (h1 : 0 ≤ v i) (h2 : v i < 192) (h3 : 0 ≤ v u) (h4 : v u < 192) : -200000 ≤ lp Y v i u ∧ lp Y v i u ≤ 200000 := by
  have hU := lp_U hi hu hY h1 h2 h3 h4
  have hpos : 512 ≤ lpL i u := by
    unfold lpL
    omega
  unfold lp
  constructor
  · rw [Int.le_ediv_iff_mul_le (by omega)]
    omega
  · have h := Int.mul_ediv_self_le (x := lpU Y v i u) (k := lpL i u) (by omega)
    rcases Int.lt_or_le 200000 (lpU Y v i u / lpL i u) with q | q
    · have h5 := Int.mul_le_mul_of_nonneg_left (a := 200000) (b := lpU Y v i u / lpL i u) (c := lpL i u) (by omega) (by omega)
      omega
    · exact q
/-- how Java comes to it -/
theorem fl_div {a b : Int} (hb : 0 < b) : (if a - a.tdiv b * b < 0 then a.tdiv b - 1 else a.tdiv b) = a / b := by
  have h1 := Int.tmod_def a b
  have h2 := Int.tmod_lt_of_pos a hb
  have h3 := Int.lt_tmod_of_pos a hb
  rw [Int.mul_comm b] at h1
  generalize a.tdiv b = q at h1
  generalize a.tmod b = r at h1 h2 h3
  split
  · exact ((Int.ediv_emod_unique (a := a) (b := b) (q := q - 1) (r := r + b) hb).mpr ⟨by grind, by omega, by omega⟩).1.symm
  · exact ((Int.ediv_emod_unique (a := a) (b := b) (q := q) (r := r) hb).mpr ⟨by grind, by omega, by omega⟩).1.symm
end
section
/-! the lower envelope of a row, over any costs g (column, place) and any valid columns va -/
def enS (va : Nat → Prop) (C K : Nat) (kc to : Nat → Nat) : Prop := K ≤ C ∧ (∀ j, j < K → kc j < C ∧ va (kc j) ∧ to j < 16) ∧ (0 < K → to 0 = 0) ∧ ∀ i j, i < j → j < K → kc i < kc j ∧ to i < to j
/-- the kept parabola j rules at x -/
def enA (K : Nat) (to : Nat → Nat) (x j : Nat) : Prop := j < K ∧ to j ≤ x ∧ (j + 1 < K → x < to (j + 1))
/-- while parabolas are taken away for column C -/
def enP (va : Nat → Prop) (g : Nat → Nat → Int) (C K : Nat) (kc to : Nat → Nat) : Prop := enS va C K kc to ∧ ∀ x, x < 16 → (∀ c', c' < C → va c' → g C x ≤ g c' x) ∨ ∃ j, enA K to x j ∧ ∀ c', c' < C → va c' → g (kc j) x ≤ g c' x
/-- the envelope of the columns below C -/
def enE (va : Nat → Prop) (g : Nat → Nat → Int) (C K : Nat) (kc to : Nat → Nat) : Prop := enS va C K kc to ∧ ((K = 0 ∧ ∀ c', c' < C → ¬ va c') ∨ (0 < K ∧ ∀ x, x < 16 → ∃ j, enA K to x j ∧ ∀ c', c' < C → va c' → g (kc j) x ≤ g c' x))
section EN
variable {va : Nat → Prop} {g : Nat → Nat → Int} {C K : Nat} {kc to : Nat → Nat}
theorem en_0 : enE va g 0 0 kc to := ⟨⟨Nat.le_refl _, fun j h => absurd h (Nat.not_lt_zero _), fun h => absurd h (Nat.not_lt_zero _), fun i j _ h => absurd h (Nat.not_lt_zero _)⟩, Or.inl ⟨rfl, fun c h => absurd h (Nat.not_lt_zero _)⟩⟩
theorem enS_up (h : enS va C K kc to) : enS va (C + 1) K kc to := by
  obtain ⟨h1, h2, h3, h4⟩ := h
  exact ⟨by omega, fun j hj => ⟨by have := (h2 j hj).1; omega, (h2 j hj).2⟩, h3, h4⟩
theorem en_skip (h : enE va g C K kc to) (hv : ¬ va C) : enE va g (C + 1) K kc to := by
  obtain ⟨h1, h2⟩ := h
  refine ⟨enS_up h1, ?_⟩
  rcases h2 with ⟨h2, h3⟩ | ⟨h2, h3⟩
  · refine Or.inl ⟨h2, fun c hc hvc => ?_⟩
    rcases Nat.lt_or_ge c C with q | q
    · exact h3 c q hvc
    · rw [show c = C by omega] at hvc
      exact hv hvc
  · refine Or.inr ⟨h2, fun x hx => ?_⟩
    obtain ⟨j, h4, h5⟩ := h3 x hx
    refine ⟨j, h4, fun c hc hvc => ?_⟩
    rcases Nat.lt_or_ge c C with q | q
    · exact h5 c q hvc
    · rw [show c = C by omega] at hvc
      exact absurd hvc hv
theorem en_in (h : enE va g C K kc to) : enP va g C K kc to := by
  obtain ⟨h1, h2⟩ := h
  refine ⟨h1, fun x hx => ?_⟩
  rcases h2 with ⟨h2, h3⟩ | ⟨h2, h3⟩
  · exact Or.inl (fun c hc hvc => absurd hvc (h3 c hc))
  · exact Or.inr (h3 x hx)
/-- the last kept parabola is taken away: it rules from to K on, and C is lower there -/
theorem en_pop (h : enP va g C (K + 1) kc to) {fr : Int} (hcr : ∀ x : Nat, x < 16 → ((x : Int) < fr ↔ g (kc K) x < g C x)) (hfr : fr ≤ to K) : enP va g C K kc to := by
  obtain ⟨⟨h1, h2, h3, h4⟩, h5⟩ := h
  refine ⟨⟨by omega, fun j hj => h2 j (by omega), fun h => h3 (by omega), fun i j h6 h7 => h4 i j h6 (by omega)⟩, fun x hx => ?_⟩
  rcases h5 x hx with h | ⟨j, ⟨a1, a2, a3⟩, h6⟩
  · exact Or.inl h
  · by_cases hj : j = K
    · subst hj
      left
      intro c' hc' hv
      have q1 := h6 c' hc' hv
      have q2 := hcr x hx
      have q3 : ¬ (x : Int) < fr := by omega
      have q4 : ¬ g (kc j) x < g C x := fun q => q3 (q2.mpr q)
      omega
    · exact Or.inr ⟨j, ⟨by omega, a2, fun q => a3 (by omega)⟩, h6⟩
/-- which one rules -/
theorem en_one (h : enS va C K kc to) {x i j : Nat} (hi : enA K to x i) (hj : enA K to x j) : i = j := by
  obtain ⟨-, -, -, h4⟩ := h
  obtain ⟨a1, a2, a3⟩ := hi
  obtain ⟨b1, b2, b3⟩ := hj
  rcases Nat.lt_trichotomy i j with q | q | q
  · have c1 := a3 (by omega)
    rcases Nat.lt_or_ge (i + 1) j with q2 | q2
    · have := (h4 (i + 1) j q2 b1).2
      omega
    · rw [show i + 1 = j by omega] at c1
      omega
  · exact q
  · have c1 := b3 (by omega)
    rcases Nat.lt_or_ge (j + 1) i with q2 | q2
    · have := (h4 (j + 1) i q2 a1).2
      omega
    · rw [show j + 1 = i by omega] at c1
      omega
theorem en_top (h : enS va C (K + 1) kc to) {x j : Nat} (hj : enA (K + 1) to x j) (hx : to K ≤ x) : j = K := by
  obtain ⟨-, -, -, h4⟩ := h
  obtain ⟨a1, a2, a3⟩ := hj
  by_cases q : j = K
  · exact q
  · have c1 := a3 (by omega)
    rcases Nat.lt_or_ge (j + 1) K with q2 | q2
    · have := (h4 (j + 1) K q2 (by omega)).2
      omega
    · rw [show j + 1 = K by omega] at c1
      omega
/-- below fr the kept ones are lower than C too -/
theorem en_low (h : enP va g C (K + 1) kc to) {fr : Int} (hcr : ∀ x : Nat, x < 16 → ((x : Int) < fr ↔ g (kc K) x < g C x)) {x : Nat} (hx : x < 16) (hlt : (x : Int) < fr) : ∃ j, enA (K + 1) to x j ∧ ∀ c', c' < C + 1 → va c' → g (kc j) x ≤ g c' x := by
  obtain ⟨⟨h1, h2, h3, h4⟩, h5⟩ := h
  have hk := h2 K (by omega)
  have hc := (hcr x hx).mp hlt
  rcases h5 x hx with h | ⟨j, h6, h7⟩
  · have := h (kc K) hk.1 hk.2.1
    omega
  · refine ⟨j, h6, fun c' hc' hv => ?_⟩
    rcases Nat.lt_or_ge c' C with q | q
    · exact h7 c' q hv
    · rw [show c' = C by omega]
      have := h7 (kc K) hk.1 hk.2.1
      omega
theorem en_none (h : enP va g C (K + 1) kc to) {fr : Int} (hcr : ∀ x : Nat, x < 16 → ((x : Int) < fr ↔ g (kc K) x < g C x)) (hfr : 16 ≤ fr) : enE va g (C + 1) (K + 1) kc to :=
  ⟨enS_up h.1, Or.inr ⟨Nat.succ_pos _, fun x hx => en_low h hcr hx (by omega)⟩⟩
theorem en_push (h : enP va g C (K + 1) kc to) {fr : Nat} (hcr : ∀ x : Nat, x < 16 → (((x : Int) < (fr : Int)) ↔ g (kc K) x < g C x)) (hfr : to K < fr) (hfr2 : fr < 16) (hv : va C) {kc' to' : Nat → Nat} (k1 : ∀ j, j < K + 1 → kc' j = kc j ∧ to' j = to j) (k2 : kc' (K + 1) = C ∧ to' (K + 1) = fr) : enE va g (C + 1) (K + 2) kc' to' := by
  have hh := h
  obtain ⟨⟨h1, h2, h3, h4⟩, h5⟩ := h
  have hmono : ∀ i, i < K + 1 → to i ≤ to K := by
    intro i hi
    rcases Nat.lt_or_ge i K with q | q
    · have := (h4 i K q (by omega)).2
      omega
    · rw [show i = K by omega]
      exact Nat.le_refl _
  refine ⟨⟨by omega, fun j hj => ?_, fun _ => ?_, fun i j h6 h7 => ?_⟩, Or.inr ⟨by omega, fun x hx => ?_⟩⟩
  · rcases Nat.lt_or_ge j (K + 1) with q | q
    · rw [(k1 j q).1, (k1 j q).2]
      have := h2 j q
      exact ⟨by omega, this.2⟩
    · rw [show j = K + 1 by omega, k2.1, k2.2]
      exact ⟨by omega, hv, hfr2⟩
  · rw [(k1 0 (by omega)).2]
    exact h3 (by omega)
  · rcases Nat.lt_or_ge j (K + 1) with q | q
    · rw [(k1 i (by omega)).1, (k1 i (by omega)).2, (k1 j q).1, (k1 j q).2]
      exact h4 i j h6 q
    · rw [show j = K + 1 by omega, k2.1, k2.2, (k1 i (by omega)).1, (k1 i (by omega)).2]
      have a := h2 i (by omega)
      have b := hmono i (by omega)
      omega
  · rcases Nat.lt_or_ge x fr with q | q
    · obtain ⟨j, ⟨a1, a2, a3⟩, a4⟩ := en_low hh hcr hx (by omega)
      refine ⟨j, ⟨by omega, by rw [(k1 j a1).2]; exact a2, fun q2 => ?_⟩, by rw [(k1 j a1).1]; exact a4⟩
      rcases Nat.lt_or_ge (j + 1) (K + 1) with q3 | q3
      · rw [(k1 _ q3).2]
        exact a3 q3
      · rw [show j + 1 = K + 1 by omega, k2.2]
        exact q
    · refine ⟨K + 1, ⟨by omega, by rw [k2.2]; exact q, fun q2 => by omega⟩, fun c' hc' hvc => ?_⟩
      rw [k2.1]
      have hge : g C x ≤ g (kc K) x := by
        have := hcr x hx
        have q3 : ¬ g (kc K) x < g C x := fun z => by
          have := this.mpr z
          omega
        omega
      rcases Nat.lt_or_ge c' C with q2 | q2
      · rcases h5 x hx with h | ⟨j, h6, h7⟩
        · exact h c' q2 hvc
        · have ej := en_top ⟨h1, h2, h3, h4⟩ h6 (by omega)
          rw [ej] at h7
          have := h7 c' q2 hvc
          omega
      · rw [show c' = C by omega]
        exact Int.le_refl _
theorem en_push0 (h : enP va g C 0 kc to) (hv : va C) {kc' to' : Nat → Nat} (k2 : kc' 0 = C ∧ to' 0 = 0) : enE va g (C + 1) 1 kc' to' := by
  obtain ⟨-, h5⟩ := h
  refine ⟨⟨by omega, fun j hj => ?_, fun _ => k2.2, fun i j h6 h7 => by omega⟩, Or.inr ⟨by omega, fun x hx => ⟨0, ⟨by omega, by rw [k2.2]; omega, fun q => by omega⟩, fun c' hc' hvc => ?_⟩⟩⟩
  · rw [show j = 0 by omega, k2.1, k2.2]
    exact ⟨by omega, hv, by omega⟩
  · rw [k2.1]
    rcases Nat.lt_or_ge c' C with q | q
    · rcases h5 x hx with h | ⟨j, h6, -⟩
      · exact h c' q hvc
      · exact absurd h6.1 (Nat.not_lt_zero _)
    · rw [show c' = C by omega]
      exact Int.le_refl _
end EN
end
section
/-! the answers, as numbers, out of the marks f alone -/
/-- a place of the map -/
def pl_ (x y : Int32) : Bool := decide (0 ≤ x) && (decide (x ≤ 15) && (decide (0 ≤ y) && decide (y ≤ 11)))
theorem pl_iff {x y : Int32} : pl_ x y = true ↔ 0 ≤ x ∧ x ≤ 15 ∧ 0 ≤ y ∧ y ≤ 11 := by
  unfold pl_
  simp only [Bool.and_eq_true, decide_eq_true_eq]
theorem i32_nlt {a b : Int32} : ¬ a < b ↔ b ≤ a := by
  rw [Int32.lt_iff_toInt_lt, Int32.le_iff_toInt_le]
  omega
theorem i32_nle {a b : Int32} : ¬ a ≤ b ↔ b < a := by
  rw [Int32.lt_iff_toInt_lt, Int32.le_iff_toInt_le]
  omega
theorem pl_of {x y : Int32} (h : pl_ x y = true) : ∃ X Y : Nat, X < 16 ∧ Y < 12 ∧ x = nI X ∧ y = nI Y := by
  obtain ⟨h1, h2, h3, h4⟩ := pl_iff.mp h
  obtain ⟨X, a1, a2⟩ := nI_of2 (x := x) (M := 15) (n := 15) (by decide) (i32_nlt.mpr h1) h2
  obtain ⟨Y, b1, b2⟩ := nI_of2 (x := y) (M := 11) (n := 11) (by decide) (i32_nlt.mpr h3) h4
  exact ⟨X, Y, by omega, by omega, a2, b2⟩
/-- the number of a place -/
def ix_ (x y : Int32) : Nat := (16 * y + x).toNatClampNeg
theorem ix_e (X Y : Nat) : 16 * nI Y + nI X = nI (16 * Y + X) := by
  rw [show (16 : Int32) = nI 16 from rfl, pk_mul, nI_add]
theorem ix_n {X Y : Nat} (hX : X < 16) (hY : Y < 12) : ix_ (nI X) (nI Y) = 16 * Y + X := by
  unfold ix_
  rw [ix_e, nI_clamp (by omega)]
def dI_ (f : Nat → Int32) (p : Nat) : Int32 := iI (if nr f p 192 < 0 then -1 else ap p (nr f p 192).toNat)
def ar_ (f : Nat → Int32) (t : Int32) : Nat → Int32
  | 0 => 0
  | n + 1 => ar_ f t n + (if iI (nr f n 192) = t then 1 else 0)
def af_ (b : Int32) (f : Nat → Int32) : Nat → Int32
  | 0 => b
  | n + 1 => if af_ b f n < dI_ f n then dI_ f n else af_ b f n
def aw_ (f : Nat → Int32) (lim : Int32) : Nat → Int32
  | 0 => 0
  | n + 1 => aw_ f lim n + (if 0 ≤ dI_ f n ∧ dI_ f n ≤ lim then 1 else 0)
def ae1 (f : Nat → Int32) (n : Nat) : Int32 := if n % 16 < 15 ∧ iI (nr f n 192) ≠ iI (nr f (n + 1) 192) then 1 else 0
def ae2 (f : Nat → Int32) (n : Nat) : Int32 := if n < 176 ∧ iI (nr f n 192) ≠ iI (nr f (n + 16) 192) then 1 else 0
def ae_ (f : Nat → Int32) : Nat → Int32
  | 0 => 0
  | n + 1 => ae_ f n + ae1 f n + ae2 f n
def at_ (f : Nat → Int32) : Nat → Int32
  | 0 => 0
  | n + 1 => at_ f n + dI_ f n
def an_mark (f : Nat → Int32) (x y : Int32) : Int32 := if pl_ x y = true then (if f (ix_ x y) = 0 then 1 else 0) else -1
def st_mark (f : Nat → Int32) (x y : Int32) : Nat → Int32 := if pl_ x y = true then upd f (ix_ x y) 1 else f
def an_clear (f : Nat → Int32) (x y : Int32) : Int32 := if pl_ x y = true then (if f (ix_ x y) = 0 then 0 else 1) else -1
def st_clear (f : Nat → Int32) (x y : Int32) : Nat → Int32 := if pl_ x y = true then upd f (ix_ x y) 0 else f
def an_distance (f : Nat → Int32) (x y : Int32) : Int32 := if pl_ x y = true then dI_ f (ix_ x y) else -1
def an_nearest (f : Nat → Int32) (x y : Int32) : Int32 := if pl_ x y = true then iI (nr f (ix_ x y) 192) else -1
def an_reach (f : Nat → Int32) (x y : Int32) : Int32 := if pl_ x y = true then ar_ f (nI (ix_ x y)) 192 else -1
def an_farthest (f : Nat → Int32) : Int32 := af_ (-1) f 192
def an_within (f : Nat → Int32) (lim : Int32) : Int32 := aw_ f lim 192
def an_edges (f : Nat → Int32) : Int32 := ae_ f 192
def an_total (f : Nat → Int32) : Int32 := if cn f 192 = 0 then -1 else at_ f 192
section ANS
variable {f : Nat → Int32}
theorem z_nr (h : cn f 192 = 0) (p : Nat) : nr f p 192 = -1 := nr_none (cn_zero.mp h)
theorem z_dI (h : cn f 192 = 0) (p : Nat) : dI_ f p = -1 := by
  unfold dI_
  rw [z_nr h, if_pos (by omega)]
  rfl
theorem z_ar (h : cn f 192 = 0) {k : Nat} (hk : k < 2 ^ 31) : ∀ n, ar_ f (nI k) n = 0 := by
  intro n
  induction n with
  | zero => rfl
  | succ n ih =>
    simp only [ar_]
    rw [ih, z_nr h, if_neg]
    · rfl
    · intro q
      have := congrArg Int32.toInt q
      rw [nI_toInt hk, iI_toInt (by omega) (by omega)] at this
      omega
theorem z_af (h : cn f 192 = 0) : ∀ n, af_ (-1) f n = -1 := by
  intro n
  induction n with
  | zero => rfl
  | succ n ih =>
    simp only [af_]
    rw [ih, z_dI h, if_neg (by decide)]
theorem z_aw (h : cn f 192 = 0) (lim : Int32) : ∀ n, aw_ f lim n = 0 := by
  intro n
  induction n with
  | zero => rfl
  | succ n ih =>
    simp only [aw_]
    rw [ih, z_dI h, if_neg (fun q => absurd q.1 (by decide))]
    rfl
theorem z_ae (h : cn f 192 = 0) : ∀ n, ae_ f n = 0 := by
  intro n
  induction n with
  | zero => rfl
  | succ n ih =>
    simp only [ae_]
    unfold ae1 ae2
    rw [ih, z_nr h, z_nr h, z_nr h, if_neg (fun q => q.2 rfl), if_neg (fun q => q.2 rfl)]
    rfl
theorem m_nr (h : cn f 192 ≠ 0) (p : Nat) : 0 ≤ nr f p 192 ∧ nr f p 192 < 192 := by
  have hb := nr_b f p 192
  refine ⟨?_, by omega⟩
  rcases nr_spec f p 192 with ⟨-, h2⟩ | ⟨w, -, -, h3, -⟩
  · exact absurd (cn_zero.mpr h2) h
  · omega
theorem m_dI (h : cn f 192 ≠ 0) {p : Nat} (hp : p < 192) : dI_ f p = iI (ap p (nr f p 192).toNat) ∧ 0 ≤ ap p (nr f p 192).toNat ∧ ap p (nr f p 192).toNat ≤ 346 := by
  have hb := m_nr h p
  refine ⟨?_, ap_b hp (by omega)⟩
  unfold dI_
  rw [if_neg (by omega)]
theorem m_dI0 (h : cn f 192 ≠ 0) {p : Nat} (hp : p < 192) : 0 ≤ dI_ f p := by
  obtain ⟨h1, h2, h3⟩ := m_dI h hp
  rw [h1]
  exact (iI_le (a := 0) (by omega) (by omega) (by omega) (by omega)).mpr h2
theorem m_af (h : cn f 192 ≠ 0) : ∀ n, n < 192 → af_ (-1) f (n + 1) = af_ 0 f (n + 1) := by
  intro n
  induction n with
  | zero =>
    intro hn
    have h0 := m_dI0 h hn
    show (if (-1 : Int32) < dI_ f 0 then dI_ f 0 else (-1 : Int32)) = (if (0 : Int32) < dI_ f 0 then dI_ f 0 else (0 : Int32))
    rw [if_pos]
    · by_cases q : (0 : Int32) < dI_ f 0
      · rw [if_pos q]
      · rw [if_neg q]
        have q2 := i32_nlt.mp q
        rw [Int32.le_iff_toInt_le] at h0 q2
        exact Int32.toInt_inj.mp (by omega)
    · rw [Int32.lt_iff_toInt_lt]
      rw [Int32.le_iff_toInt_le] at h0
      have e1 : (-1 : Int32).toInt = -1 := by decide
      have e2 : (0 : Int32).toInt = 0 := by decide
      omega
  | succ n ih =>
    intro hn
    have e := ih (by omega)
    show (if af_ (-1) f (n + 1) < dI_ f (n + 1) then dI_ f (n + 1) else af_ (-1) f (n + 1)) = (if af_ 0 f (n + 1) < dI_ f (n + 1) then dI_ f (n + 1) else af_ 0 f (n + 1))
    rw [e]
end ANS
/-- what holds of a DistanceMap between calls: f the marks, nM their number, kn whether fO is worked out -/
def dmI (f : Nat → Int32) (nM kn : Int32) (fO : Nat → Int32) : Prop := nM = nI (cn f 192) ∧ (kn ≠ 0 → ∀ p, p < 192 → fO p = iI (nr f p 192))
theorem dmI_0 {f : Nat → Int32} {nM kn : Int32} {fO : Nat → Int32} (h : dmI f nM kn fO) : nM = 0 ↔ cn f 192 = 0 := by
  have h1 := cn_le f 192
  rw [h.1, ← nI_0, nI_eq (by omega) (by omega)]
theorem dmI_init : dmI (fun _ => 0) 0 0 (fun _ => 0) := ⟨by rw [cn_zero.mpr (fun _ _ => rfl)]; rfl, fun h => absurd rfl h⟩
theorem dmI_mark0 {f : Nat → Int32} {nM kn : Int32} {fO : Nat → Int32} (h : dmI f nM kn fO) {k : Nat} (hk : k < 192) (h0 : f k = 0) : dmI (upd f k 1) (nM + 1) 0 fO := by
  refine ⟨?_, fun q => absurd rfl q⟩
  rw [h.1, cn_add (by decide) h0 hk, nI_1]
theorem upd_same {f : Nat → Int32} {k : Nat} {x : Int32} (h : f k = 0 ↔ x = 0) (j : Nat) : upd f k x j = 0 ↔ f j = 0 := by
  by_cases hj : j = k
  · subst hj
    rw [pk_us]
    exact h.symm
  · rw [pk_un hj]
theorem dmI_same {f : Nat → Int32} {nM kn kn' : Int32} {fO : Nat → Int32} (h : dmI f nM kn fO) {k : Nat} {x : Int32} (h0 : f k = 0 ↔ x = 0) (hkn : kn' ≠ 0 → kn ≠ 0) : dmI (upd f k x) nM kn' fO := by
  refine ⟨?_, fun q p hp => ?_⟩
  · rw [h.1, cn_congr (f := upd f k x) (g := f) (fun j _ => upd_same h0 j)]
  · rw [h.2 (hkn q) p hp, nr_congr (f := upd f k x) (g := f) (fun j _ => upd_same h0 j)]
theorem dmI_clear1 {f : Nat → Int32} {nM kn : Int32} {fO : Nat → Int32} (h : dmI f nM kn fO) {k : Nat} (hk : k < 192) (h0 : f k ≠ 0) : dmI (upd f k 0) (nM - 1) 0 fO := by
  refine ⟨?_, fun q => absurd rfl q⟩
  rw [h.1, ← cn_sub h0 hk, nI_pred]
end
section
/-! small numbers -/
theorem iI_m1 : (-1 : Int32) = iI (-1) := by decide +kernel
theorem iI_0 : (0 : Int32) = iI 0 := by decide +kernel
theorem nm_rem {a : Nat} (h : a < 2 ^ 31) : nI a - nI a / (16 : Int32) * (16 : Int32) = nI (a % 16) := pk_rem (d := 16) h (by decide) (by decide)
theorem nm_div {a : Nat} (h : a < 2 ^ 31) : nI a / (16 : Int32) = nI (a / 16) := pk_div (d := 16) h (by decide) (by decide)
theorem nm_and {a : Nat} (h : a < 2 ^ 31) : nI a &&& (15 : Int32) = nI (a % 16) := pk_andN (by omega) 4 (by decide)
theorem nm_shr {a : Nat} (h : a < 2 ^ 31) : nI a >>> ((4 : Int32) &&& 31) = nI (a / 16) := pk_shrN h _ 4 (by decide)
theorem nm_sub (a b : Nat) : nI a - nI b = iI ((a : Int) - (b : Int)) := by rw [iI_n, iI_n, iI_sub]
theorem nm_ap (a b : Nat) : iI (((a % 16 : Nat) : Int) - ((b % 16 : Nat) : Int)) * iI (((a % 16 : Nat) : Int) - ((b % 16 : Nat) : Int)) + iI (((a / 16 : Nat) : Int) - ((b / 16 : Nat) : Int)) * iI (((a / 16 : Nat) : Int) - ((b / 16 : Nat) : Int)) = iI (ap a b) := by
  rw [iI_mul, iI_mul, iI_add]
  rfl
theorem nm_ge {i N : Nat} (h : N ≤ i) (hi : i < 2 ^ 31) : nI N ≤ nI i := nI_le h hi
theorem nm_nr {f : Nat → Int32} {p n : Nat} (h : 0 ≤ nr f p n) : iI (nr f p n) = nI (nr f p n).toNat := by
  rw [iI_n, Int.toNat_of_nonneg h]
/-- the loop's end, by numbers -/
theorem nm_lt {i N : Nat} (h : ¬ nI N ≤ nI i) (hi : i < 2 ^ 31) (hN : N < 2 ^ 31) : i < N := Nat.not_le.mp fun q => h (nI_le q hi)
theorem nm_le {i N : Nat} (h : nI N ≤ nI i) (hi : i < 2 ^ 31) (hN : N < 2 ^ 31) : N ≤ i := (nI_leI hN hi).mp h
theorem dI_far {f : Nat → Int32} {p : Nat} (h : ¬ nr f p 192 < 0) : dI_ f p = iI (ap p (nr f p 192).toNat) := by
  unfold dI_
  rw [if_neg h]
theorem dI_no {f : Nat → Int32} {p : Nat} (h : nr f p 192 < 0) : dI_ f p = -1 := by
  unfold dI_
  rw [if_pos h, iI_m1]
/-- one step of the reference's search -/
theorem nr_s0 {f : Nat → Int32} {p n : Nat} (h : f n = 0) : nr f p (n + 1) = nr f p n := by
  simp only [nr]
  rw [if_pos h]
theorem nr_s1 {f : Nat → Int32} {p n : Nat} (h : ¬ f n = 0) (h2 : nr f p n < 0) : nr f p (n + 1) = (n : Int) := by
  simp only [nr]
  rw [if_neg h, if_pos (Or.inl h2)]
theorem nr_s2 {f : Nat → Int32} {p n : Nat} (h : ¬ f n = 0) (h2 : ap p n < ap p (nr f p n).toNat) : nr f p (n + 1) = (n : Int) := by
  simp only [nr]
  rw [if_neg h, if_pos (Or.inr h2)]
theorem nr_s3 {f : Nat → Int32} {p n : Nat} (h : ¬ f n = 0) (h1 : ¬ nr f p n < 0) (h2 : ¬ ap p n < ap p (nr f p n).toNat) : nr f p (n + 1) = nr f p n := by
  simp only [nr]
  rw [if_neg h, if_neg (fun q => q.elim h1 h2)]
theorem nr_lt0 {f : Nat → Int32} {p n : Nat} (hn : n ≤ 192) : iI (nr f p n) < 0 ↔ nr f p n < 0 := by
  have := nr_b f p n
  exact iI_lt0 (by omega) (by omega)
theorem iI_1 : (1 : Int32) = iI 1 := by decide +kernel
theorem iI_256 : (256 : Int32) = iI 256 := by decide +kernel
theorem iI_512 : (512 : Int32) = iI 512 := by decide +kernel
theorem iI_16 : (16 : Int32) = iI 16 := by decide +kernel
theorem nm_shrI {w : Int} (h0 : 0 ≤ w) (h1 : w < 192) : iI w >>> ((4 : Int32) &&& 31) = iI (w / 16) := by
  obtain ⟨n, rfl⟩ := Int.eq_ofNat_of_zero_le h0
  rw [← iI_n, nm_shr (by omega), iI_n]
  exact iI_of (by omega)
theorem iI_nn {w : Int} (h0 : 0 ≤ w) : iI w = nI w.toNat := by rw [iI_n, Int.toNat_of_nonneg h0]
theorem nm_lpU {Y : Nat} {v : Nat → Int} {i u : Nat} : (256 : Int32) * (nI u * nI u - nI i * nI i) + iI (256 * (v u / 16 - Y) * (v u / 16 - Y) + v u) - iI (256 * (v i / 16 - Y) * (v i / 16 - Y) + v i) = iI (lpU Y v i u) := by
  rw [iI_n u, iI_n i, iI_256, iI_mul, iI_mul, iI_sub, iI_mul, iI_add, iI_sub]
  rfl
theorem nm_lpL {i u : Nat} : (512 : Int32) * (nI u - nI i) = iI (lpL i u) := by
  rw [iI_n u, iI_n i, iI_512, iI_sub, iI_mul]
  rfl
theorem lpL_b {i u : Nat} (hi : i < u) (hu : u < 16) : 512 ≤ lpL i u ∧ lpL i u ≤ 7680 := by
  unfold lpL
  omega
theorem tm_b {a b : Int} (h0 : 0 < b) (h1 : b ≤ 7680) : -7680 < a - a.tdiv b * b ∧ a - a.tdiv b * b < 7680 := by
  have e := Int.tmod_def a b
  have h2 := Int.tmod_lt_of_pos a h0
  have h3 := Int.lt_tmod_of_pos a h0
  rw [Int.mul_comm b] at e
  omega
theorem lp_ge {Y : Nat} {v : Nat → Int} {i u : Nat} (hi : i < u) (hu : u < 16) (h : (0 : Int32) ≤ iI (lpU Y v i u - (lpU Y v i u).tdiv (lpL i u) * lpL i u)) : iI ((lpU Y v i u).tdiv (lpL i u)) = iI (lp Y v i u) := by
  have hL := lpL_b hi hu
  have hb := tm_b (a := lpU Y v i u) (b := lpL i u) (by omega) (by omega)
  rw [iI_0, iI_le (by omega) (by omega) (by omega) (by omega)] at h
  unfold lp
  rw [← fl_div (a := lpU Y v i u) (b := lpL i u) (by omega), if_neg (by omega)]
theorem lp_lt {Y : Nat} {v : Nat → Int} {i u : Nat} (hi : i < u) (hu : u < 16) (h : ¬ (0 : Int32) ≤ iI (lpU Y v i u - (lpU Y v i u).tdiv (lpL i u) * lpL i u)) : iI ((lpU Y v i u).tdiv (lpL i u)) - 1 = iI (lp Y v i u) := by
  have hL := lpL_b hi hu
  have hb := tm_b (a := lpU Y v i u) (b := lpL i u) (by omega) (by omega)
  rw [iI_0, iI_le (by omega) (by omega) (by omega) (by omega)] at h
  unfold lp
  rw [← fl_div (a := lpU Y v i u) (b := lpL i u) (by omega), if_pos (by omega), iI_1, iI_sub]
/-- the kept parabolas in the object's cells, for the columns below C of row Y -/
def enR (v : Nat → Int) (Y C : Nat) (kp : Int32) (fK fT : Nat → Int32) : Prop := ∃ (K : Nat) (kc to : Nat → Nat), kp = nI K ∧ (∀ j, j < K → fK j = nI (kc j) ∧ fT j = nI (to j)) ∧ enE (fun c => 0 ≤ v c) (fun c x => co Y v c x) C K kc to
/-- the row's column marks, as they stand in the cells -/
def rowV (fC : Nat → Int32) (Y : Nat) (v : Nat → Int) : Prop := ∀ c, c < 16 → fC (16 * Y + c) = iI (v c) ∧ (v c = -1 ∨ (0 ≤ v c ∧ v c < 192 ∧ v c % 16 = (c : Int)))
theorem row_cross {fC : Nat → Int32} {Y : Nat} {v : Nat → Int} (hv : rowV fC Y v) {i u : Nat} (hi : i < u) (hu : u < 16) (h1 : 0 ≤ v i) (h2 : 0 ≤ v u) (x : Nat) : ((x : Int) < lp Y v i u + 1 ↔ co Y v i x < co Y v u x) := by
  have a := (hv i (by omega)).2
  have b := (hv u hu).2
  rw [← lp_cross (Y := Y) hi h1 (by omega) h2 (by omega) (by omega) x]
  omega
theorem row_b {fC : Nat → Int32} {Y : Nat} {v : Nat → Int} (hv : rowV fC Y v) {c : Nat} (hc : c < 16) (h : 0 ≤ v c) : v c < 192 := by
  have := (hv c hc).2
  omega
/-- a map with a change at one place -/
def up1 (f : Nat → Nat) (k x : Nat) : Nat → Nat := fun j => if j = k then x else f j
theorem up1_s (f : Nat → Nat) (k x : Nat) : up1 f k x k = x := if_pos rfl
theorem up1_n (f : Nat → Nat) {k j : Nat} (x : Nat) (h : j ≠ k) : up1 f k x j = f j := if_neg h
theorem rep_push {fK fT : Nat → Int32} {kc to : Nat → Nat} {K c0 fr : Nat} (h : ∀ j, j < K → fK j = nI (kc j) ∧ fT j = nI (to j)) : ∀ j, j < K + 1 → upd fK K (nI c0) j = nI (up1 kc K c0 j) ∧ upd fT K (nI fr) j = nI (up1 to K fr j) := by
  intro j hj
  by_cases q : j = K
  · subst q
    rw [pk_us, pk_us, up1_s, up1_s]
    exact ⟨rfl, rfl⟩
  · rw [pk_un q, pk_un q, up1_n _ _ q, up1_n _ _ q]
    exact h j (by omega)
theorem dk_h {D : va_G} {cl : List vw_C} {ws : va_W} {t : State} {H : Heap} (ht : t.heap = H) (hP : va_P D cl ws H) : va_P D cl ws t.heap := by
  rw [ht]
  exact hP
end
section
/-! the reference's methods -/
set_option maxHeartbeats 4000000 in
set_option maxRecDepth 100000 in
/-- bad(x, y): 0 on the map, 1 off it -/
theorem metX1_bad (l : Launch) (x y : Int32) : Met l yX1_bad (ws_ yX1_bad cX1_bad 2 (some .boolean)) ({ frames := 0, cells := 0, slots := 0, locals := 0 }) (fun v _ => v = ([.int x, .int y] : List Value).toArray) (QcRead (if pl_ x y = true then 0 else 1)) 0 0 (fun _ => False) := by
  refine Met.ofW (cc := cX1_bad) (maxL := 2) (ret := (some .boolean)) (by decide) rfl ?_
  intro p e s m args below meth c s₁ Bo hml hv
  have hv : args = ([.int x, .int y] : List Value).toArray := hv
  subst hv
  have hx := Bo.exec
  have hb := Bo.bytes
  have hr := Bo.returns
  have hts := atoms_spec (ws := ws_ yX1_bad cX1_bad 2 (some .boolean)) Bo.pre
  have hts : ∀ w ∈ lw_all, w.before _ s = true := fun w h => hts w (List.mem_cons_of_mem _ h)
  have hown : s.vm.findClass RX1 = some m.cls := findClass_of_methodNamed Bo.named
  have hlocks := Bo.notSynchronized
  have hl := lv_entry ([.int x, .int y]) (n := 2) (Nat.le_of_ble_eq_true rfl)
  rw [lg_entry_eq]
  generalize (lg_sl ([.int x, .int y]) ++ List.replicate (2 - (lg_sl ([.int x, .int y])).length) Slot.unset).toArray = ls at hl ⊢
  have hl : lv_has ls 2 [(0, .int x), (1, .int y)] := hl
  refine lv_iload_n hx hb dX1_bad_0 rfl (lv_at hl 0 rfl) ?_
  refine lv_if_lt (tgt := 20) hx hb dX1_bad_1 (by decide) (fun c_1 => ?_) (fun c_1 => ?_)
  · skip
    refine lv_iconst (v := 1) hx hb dX1_bad_20 (by decide) ?_
    refine lv_goto (tgt := 25) hx hb dX1_bad_21 (by decide) ?_
    refine dk_top (if pl_ x y = true then 0 else 1) (by rw [if_neg (fun q => i32_nlt.mpr (pl_iff.mp q).1 c_1)]) ?_
    exact W.zret (v := if pl_ x y = true then 0 else 1) hx hb hr (by split <;> rfl) (fun t ht hW => ⟨rfl, ht⟩) (fun q h => by cases h) dX1_bad_25
  · skip
    refine lv_iload_n hx hb dX1_bad_4 rfl (lv_at hl 0 rfl) ?_
    refine lv_bipush (v := 15) hx hb dX1_bad_5 (by decide) ?_
    refine lv_icmp_gt (tgt := 20) hx hb dX1_bad_7 (by decide) (fun c_7 => ?_) (fun c_7 => ?_)
    · skip
      refine lv_iconst (v := 1) hx hb dX1_bad_20 (by decide) ?_
      refine lv_goto (tgt := 25) hx hb dX1_bad_21 (by decide) ?_
      refine dk_top (if pl_ x y = true then 0 else 1) (by rw [if_neg (fun q => absurd (pl_iff.mp q).2.1 (i32_nle.mpr c_7))]) ?_
      exact W.zret (v := if pl_ x y = true then 0 else 1) hx hb hr (by split <;> rfl) (fun t ht hW => ⟨rfl, ht⟩) (fun q h => by cases h) dX1_bad_25
    · skip
      refine lv_iload_n hx hb dX1_bad_10 rfl (lv_at hl 1 rfl) ?_
      refine lv_if_lt (tgt := 20) hx hb dX1_bad_11 (by decide) (fun c_11 => ?_) (fun c_11 => ?_)
      · skip
        refine lv_iconst (v := 1) hx hb dX1_bad_20 (by decide) ?_
        refine lv_goto (tgt := 25) hx hb dX1_bad_21 (by decide) ?_
        refine dk_top (if pl_ x y = true then 0 else 1) (by rw [if_neg (fun q => i32_nlt.mpr (pl_iff.mp q).2.2.1 c_11)]) ?_
        exact W.zret (v := if pl_ x y = true then 0 else 1) hx hb hr (by split <;> rfl) (fun t ht hW => ⟨rfl, ht⟩) (fun q h => by cases h) dX1_bad_25
      · skip
        refine lv_iload_n hx hb dX1_bad_14 rfl (lv_at hl 1 rfl) ?_
        refine lv_bipush (v := 11) hx hb dX1_bad_15 (by decide) ?_
        refine lv_icmp_le (tgt := 24) hx hb dX1_bad_17 (by decide) (fun c_17 => ?_) (fun c_17 => ?_)
        · skip
          refine lv_iconst (v := 0) hx hb dX1_bad_24 (by decide) ?_
          refine dk_top (if pl_ x y = true then 0 else 1) (by rw [if_pos (pl_iff.mpr ⟨i32_nlt.mp c_1, i32_nlt.mp c_7, i32_nlt.mp c_11, c_17⟩)]) ?_
          exact W.zret (v := if pl_ x y = true then 0 else 1) hx hb hr (by split <;> rfl) (fun t ht hW => ⟨rfl, ht⟩) (fun q h => by cases h) dX1_bad_25
        · skip
          refine lv_iconst (v := 1) hx hb dX1_bad_20 (by decide) ?_
          refine lv_goto (tgt := 25) hx hb dX1_bad_21 (by decide) ?_
          refine dk_top (if pl_ x y = true then 0 else 1) (by rw [if_neg (fun q => c_17 (pl_iff.mp q).2.2.2)]) ?_
          exact W.zret (v := if pl_ x y = true then 0 else 1) hx hb hr (by split <;> rfl) (fun t ht hW => ⟨rfl, ht⟩) (fun q h => by cases h) dX1_bad_25
set_option maxHeartbeats 4000000 in
set_option maxRecDepth 100000 in
/-- apart(A, B): the squared distance -/
theorem metX1_apart (l : Launch) (A B : Nat) (hA : A < 192) (hB : B < 192) : Met l yX1_apart (ws_ yX1_apart cX1_apart 4 (some .int)) ({ frames := 0, cells := 0, slots := 0, locals := 0 }) (fun v _ => v = ([.int (nI A), .int (nI B)] : List Value).toArray) (QcRead (iI (ap A B))) 0 0 (fun _ => False) := by
  refine Met.ofW (cc := cX1_apart) (maxL := 4) (ret := (some .int)) (by decide) rfl ?_
  intro p e s m args below meth c s₁ Bo hml hv
  have hv : args = ([.int (nI A), .int (nI B)] : List Value).toArray := hv
  subst hv
  have hx := Bo.exec
  have hb := Bo.bytes
  have hr := Bo.returns
  have hts := atoms_spec (ws := ws_ yX1_apart cX1_apart 4 (some .int)) Bo.pre
  have hts : ∀ w ∈ lw_all, w.before _ s = true := fun w h => hts w (List.mem_cons_of_mem _ h)
  have hown : s.vm.findClass RX1 = some m.cls := findClass_of_methodNamed Bo.named
  have hlocks := Bo.notSynchronized
  have hl := lv_entry ([.int (nI A), .int (nI B)]) (n := 4) (Nat.le_of_ble_eq_true rfl)
  rw [lg_entry_eq]
  generalize (lg_sl ([.int (nI A), .int (nI B)]) ++ List.replicate (4 - (lg_sl ([.int (nI A), .int (nI B)])).length) Slot.unset).toArray = ls at hl ⊢
  have hl : lv_has ls 4 [(0, .int (nI A)), (1, .int (nI B))] := hl
  refine lv_iload_n hx hb dX1_apart_0 rfl (lv_at hl 0 rfl) ?_
  refine lv_bipush (v := 16) hx hb dX1_apart_1 (by decide) ?_
  refine lv_irem hx hb dX1_apart_3 (by decide) ?_
  refine dk_top (nI (A % 16)) (nm_rem (by omega)) ?_
  refine lv_iload_n hx hb dX1_apart_4 rfl (lv_at hl 1 rfl) ?_
  refine lv_bipush (v := 16) hx hb dX1_apart_5 (by decide) ?_
  refine lv_irem hx hb dX1_apart_7 (by decide) ?_
  refine dk_top (nI (B % 16)) (nm_rem (by omega)) ?_
  refine lv_isub hx hb dX1_apart_8 ?_
  refine dk_top (iI (((A % 16 : Nat) : Int) - ((B % 16 : Nat) : Int))) (nm_sub _ _) ?_
  refine lv_istore_n (lv' := [(2, .int (iI (((A % 16 : Nat) : Int) - ((B % 16 : Nat) : Int)))), (0, .int (nI A)), (1, .int (nI B))]) hx hb dX1_apart_9 rfl hl (by decide) rfl (fun ls hl => ?_)
  refine lv_iload_n hx hb dX1_apart_10 rfl (lv_at hl 1 rfl) ?_
  refine lv_bipush (v := 16) hx hb dX1_apart_11 (by decide) ?_
  refine lv_idiv hx hb dX1_apart_13 (by decide) ?_
  refine dk_top (nI (A / 16)) (nm_div (by omega)) ?_
  refine lv_iload_n hx hb dX1_apart_14 rfl (lv_at hl 2 rfl) ?_
  refine lv_bipush (v := 16) hx hb dX1_apart_15 (by decide) ?_
  refine lv_idiv hx hb dX1_apart_17 (by decide) ?_
  refine dk_top (nI (B / 16)) (nm_div (by omega)) ?_
  refine lv_isub hx hb dX1_apart_18 ?_
  refine dk_top (iI (((A / 16 : Nat) : Int) - ((B / 16 : Nat) : Int))) (nm_sub _ _) ?_
  refine lv_istore_n (lv' := [(3, .int (iI (((A / 16 : Nat) : Int) - ((B / 16 : Nat) : Int)))), (2, .int (iI (((A % 16 : Nat) : Int) - ((B % 16 : Nat) : Int)))), (0, .int (nI A)), (1, .int (nI B))]) hx hb dX1_apart_19 rfl hl (by decide) rfl (fun ls hl => ?_)
  refine lv_iload_n hx hb dX1_apart_20 rfl (lv_at hl 1 rfl) ?_
  refine lv_iload_n hx hb dX1_apart_21 rfl (lv_at hl 1 rfl) ?_
  refine lv_imul hx hb dX1_apart_22 ?_
  refine lv_iload_n hx hb dX1_apart_23 rfl (lv_at hl 0 rfl) ?_
  refine lv_iload_n hx hb dX1_apart_24 rfl (lv_at hl 0 rfl) ?_
  refine lv_imul hx hb dX1_apart_25 ?_
  refine lv_iadd hx hb dX1_apart_26 ?_
  refine dk_top (iI (ap A B)) (nm_ap A B) ?_
  exact W.iret (v := (iI (ap A B))) hx hb hr (fun t ht hW => ⟨rfl, ht⟩) (fun q h => by cases h) dX1_apart_27
set_option maxHeartbeats 4000000 in
set_option maxRecDepth 100000 in
/-- markOf(P): the nearest mark of the place, or -1 -/
theorem metX1_markOf (l : Launch) (dC : Nat → ClassId) (dI : Nat → Nat → Nat) (h a : Nat) (ct : ClassId) (fM : Nat → Int32) (P : Nat) (hP9 : P < 192) : Met l yX1_markOf (ws_ yX1_markOf cX1_markOf 4 (some .int)) ({ frames := 1, cells := 0, slots := 0, locals := 23 }) (roP (dC, dI) [.ref h, .int (nI P)] (mdW h a ct fM) (mdT ct)) (QcRead (iI (nr fM P 192))) 0 0 (fun _ => False) := by
  refine Met.ofW (cc := cX1_markOf) (maxL := 4) (ret := (some .int)) (by decide) rfl ?_
  intro p e s m args below meth c s₁ Bo hml hv
  obtain ⟨rfl, hP, hK⟩ := hv
  have hx := Bo.exec
  have hb := Bo.bytes
  have hr := Bo.returns
  have hts := atoms_spec (ws := ws_ yX1_markOf cX1_markOf 4 (some .int)) Bo.pre
  have hts : ∀ w ∈ lw_all, w.before _ s = true := fun w h => hts w (List.mem_cons_of_mem _ h)
  have hown : s.vm.findClass RX1 = some m.cls := findClass_of_methodNamed Bo.named
  have hlocks := Bo.notSynchronized
  have hl := lv_entry ([.ref h, .int (nI P)]) (n := 4) (Nat.le_of_ble_eq_true rfl)
  rw [lg_entry_eq]
  generalize (lg_sl ([.ref h, .int (nI P)]) ++ List.replicate (4 - (lg_sl ([.ref h, .int (nI P)])).length) Slot.unset).toArray = ls at hl ⊢
  have hl : lv_has ls 4 [(0, .ref h), (1, .int (nI P))] := hl
  refine lv_iconst (v := -1) hx hb dX1_markOf_0 (by decide) ?_
  refine dk_top (iI (nr fM P 0)) (iI_m1) ?_
  refine lv_istore_n (lv' := [(2, .int (iI (nr fM P 0))), (0, .ref h), (1, .int (nI P))]) hx hb dX1_markOf_1 rfl hl (by decide) rfl (fun ls hl => ?_)
  refine lv_iconst (v := 0) hx hb dX1_markOf_2 (by decide) ?_
  refine dk_top (nI 0) (nI_0.symm) ?_
  refine lv_istore_n (lv' := [(3, .int (nI 0)), (2, .int (iI (nr fM P 0))), (0, .ref h), (1, .int (nI P))]) hx hb dX1_markOf_3 rfl hl (by decide) rfl (fun ls hl => ?_)
  refine dk_loopR (Inv := fun (i : Nat) ls => (i ≤ 192) ∧ lv_has ls 4 [(0, .ref h), (1, .int (nI P)), (2, .int (iI (nr fM P i))), (3, .int (nI i))]) (μ := fun (i : Nat) => 192 - i) 4 [] 0 ⟨Nat.zero_le _, lv_sub hl [2, 3, 1, 0] rfl⟩ ?_
  intro i ls hI ih
  obtain ⟨hi, hl⟩ := hI
  refine lv_iload_n hx hb dX1_markOf_4 rfl (lv_at hl 3 rfl) ?_
  refine lv_sipush (v := 192) hx hb dX1_markOf_5 (by decide) ?_
  refine dk_top (nI 192) (rfl) ?_
  refine lv_icmp_ge (tgt := 45) hx hb dX1_markOf_8 (by decide) (fun c_8 => ?_) (fun c_8 => ?_)
  · skip
    have hi2 := nm_le c_8 (by omega) (by omega)
    have hi3 : i = 192 := by omega
    subst hi3
    refine lv_iload_n hx hb dX1_markOf_45 rfl (lv_at hl 2 rfl) ?_
    exact W.iret (v := (iI (nr fM P 192))) hx hb hr (fun t ht hW => ⟨rfl, ht⟩) (fun q h => by cases h) dX1_markOf_46
  · skip
    have hi2 := nm_lt c_8 (by omega) (by omega)
    refine lv_aload_n hx hb dX1_markOf_11 rfl (lv_at hl 0 rfl) ?_
    refine va_get (D := (dC, dI)) (ci := 1) (v := .ref a) (C := RX1) (T := TX1) (N := 1) hx hb hts in_X1 hown hK hP 0 rfl rfl 0 (by decide) (hts _ q125) (fun _ h9 => h9) rfl dX1_markOf_12 ?_
    refine lv_iload_n hx hb dX1_markOf_15 rfl (lv_at hl 3 rfl) ?_
    refine dk_zald hx hb hK hP 1 0 rfl rfl (by omega) (by decide) dX1_markOf_16 ?_
    refine lv_if_eq (tgt := 39) hx hb dX1_markOf_17 (by decide) (fun c_17 => ?_) (fun c_17 => ?_)
    · skip
      have hl : lv_has ls 4 [(0, .ref h), (1, .int (nI P)), (2, .int (iI (nr fM P (i + 1)))), (3, .int (nI i))] := by rw [nr_s0 c_17]; exact lv_sub hl [0, 1, 2, 3] rfl
      refine lv_iinc (v := nI (i + 1)) (lv' := [(3, .int (nI (i + 1))), (0, .ref h), (1, .int (nI P)), (2, .int (iI (nr fM P (i + 1))))]) hx hb dX1_markOf_39 hl (k := 3) rfl (nI_1 i) (by decide) rfl (fun ls hl => ?_)
      refine lv_goto (tgt := 4) hx hb dX1_markOf_42 (by decide) ?_
      exact ih (i + 1) _ (by omega) ⟨by omega, lv_sub hl [1, 2, 3, 0] rfl⟩
    · skip
      refine lv_iload_n hx hb dX1_markOf_20 rfl (lv_at hl 2 rfl) ?_
      refine lv_if_lt (tgt := 37) hx hb dX1_markOf_21 (by decide) (fun c_21 => ?_) (fun c_21 => ?_)
      · skip
        have e9 : nI i = iI (nr fM P (i + 1)) := by rw [nr_s1 c_17 ((nr_lt0 (by omega)).mp c_21), iI_n]
        refine lv_iload_n hx hb dX1_markOf_37 rfl (lv_at hl 3 rfl) ?_
        refine dk_top (iI (nr fM P (i + 1))) (e9) ?_
        refine lv_istore_n (lv' := [(2, .int (iI (nr fM P (i + 1)))), (0, .ref h), (1, .int (nI P)), (3, .int (nI i))]) hx hb dX1_markOf_38 rfl hl (by decide) rfl (fun ls hl => ?_)
        refine lv_iinc (v := nI (i + 1)) (lv' := [(3, .int (nI (i + 1))), (2, .int (iI (nr fM P (i + 1)))), (0, .ref h), (1, .int (nI P))]) hx hb dX1_markOf_39 hl (k := 3) rfl (nI_1 i) (by decide) rfl (fun ls hl => ?_)
        refine lv_goto (tgt := 4) hx hb dX1_markOf_42 (by decide) ?_
        exact ih (i + 1) _ (by omega) ⟨by omega, lv_sub hl [2, 3, 1, 0] rfl⟩
      · skip
        have hn0 : ¬ nr fM P i < 0 := fun q => c_21 ((nr_lt0 (by omega)).mpr q)
        have hnb := nr_b fM P i
        have hb1 := ap_b (a := P) (b := i) hP9 hi2
        have hb2 := ap_b (a := P) (b := (nr fM P i).toNat) hP9 (by omega)
        refine lv_iload_n hx hb dX1_markOf_24 rfl (lv_at hl 1 rfl) ?_
        refine lv_iload_n hx hb dX1_markOf_25 rfl (lv_at hl 3 rfl) ?_
        refine dk_roS (rest := []) ⟨hx, hb, hml, hown, hts⟩ (metX1_apart l P i hP9 hi2) (va_cwS 2 hts (lw_S q152 q153 q12 q154) rfl rfl rfl (by decide +kernel) ⟨Nat.le_of_ble_eq_true rfl, Nat.le_of_ble_eq_true rfl⟩) rfl hl.1 rfl (Nat.le_of_ble_eq_true rfl) ⟨Nat.le_of_ble_eq_true rfl, Nat.le_of_ble_eq_true rfl⟩ dX1_markOf_26 ?_
        refine lv_iload_n hx hb dX1_markOf_29 rfl (lv_at hl 1 rfl) ?_
        refine lv_iload_n hx hb dX1_markOf_30 rfl (lv_at hl 2 rfl) ?_
        refine dk_top (nI (nr fM P i).toNat) (nm_nr (by omega)) ?_
        refine dk_roS (rest := [.int (iI (ap P i))]) ⟨hx, hb, hml, hown, hts⟩ (metX1_apart l P (nr fM P i).toNat hP9 (by omega)) (va_cwS 2 hts (lw_S q152 q153 q12 q154) rfl rfl rfl (by decide +kernel) ⟨Nat.le_of_ble_eq_true rfl, Nat.le_of_ble_eq_true rfl⟩) rfl hl.1 rfl (Nat.le_of_ble_eq_true rfl) ⟨Nat.le_of_ble_eq_true rfl, Nat.le_of_ble_eq_true rfl⟩ dX1_markOf_31 ?_
        refine lv_icmp_ge (tgt := 39) hx hb dX1_markOf_34 (by decide) (fun c_34 => ?_) (fun c_34 => ?_)
        · skip
          have e9 := nr_s3 c_17 hn0 (by rw [iI_le (by omega) (by omega) (by omega) (by omega)] at c_34; omega)
          have hl : lv_has ls 4 [(0, .ref h), (1, .int (nI P)), (2, .int (iI (nr fM P (i + 1)))), (3, .int (nI i))] := by rw [e9]; exact lv_sub hl [0, 1, 2, 3] rfl
          refine lv_iinc (v := nI (i + 1)) (lv' := [(3, .int (nI (i + 1))), (0, .ref h), (1, .int (nI P)), (2, .int (iI (nr fM P (i + 1))))]) hx hb dX1_markOf_39 hl (k := 3) rfl (nI_1 i) (by decide) rfl (fun ls hl => ?_)
          refine lv_goto (tgt := 4) hx hb dX1_markOf_42 (by decide) ?_
          exact ih (i + 1) _ (by omega) ⟨by omega, lv_sub hl [1, 2, 3, 0] rfl⟩
        · skip
          have e9 : nI i = iI (nr fM P (i + 1)) := by rw [nr_s2 c_17 (by rw [iI_le (by omega) (by omega) (by omega) (by omega)] at c_34; omega), iI_n]
          refine lv_iload_n hx hb dX1_markOf_37 rfl (lv_at hl 3 rfl) ?_
          refine dk_top (iI (nr fM P (i + 1))) (e9) ?_
          refine lv_istore_n (lv' := [(2, .int (iI (nr fM P (i + 1)))), (0, .ref h), (1, .int (nI P)), (3, .int (nI i))]) hx hb dX1_markOf_38 rfl hl (by decide) rfl (fun ls hl => ?_)
          refine lv_iinc (v := nI (i + 1)) (lv' := [(3, .int (nI (i + 1))), (2, .int (iI (nr fM P (i + 1)))), (0, .ref h), (1, .int (nI P))]) hx hb dX1_markOf_39 hl (k := 3) rfl (nI_1 i) (by decide) rfl (fun ls hl => ?_)
          refine lv_goto (tgt := 4) hx hb dX1_markOf_42 (by decide) ?_
          exact ih (i + 1) _ (by omega) ⟨by omega, lv_sub hl [2, 3, 1, 0] rfl⟩
set_option maxHeartbeats 4000000 in
set_option maxRecDepth 100000 in
/-- far(P): the squared distance to it, or -1 -/
theorem metX1_far (l : Launch) (dC : Nat → ClassId) (dI : Nat → Nat → Nat) (h a : Nat) (ct : ClassId) (fM : Nat → Int32) (P : Nat) (hP9 : P < 192) : Met l yX1_far (ws_ yX1_far cX1_far 3 (some .int)) ({ frames := 2, cells := 0, slots := 0, locals := 46 }) (roP (dC, dI) [.ref h, .int (nI P)] (mdW h a ct fM) (mdT ct)) (QcRead (dI_ fM P)) 0 0 (fun _ => False) := by
  refine Met.ofW (cc := cX1_far) (maxL := 3) (ret := (some .int)) (by decide) rfl ?_
  intro p e s m args below meth c s₁ Bo hml hv
  obtain ⟨rfl, hP, hK⟩ := hv
  have hx := Bo.exec
  have hb := Bo.bytes
  have hr := Bo.returns
  have hts := atoms_spec (ws := ws_ yX1_far cX1_far 3 (some .int)) Bo.pre
  have hts : ∀ w ∈ lw_all, w.before _ s = true := fun w h => hts w (List.mem_cons_of_mem _ h)
  have hown : s.vm.findClass RX1 = some m.cls := findClass_of_methodNamed Bo.named
  have hlocks := Bo.notSynchronized
  have hl := lv_entry ([.ref h, .int (nI P)]) (n := 3) (Nat.le_of_ble_eq_true rfl)
  rw [lg_entry_eq]
  generalize (lg_sl ([.ref h, .int (nI P)]) ++ List.replicate (3 - (lg_sl ([.ref h, .int (nI P)])).length) Slot.unset).toArray = ls at hl ⊢
  have hl : lv_has ls 3 [(0, .ref h), (1, .int (nI P))] := hl
  refine lv_aload_n hx hb dX1_far_0 rfl (lv_at hl 0 rfl) ?_
  refine lv_iload_n hx hb dX1_far_1 rfl (lv_at hl 1 rfl) ?_
  refine dk_roV (rest := []) ⟨hx, hb, hml, hown, hts⟩ (metX1_markOf l dC dI h a ct fM P hP9) (cwV 1 hts (lw_V q148 q150 qs9 q12 q151) rfl rfl rfl (by decide +kernel) ⟨Nat.le_of_ble_eq_true rfl, Nat.le_of_ble_eq_true rfl⟩) hK hP 1 rfl rfl rfl rfl hl.1 rfl (Nat.le_of_ble_eq_true rfl) ⟨Nat.le_of_ble_eq_true rfl, Nat.le_of_ble_eq_true rfl⟩ dX1_far_2 ?_
  refine lv_istore_n (lv' := [(2, .int (iI (nr fM P 192))), (0, .ref h), (1, .int (nI P))]) hx hb dX1_far_5 rfl hl (by decide) rfl (fun ls hl => ?_)
  refine lv_iload_n hx hb dX1_far_6 rfl (lv_at hl 0 rfl) ?_
  refine lv_if_ge (tgt := 14) hx hb dX1_far_7 (by decide) (fun c_7 => ?_) (fun c_7 => ?_)
  · skip
    have hnb := nr_b fM P 192
    have hn0 : ¬ nr fM P 192 < 0 := fun q => absurd ((nr_lt0 (by omega)).mpr q) (i32_nlt.mpr c_7)
    refine lv_iload_n hx hb dX1_far_14 rfl (lv_at hl 2 rfl) ?_
    refine lv_iload_n hx hb dX1_far_15 rfl (lv_at hl 0 rfl) ?_
    refine dk_top (nI (nr fM P 192).toNat) (nm_nr (by omega)) ?_
    refine dk_roS (rest := []) ⟨hx, hb, hml, hown, hts⟩ (metX1_apart l P (nr fM P 192).toNat hP9 (by omega)) (va_cwS 2 hts (lw_S q152 q153 q12 q154) rfl rfl rfl (by decide +kernel) ⟨Nat.le_of_ble_eq_true rfl, Nat.le_of_ble_eq_true rfl⟩) rfl hl.1 rfl (Nat.le_of_ble_eq_true rfl) ⟨Nat.le_of_ble_eq_true rfl, Nat.le_of_ble_eq_true rfl⟩ dX1_far_16 ?_
    refine dk_top (dI_ fM P) ((dI_far hn0).symm) ?_
    exact W.iret (v := (dI_ fM P)) hx hb hr (fun t ht hW => ⟨rfl, ht⟩) (fun q h => by cases h) dX1_far_19
  · skip
    refine lv_iconst (v := -1) hx hb dX1_far_10 (by decide) ?_
    refine lv_goto (tgt := 19) hx hb dX1_far_11 (by decide) ?_
    refine dk_top (dI_ fM P) ((dI_no ((nr_lt0 (by omega)).mp (i32_nle.mp c_7))).symm) ?_
    exact W.iret (v := (dI_ fM P)) hx hb hr (fun t ht hW => ⟨rfl, ht⟩) (fun q h => by cases h) dX1_far_19
set_option maxHeartbeats 4000000 in
set_option maxRecDepth 100000 in
/-- distance -/
theorem metX1_distance (l : Launch) (dC : Nat → ClassId) (dI : Nat → Nat → Nat) (h a : Nat) (ct : ClassId) (fM : Nat → Int32) (x y : Int32) : Met l yX1_distance (ws_ yX1_distance cX1_distance 3 (some .int)) ({ frames := 3, cells := 0, slots := 0, locals := 68 }) (roP (dC, dI) [.ref h, .int x, .int y] (mdW h a ct fM) (mdT ct)) (QcRead (an_distance fM x y)) 0 0 (fun _ => False) := by
  refine Met.ofW (cc := cX1_distance) (maxL := 3) (ret := (some .int)) (by decide) rfl ?_
  intro p e s m args below meth c s₁ Bo hml hv
  obtain ⟨rfl, hP, hK⟩ := hv
  have hx := Bo.exec
  have hb := Bo.bytes
  have hr := Bo.returns
  have hts := atoms_spec (ws := ws_ yX1_distance cX1_distance 3 (some .int)) Bo.pre
  have hts : ∀ w ∈ lw_all, w.before _ s = true := fun w h => hts w (List.mem_cons_of_mem _ h)
  have hown : s.vm.findClass RX1 = some m.cls := findClass_of_methodNamed Bo.named
  have hlocks := Bo.notSynchronized
  have hl := lv_entry ([.ref h, .int x, .int y]) (n := 3) (Nat.le_of_ble_eq_true rfl)
  rw [lg_entry_eq]
  generalize (lg_sl ([.ref h, .int x, .int y]) ++ List.replicate (3 - (lg_sl ([.ref h, .int x, .int y])).length) Slot.unset).toArray = ls at hl ⊢
  have hl : lv_has ls 3 [(0, .ref h), (1, .int x), (2, .int y)] := hl
  refine lv_iload_n hx hb dX1_distance_0 rfl (lv_at hl 1 rfl) ?_
  refine lv_iload_n hx hb dX1_distance_1 rfl (lv_at hl 2 rfl) ?_
  refine dk_roS (rest := []) ⟨hx, hb, hml, hown, hts⟩ (metX1_bad l x y) (va_cwS 2 hts (lw_S q133 q134 q12 q135) rfl rfl rfl (by decide +kernel) ⟨Nat.le_of_ble_eq_true rfl, Nat.le_of_ble_eq_true rfl⟩) rfl hl.1 rfl (Nat.le_of_ble_eq_true rfl) ⟨Nat.le_of_ble_eq_true rfl, Nat.le_of_ble_eq_true rfl⟩ dX1_distance_2 ?_
  refine lv_if_eq (tgt := 12) hx hb dX1_distance_5 (by decide) (fun c_5 => ?_) (fun c_5 => ?_)
  · skip
    have hpl : pl_ x y = true := by
      by_cases q : pl_ x y = true
      · exact q
      · rw [if_neg q] at c_5
        exact absurd c_5 (by decide)
    obtain ⟨X, Y, hX, hY, rfl, rfl⟩ := pl_of hpl
    refine lv_aload_n hx hb dX1_distance_12 rfl (lv_at hl 0 rfl) ?_
    refine lv_bipush (v := 16) hx hb dX1_distance_13 (by decide) ?_
    refine lv_iload_n hx hb dX1_distance_15 rfl (lv_at hl 2 rfl) ?_
    refine lv_imul hx hb dX1_distance_16 ?_
    refine lv_iload_n hx hb dX1_distance_17 rfl (lv_at hl 1 rfl) ?_
    refine lv_iadd hx hb dX1_distance_18 ?_
    refine dk_top (nI (16 * Y + X)) (ix_e X Y) ?_
    refine dk_roV (rest := []) ⟨hx, hb, hml, hown, hts⟩ (metX1_far l dC dI h a ct fM (16 * Y + X) (by omega)) (cwV 1 hts (lw_V q144 q146 qs8 q12 q147) rfl rfl rfl (by decide +kernel) ⟨Nat.le_of_ble_eq_true rfl, Nat.le_of_ble_eq_true rfl⟩) hK hP 1 rfl rfl rfl rfl hl.1 rfl (Nat.le_of_ble_eq_true rfl) ⟨Nat.le_of_ble_eq_true rfl, Nat.le_of_ble_eq_true rfl⟩ dX1_distance_19 ?_
    refine dk_top (an_distance fM (nI X) (nI Y)) (by unfold an_distance; rw [if_pos hpl, ix_n hX hY]) ?_
    exact W.iret (v := an_distance fM (nI X) (nI Y)) hx hb hr (fun t ht hW => ⟨rfl, ht⟩) (fun q h => by cases h) dX1_distance_22
  · skip
    have hpl : ¬ pl_ x y = true := fun q => by
      rw [if_pos q] at c_5
      exact c_5 rfl
    refine lv_iconst (v := -1) hx hb dX1_distance_8 (by decide) ?_
    refine lv_goto (tgt := 22) hx hb dX1_distance_9 (by decide) ?_
    refine dk_top (an_distance fM x y) (by unfold an_distance; rw [if_neg hpl]) ?_
    exact W.iret (v := an_distance fM x y) hx hb hr (fun t ht hW => ⟨rfl, ht⟩) (fun q h => by cases h) dX1_distance_22
set_option maxHeartbeats 4000000 in
set_option maxRecDepth 100000 in
/-- nearest -/
theorem metX1_nearest (l : Launch) (dC : Nat → ClassId) (dI : Nat → Nat → Nat) (h a : Nat) (ct : ClassId) (fM : Nat → Int32) (x y : Int32) : Met l yX1_nearest (ws_ yX1_nearest cX1_nearest 3 (some .int)) ({ frames := 2, cells := 0, slots := 0, locals := 46 }) (roP (dC, dI) [.ref h, .int x, .int y] (mdW h a ct fM) (mdT ct)) (QcRead (an_nearest fM x y)) 0 0 (fun _ => False) := by
  refine Met.ofW (cc := cX1_nearest) (maxL := 3) (ret := (some .int)) (by decide) rfl ?_
  intro p e s m args below meth c s₁ Bo hml hv
  obtain ⟨rfl, hP, hK⟩ := hv
  have hx := Bo.exec
  have hb := Bo.bytes
  have hr := Bo.returns
  have hts := atoms_spec (ws := ws_ yX1_nearest cX1_nearest 3 (some .int)) Bo.pre
  have hts : ∀ w ∈ lw_all, w.before _ s = true := fun w h => hts w (List.mem_cons_of_mem _ h)
  have hown : s.vm.findClass RX1 = some m.cls := findClass_of_methodNamed Bo.named
  have hlocks := Bo.notSynchronized
  have hl := lv_entry ([.ref h, .int x, .int y]) (n := 3) (Nat.le_of_ble_eq_true rfl)
  rw [lg_entry_eq]
  generalize (lg_sl ([.ref h, .int x, .int y]) ++ List.replicate (3 - (lg_sl ([.ref h, .int x, .int y])).length) Slot.unset).toArray = ls at hl ⊢
  have hl : lv_has ls 3 [(0, .ref h), (1, .int x), (2, .int y)] := hl
  refine lv_iload_n hx hb dX1_nearest_0 rfl (lv_at hl 1 rfl) ?_
  refine lv_iload_n hx hb dX1_nearest_1 rfl (lv_at hl 2 rfl) ?_
  refine dk_roS (rest := []) ⟨hx, hb, hml, hown, hts⟩ (metX1_bad l x y) (va_cwS 2 hts (lw_S q133 q134 q12 q135) rfl rfl rfl (by decide +kernel) ⟨Nat.le_of_ble_eq_true rfl, Nat.le_of_ble_eq_true rfl⟩) rfl hl.1 rfl (Nat.le_of_ble_eq_true rfl) ⟨Nat.le_of_ble_eq_true rfl, Nat.le_of_ble_eq_true rfl⟩ dX1_nearest_2 ?_
  refine lv_if_eq (tgt := 12) hx hb dX1_nearest_5 (by decide) (fun c_5 => ?_) (fun c_5 => ?_)
  · skip
    have hpl : pl_ x y = true := by
      by_cases q : pl_ x y = true
      · exact q
      · rw [if_neg q] at c_5
        exact absurd c_5 (by decide)
    obtain ⟨X, Y, hX, hY, rfl, rfl⟩ := pl_of hpl
    refine lv_aload_n hx hb dX1_nearest_12 rfl (lv_at hl 0 rfl) ?_
    refine lv_bipush (v := 16) hx hb dX1_nearest_13 (by decide) ?_
    refine lv_iload_n hx hb dX1_nearest_15 rfl (lv_at hl 2 rfl) ?_
    refine lv_imul hx hb dX1_nearest_16 ?_
    refine lv_iload_n hx hb dX1_nearest_17 rfl (lv_at hl 1 rfl) ?_
    refine lv_iadd hx hb dX1_nearest_18 ?_
    refine dk_top (nI (16 * Y + X)) (ix_e X Y) ?_
    refine dk_roV (rest := []) ⟨hx, hb, hml, hown, hts⟩ (metX1_markOf l dC dI h a ct fM (16 * Y + X) (by omega)) (cwV 1 hts (lw_V q148 q150 qs9 q12 q151) rfl rfl rfl (by decide +kernel) ⟨Nat.le_of_ble_eq_true rfl, Nat.le_of_ble_eq_true rfl⟩) hK hP 1 rfl rfl rfl rfl hl.1 rfl (Nat.le_of_ble_eq_true rfl) ⟨Nat.le_of_ble_eq_true rfl, Nat.le_of_ble_eq_true rfl⟩ dX1_nearest_19 ?_
    refine dk_top (an_nearest fM (nI X) (nI Y)) (by unfold an_nearest; rw [if_pos hpl, ix_n hX hY]) ?_
    exact W.iret (v := an_nearest fM (nI X) (nI Y)) hx hb hr (fun t ht hW => ⟨rfl, ht⟩) (fun q h => by cases h) dX1_nearest_22
  · skip
    have hpl : ¬ pl_ x y = true := fun q => by
      rw [if_pos q] at c_5
      exact c_5 rfl
    refine lv_iconst (v := -1) hx hb dX1_nearest_8 (by decide) ?_
    refine lv_goto (tgt := 22) hx hb dX1_nearest_9 (by decide) ?_
    refine dk_top (an_nearest fM x y) (by unfold an_nearest; rw [if_neg hpl]) ?_
    exact W.iret (v := an_nearest fM x y) hx hb hr (fun t ht hW => ⟨rfl, ht⟩) (fun q h => by cases h) dX1_nearest_22
set_option maxHeartbeats 4000000 in
set_option maxRecDepth 100000 in
/-- reach(x, y) -/
theorem metX1_reach (l : Launch) (dC : Nat → ClassId) (dI : Nat → Nat → Nat) (h a : Nat) (ct : ClassId) (fM : Nat → Int32) (x y : Int32) : Met l yX1_reach (ws_ yX1_reach cX1_reach 5 (some .int)) ({ frames := 2, cells := 0, slots := 0, locals := 46 }) (roP (dC, dI) [.ref h, .int x, .int y] (mdW h a ct fM) (mdT ct)) (QcRead (an_reach fM x y)) 0 0 (fun _ => False) := by
  refine Met.ofW (cc := cX1_reach) (maxL := 5) (ret := (some .int)) (by decide) rfl ?_
  intro p e s m args below meth c s₁ Bo hml hv
  obtain ⟨rfl, hP, hK⟩ := hv
  have hx := Bo.exec
  have hb := Bo.bytes
  have hr := Bo.returns
  have hts := atoms_spec (ws := ws_ yX1_reach cX1_reach 5 (some .int)) Bo.pre
  have hts : ∀ w ∈ lw_all, w.before _ s = true := fun w h => hts w (List.mem_cons_of_mem _ h)
  have hown : s.vm.findClass RX1 = some m.cls := findClass_of_methodNamed Bo.named
  have hlocks := Bo.notSynchronized
  have hl := lv_entry ([.ref h, .int x, .int y]) (n := 5) (Nat.le_of_ble_eq_true rfl)
  rw [lg_entry_eq]
  generalize (lg_sl ([.ref h, .int x, .int y]) ++ List.replicate (5 - (lg_sl ([.ref h, .int x, .int y])).length) Slot.unset).toArray = ls at hl ⊢
  have hl : lv_has ls 5 [(0, .ref h), (1, .int x), (2, .int y)] := hl
  refine lv_iload_n hx hb dX1_reach_0 rfl (lv_at hl 1 rfl) ?_
  refine lv_iload_n hx hb dX1_reach_1 rfl (lv_at hl 2 rfl) ?_
  refine dk_roS (rest := []) ⟨hx, hb, hml, hown, hts⟩ (metX1_bad l x y) (va_cwS 2 hts (lw_S q133 q134 q12 q135) rfl rfl rfl (by decide +kernel) ⟨Nat.le_of_ble_eq_true rfl, Nat.le_of_ble_eq_true rfl⟩) rfl hl.1 rfl (Nat.le_of_ble_eq_true rfl) ⟨Nat.le_of_ble_eq_true rfl, Nat.le_of_ble_eq_true rfl⟩ dX1_reach_2 ?_
  refine lv_if_eq (tgt := 10) hx hb dX1_reach_5 (by decide) (fun c_5 => ?_) (fun c_5 => ?_)
  · skip
    have hpl : pl_ x y = true := by
      by_cases q : pl_ x y = true
      · exact q
      · rw [if_neg q] at c_5
        exact absurd c_5 (by decide)
    obtain ⟨X, Y, hX, hY, rfl, rfl⟩ := pl_of hpl
    refine lv_iconst (v := 0) hx hb dX1_reach_10 (by decide) ?_
    refine dk_top (ar_ fM (nI (16 * Y + X)) 0) (rfl) ?_
    refine lv_istore_n (lv' := [(3, .int (ar_ fM (nI (16 * Y + X)) 0)), (0, .ref h), (1, .int (nI X)), (2, .int (nI Y))]) hx hb dX1_reach_11 rfl hl (by decide) rfl (fun ls hl => ?_)
    refine lv_iconst (v := 0) hx hb dX1_reach_12 (by decide) ?_
    refine dk_top (nI 0) (nI_0.symm) ?_
    refine lv_istore (lv' := [(4, .int (nI 0)), (3, .int (ar_ fM (nI (16 * Y + X)) 0)), (0, .ref h), (1, .int (nI X)), (2, .int (nI Y))]) hx hb dX1_reach_13 hl (by decide) rfl (fun ls hl => ?_)
    refine dk_loopR (Inv := fun (i : Nat) ls => (i ≤ 192) ∧ lv_has ls 5 [(0, .ref h), (1, .int (nI X)), (2, .int (nI Y)), (3, .int (ar_ fM (nI (16 * Y + X)) i)), (4, .int (nI i))]) (μ := fun (i : Nat) => 192 - i) 15 [] 0 ⟨Nat.zero_le _, lv_sub hl [2, 3, 4, 1, 0] rfl⟩ ?_
    intro i ls hI ih
    obtain ⟨hi, hl⟩ := hI
    refine lv_iload hx hb dX1_reach_15 (lv_at hl 4 rfl) ?_
    refine lv_sipush (v := 192) hx hb dX1_reach_17 (by decide) ?_
    refine dk_top (nI 192) (rfl) ?_
    refine lv_icmp_ge (tgt := 47) hx hb dX1_reach_20 (by decide) (fun c_20 => ?_) (fun c_20 => ?_)
    · skip
      have hi2 := nm_le c_20 (by omega) (by omega)
      have hi3 : i = 192 := by omega
      subst hi3
      refine lv_iload_n hx hb dX1_reach_47 rfl (lv_at hl 3 rfl) ?_
      refine dk_top (an_reach fM (nI X) (nI Y)) (by unfold an_reach; rw [if_pos hpl, ix_n hX hY]) ?_
      exact W.iret (v := an_reach fM (nI X) (nI Y)) hx hb hr (fun t ht hW => ⟨rfl, ht⟩) (fun q h => by cases h) dX1_reach_48
    · skip
      have hi2 := nm_lt c_20 (by omega) (by omega)
      refine lv_aload_n hx hb dX1_reach_23 rfl (lv_at hl 0 rfl) ?_
      refine lv_iload hx hb dX1_reach_24 (lv_at hl 4 rfl) ?_
      refine dk_roV (rest := []) ⟨hx, hb, hml, hown, hts⟩ (metX1_markOf l dC dI h a ct fM i hi2) (cwV 1 hts (lw_V q148 q150 qs9 q12 q151) rfl rfl rfl (by decide +kernel) ⟨Nat.le_of_ble_eq_true rfl, Nat.le_of_ble_eq_true rfl⟩) hK hP 1 rfl rfl rfl rfl hl.1 rfl (Nat.le_of_ble_eq_true rfl) ⟨Nat.le_of_ble_eq_true rfl, Nat.le_of_ble_eq_true rfl⟩ dX1_reach_26 ?_
      refine lv_bipush (v := 16) hx hb dX1_reach_29 (by decide) ?_
      refine lv_iload_n hx hb dX1_reach_31 rfl (lv_at hl 2 rfl) ?_
      refine lv_imul hx hb dX1_reach_32 ?_
      refine lv_iload_n hx hb dX1_reach_33 rfl (lv_at hl 1 rfl) ?_
      refine lv_iadd hx hb dX1_reach_34 ?_
      refine dk_top (nI (16 * Y + X)) (ix_e X Y) ?_
      refine lv_icmp_ne (tgt := 41) hx hb dX1_reach_35 (by decide) (fun c_35 => ?_) (fun c_35 => ?_)
      · skip
        have e9 : ar_ fM (nI (16 * Y + X)) (i + 1) = ar_ fM (nI (16 * Y + X)) i := by
          simp only [ar_]
          rw [if_neg c_35, Int32.add_zero]
        have hl : lv_has ls 5 [(0, .ref h), (1, .int (nI X)), (2, .int (nI Y)), (3, .int (ar_ fM (nI (16 * Y + X)) (i + 1))), (4, .int (nI i))] := by rw [e9]; exact lv_sub hl [0, 1, 2, 3, 4] rfl
        refine lv_iinc (v := nI (i + 1)) (lv' := [(4, .int (nI (i + 1))), (0, .ref h), (1, .int (nI X)), (2, .int (nI Y)), (3, .int (ar_ fM (nI (16 * Y + X)) (i + 1)))]) hx hb dX1_reach_41 hl (k := 4) rfl (nI_1 i) (by decide) rfl (fun ls hl => ?_)
        refine lv_goto (tgt := 15) hx hb dX1_reach_44 (by decide) ?_
        exact ih (i + 1) _ (by omega) ⟨by omega, lv_sub hl [1, 2, 3, 4, 0] rfl⟩
      · skip
        have e9 : ar_ fM (nI (16 * Y + X)) i + 1 = ar_ fM (nI (16 * Y + X)) (i + 1) := by
          simp only [ar_]
          rw [if_pos c_35]
        refine lv_iinc (v := ar_ fM (nI (16 * Y + X)) (i + 1)) (lv' := [(3, .int (ar_ fM (nI (16 * Y + X)) (i + 1))), (0, .ref h), (1, .int (nI X)), (2, .int (nI Y)), (4, .int (nI i))]) hx hb dX1_reach_38 hl (k := 3) rfl (e9) (by decide) rfl (fun ls hl => ?_)
        refine lv_iinc (v := nI (i + 1)) (lv' := [(4, .int (nI (i + 1))), (3, .int (ar_ fM (nI (16 * Y + X)) (i + 1))), (0, .ref h), (1, .int (nI X)), (2, .int (nI Y))]) hx hb dX1_reach_41 hl (k := 4) rfl (nI_1 i) (by decide) rfl (fun ls hl => ?_)
        refine lv_goto (tgt := 15) hx hb dX1_reach_44 (by decide) ?_
        exact ih (i + 1) _ (by omega) ⟨by omega, lv_sub hl [2, 3, 4, 1, 0] rfl⟩
  · skip
    have hpl : ¬ pl_ x y = true := fun q => by
      rw [if_pos q] at c_5
      exact c_5 rfl
    refine lv_iconst (v := -1) hx hb dX1_reach_8 (by decide) ?_
    refine dk_top (an_reach fM x y) (by unfold an_reach; rw [if_neg hpl]) ?_
    exact W.iret (v := an_reach fM x y) hx hb hr (fun t ht hW => ⟨rfl, ht⟩) (fun q h => by cases h) dX1_reach_9
set_option maxHeartbeats 4000000 in
set_option maxRecDepth 100000 in
/-- farthest() -/
theorem metX1_farthest (l : Launch) (dC : Nat → ClassId) (dI : Nat → Nat → Nat) (h a : Nat) (ct : ClassId) (fM : Nat → Int32) : Met l yX1_farthest (ws_ yX1_farthest cX1_farthest 4 (some .int)) ({ frames := 3, cells := 0, slots := 0, locals := 68 }) (roP (dC, dI) [.ref h] (mdW h a ct fM) (mdT ct)) (QcRead (an_farthest fM)) 0 0 (fun _ => False) := by
  refine Met.ofW (cc := cX1_farthest) (maxL := 4) (ret := (some .int)) (by decide) rfl ?_
  intro p e s m args below meth c s₁ Bo hml hv
  obtain ⟨rfl, hP, hK⟩ := hv
  have hx := Bo.exec
  have hb := Bo.bytes
  have hr := Bo.returns
  have hts := atoms_spec (ws := ws_ yX1_farthest cX1_farthest 4 (some .int)) Bo.pre
  have hts : ∀ w ∈ lw_all, w.before _ s = true := fun w h => hts w (List.mem_cons_of_mem _ h)
  have hown : s.vm.findClass RX1 = some m.cls := findClass_of_methodNamed Bo.named
  have hlocks := Bo.notSynchronized
  have hl := lv_entry ([.ref h]) (n := 4) (Nat.le_of_ble_eq_true rfl)
  rw [lg_entry_eq]
  generalize (lg_sl ([.ref h]) ++ List.replicate (4 - (lg_sl ([.ref h])).length) Slot.unset).toArray = ls at hl ⊢
  have hl : lv_has ls 4 [(0, .ref h)] := hl
  refine lv_iconst (v := -1) hx hb dX1_farthest_0 (by decide) ?_
  refine dk_top (af_ (-1) fM 0) (rfl) ?_
  refine lv_istore_n (lv' := [(1, .int (af_ (-1) fM 0)), (0, .ref h)]) hx hb dX1_farthest_1 rfl hl (by decide) rfl (fun ls hl => ?_)
  refine lv_iconst (v := 0) hx hb dX1_farthest_2 (by decide) ?_
  refine dk_top (nI 0) (nI_0.symm) ?_
  refine lv_istore_n (lv' := [(2, .int (nI 0)), (1, .int (af_ (-1) fM 0)), (0, .ref h)]) hx hb dX1_farthest_3 rfl hl (by decide) rfl (fun ls hl => ?_)
  refine dk_loopR (Inv := fun (i : Nat) ls => (i ≤ 192) ∧ lv_has ls 4 [(0, .ref h), (1, .int (af_ (-1) fM i)), (2, .int (nI i))]) (μ := fun (i : Nat) => 192 - i) 4 [] 0 ⟨Nat.zero_le _, lv_sub hl [2, 1, 0] rfl⟩ ?_
  intro i ls hI ih
  obtain ⟨hi, hl⟩ := hI
  refine lv_iload_n hx hb dX1_farthest_4 rfl (lv_at hl 2 rfl) ?_
  refine lv_sipush (v := 192) hx hb dX1_farthest_5 (by decide) ?_
  refine dk_top (nI 192) (rfl) ?_
  refine lv_icmp_ge (tgt := 30) hx hb dX1_farthest_8 (by decide) (fun c_8 => ?_) (fun c_8 => ?_)
  · skip
    have hi2 := nm_le c_8 (by omega) (by omega)
    have hi3 : i = 192 := by omega
    subst hi3
    refine lv_iload_n hx hb dX1_farthest_30 rfl (lv_at hl 1 rfl) ?_
    exact W.iret (v := (af_ (-1) fM 192)) hx hb hr (fun t ht hW => ⟨rfl, ht⟩) (fun q h => by cases h) dX1_farthest_31
  · skip
    have hi2 := nm_lt c_8 (by omega) (by omega)
    refine lv_aload_n hx hb dX1_farthest_11 rfl (lv_at hl 0 rfl) ?_
    refine lv_iload_n hx hb dX1_farthest_12 rfl (lv_at hl 2 rfl) ?_
    refine dk_roV (rest := []) ⟨hx, hb, hml, hown, hts⟩ (metX1_far l dC dI h a ct fM i hi2) (cwV 1 hts (lw_V q144 q146 qs8 q12 q147) rfl rfl rfl (by decide +kernel) ⟨Nat.le_of_ble_eq_true rfl, Nat.le_of_ble_eq_true rfl⟩) hK hP 1 rfl rfl rfl rfl hl.1 rfl (Nat.le_of_ble_eq_true rfl) ⟨Nat.le_of_ble_eq_true rfl, Nat.le_of_ble_eq_true rfl⟩ dX1_farthest_13 ?_
    refine lv_istore_n (lv' := [(3, .int (dI_ fM i)), (0, .ref h), (1, .int (af_ (-1) fM i)), (2, .int (nI i))]) hx hb dX1_farthest_16 rfl hl (by decide) rfl (fun ls hl => ?_)
    refine lv_iload_n hx hb dX1_farthest_17 rfl (lv_at hl 0 rfl) ?_
    refine lv_iload_n hx hb dX1_farthest_18 rfl (lv_at hl 2 rfl) ?_
    refine lv_icmp_le (tgt := 24) hx hb dX1_farthest_19 (by decide) (fun c_19 => ?_) (fun c_19 => ?_)
    · skip
      have e9 : af_ (-1) fM (i + 1) = af_ (-1) fM i := by
        simp only [af_]
        rw [if_neg (i32_nlt.mpr c_19)]
      have hl : lv_has ls 4 [(0, .ref h), (1, .int (af_ (-1) fM (i + 1))), (2, .int (nI i))] := by rw [e9]; exact lv_sub hl [1, 2, 3] rfl
      refine lv_iinc (v := nI (i + 1)) (lv' := [(2, .int (nI (i + 1))), (0, .ref h), (1, .int (af_ (-1) fM (i + 1)))]) hx hb dX1_farthest_24 hl (k := 2) rfl (nI_1 i) (by decide) rfl (fun ls hl => ?_)
      refine lv_goto (tgt := 4) hx hb dX1_farthest_27 (by decide) ?_
      exact ih (i + 1) _ (by omega) ⟨by omega, lv_sub hl [1, 2, 0] rfl⟩
    · skip
      refine lv_iload_n hx hb dX1_farthest_22 rfl (lv_at hl 0 rfl) ?_
      refine dk_top (af_ (-1) fM (i + 1)) (by simp only [af_]; rw [if_pos (i32_nle.mp c_19)]) ?_
      refine lv_istore_n (lv' := [(1, .int (af_ (-1) fM (i + 1))), (3, .int (dI_ fM i)), (0, .ref h), (2, .int (nI i))]) hx hb dX1_farthest_23 rfl hl (by decide) rfl (fun ls hl => ?_)
      refine lv_iinc (v := nI (i + 1)) (lv' := [(2, .int (nI (i + 1))), (1, .int (af_ (-1) fM (i + 1))), (3, .int (dI_ fM i)), (0, .ref h)]) hx hb dX1_farthest_24 hl (k := 3) rfl (nI_1 i) (by decide) rfl (fun ls hl => ?_)
      refine lv_goto (tgt := 4) hx hb dX1_farthest_27 (by decide) ?_
      exact ih (i + 1) _ (by omega) ⟨by omega, lv_sub hl [3, 1, 0] rfl⟩
set_option maxHeartbeats 4000000 in
set_option maxRecDepth 100000 in
/-- within(lim) -/
theorem metX1_within (l : Launch) (dC : Nat → ClassId) (dI : Nat → Nat → Nat) (h a : Nat) (ct : ClassId) (fM : Nat → Int32) (lim : Int32) : Met l yX1_within (ws_ yX1_within cX1_within 5 (some .int)) ({ frames := 3, cells := 0, slots := 0, locals := 68 }) (roP (dC, dI) [.ref h, .int lim] (mdW h a ct fM) (mdT ct)) (QcRead (an_within fM lim)) 0 0 (fun _ => False) := by
  refine Met.ofW (cc := cX1_within) (maxL := 5) (ret := (some .int)) (by decide) rfl ?_
  intro p e s m args below meth c s₁ Bo hml hv
  obtain ⟨rfl, hP, hK⟩ := hv
  have hx := Bo.exec
  have hb := Bo.bytes
  have hr := Bo.returns
  have hts := atoms_spec (ws := ws_ yX1_within cX1_within 5 (some .int)) Bo.pre
  have hts : ∀ w ∈ lw_all, w.before _ s = true := fun w h => hts w (List.mem_cons_of_mem _ h)
  have hown : s.vm.findClass RX1 = some m.cls := findClass_of_methodNamed Bo.named
  have hlocks := Bo.notSynchronized
  have hl := lv_entry ([.ref h, .int lim]) (n := 5) (Nat.le_of_ble_eq_true rfl)
  rw [lg_entry_eq]
  generalize (lg_sl ([.ref h, .int lim]) ++ List.replicate (5 - (lg_sl ([.ref h, .int lim])).length) Slot.unset).toArray = ls at hl ⊢
  have hl : lv_has ls 5 [(0, .ref h), (1, .int lim)] := hl
  refine lv_iconst (v := 0) hx hb dX1_within_0 (by decide) ?_
  refine dk_top (aw_ fM lim 0) (rfl) ?_
  refine lv_istore_n (lv' := [(2, .int (aw_ fM lim 0)), (0, .ref h), (1, .int lim)]) hx hb dX1_within_1 rfl hl (by decide) rfl (fun ls hl => ?_)
  refine lv_iconst (v := 0) hx hb dX1_within_2 (by decide) ?_
  refine dk_top (nI 0) (nI_0.symm) ?_
  refine lv_istore_n (lv' := [(3, .int (nI 0)), (2, .int (aw_ fM lim 0)), (0, .ref h), (1, .int lim)]) hx hb dX1_within_3 rfl hl (by decide) rfl (fun ls hl => ?_)
  refine dk_loopR (Inv := fun (i : Nat) ls => (i ≤ 192) ∧ lv_has ls 5 [(0, .ref h), (1, .int lim), (2, .int (aw_ fM lim i)), (3, .int (nI i))]) (μ := fun (i : Nat) => 192 - i) 4 [] 0 ⟨Nat.zero_le _, lv_sub hl [2, 3, 1, 0] rfl⟩ ?_
  intro i ls hI ih
  obtain ⟨hi, hl⟩ := hI
  refine lv_iload_n hx hb dX1_within_4 rfl (lv_at hl 3 rfl) ?_
  refine lv_sipush (v := 192) hx hb dX1_within_5 (by decide) ?_
  refine dk_top (nI 192) (rfl) ?_
  refine lv_icmp_ge (tgt := 38) hx hb dX1_within_8 (by decide) (fun c_8 => ?_) (fun c_8 => ?_)
  · skip
    have hi2 := nm_le c_8 (by omega) (by omega)
    have hi3 : i = 192 := by omega
    subst hi3
    refine lv_iload_n hx hb dX1_within_38 rfl (lv_at hl 2 rfl) ?_
    exact W.iret (v := (aw_ fM lim 192)) hx hb hr (fun t ht hW => ⟨rfl, ht⟩) (fun q h => by cases h) dX1_within_39
  · skip
    have hi2 := nm_lt c_8 (by omega) (by omega)
    refine lv_aload_n hx hb dX1_within_11 rfl (lv_at hl 0 rfl) ?_
    refine lv_iload_n hx hb dX1_within_12 rfl (lv_at hl 3 rfl) ?_
    refine dk_roV (rest := []) ⟨hx, hb, hml, hown, hts⟩ (metX1_far l dC dI h a ct fM i hi2) (cwV 1 hts (lw_V q144 q146 qs8 q12 q147) rfl rfl rfl (by decide +kernel) ⟨Nat.le_of_ble_eq_true rfl, Nat.le_of_ble_eq_true rfl⟩) hK hP 1 rfl rfl rfl rfl hl.1 rfl (Nat.le_of_ble_eq_true rfl) ⟨Nat.le_of_ble_eq_true rfl, Nat.le_of_ble_eq_true rfl⟩ dX1_within_13 ?_
    refine lv_istore (lv' := [(4, .int (dI_ fM i)), (0, .ref h), (1, .int lim), (2, .int (aw_ fM lim i)), (3, .int (nI i))]) hx hb dX1_within_16 hl (by decide) rfl (fun ls hl => ?_)
    refine lv_iload hx hb dX1_within_18 (lv_at hl 0 rfl) ?_
    refine lv_if_lt (tgt := 32) hx hb dX1_within_20 (by decide) (fun c_20 => ?_) (fun c_20 => ?_)
    · skip
      have e9 : aw_ fM lim (i + 1) = aw_ fM lim i := by
        simp only [aw_]
        rw [if_neg (fun q => i32_nlt.mpr q.1 c_20), Int32.add_zero]
      have hl : lv_has ls 5 [(0, .ref h), (1, .int lim), (2, .int (aw_ fM lim (i + 1))), (3, .int (nI i))] := by rw [e9]; exact lv_sub hl [1, 2, 3, 4] rfl
      refine lv_iinc (v := nI (i + 1)) (lv' := [(3, .int (nI (i + 1))), (0, .ref h), (1, .int lim), (2, .int (aw_ fM lim (i + 1)))]) hx hb dX1_within_32 hl (k := 3) rfl (nI_1 i) (by decide) rfl (fun ls hl => ?_)
      refine lv_goto (tgt := 4) hx hb dX1_within_35 (by decide) ?_
      exact ih (i + 1) _ (by omega) ⟨by omega, lv_sub hl [1, 2, 3, 0] rfl⟩
    · skip
      refine lv_iload hx hb dX1_within_23 (lv_at hl 0 rfl) ?_
      refine lv_iload_n hx hb dX1_within_25 rfl (lv_at hl 2 rfl) ?_
      refine lv_icmp_gt (tgt := 32) hx hb dX1_within_26 (by decide) (fun c_26 => ?_) (fun c_26 => ?_)
      · skip
        have e9 : aw_ fM lim (i + 1) = aw_ fM lim i := by
          simp only [aw_]
          rw [if_neg (fun q => i32_nlt.mpr q.2 c_26), Int32.add_zero]
        have hl : lv_has ls 5 [(0, .ref h), (1, .int lim), (2, .int (aw_ fM lim (i + 1))), (3, .int (nI i))] := by rw [e9]; exact lv_sub hl [1, 2, 3, 4] rfl
        refine lv_iinc (v := nI (i + 1)) (lv' := [(3, .int (nI (i + 1))), (0, .ref h), (1, .int lim), (2, .int (aw_ fM lim (i + 1)))]) hx hb dX1_within_32 hl (k := 3) rfl (nI_1 i) (by decide) rfl (fun ls hl => ?_)
        refine lv_goto (tgt := 4) hx hb dX1_within_35 (by decide) ?_
        exact ih (i + 1) _ (by omega) ⟨by omega, lv_sub hl [1, 2, 3, 0] rfl⟩
      · skip
        refine lv_iinc (v := aw_ fM lim (i + 1)) (lv' := [(2, .int (aw_ fM lim (i + 1))), (4, .int (dI_ fM i)), (0, .ref h), (1, .int lim), (3, .int (nI i))]) hx hb dX1_within_29 hl (k := 3) rfl (by simp only [aw_]; rw [if_pos ⟨i32_nlt.mp c_20, i32_nlt.mp c_26⟩]; rfl) (by decide) rfl (fun ls hl => ?_)
        refine lv_iinc (v := nI (i + 1)) (lv' := [(3, .int (nI (i + 1))), (2, .int (aw_ fM lim (i + 1))), (4, .int (dI_ fM i)), (0, .ref h), (1, .int lim)]) hx hb dX1_within_32 hl (k := 4) rfl (nI_1 i) (by decide) rfl (fun ls hl => ?_)
        refine lv_goto (tgt := 4) hx hb dX1_within_35 (by decide) ?_
        exact ih (i + 1) _ (by omega) ⟨by omega, lv_sub hl [3, 4, 1, 0] rfl⟩
set_option maxHeartbeats 4000000 in
set_option maxRecDepth 100000 in
/-- edges() -/
theorem metX1_edges (l : Launch) (dC : Nat → ClassId) (dI : Nat → Nat → Nat) (h a : Nat) (ct : ClassId) (fM : Nat → Int32) : Met l yX1_edges (ws_ yX1_edges cX1_edges 3 (some .int)) ({ frames := 2, cells := 0, slots := 0, locals := 46 }) (roP (dC, dI) [.ref h] (mdW h a ct fM) (mdT ct)) (QcRead (an_edges fM)) 0 0 (fun _ => False) := by
  refine Met.ofW (cc := cX1_edges) (maxL := 3) (ret := (some .int)) (by decide) rfl ?_
  intro p e s m args below meth c s₁ Bo hml hv
  obtain ⟨rfl, hP, hK⟩ := hv
  have hx := Bo.exec
  have hb := Bo.bytes
  have hr := Bo.returns
  have hts := atoms_spec (ws := ws_ yX1_edges cX1_edges 3 (some .int)) Bo.pre
  have hts : ∀ w ∈ lw_all, w.before _ s = true := fun w h => hts w (List.mem_cons_of_mem _ h)
  have hown : s.vm.findClass RX1 = some m.cls := findClass_of_methodNamed Bo.named
  have hlocks := Bo.notSynchronized
  have hl := lv_entry ([.ref h]) (n := 3) (Nat.le_of_ble_eq_true rfl)
  rw [lg_entry_eq]
  generalize (lg_sl ([.ref h]) ++ List.replicate (3 - (lg_sl ([.ref h])).length) Slot.unset).toArray = ls at hl ⊢
  have hl : lv_has ls 3 [(0, .ref h)] := hl
  refine lv_iconst (v := 0) hx hb dX1_edges_0 (by decide) ?_
  refine dk_top (ae_ fM 0) (rfl) ?_
  refine lv_istore_n (lv' := [(1, .int (ae_ fM 0)), (0, .ref h)]) hx hb dX1_edges_1 rfl hl (by decide) rfl (fun ls hl => ?_)
  refine lv_iconst (v := 0) hx hb dX1_edges_2 (by decide) ?_
  refine dk_top (nI 0) (nI_0.symm) ?_
  refine lv_istore_n (lv' := [(2, .int (nI 0)), (1, .int (ae_ fM 0)), (0, .ref h)]) hx hb dX1_edges_3 rfl hl (by decide) rfl (fun ls hl => ?_)
  refine dk_loopR (Inv := fun (i : Nat) ls => (i ≤ 192) ∧ lv_has ls 3 [(0, .ref h), (1, .int (ae_ fM i)), (2, .int (nI i))]) (μ := fun (i : Nat) => 192 - i) 4 [] 0 ⟨Nat.zero_le _, lv_sub hl [2, 1, 0] rfl⟩ ?_
  intro i ls hI ih
  obtain ⟨hi, hl⟩ := hI
  refine lv_iload_n hx hb dX1_edges_4 rfl (lv_at hl 2 rfl) ?_
  refine lv_sipush (v := 192) hx hb dX1_edges_5 (by decide) ?_
  refine dk_top (nI 192) (rfl) ?_
  refine lv_icmp_ge (tgt := 70) hx hb dX1_edges_8 (by decide) (fun c_8 => ?_) (fun c_8 => ?_)
  · skip
    have hi2 := nm_le c_8 (by omega) (by omega)
    have hi3 : i = 192 := by omega
    subst hi3
    refine lv_iload_n hx hb dX1_edges_70 rfl (lv_at hl 1 rfl) ?_
    exact W.iret (v := (ae_ fM 192)) hx hb hr (fun t ht hW => ⟨rfl, ht⟩) (fun q h => by cases h) dX1_edges_71
  · skip
    have hi2 := nm_lt c_8 (by omega) (by omega)
    refine lv_iload_n hx hb dX1_edges_11 rfl (lv_at hl 2 rfl) ?_
    refine lv_bipush (v := 16) hx hb dX1_edges_12 (by decide) ?_
    refine lv_irem hx hb dX1_edges_14 (by decide) ?_
    refine dk_top (nI (i % 16)) (nm_rem (by omega)) ?_
    refine lv_bipush (v := 15) hx hb dX1_edges_15 (by decide) ?_
    refine dk_top (nI 15) (rfl) ?_
    refine lv_icmp_ge (tgt := 38) hx hb dX1_edges_17 (by decide) (fun c_17 => ?_) (fun c_17 => ?_)
    · skip
      have e9 : ae_ fM i + ae1 fM i = ae_ fM i := by
        unfold ae1
        rw [if_neg (fun q => absurd (nm_le c_17 (by omega) (by omega)) (by omega)), Int32.add_zero]
      have hl : lv_has ls 3 [(0, .ref h), (1, .int (ae_ fM i + ae1 fM i)), (2, .int (nI i))] := by rw [e9]; exact lv_sub hl [0, 1, 2] rfl
      refine lv_iload_n hx hb dX1_edges_38 rfl (lv_at hl 2 rfl) ?_
      refine lv_sipush (v := 176) hx hb dX1_edges_39 (by decide) ?_
      refine dk_top (nI 176) (rfl) ?_
      refine lv_icmp_ge (tgt := 64) hx hb dX1_edges_42 (by decide) (fun c_42 => ?_) (fun c_42 => ?_)
      · skip
        have e8 : ae_ fM (i + 1) = ae_ fM i + ae1 fM i := by
          simp only [ae_]
          unfold ae2
          rw [if_neg (fun q => absurd (nm_le c_42 (by omega) (by omega)) (by omega)), Int32.add_zero]
        have hl : lv_has ls 3 [(0, .ref h), (1, .int (ae_ fM (i + 1))), (2, .int (nI i))] := by rw [e8]; exact lv_sub hl [0, 1, 2] rfl
        refine lv_iinc (v := nI (i + 1)) (lv' := [(2, .int (nI (i + 1))), (0, .ref h), (1, .int (ae_ fM (i + 1)))]) hx hb dX1_edges_64 hl (k := 2) rfl (nI_1 i) (by decide) rfl (fun ls hl => ?_)
        refine lv_goto (tgt := 4) hx hb dX1_edges_67 (by decide) ?_
        exact ih (i + 1) _ (by omega) ⟨by omega, lv_sub hl [1, 2, 0] rfl⟩
      · skip
        have hi5 := nm_lt c_42 (by omega) (by omega)
        refine lv_aload_n hx hb dX1_edges_45 rfl (lv_at hl 0 rfl) ?_
        refine lv_iload_n hx hb dX1_edges_46 rfl (lv_at hl 2 rfl) ?_
        refine dk_roV (rest := []) ⟨hx, hb, hml, hown, hts⟩ (metX1_markOf l dC dI h a ct fM i hi2) (cwV 1 hts (lw_V q148 q150 qs9 q12 q151) rfl rfl rfl (by decide +kernel) ⟨Nat.le_of_ble_eq_true rfl, Nat.le_of_ble_eq_true rfl⟩) hK hP 1 rfl rfl rfl rfl hl.1 rfl (Nat.le_of_ble_eq_true rfl) ⟨Nat.le_of_ble_eq_true rfl, Nat.le_of_ble_eq_true rfl⟩ dX1_edges_47 ?_
        refine lv_aload_n hx hb dX1_edges_50 rfl (lv_at hl 0 rfl) ?_
        refine lv_iload_n hx hb dX1_edges_51 rfl (lv_at hl 2 rfl) ?_
        refine lv_bipush (v := 16) hx hb dX1_edges_52 (by decide) ?_
        refine lv_iadd hx hb dX1_edges_54 ?_
        refine dk_top (nI (i + 16)) (nI_add i 16) ?_
        refine dk_roV (rest := [.int (iI (nr fM i 192))]) ⟨hx, hb, hml, hown, hts⟩ (metX1_markOf l dC dI h a ct fM (i + 16) (by omega)) (cwV 1 hts (lw_V q148 q150 qs9 q12 q151) rfl rfl rfl (by decide +kernel) ⟨Nat.le_of_ble_eq_true rfl, Nat.le_of_ble_eq_true rfl⟩) hK hP 1 rfl rfl rfl rfl hl.1 rfl (Nat.le_of_ble_eq_true rfl) ⟨Nat.le_of_ble_eq_true rfl, Nat.le_of_ble_eq_true rfl⟩ dX1_edges_55 ?_
        refine lv_icmp_eq (tgt := 64) hx hb dX1_edges_58 (by decide) (fun c_58 => ?_) (fun c_58 => ?_)
        · skip
          have e8 : ae_ fM (i + 1) = ae_ fM i + ae1 fM i := by
            simp only [ae_]
            unfold ae2
            rw [if_neg (fun q => q.2 c_58), Int32.add_zero]
          have hl : lv_has ls 3 [(0, .ref h), (1, .int (ae_ fM (i + 1))), (2, .int (nI i))] := by rw [e8]; exact lv_sub hl [0, 1, 2] rfl
          refine lv_iinc (v := nI (i + 1)) (lv' := [(2, .int (nI (i + 1))), (0, .ref h), (1, .int (ae_ fM (i + 1)))]) hx hb dX1_edges_64 hl (k := 2) rfl (nI_1 i) (by decide) rfl (fun ls hl => ?_)
          refine lv_goto (tgt := 4) hx hb dX1_edges_67 (by decide) ?_
          exact ih (i + 1) _ (by omega) ⟨by omega, lv_sub hl [1, 2, 0] rfl⟩
        · skip
          refine lv_iinc (v := ae_ fM (i + 1)) (lv' := [(1, .int (ae_ fM (i + 1))), (0, .ref h), (2, .int (nI i))]) hx hb dX1_edges_61 hl (k := 1) rfl (by simp only [ae_]; unfold ae2; rw [if_pos ⟨hi5, c_58⟩]; rfl) (by decide) rfl (fun ls hl => ?_)
          refine lv_iinc (v := nI (i + 1)) (lv' := [(2, .int (nI (i + 1))), (1, .int (ae_ fM (i + 1))), (0, .ref h)]) hx hb dX1_edges_64 hl (k := 2) rfl (nI_1 i) (by decide) rfl (fun ls hl => ?_)
          refine lv_goto (tgt := 4) hx hb dX1_edges_67 (by decide) ?_
          exact ih (i + 1) _ (by omega) ⟨by omega, lv_sub hl [2, 1, 0] rfl⟩
    · skip
      have hi4 := nm_lt c_17 (by omega) (by omega)
      refine lv_aload_n hx hb dX1_edges_20 rfl (lv_at hl 0 rfl) ?_
      refine lv_iload_n hx hb dX1_edges_21 rfl (lv_at hl 2 rfl) ?_
      refine dk_roV (rest := []) ⟨hx, hb, hml, hown, hts⟩ (metX1_markOf l dC dI h a ct fM i hi2) (cwV 1 hts (lw_V q148 q150 qs9 q12 q151) rfl rfl rfl (by decide +kernel) ⟨Nat.le_of_ble_eq_true rfl, Nat.le_of_ble_eq_true rfl⟩) hK hP 1 rfl rfl rfl rfl hl.1 rfl (Nat.le_of_ble_eq_true rfl) ⟨Nat.le_of_ble_eq_true rfl, Nat.le_of_ble_eq_true rfl⟩ dX1_edges_22 ?_
      refine lv_aload_n hx hb dX1_edges_25 rfl (lv_at hl 0 rfl) ?_
      refine lv_iload_n hx hb dX1_edges_26 rfl (lv_at hl 2 rfl) ?_
      refine lv_iconst (v := 1) hx hb dX1_edges_27 (by decide) ?_
      refine lv_iadd hx hb dX1_edges_28 ?_
      refine dk_top (nI (i + 1)) (nI_1 i) ?_
      refine dk_roV (rest := [.int (iI (nr fM i 192))]) ⟨hx, hb, hml, hown, hts⟩ (metX1_markOf l dC dI h a ct fM (i + 1) (by omega)) (cwV 1 hts (lw_V q148 q150 qs9 q12 q151) rfl rfl rfl (by decide +kernel) ⟨Nat.le_of_ble_eq_true rfl, Nat.le_of_ble_eq_true rfl⟩) hK hP 1 rfl rfl rfl rfl hl.1 rfl (Nat.le_of_ble_eq_true rfl) ⟨Nat.le_of_ble_eq_true rfl, Nat.le_of_ble_eq_true rfl⟩ dX1_edges_29 ?_
      refine lv_icmp_eq (tgt := 38) hx hb dX1_edges_32 (by decide) (fun c_32 => ?_) (fun c_32 => ?_)
      · skip
        have e9 : ae_ fM i + ae1 fM i = ae_ fM i := by
          unfold ae1
          rw [if_neg (fun q => q.2 c_32), Int32.add_zero]
        have hl : lv_has ls 3 [(0, .ref h), (1, .int (ae_ fM i + ae1 fM i)), (2, .int (nI i))] := by rw [e9]; exact lv_sub hl [0, 1, 2] rfl
        refine lv_iload_n hx hb dX1_edges_38 rfl (lv_at hl 2 rfl) ?_
        refine lv_sipush (v := 176) hx hb dX1_edges_39 (by decide) ?_
        refine dk_top (nI 176) (rfl) ?_
        refine lv_icmp_ge (tgt := 64) hx hb dX1_edges_42 (by decide) (fun c_42 => ?_) (fun c_42 => ?_)
        · skip
          have e8 : ae_ fM (i + 1) = ae_ fM i + ae1 fM i := by
            simp only [ae_]
            unfold ae2
            rw [if_neg (fun q => absurd (nm_le c_42 (by omega) (by omega)) (by omega)), Int32.add_zero]
          have hl : lv_has ls 3 [(0, .ref h), (1, .int (ae_ fM (i + 1))), (2, .int (nI i))] := by rw [e8]; exact lv_sub hl [0, 1, 2] rfl
          refine lv_iinc (v := nI (i + 1)) (lv' := [(2, .int (nI (i + 1))), (0, .ref h), (1, .int (ae_ fM (i + 1)))]) hx hb dX1_edges_64 hl (k := 2) rfl (nI_1 i) (by decide) rfl (fun ls hl => ?_)
          refine lv_goto (tgt := 4) hx hb dX1_edges_67 (by decide) ?_
          exact ih (i + 1) _ (by omega) ⟨by omega, lv_sub hl [1, 2, 0] rfl⟩
        · skip
          have hi5 := nm_lt c_42 (by omega) (by omega)
          refine lv_aload_n hx hb dX1_edges_45 rfl (lv_at hl 0 rfl) ?_
          refine lv_iload_n hx hb dX1_edges_46 rfl (lv_at hl 2 rfl) ?_
          refine dk_roV (rest := []) ⟨hx, hb, hml, hown, hts⟩ (metX1_markOf l dC dI h a ct fM i hi2) (cwV 1 hts (lw_V q148 q150 qs9 q12 q151) rfl rfl rfl (by decide +kernel) ⟨Nat.le_of_ble_eq_true rfl, Nat.le_of_ble_eq_true rfl⟩) hK hP 1 rfl rfl rfl rfl hl.1 rfl (Nat.le_of_ble_eq_true rfl) ⟨Nat.le_of_ble_eq_true rfl, Nat.le_of_ble_eq_true rfl⟩ dX1_edges_47 ?_
          refine lv_aload_n hx hb dX1_edges_50 rfl (lv_at hl 0 rfl) ?_
          refine lv_iload_n hx hb dX1_edges_51 rfl (lv_at hl 2 rfl) ?_
          refine lv_bipush (v := 16) hx hb dX1_edges_52 (by decide) ?_
          refine lv_iadd hx hb dX1_edges_54 ?_
          refine dk_top (nI (i + 16)) (nI_add i 16) ?_
          refine dk_roV (rest := [.int (iI (nr fM i 192))]) ⟨hx, hb, hml, hown, hts⟩ (metX1_markOf l dC dI h a ct fM (i + 16) (by omega)) (cwV 1 hts (lw_V q148 q150 qs9 q12 q151) rfl rfl rfl (by decide +kernel) ⟨Nat.le_of_ble_eq_true rfl, Nat.le_of_ble_eq_true rfl⟩) hK hP 1 rfl rfl rfl rfl hl.1 rfl (Nat.le_of_ble_eq_true rfl) ⟨Nat.le_of_ble_eq_true rfl, Nat.le_of_ble_eq_true rfl⟩ dX1_edges_55 ?_
          refine lv_icmp_eq (tgt := 64) hx hb dX1_edges_58 (by decide) (fun c_58 => ?_) (fun c_58 => ?_)
          · skip
            have e8 : ae_ fM (i + 1) = ae_ fM i + ae1 fM i := by
              simp only [ae_]
              unfold ae2
              rw [if_neg (fun q => q.2 c_58), Int32.add_zero]
            have hl : lv_has ls 3 [(0, .ref h), (1, .int (ae_ fM (i + 1))), (2, .int (nI i))] := by rw [e8]; exact lv_sub hl [0, 1, 2] rfl
            refine lv_iinc (v := nI (i + 1)) (lv' := [(2, .int (nI (i + 1))), (0, .ref h), (1, .int (ae_ fM (i + 1)))]) hx hb dX1_edges_64 hl (k := 2) rfl (nI_1 i) (by decide) rfl (fun ls hl => ?_)
            refine lv_goto (tgt := 4) hx hb dX1_edges_67 (by decide) ?_
            exact ih (i + 1) _ (by omega) ⟨by omega, lv_sub hl [1, 2, 0] rfl⟩
          · skip
            refine lv_iinc (v := ae_ fM (i + 1)) (lv' := [(1, .int (ae_ fM (i + 1))), (0, .ref h), (2, .int (nI i))]) hx hb dX1_edges_61 hl (k := 1) rfl (by simp only [ae_]; unfold ae2; rw [if_pos ⟨hi5, c_58⟩]; rfl) (by decide) rfl (fun ls hl => ?_)
            refine lv_iinc (v := nI (i + 1)) (lv' := [(2, .int (nI (i + 1))), (1, .int (ae_ fM (i + 1))), (0, .ref h)]) hx hb dX1_edges_64 hl (k := 2) rfl (nI_1 i) (by decide) rfl (fun ls hl => ?_)
            refine lv_goto (tgt := 4) hx hb dX1_edges_67 (by decide) ?_
            exact ih (i + 1) _ (by omega) ⟨by omega, lv_sub hl [2, 1, 0] rfl⟩
      · skip
        refine lv_iinc (v := ae_ fM i + ae1 fM i) (lv' := [(1, .int (ae_ fM i + ae1 fM i)), (0, .ref h), (2, .int (nI i))]) hx hb dX1_edges_35 hl (k := 1) rfl (by unfold ae1; rw [if_pos ⟨hi4, c_32⟩]; rfl) (by decide) rfl (fun ls hl => ?_)
        refine lv_iload_n hx hb dX1_edges_38 rfl (lv_at hl 2 rfl) ?_
        refine lv_sipush (v := 176) hx hb dX1_edges_39 (by decide) ?_
        refine dk_top (nI 176) (rfl) ?_
        refine lv_icmp_ge (tgt := 64) hx hb dX1_edges_42 (by decide) (fun c_42 => ?_) (fun c_42 => ?_)
        · skip
          have e8 : ae_ fM (i + 1) = ae_ fM i + ae1 fM i := by
            simp only [ae_]
            unfold ae2
            rw [if_neg (fun q => absurd (nm_le c_42 (by omega) (by omega)) (by omega)), Int32.add_zero]
          have hl : lv_has ls 3 [(0, .ref h), (1, .int (ae_ fM (i + 1))), (2, .int (nI i))] := by rw [e8]; exact lv_sub hl [1, 0, 2] rfl
          refine lv_iinc (v := nI (i + 1)) (lv' := [(2, .int (nI (i + 1))), (0, .ref h), (1, .int (ae_ fM (i + 1)))]) hx hb dX1_edges_64 hl (k := 2) rfl (nI_1 i) (by decide) rfl (fun ls hl => ?_)
          refine lv_goto (tgt := 4) hx hb dX1_edges_67 (by decide) ?_
          exact ih (i + 1) _ (by omega) ⟨by omega, lv_sub hl [1, 2, 0] rfl⟩
        · skip
          have hi5 := nm_lt c_42 (by omega) (by omega)
          refine lv_aload_n hx hb dX1_edges_45 rfl (lv_at hl 1 rfl) ?_
          refine lv_iload_n hx hb dX1_edges_46 rfl (lv_at hl 2 rfl) ?_
          refine dk_roV (rest := []) ⟨hx, hb, hml, hown, hts⟩ (metX1_markOf l dC dI h a ct fM i hi2) (cwV 1 hts (lw_V q148 q150 qs9 q12 q151) rfl rfl rfl (by decide +kernel) ⟨Nat.le_of_ble_eq_true rfl, Nat.le_of_ble_eq_true rfl⟩) hK hP 1 rfl rfl rfl rfl hl.1 rfl (Nat.le_of_ble_eq_true rfl) ⟨Nat.le_of_ble_eq_true rfl, Nat.le_of_ble_eq_true rfl⟩ dX1_edges_47 ?_
          refine lv_aload_n hx hb dX1_edges_50 rfl (lv_at hl 1 rfl) ?_
          refine lv_iload_n hx hb dX1_edges_51 rfl (lv_at hl 2 rfl) ?_
          refine lv_bipush (v := 16) hx hb dX1_edges_52 (by decide) ?_
          refine lv_iadd hx hb dX1_edges_54 ?_
          refine dk_top (nI (i + 16)) (nI_add i 16) ?_
          refine dk_roV (rest := [.int (iI (nr fM i 192))]) ⟨hx, hb, hml, hown, hts⟩ (metX1_markOf l dC dI h a ct fM (i + 16) (by omega)) (cwV 1 hts (lw_V q148 q150 qs9 q12 q151) rfl rfl rfl (by decide +kernel) ⟨Nat.le_of_ble_eq_true rfl, Nat.le_of_ble_eq_true rfl⟩) hK hP 1 rfl rfl rfl rfl hl.1 rfl (Nat.le_of_ble_eq_true rfl) ⟨Nat.le_of_ble_eq_true rfl, Nat.le_of_ble_eq_true rfl⟩ dX1_edges_55 ?_
          refine lv_icmp_eq (tgt := 64) hx hb dX1_edges_58 (by decide) (fun c_58 => ?_) (fun c_58 => ?_)
          · skip
            have e8 : ae_ fM (i + 1) = ae_ fM i + ae1 fM i := by
              simp only [ae_]
              unfold ae2
              rw [if_neg (fun q => q.2 c_58), Int32.add_zero]
            have hl : lv_has ls 3 [(0, .ref h), (1, .int (ae_ fM (i + 1))), (2, .int (nI i))] := by rw [e8]; exact lv_sub hl [1, 0, 2] rfl
            refine lv_iinc (v := nI (i + 1)) (lv' := [(2, .int (nI (i + 1))), (0, .ref h), (1, .int (ae_ fM (i + 1)))]) hx hb dX1_edges_64 hl (k := 2) rfl (nI_1 i) (by decide) rfl (fun ls hl => ?_)
            refine lv_goto (tgt := 4) hx hb dX1_edges_67 (by decide) ?_
            exact ih (i + 1) _ (by omega) ⟨by omega, lv_sub hl [1, 2, 0] rfl⟩
          · skip
            refine lv_iinc (v := ae_ fM (i + 1)) (lv' := [(1, .int (ae_ fM (i + 1))), (0, .ref h), (2, .int (nI i))]) hx hb dX1_edges_61 hl (k := 0) rfl (by simp only [ae_]; unfold ae2; rw [if_pos ⟨hi5, c_58⟩]; rfl) (by decide) rfl (fun ls hl => ?_)
            refine lv_iinc (v := nI (i + 1)) (lv' := [(2, .int (nI (i + 1))), (1, .int (ae_ fM (i + 1))), (0, .ref h)]) hx hb dX1_edges_64 hl (k := 2) rfl (nI_1 i) (by decide) rfl (fun ls hl => ?_)
            refine lv_goto (tgt := 4) hx hb dX1_edges_67 (by decide) ?_
            exact ih (i + 1) _ (by omega) ⟨by omega, lv_sub hl [2, 1, 0] rfl⟩
set_option maxHeartbeats 4000000 in
set_option maxRecDepth 100000 in
/-- total() -/
theorem metX1_total (l : Launch) (dC : Nat → ClassId) (dI : Nat → Nat → Nat) (h a : Nat) (ct : ClassId) (fM : Nat → Int32) : Met l yX1_total (ws_ yX1_total cX1_total 4 (some .int)) ({ frames := 3, cells := 0, slots := 0, locals := 68 }) (roP (dC, dI) [.ref h] (mdW h a ct fM) (mdT ct)) (QcRead (an_total fM)) 0 0 (fun _ => False) := by
  refine Met.ofW (cc := cX1_total) (maxL := 4) (ret := (some .int)) (by decide) rfl ?_
  intro p e s m args below meth c s₁ Bo hml hv
  obtain ⟨rfl, hP, hK⟩ := hv
  have hx := Bo.exec
  have hb := Bo.bytes
  have hr := Bo.returns
  have hts := atoms_spec (ws := ws_ yX1_total cX1_total 4 (some .int)) Bo.pre
  have hts : ∀ w ∈ lw_all, w.before _ s = true := fun w h => hts w (List.mem_cons_of_mem _ h)
  have hown : s.vm.findClass RX1 = some m.cls := findClass_of_methodNamed Bo.named
  have hlocks := Bo.notSynchronized
  have hl := lv_entry ([.ref h]) (n := 4) (Nat.le_of_ble_eq_true rfl)
  rw [lg_entry_eq]
  generalize (lg_sl ([.ref h]) ++ List.replicate (4 - (lg_sl ([.ref h])).length) Slot.unset).toArray = ls at hl ⊢
  have hl : lv_has ls 4 [(0, .ref h)] := hl
  refine lv_iconst (v := 0) hx hb dX1_total_0 (by decide) ?_
  refine dk_top (at_ fM 0) (rfl) ?_
  refine lv_istore_n (lv' := [(1, .int (at_ fM 0)), (0, .ref h)]) hx hb dX1_total_1 rfl hl (by decide) rfl (fun ls hl => ?_)
  refine lv_iconst (v := 0) hx hb dX1_total_2 (by decide) ?_
  refine dk_top (nI 0) (nI_0.symm) ?_
  refine lv_istore_n (lv' := [(2, .int (nI 0)), (1, .int (at_ fM 0)), (0, .ref h)]) hx hb dX1_total_3 rfl hl (by decide) rfl (fun ls hl => ?_)
  refine dk_loopR (Inv := fun (i : Nat) ls => (i ≤ 192 ∧ (0 < i → cn fM 192 ≠ 0)) ∧ lv_has ls 4 [(0, .ref h), (1, .int (at_ fM i)), (2, .int (nI i))]) (μ := fun (i : Nat) => 192 - i) 4 [] 0 ⟨⟨Nat.zero_le _, fun q => absurd q (Nat.lt_irrefl 0)⟩, lv_sub hl [2, 1, 0] rfl⟩ ?_
  intro i ls hI ih
  obtain ⟨⟨hi, hc0⟩, hl⟩ := hI
  refine lv_iload_n hx hb dX1_total_4 rfl (lv_at hl 2 rfl) ?_
  refine lv_sipush (v := 192) hx hb dX1_total_5 (by decide) ?_
  refine dk_top (nI 192) (rfl) ?_
  refine lv_icmp_ge (tgt := 33) hx hb dX1_total_8 (by decide) (fun c_8 => ?_) (fun c_8 => ?_)
  · skip
    have hi2 := nm_le c_8 (by omega) (by omega)
    have hi3 : i = 192 := by omega
    subst hi3
    refine lv_iload_n hx hb dX1_total_33 rfl (lv_at hl 1 rfl) ?_
    refine dk_top (an_total fM) (by unfold an_total; rw [if_neg (hc0 (by omega))]) ?_
    exact W.iret (v := (an_total fM)) hx hb hr (fun t ht hW => ⟨rfl, ht⟩) (fun q h => by cases h) dX1_total_34
  · skip
    have hi2 := nm_lt c_8 (by omega) (by omega)
    refine lv_aload_n hx hb dX1_total_11 rfl (lv_at hl 0 rfl) ?_
    refine lv_iload_n hx hb dX1_total_12 rfl (lv_at hl 2 rfl) ?_
    refine dk_roV (rest := []) ⟨hx, hb, hml, hown, hts⟩ (metX1_far l dC dI h a ct fM i hi2) (cwV 1 hts (lw_V q144 q146 qs8 q12 q147) rfl rfl rfl (by decide +kernel) ⟨Nat.le_of_ble_eq_true rfl, Nat.le_of_ble_eq_true rfl⟩) hK hP 1 rfl rfl rfl rfl hl.1 rfl (Nat.le_of_ble_eq_true rfl) ⟨Nat.le_of_ble_eq_true rfl, Nat.le_of_ble_eq_true rfl⟩ dX1_total_13 ?_
    refine lv_istore_n (lv' := [(3, .int (dI_ fM i)), (0, .ref h), (1, .int (at_ fM i)), (2, .int (nI i))]) hx hb dX1_total_16 rfl hl (by decide) rfl (fun ls hl => ?_)
    refine lv_iload_n hx hb dX1_total_17 rfl (lv_at hl 0 rfl) ?_
    refine lv_if_ge (tgt := 23) hx hb dX1_total_18 (by decide) (fun c_18 => ?_) (fun c_18 => ?_)
    · skip
      have hc1 : cn fM 192 ≠ 0 := fun q => by
        rw [z_dI q] at c_18
        exact absurd c_18 (by decide)
      refine lv_iload_n hx hb dX1_total_23 rfl (lv_at hl 2 rfl) ?_
      refine lv_iload_n hx hb dX1_total_24 rfl (lv_at hl 0 rfl) ?_
      refine lv_iadd hx hb dX1_total_25 ?_
      refine dk_top (at_ fM (i + 1)) (rfl) ?_
      refine lv_istore_n (lv' := [(1, .int (at_ fM (i + 1))), (3, .int (dI_ fM i)), (0, .ref h), (2, .int (nI i))]) hx hb dX1_total_26 rfl hl (by decide) rfl (fun ls hl => ?_)
      refine lv_iinc (v := nI (i + 1)) (lv' := [(2, .int (nI (i + 1))), (1, .int (at_ fM (i + 1))), (3, .int (dI_ fM i)), (0, .ref h)]) hx hb dX1_total_27 hl (k := 3) rfl (nI_1 i) (by decide) rfl (fun ls hl => ?_)
      refine lv_goto (tgt := 4) hx hb dX1_total_30 (by decide) ?_
      exact ih (i + 1) _ (by omega) ⟨⟨by omega, fun _ => hc1⟩, lv_sub hl [3, 1, 0] rfl⟩
    · skip
      have hc1 : cn fM 192 = 0 := by
        by_cases q : cn fM 192 = 0
        · exact q
        · exact absurd (m_dI0 q hi2) c_18
      refine lv_iconst (v := -1) hx hb dX1_total_21 (by decide) ?_
      refine dk_top (an_total fM) (by unfold an_total; rw [if_pos hc1]) ?_
      exact W.iret (v := (an_total fM)) hx hb hr (fun t ht hW => ⟨rfl, ht⟩) (fun q h => by cases h) dX1_total_22
end
section
set_option maxHeartbeats 4000000 in
set_option maxRecDepth 100000 in
/-- mark(x, y) -/
theorem metX1_mark (l : Launch) (dC : Nat → ClassId) (dI : Nat → Nat → Nat) (h a : Nat) (ct : ClassId) (fM : Nat → Int32) (hJ : h ≠ a) (x y : Int32) : Met l yX1_mark (ws_ yX1_mark cX1_mark 4 (some .int)) ({ frames := 1, cells := 0, slots := 0, locals := 21 }) (roP (dC, dI) [.ref h, .int x, .int y] (mdW h a ct fM) (mdT ct)) (muI (dC, dI) (fun (r : Int32) (u : Nat → Int32) => r = an_mark fM x y ∧ u = st_mark fM x y) (fun u => mdW h a ct u) (mdA h a)) 0 0 (mdA h a) := by
  refine Met.ofW (cc := cX1_mark) (maxL := 4) (ret := (some .int)) (by decide) rfl ?_
  intro p e s m args below meth c s₁ Bo hml hv
  obtain ⟨rfl, hP, hK⟩ := hv
  have hx := Bo.exec
  have hb := Bo.bytes
  have hr := Bo.returns
  have hts := atoms_spec (ws := ws_ yX1_mark cX1_mark 4 (some .int)) Bo.pre
  have hts : ∀ w ∈ lw_all, w.before _ s = true := fun w h => hts w (List.mem_cons_of_mem _ h)
  have hown : s.vm.findClass RX1 = some m.cls := findClass_of_methodNamed Bo.named
  have hlocks := Bo.notSynchronized
  have hl := lv_entry ([.ref h, .int x, .int y]) (n := 4) (Nat.le_of_ble_eq_true rfl)
  rw [lg_entry_eq]
  generalize (lg_sl ([.ref h, .int x, .int y]) ++ List.replicate (4 - (lg_sl ([.ref h, .int x, .int y])).length) Slot.unset).toArray = ls at hl ⊢
  have hl : lv_has ls 4 [(0, .ref h), (1, .int x), (2, .int y)] := hl
  have hD := md_D hJ ct fM
  have hS : va_S (mdA h a) s.heap s.heap [] := va_S.rf
  refine lv_iload_n hx hb dX1_mark_0 rfl (lv_at hl 1 rfl) ?_
  refine lv_iload_n hx hb dX1_mark_1 rfl (lv_at hl 2 rfl) ?_
  refine dk_roS (rest := []) ⟨hx, hb, hml, hown, hts⟩ (metX1_bad l x y) (va_cwS 2 hts (lw_S q133 q134 q12 q135) rfl rfl rfl (by decide +kernel) ⟨Nat.le_of_ble_eq_true rfl, Nat.le_of_ble_eq_true rfl⟩) rfl hl.1 rfl (Nat.le_of_ble_eq_true rfl) ⟨Nat.le_of_ble_eq_true rfl, Nat.le_of_ble_eq_true rfl⟩ dX1_mark_2 ?_
  refine lv_if_eq (tgt := 10) hx hb dX1_mark_5 (by decide) (fun c_5 => ?_) (fun c_5 => ?_)
  · skip
    have hpl : pl_ x y = true := by
      by_cases q : pl_ x y = true
      · exact q
      · rw [if_neg q] at c_5
        exact absurd c_5 (by decide)
    obtain ⟨X, Y, hX, hY, rfl, rfl⟩ := pl_of hpl
    refine lv_aload_n hx hb dX1_mark_10 rfl (lv_at hl 0 rfl) ?_
    refine va_get (D := (dC, dI)) (ci := 1) (v := .ref a) (C := RX1) (T := TX1) (N := 1) hx hb hts in_X1 hown hK hP 0 rfl rfl 0 (by decide) (hts _ q125) (fun _ h9 => h9) rfl dX1_mark_11 ?_
    refine lv_bipush (v := 16) hx hb dX1_mark_14 (by decide) ?_
    refine lv_iload_n hx hb dX1_mark_16 rfl (lv_at hl 2 rfl) ?_
    refine lv_imul hx hb dX1_mark_17 ?_
    refine lv_iload_n hx hb dX1_mark_18 rfl (lv_at hl 1 rfl) ?_
    refine lv_iadd hx hb dX1_mark_19 ?_
    refine dk_top (nI (16 * Y + X)) (ix_e X Y) ?_
    refine dk_zald hx hb hK hP 1 0 rfl rfl (by omega) (by decide) dX1_mark_20 ?_
    refine lv_istore_n (lv' := [(3, .int (fM (16 * Y + X))), (0, .ref h), (1, .int (nI X)), (2, .int (nI Y))]) hx hb dX1_mark_21 rfl hl (by decide) rfl (fun ls hl => ?_)
    refine lv_aload_n hx hb dX1_mark_22 rfl (lv_at hl 1 rfl) ?_
    refine va_get (D := (dC, dI)) (ci := 1) (v := .ref a) (C := RX1) (T := TX1) (N := 1) hx hb hts in_X1 hown hK hP 0 rfl rfl 0 (by decide) (hts _ q125) (fun _ h9 => h9) rfl dX1_mark_23 ?_
    refine lv_bipush (v := 16) hx hb dX1_mark_26 (by decide) ?_
    refine lv_iload_n hx hb dX1_mark_28 rfl (lv_at hl 3 rfl) ?_
    refine lv_imul hx hb dX1_mark_29 ?_
    refine lv_iload_n hx hb dX1_mark_30 rfl (lv_at hl 2 rfl) ?_
    refine lv_iadd hx hb dX1_mark_31 ?_
    refine dk_top (nI (16 * Y + X)) (ix_e X Y) ?_
    refine lv_iconst (v := 1) hx hb dX1_mark_32 (by decide) ?_
    refine dk_zast hx hb hK hP hD hS 1 0 rfl rfl rfl (by omega) (by decide) dX1_mark_33 (fun H locs hP hS => ?_)
    have hP : va_P (dC, dI) vwCl (mdW h a ct (upd fM (16 * Y + X) (1 : Int32))) H := hP
    have hD := md_D hJ ct (upd fM (16 * Y + X) (1 : Int32))
    refine lv_iload_n hx hb dX1_mark_34 rfl (lv_at hl 0 rfl) ?_
    refine lv_if_eq (tgt := 42) hx hb dX1_mark_35 (by decide) (fun c_35 => ?_) (fun c_35 => ?_)
    · skip
      refine lv_iconst (v := 1) hx hb dX1_mark_42 (by decide) ?_
      exact W.iret (v := (1 : Int32)) hx hb hr (fun t ht hW => ⟨⟨(1 : Int32), upd fM (16 * Y + X) (1 : Int32), rfl, ⟨by unfold an_mark; rw [if_pos hpl, ix_n hX hY, if_pos c_35], by unfold st_mark; rw [if_pos hpl, ix_n hX hY]⟩, dk_h ht hP⟩, hS.F ht⟩) hS.2.2 dX1_mark_43
    · skip
      refine lv_iconst (v := 0) hx hb dX1_mark_38 (by decide) ?_
      refine lv_goto (tgt := 43) hx hb dX1_mark_39 (by decide) ?_
      exact W.iret (v := (0 : Int32)) hx hb hr (fun t ht hW => ⟨⟨(0 : Int32), upd fM (16 * Y + X) (1 : Int32), rfl, ⟨by unfold an_mark; rw [if_pos hpl, ix_n hX hY, if_neg c_35], by unfold st_mark; rw [if_pos hpl, ix_n hX hY]⟩, dk_h ht hP⟩, hS.F ht⟩) hS.2.2 dX1_mark_43
  · skip
    have hpl : ¬ pl_ x y = true := fun q => by
      rw [if_pos q] at c_5
      exact c_5 rfl
    refine lv_iconst (v := -1) hx hb dX1_mark_8 (by decide) ?_
    exact W.iret (v := (-1 : Int32)) hx hb hr (fun t ht hW => ⟨⟨(-1 : Int32), fM, rfl, ⟨by unfold an_mark; rw [if_neg hpl], by unfold st_mark; rw [if_neg hpl]⟩, dk_h ht hP⟩, hS.F ht⟩) hS.2.2 dX1_mark_9
set_option maxHeartbeats 4000000 in
set_option maxRecDepth 100000 in
/-- clear(x, y) -/
theorem metX1_clear (l : Launch) (dC : Nat → ClassId) (dI : Nat → Nat → Nat) (h a : Nat) (ct : ClassId) (fM : Nat → Int32) (hJ : h ≠ a) (x y : Int32) : Met l yX1_clear (ws_ yX1_clear cX1_clear 4 (some .int)) ({ frames := 1, cells := 0, slots := 0, locals := 21 }) (roP (dC, dI) [.ref h, .int x, .int y] (mdW h a ct fM) (mdT ct)) (muI (dC, dI) (fun (r : Int32) (u : Nat → Int32) => r = an_clear fM x y ∧ u = st_clear fM x y) (fun u => mdW h a ct u) (mdA h a)) 0 0 (mdA h a) := by
  refine Met.ofW (cc := cX1_clear) (maxL := 4) (ret := (some .int)) (by decide) rfl ?_
  intro p e s m args below meth c s₁ Bo hml hv
  obtain ⟨rfl, hP, hK⟩ := hv
  have hx := Bo.exec
  have hb := Bo.bytes
  have hr := Bo.returns
  have hts := atoms_spec (ws := ws_ yX1_clear cX1_clear 4 (some .int)) Bo.pre
  have hts : ∀ w ∈ lw_all, w.before _ s = true := fun w h => hts w (List.mem_cons_of_mem _ h)
  have hown : s.vm.findClass RX1 = some m.cls := findClass_of_methodNamed Bo.named
  have hlocks := Bo.notSynchronized
  have hl := lv_entry ([.ref h, .int x, .int y]) (n := 4) (Nat.le_of_ble_eq_true rfl)
  rw [lg_entry_eq]
  generalize (lg_sl ([.ref h, .int x, .int y]) ++ List.replicate (4 - (lg_sl ([.ref h, .int x, .int y])).length) Slot.unset).toArray = ls at hl ⊢
  have hl : lv_has ls 4 [(0, .ref h), (1, .int x), (2, .int y)] := hl
  have hD := md_D hJ ct fM
  have hS : va_S (mdA h a) s.heap s.heap [] := va_S.rf
  refine lv_iload_n hx hb dX1_clear_0 rfl (lv_at hl 1 rfl) ?_
  refine lv_iload_n hx hb dX1_clear_1 rfl (lv_at hl 2 rfl) ?_
  refine dk_roS (rest := []) ⟨hx, hb, hml, hown, hts⟩ (metX1_bad l x y) (va_cwS 2 hts (lw_S q133 q134 q12 q135) rfl rfl rfl (by decide +kernel) ⟨Nat.le_of_ble_eq_true rfl, Nat.le_of_ble_eq_true rfl⟩) rfl hl.1 rfl (Nat.le_of_ble_eq_true rfl) ⟨Nat.le_of_ble_eq_true rfl, Nat.le_of_ble_eq_true rfl⟩ dX1_clear_2 ?_
  refine lv_if_eq (tgt := 10) hx hb dX1_clear_5 (by decide) (fun c_5 => ?_) (fun c_5 => ?_)
  · skip
    have hpl : pl_ x y = true := by
      by_cases q : pl_ x y = true
      · exact q
      · rw [if_neg q] at c_5
        exact absurd c_5 (by decide)
    obtain ⟨X, Y, hX, hY, rfl, rfl⟩ := pl_of hpl
    refine lv_aload_n hx hb dX1_clear_10 rfl (lv_at hl 0 rfl) ?_
    refine va_get (D := (dC, dI)) (ci := 1) (v := .ref a) (C := RX1) (T := TX1) (N := 1) hx hb hts in_X1 hown hK hP 0 rfl rfl 0 (by decide) (hts _ q125) (fun _ h9 => h9) rfl dX1_clear_11 ?_
    refine lv_bipush (v := 16) hx hb dX1_clear_14 (by decide) ?_
    refine lv_iload_n hx hb dX1_clear_16 rfl (lv_at hl 2 rfl) ?_
    refine lv_imul hx hb dX1_clear_17 ?_
    refine lv_iload_n hx hb dX1_clear_18 rfl (lv_at hl 1 rfl) ?_
    refine lv_iadd hx hb dX1_clear_19 ?_
    refine dk_top (nI (16 * Y + X)) (ix_e X Y) ?_
    refine dk_zald hx hb hK hP 1 0 rfl rfl (by omega) (by decide) dX1_clear_20 ?_
    refine lv_istore_n (lv' := [(3, .int (fM (16 * Y + X))), (0, .ref h), (1, .int (nI X)), (2, .int (nI Y))]) hx hb dX1_clear_21 rfl hl (by decide) rfl (fun ls hl => ?_)
    refine lv_aload_n hx hb dX1_clear_22 rfl (lv_at hl 1 rfl) ?_
    refine va_get (D := (dC, dI)) (ci := 1) (v := .ref a) (C := RX1) (T := TX1) (N := 1) hx hb hts in_X1 hown hK hP 0 rfl rfl 0 (by decide) (hts _ q125) (fun _ h9 => h9) rfl dX1_clear_23 ?_
    refine lv_bipush (v := 16) hx hb dX1_clear_26 (by decide) ?_
    refine lv_iload_n hx hb dX1_clear_28 rfl (lv_at hl 3 rfl) ?_
    refine lv_imul hx hb dX1_clear_29 ?_
    refine lv_iload_n hx hb dX1_clear_30 rfl (lv_at hl 2 rfl) ?_
    refine lv_iadd hx hb dX1_clear_31 ?_
    refine dk_top (nI (16 * Y + X)) (ix_e X Y) ?_
    refine lv_iconst (v := 0) hx hb dX1_clear_32 (by decide) ?_
    refine dk_zast hx hb hK hP hD hS 1 0 rfl rfl rfl (by omega) (by decide) dX1_clear_33 (fun H locs hP hS => ?_)
    have hP : va_P (dC, dI) vwCl (mdW h a ct (upd fM (16 * Y + X) (0 : Int32))) H := hP
    have hD := md_D hJ ct (upd fM (16 * Y + X) (0 : Int32))
    refine lv_iload_n hx hb dX1_clear_34 rfl (lv_at hl 0 rfl) ?_
    refine lv_if_eq (tgt := 42) hx hb dX1_clear_35 (by decide) (fun c_35 => ?_) (fun c_35 => ?_)
    · skip
      refine lv_iconst (v := 0) hx hb dX1_clear_42 (by decide) ?_
      exact W.iret (v := (0 : Int32)) hx hb hr (fun t ht hW => ⟨⟨(0 : Int32), upd fM (16 * Y + X) (0 : Int32), rfl, ⟨by unfold an_clear; rw [if_pos hpl, ix_n hX hY, if_pos c_35], by unfold st_clear; rw [if_pos hpl, ix_n hX hY]⟩, dk_h ht hP⟩, hS.F ht⟩) hS.2.2 dX1_clear_43
    · skip
      refine lv_iconst (v := 1) hx hb dX1_clear_38 (by decide) ?_
      refine lv_goto (tgt := 43) hx hb dX1_clear_39 (by decide) ?_
      exact W.iret (v := (1 : Int32)) hx hb hr (fun t ht hW => ⟨⟨(1 : Int32), upd fM (16 * Y + X) (0 : Int32), rfl, ⟨by unfold an_clear; rw [if_pos hpl, ix_n hX hY, if_neg c_35], by unfold st_clear; rw [if_pos hpl, ix_n hX hY]⟩, dk_h ht hP⟩, hS.F ht⟩) hS.2.2 dX1_clear_43
  · skip
    have hpl : ¬ pl_ x y = true := fun q => by
      rw [if_pos q] at c_5
      exact c_5 rfl
    refine lv_iconst (v := -1) hx hb dX1_clear_8 (by decide) ?_
    exact W.iret (v := (-1 : Int32)) hx hb hr (fun t ht hW => ⟨⟨(-1 : Int32), fM, rfl, ⟨by unfold an_clear; rw [if_neg hpl], by unfold st_clear; rw [if_neg hpl]⟩, dk_h ht hP⟩, hS.F ht⟩) hS.2.2 dX1_clear_9
end
section
set_option maxHeartbeats 4000000 in
set_option maxRecDepth 100000 in
/-- isPlace(x, y): 1 on the map, 0 off it -/
theorem metX0_isPlace (l : Launch) (x y : Int32) : Met l yX0_isPlace (ws_ yX0_isPlace cX0_isPlace 2 (some .boolean)) ({ frames := 0, cells := 0, slots := 0, locals := 0 }) (fun v _ => v = ([.int x, .int y] : List Value).toArray) (QcRead (if pl_ x y = true then 1 else 0)) 0 0 (fun _ => False) := by
  refine Met.ofW (cc := cX0_isPlace) (maxL := 2) (ret := (some .boolean)) (by decide) rfl ?_
  intro p e s m args below meth c s₁ Bo hml hv
  have hv : args = ([.int x, .int y] : List Value).toArray := hv
  subst hv
  have hx := Bo.exec
  have hb := Bo.bytes
  have hr := Bo.returns
  have hts := atoms_spec (ws := ws_ yX0_isPlace cX0_isPlace 2 (some .boolean)) Bo.pre
  have hts : ∀ w ∈ lw_all, w.before _ s = true := fun w h => hts w (List.mem_cons_of_mem _ h)
  have hown : s.vm.findClass RX0 = some m.cls := findClass_of_methodNamed Bo.named
  have hlocks := Bo.notSynchronized
  have hl := lv_entry ([.int x, .int y]) (n := 2) (Nat.le_of_ble_eq_true rfl)
  rw [lg_entry_eq]
  generalize (lg_sl ([.int x, .int y]) ++ List.replicate (2 - (lg_sl ([.int x, .int y])).length) Slot.unset).toArray = ls at hl ⊢
  have hl : lv_has ls 2 [(0, .int x), (1, .int y)] := hl
  refine lv_iload_n hx hb dX0_isPlace_0 rfl (lv_at hl 0 rfl) ?_
  refine lv_if_lt (tgt := 24) hx hb dX0_isPlace_1 (by decide) (fun c_1 => ?_) (fun c_1 => ?_)
  · skip
    refine lv_iconst (v := 0) hx hb dX0_isPlace_24 (by decide) ?_
    refine dk_top (if pl_ x y = true then 1 else 0) (by rw [if_neg (fun q => i32_nlt.mpr (pl_iff.mp q).1 c_1)]) ?_
    exact W.zret (v := if pl_ x y = true then 1 else 0) hx hb hr (by split <;> rfl) (fun t ht hW => ⟨rfl, ht⟩) (fun q h => by cases h) dX0_isPlace_25
  · skip
    refine lv_iload_n hx hb dX0_isPlace_4 rfl (lv_at hl 0 rfl) ?_
    refine lv_bipush (v := 15) hx hb dX0_isPlace_5 (by decide) ?_
    refine lv_icmp_gt (tgt := 24) hx hb dX0_isPlace_7 (by decide) (fun c_7 => ?_) (fun c_7 => ?_)
    · skip
      refine lv_iconst (v := 0) hx hb dX0_isPlace_24 (by decide) ?_
      refine dk_top (if pl_ x y = true then 1 else 0) (by rw [if_neg (fun q => absurd (pl_iff.mp q).2.1 (i32_nle.mpr c_7))]) ?_
      exact W.zret (v := if pl_ x y = true then 1 else 0) hx hb hr (by split <;> rfl) (fun t ht hW => ⟨rfl, ht⟩) (fun q h => by cases h) dX0_isPlace_25
    · skip
      refine lv_iload_n hx hb dX0_isPlace_10 rfl (lv_at hl 1 rfl) ?_
      refine lv_if_lt (tgt := 24) hx hb dX0_isPlace_11 (by decide) (fun c_11 => ?_) (fun c_11 => ?_)
      · skip
        refine lv_iconst (v := 0) hx hb dX0_isPlace_24 (by decide) ?_
        refine dk_top (if pl_ x y = true then 1 else 0) (by rw [if_neg (fun q => i32_nlt.mpr (pl_iff.mp q).2.2.1 c_11)]) ?_
        exact W.zret (v := if pl_ x y = true then 1 else 0) hx hb hr (by split <;> rfl) (fun t ht hW => ⟨rfl, ht⟩) (fun q h => by cases h) dX0_isPlace_25
      · skip
        refine lv_iload_n hx hb dX0_isPlace_14 rfl (lv_at hl 1 rfl) ?_
        refine lv_bipush (v := 11) hx hb dX0_isPlace_15 (by decide) ?_
        refine lv_icmp_gt (tgt := 24) hx hb dX0_isPlace_17 (by decide) (fun c_17 => ?_) (fun c_17 => ?_)
        · skip
          refine lv_iconst (v := 0) hx hb dX0_isPlace_24 (by decide) ?_
          refine dk_top (if pl_ x y = true then 1 else 0) (by rw [if_neg (fun q => absurd (pl_iff.mp q).2.2.2 (i32_nle.mpr c_17))]) ?_
          exact W.zret (v := if pl_ x y = true then 1 else 0) hx hb hr (by split <;> rfl) (fun t ht hW => ⟨rfl, ht⟩) (fun q h => by cases h) dX0_isPlace_25
        · skip
          refine lv_iconst (v := 1) hx hb dX0_isPlace_20 (by decide) ?_
          refine lv_goto (tgt := 25) hx hb dX0_isPlace_21 (by decide) ?_
          refine dk_top (if pl_ x y = true then 1 else 0) (by rw [if_pos (pl_iff.mpr ⟨i32_nlt.mp c_1, i32_nlt.mp c_7, i32_nlt.mp c_11, i32_nlt.mp c_17⟩)]) ?_
          exact W.zret (v := if pl_ x y = true then 1 else 0) hx hb hr (by split <;> rfl) (fun t ht hW => ⟨rfl, ht⟩) (fun q h => by cases h) dX0_isPlace_25
set_option maxHeartbeats 4000000 in
set_option maxRecDepth 100000 in
/-- distanceOf(P): the squared distance to the mark that markOf has -/
theorem metX0_distanceOf (l : Launch) (dC : Nat → ClassId) (dI : Nat → Nat → Nat) (ad : Nat → Nat) (ct : Nat → ClassId) (fM : Nat → Int32) (nM kn : Int32) (fO fC : Nat → Int32) (kp : Int32) (fK fT : Nat → Int32) (P k9 : Nat) (hP9 : P < 192) (hk9 : k9 < 192) (ho : fO P = nI k9) : Met l yX0_distanceOf (ws_ yX0_distanceOf cX0_distanceOf 4 (some .int)) ({ frames := 0, cells := 0, slots := 0, locals := 0 }) (roP (dC, dI) [.ref (ad 0), .int (nI P)] (dmW ad ct fM nM kn fO fC kp fK fT) (dmT ct)) (QcRead (iI (ap P k9))) 0 0 (fun _ => False) := by
  refine Met.ofW (cc := cX0_distanceOf) (maxL := 4) (ret := (some .int)) (by decide) rfl ?_
  intro p e s m args below meth c s₁ Bo hml hv
  obtain ⟨rfl, hP, hK⟩ := hv
  have hx := Bo.exec
  have hb := Bo.bytes
  have hr := Bo.returns
  have hts := atoms_spec (ws := ws_ yX0_distanceOf cX0_distanceOf 4 (some .int)) Bo.pre
  have hts : ∀ w ∈ lw_all, w.before _ s = true := fun w h => hts w (List.mem_cons_of_mem _ h)
  have hown : s.vm.findClass RX0 = some m.cls := findClass_of_methodNamed Bo.named
  have hlocks := Bo.notSynchronized
  have hl := lv_entry ([.ref (ad 0), .int (nI P)]) (n := 4) (Nat.le_of_ble_eq_true rfl)
  rw [lg_entry_eq]
  generalize (lg_sl ([.ref (ad 0), .int (nI P)]) ++ List.replicate (4 - (lg_sl ([.ref (ad 0), .int (nI P)])).length) Slot.unset).toArray = ls at hl ⊢
  have hl : lv_has ls 4 [(0, .ref (ad 0)), (1, .int (nI P))] := hl
  refine lv_iload_n hx hb dX0_distanceOf_0 rfl (lv_at hl 1 rfl) ?_
  refine lv_bipush (v := 15) hx hb dX0_distanceOf_1 (by decide) ?_
  refine lv_iand hx hb dX0_distanceOf_3 ?_
  refine dk_top (nI (P % 16)) (nm_and (by omega)) ?_
  refine lv_aload_n hx hb dX0_distanceOf_4 rfl (lv_at hl 0 rfl) ?_
  refine va_get (D := (dC, dI)) (ci := 0) (v := .ref (ad 2)) (C := RX0) (T := TX0) (N := 8) hx hb hts in_X0 hown hK hP 0 rfl rfl 3 (by decide) (hts _ q24) (fun _ h9 => h9) rfl dX0_distanceOf_5 ?_
  refine lv_iload_n hx hb dX0_distanceOf_8 rfl (lv_at hl 1 rfl) ?_
  refine dk_iald hx hb hK hP 2 1 rfl rfl (by omega) (by decide) dX0_distanceOf_9 ?_
  refine dk_top (nI k9) (ho) ?_
  refine lv_bipush (v := 15) hx hb dX0_distanceOf_10 (by decide) ?_
  refine lv_iand hx hb dX0_distanceOf_12 ?_
  refine dk_top (nI (k9 % 16)) (nm_and (by omega)) ?_
  refine lv_isub hx hb dX0_distanceOf_13 ?_
  refine dk_top (iI (((P % 16 : Nat) : Int) - ((k9 % 16 : Nat) : Int))) (nm_sub _ _) ?_
  refine lv_istore_n (lv' := [(2, .int (iI (((P % 16 : Nat) : Int) - ((k9 % 16 : Nat) : Int)))), (0, .ref (ad 0)), (1, .int (nI P))]) hx hb dX0_distanceOf_14 rfl hl (by decide) rfl (fun ls hl => ?_)
  refine lv_iload_n hx hb dX0_distanceOf_15 rfl (lv_at hl 2 rfl) ?_
  refine lv_iconst (v := 4) hx hb dX0_distanceOf_16 (by decide) ?_
  refine lv_ishr hx hb dX0_distanceOf_17 ?_
  refine dk_top (nI (P / 16)) (nm_shr (by omega)) ?_
  refine lv_aload_n hx hb dX0_distanceOf_18 rfl (lv_at hl 1 rfl) ?_
  refine va_get (D := (dC, dI)) (ci := 0) (v := .ref (ad 2)) (C := RX0) (T := TX0) (N := 8) hx hb hts in_X0 hown hK hP 0 rfl rfl 3 (by decide) (hts _ q24) (fun _ h9 => h9) rfl dX0_distanceOf_19 ?_
  refine lv_iload_n hx hb dX0_distanceOf_22 rfl (lv_at hl 2 rfl) ?_
  refine dk_iald hx hb hK hP 2 1 rfl rfl (by omega) (by decide) dX0_distanceOf_23 ?_
  refine dk_top (nI k9) (ho) ?_
  refine lv_iconst (v := 4) hx hb dX0_distanceOf_24 (by decide) ?_
  refine lv_ishr hx hb dX0_distanceOf_25 ?_
  refine dk_top (nI (k9 / 16)) (nm_shr (by omega)) ?_
  refine lv_isub hx hb dX0_distanceOf_26 ?_
  refine dk_top (iI (((P / 16 : Nat) : Int) - ((k9 / 16 : Nat) : Int))) (nm_sub _ _) ?_
  refine lv_istore_n (lv' := [(3, .int (iI (((P / 16 : Nat) : Int) - ((k9 / 16 : Nat) : Int)))), (2, .int (iI (((P % 16 : Nat) : Int) - ((k9 % 16 : Nat) : Int)))), (0, .ref (ad 0)), (1, .int (nI P))]) hx hb dX0_distanceOf_27 rfl hl (by decide) rfl (fun ls hl => ?_)
  refine lv_iload_n hx hb dX0_distanceOf_28 rfl (lv_at hl 1 rfl) ?_
  refine lv_iload_n hx hb dX0_distanceOf_29 rfl (lv_at hl 1 rfl) ?_
  refine lv_imul hx hb dX0_distanceOf_30 ?_
  refine lv_iload_n hx hb dX0_distanceOf_31 rfl (lv_at hl 0 rfl) ?_
  refine lv_iload_n hx hb dX0_distanceOf_32 rfl (lv_at hl 0 rfl) ?_
  refine lv_imul hx hb dX0_distanceOf_33 ?_
  refine lv_iadd hx hb dX0_distanceOf_34 ?_
  refine dk_top (iI (ap P k9)) (nm_ap P k9) ?_
  exact W.iret (v := (iI (ap P k9))) hx hb hr (fun t ht hW => ⟨rfl, ht⟩) (fun q h => by cases h) dX0_distanceOf_35
set_option maxHeartbeats 4000000 in
set_option maxRecDepth 100000 in
/-- heightOf(C0, Y) -/
theorem metX0_heightOf (l : Launch) (dC : Nat → ClassId) (dI : Nat → Nat → Nat) (ad : Nat → Nat) (ct : Nat → ClassId) (fM : Nat → Int32) (nM kn : Int32) (fO fC : Nat → Int32) (kp : Int32) (fK fT : Nat → Int32) (C0 Y : Nat) (w0 : Int) (hC : C0 < 16) (hY : Y < 12) (h0 : 0 ≤ w0) (h1 : w0 < 192) (ho : fC (16 * Y + C0) = iI w0) : Met l yX0_heightOf (ws_ yX0_heightOf cX0_heightOf 5 (some .int)) ({ frames := 0, cells := 0, slots := 0, locals := 0 }) (roP (dC, dI) [.ref (ad 0), .int (nI C0), .int (nI Y)] (dmW ad ct fM nM kn fO fC kp fK fT) (dmT ct)) (QcRead (iI (256 * (w0 / 16 - (Y : Int)) * (w0 / 16 - (Y : Int)) + w0))) 0 0 (fun _ => False) := by
  refine Met.ofW (cc := cX0_heightOf) (maxL := 5) (ret := (some .int)) (by decide) rfl ?_
  intro p e s m args below meth c s₁ Bo hml hv
  obtain ⟨rfl, hP, hK⟩ := hv
  have hx := Bo.exec
  have hb := Bo.bytes
  have hr := Bo.returns
  have hts := atoms_spec (ws := ws_ yX0_heightOf cX0_heightOf 5 (some .int)) Bo.pre
  have hts : ∀ w ∈ lw_all, w.before _ s = true := fun w h => hts w (List.mem_cons_of_mem _ h)
  have hown : s.vm.findClass RX0 = some m.cls := findClass_of_methodNamed Bo.named
  have hlocks := Bo.notSynchronized
  have hl := lv_entry ([.ref (ad 0), .int (nI C0), .int (nI Y)]) (n := 5) (Nat.le_of_ble_eq_true rfl)
  rw [lg_entry_eq]
  generalize (lg_sl ([.ref (ad 0), .int (nI C0), .int (nI Y)]) ++ List.replicate (5 - (lg_sl ([.ref (ad 0), .int (nI C0), .int (nI Y)])).length) Slot.unset).toArray = ls at hl ⊢
  have hl : lv_has ls 5 [(0, .ref (ad 0)), (1, .int (nI C0)), (2, .int (nI Y))] := hl
  refine lv_aload_n hx hb dX0_heightOf_0 rfl (lv_at hl 0 rfl) ?_
  refine va_get (D := (dC, dI)) (ci := 0) (v := .ref (ad 3)) (C := RX0) (T := TX0) (N := 8) hx hb hts in_X0 hown hK hP 0 rfl rfl 4 (by decide) (hts _ q25) (fun _ h9 => h9) rfl dX0_heightOf_1 ?_
  refine lv_bipush (v := 16) hx hb dX0_heightOf_4 (by decide) ?_
  refine lv_iload_n hx hb dX0_heightOf_6 rfl (lv_at hl 2 rfl) ?_
  refine lv_imul hx hb dX0_heightOf_7 ?_
  refine lv_iload_n hx hb dX0_heightOf_8 rfl (lv_at hl 1 rfl) ?_
  refine lv_iadd hx hb dX0_heightOf_9 ?_
  refine dk_top (nI (16 * Y + C0)) (ix_e C0 Y) ?_
  refine dk_iald hx hb hK hP 3 2 rfl rfl (by omega) (by decide) dX0_heightOf_10 ?_
  refine dk_top (iI w0) (ho) ?_
  refine lv_istore_n (lv' := [(3, .int (iI w0)), (0, .ref (ad 0)), (1, .int (nI C0)), (2, .int (nI Y))]) hx hb dX0_heightOf_11 rfl hl (by decide) rfl (fun ls hl => ?_)
  refine lv_iload_n hx hb dX0_heightOf_12 rfl (lv_at hl 0 rfl) ?_
  refine lv_iconst (v := 4) hx hb dX0_heightOf_13 (by decide) ?_
  refine lv_ishr hx hb dX0_heightOf_14 ?_
  refine dk_top (iI (w0 / 16)) (nm_shrI h0 h1) ?_
  refine lv_iload_n hx hb dX0_heightOf_15 rfl (lv_at hl 3 rfl) ?_
  refine lv_isub hx hb dX0_heightOf_16 ?_
  refine dk_top (iI (w0 / 16 - (Y : Int))) (by rw [iI_n, iI_sub]) ?_
  refine lv_istore (lv' := [(4, .int (iI (w0 / 16 - (Y : Int)))), (3, .int (iI w0)), (0, .ref (ad 0)), (1, .int (nI C0)), (2, .int (nI Y))]) hx hb dX0_heightOf_17 hl (by decide) rfl (fun ls hl => ?_)
  refine lv_sipush (v := 256) hx hb dX0_heightOf_19 (by decide) ?_
  refine lv_iload hx hb dX0_heightOf_22 (lv_at hl 0 rfl) ?_
  refine lv_imul hx hb dX0_heightOf_24 ?_
  refine lv_iload hx hb dX0_heightOf_25 (lv_at hl 0 rfl) ?_
  refine lv_imul hx hb dX0_heightOf_27 ?_
  refine lv_iload_n hx hb dX0_heightOf_28 rfl (lv_at hl 1 rfl) ?_
  refine lv_iadd hx hb dX0_heightOf_29 ?_
  refine dk_top (iI (256 * (w0 / 16 - (Y : Int)) * (w0 / 16 - (Y : Int)) + w0)) (by rw [iI_256, iI_mul, iI_mul, iI_add]) ?_
  exact W.iret (v := (iI (256 * (w0 / 16 - (Y : Int)) * (w0 / 16 - (Y : Int)) + w0))) hx hb hr (fun t ht hW => ⟨rfl, ht⟩) (fun q h => by cases h) dX0_heightOf_30
set_option maxHeartbeats 4000000 in
set_option maxRecDepth 100000 in
/-- lastPlace(i0, u0, Y): the last place at which i0 is lower -/
theorem metX0_lastPlace (l : Launch) (dC : Nat → ClassId) (dI : Nat → Nat → Nat) (ad : Nat → Nat) (ct : Nat → ClassId) (fM : Nat → Int32) (nM kn : Int32) (fO fC : Nat → Int32) (kp : Int32) (fK fT : Nat → Int32) (v : Nat → Int) (Y i0 u0 : Nat) (hY : Y < 12) (hi : i0 < u0) (hu : u0 < 16) (hv : rowV fC Y v) (hi0 : 0 ≤ v i0) (hu0 : 0 ≤ v u0) : Met l yX0_lastPlace (ws_ yX0_lastPlace cX0_lastPlace 7 (some .int)) ({ frames := 1, cells := 0, slots := 0, locals := 24 }) (roP (dC, dI) [.ref (ad 0), .int (nI i0), .int (nI u0), .int (nI Y)] (dmW ad ct fM nM kn fO fC kp fK fT) (dmT ct)) (QcRead (iI (lp Y v i0 u0))) 0 0 (fun _ => False) := by
  refine Met.ofW (cc := cX0_lastPlace) (maxL := 7) (ret := (some .int)) (by decide) rfl ?_
  intro p e s m args below meth c s₁ Bo hml hv
  obtain ⟨rfl, hP, hK⟩ := hv
  have hx := Bo.exec
  have hb := Bo.bytes
  have hr := Bo.returns
  have hts := atoms_spec (ws := ws_ yX0_lastPlace cX0_lastPlace 7 (some .int)) Bo.pre
  have hts : ∀ w ∈ lw_all, w.before _ s = true := fun w h => hts w (List.mem_cons_of_mem _ h)
  have hown : s.vm.findClass RX0 = some m.cls := findClass_of_methodNamed Bo.named
  have hlocks := Bo.notSynchronized
  have hl := lv_entry ([.ref (ad 0), .int (nI i0), .int (nI u0), .int (nI Y)]) (n := 7) (Nat.le_of_ble_eq_true rfl)
  rw [lg_entry_eq]
  generalize (lg_sl ([.ref (ad 0), .int (nI i0), .int (nI u0), .int (nI Y)]) ++ List.replicate (7 - (lg_sl ([.ref (ad 0), .int (nI i0), .int (nI u0), .int (nI Y)])).length) Slot.unset).toArray = ls at hl ⊢
  have hl : lv_has ls 7 [(0, .ref (ad 0)), (1, .int (nI i0)), (2, .int (nI u0)), (3, .int (nI Y))] := hl
  refine lv_sipush (v := 256) hx hb dX0_lastPlace_0 (by decide) ?_
  refine lv_iload_n hx hb dX0_lastPlace_3 rfl (lv_at hl 2 rfl) ?_
  refine lv_iload_n hx hb dX0_lastPlace_4 rfl (lv_at hl 2 rfl) ?_
  refine lv_imul hx hb dX0_lastPlace_5 ?_
  refine lv_iload_n hx hb dX0_lastPlace_6 rfl (lv_at hl 1 rfl) ?_
  refine lv_iload_n hx hb dX0_lastPlace_7 rfl (lv_at hl 1 rfl) ?_
  refine lv_imul hx hb dX0_lastPlace_8 ?_
  refine lv_isub hx hb dX0_lastPlace_9 ?_
  refine lv_imul hx hb dX0_lastPlace_10 ?_
  refine lv_aload_n hx hb dX0_lastPlace_11 rfl (lv_at hl 0 rfl) ?_
  refine lv_iload_n hx hb dX0_lastPlace_12 rfl (lv_at hl 2 rfl) ?_
  refine lv_iload_n hx hb dX0_lastPlace_13 rfl (lv_at hl 3 rfl) ?_
  refine dk_roV (rest := [.int ((256 : Int32) * (((nI u0) * (nI u0)) - ((nI i0) * (nI i0))))]) ⟨hx, hb, hml, hown, hts⟩ (metX0_heightOf l dC dI ad ct fM nM kn fO fC kp fK fT u0 Y (v u0) hu hY hu0 (row_b hv hu hu0) (hv u0 hu).1) (cwV 2 hts (lw_V q83 q85 qs5 q11 q86) rfl rfl rfl (by decide +kernel) ⟨Nat.le_of_ble_eq_true rfl, Nat.le_of_ble_eq_true rfl⟩) hK hP 0 rfl rfl rfl rfl hl.1 rfl (Nat.le_of_ble_eq_true rfl) ⟨Nat.le_of_ble_eq_true rfl, Nat.le_of_ble_eq_true rfl⟩ dX0_lastPlace_14 ?_
  refine lv_iadd hx hb dX0_lastPlace_17 ?_
  refine lv_aload_n hx hb dX0_lastPlace_18 rfl (lv_at hl 0 rfl) ?_
  refine lv_iload_n hx hb dX0_lastPlace_19 rfl (lv_at hl 1 rfl) ?_
  refine lv_iload_n hx hb dX0_lastPlace_20 rfl (lv_at hl 3 rfl) ?_
  refine dk_roV (rest := [.int (((256 : Int32) * (((nI u0) * (nI u0)) - ((nI i0) * (nI i0)))) + (iI (256 * (v u0 / 16 - (Y : Int)) * (v u0 / 16 - (Y : Int)) + v u0)))]) ⟨hx, hb, hml, hown, hts⟩ (metX0_heightOf l dC dI ad ct fM nM kn fO fC kp fK fT i0 Y (v i0) (by omega) hY hi0 (row_b hv (by omega) hi0) (hv i0 (by omega)).1) (cwV 2 hts (lw_V q83 q85 qs5 q11 q86) rfl rfl rfl (by decide +kernel) ⟨Nat.le_of_ble_eq_true rfl, Nat.le_of_ble_eq_true rfl⟩) hK hP 0 rfl rfl rfl rfl hl.1 rfl (Nat.le_of_ble_eq_true rfl) ⟨Nat.le_of_ble_eq_true rfl, Nat.le_of_ble_eq_true rfl⟩ dX0_lastPlace_21 ?_
  refine lv_isub hx hb dX0_lastPlace_24 ?_
  refine dk_top (iI (lpU Y v i0 u0)) (nm_lpU) ?_
  refine lv_istore (lv' := [(4, .int (iI (lpU Y v i0 u0))), (0, .ref (ad 0)), (1, .int (nI i0)), (2, .int (nI u0)), (3, .int (nI Y))]) hx hb dX0_lastPlace_25 hl (by decide) rfl (fun ls hl => ?_)
  refine lv_sipush (v := 512) hx hb dX0_lastPlace_27 (by decide) ?_
  refine lv_iload_n hx hb dX0_lastPlace_30 rfl (lv_at hl 3 rfl) ?_
  refine lv_iload_n hx hb dX0_lastPlace_31 rfl (lv_at hl 2 rfl) ?_
  refine lv_isub hx hb dX0_lastPlace_32 ?_
  refine lv_imul hx hb dX0_lastPlace_33 ?_
  refine dk_top (iI (lpL i0 u0)) (nm_lpL) ?_
  refine lv_istore (lv' := [(5, .int (iI (lpL i0 u0))), (4, .int (iI (lpU Y v i0 u0))), (0, .ref (ad 0)), (1, .int (nI i0)), (2, .int (nI u0)), (3, .int (nI Y))]) hx hb dX0_lastPlace_34 hl (by decide) rfl (fun ls hl => ?_)
  have hL := lpL_b hi hu
  have hU := lp_U (Y := Y) (v := v) hi hu hY hi0 (row_b hv (by omega) hi0) hu0 (row_b hv hu hu0)
  have hne : ¬ iI (lpL i0 u0) = 0 := by
    rw [iI_0, iI_eq (by omega) (by omega) (by omega) (by omega)]
    omega
  have hdv := iI_div (a := lpU Y v i0 u0) (b := lpL i0 u0) (by omega) (by omega) (by omega) (by omega)
  refine lv_iload hx hb dX0_lastPlace_36 (lv_at hl 1 rfl) ?_
  refine lv_iload hx hb dX0_lastPlace_38 (lv_at hl 0 rfl) ?_
  refine lv_idiv hx hb dX0_lastPlace_40 (hne) ?_
  refine dk_top (iI ((lpU Y v i0 u0).tdiv (lpL i0 u0))) (hdv) ?_
  refine lv_istore (lv' := [(6, .int (iI ((lpU Y v i0 u0).tdiv (lpL i0 u0)))), (5, .int (iI (lpL i0 u0))), (4, .int (iI (lpU Y v i0 u0))), (0, .ref (ad 0)), (1, .int (nI i0)), (2, .int (nI u0)), (3, .int (nI Y))]) hx hb dX0_lastPlace_41 hl (by decide) rfl (fun ls hl => ?_)
  refine lv_iload hx hb dX0_lastPlace_43 (lv_at hl 2 rfl) ?_
  refine lv_iload hx hb dX0_lastPlace_45 (lv_at hl 1 rfl) ?_
  refine lv_irem hx hb dX0_lastPlace_47 (hne) ?_
  refine dk_top (iI (lpU Y v i0 u0 - (lpU Y v i0 u0).tdiv (lpL i0 u0) * lpL i0 u0)) (by rw [hdv, iI_mul, iI_sub]) ?_
  refine lv_if_ge (tgt := 58) hx hb dX0_lastPlace_48 (by decide) (fun c_48 => ?_) (fun c_48 => ?_)
  · skip
    refine lv_iload hx hb dX0_lastPlace_58 (lv_at hl 0 rfl) ?_
    refine dk_top (iI (lp Y v i0 u0)) (lp_ge hi hu c_48) ?_
    exact W.iret (v := (iI (lp Y v i0 u0))) hx hb hr (fun t ht hW => ⟨rfl, ht⟩) (fun q h => by cases h) dX0_lastPlace_60
  · skip
    refine lv_iload hx hb dX0_lastPlace_51 (lv_at hl 0 rfl) ?_
    refine lv_iconst (v := 1) hx hb dX0_lastPlace_53 (by decide) ?_
    refine lv_isub hx hb dX0_lastPlace_54 ?_
    refine lv_goto (tgt := 60) hx hb dX0_lastPlace_55 (by decide) ?_
    refine dk_top (iI (lp Y v i0 u0)) (lp_lt hi hu c_48) ?_
    exact W.iret (v := (iI (lp Y v i0 u0))) hx hb hr (fun t ht hW => ⟨rfl, ht⟩) (fun q h => by cases h) dX0_lastPlace_60
end
section
set_option maxHeartbeats 4000000 in
set_option maxRecDepth 100000 in
/-- mark(x, y) -/
theorem metX0_mark (l : Launch) (dC : Nat → ClassId) (dI : Nat → Nat → Nat) (ad : Nat → Nat) (ct : Nat → ClassId) (fM : Nat → Int32) (nM kn : Int32) (fO fC : Nat → Int32) (kp : Int32) (fK fT : Nat → Int32) (hJ : dmJ ad) (hI : dmI fM nM kn fO) (x y : Int32) : Met l yX0_mark (ws_ yX0_mark cX0_mark 5 (some .int)) ({ frames := 1, cells := 0, slots := 0, locals := 21 }) (roP (dC, dI) [.ref (ad 0), .int x, .int y] (dmW ad ct fM nM kn fO fC kp fK fT) (dmT ct)) (muI (dC, dI) (fun (r : Int32) (u : (Nat → Int32) × Int32 × Int32) => r = an_mark fM x y ∧ u.1 = st_mark fM x y ∧ dmI u.1 u.2.1 u.2.2 fO) (fun u => dmW ad ct u.1 u.2.1 u.2.2 fO fC kp fK fT) (dmA ad)) 0 0 (dmA ad) := by
  refine Met.ofW (cc := cX0_mark) (maxL := 5) (ret := (some .int)) (by decide) rfl ?_
  intro p e s m args below meth c s₁ Bo hml hv
  obtain ⟨rfl, hP, hK⟩ := hv
  have hx := Bo.exec
  have hb := Bo.bytes
  have hr := Bo.returns
  have hts := atoms_spec (ws := ws_ yX0_mark cX0_mark 5 (some .int)) Bo.pre
  have hts : ∀ w ∈ lw_all, w.before _ s = true := fun w h => hts w (List.mem_cons_of_mem _ h)
  have hown : s.vm.findClass RX0 = some m.cls := findClass_of_methodNamed Bo.named
  have hlocks := Bo.notSynchronized
  have hl := lv_entry ([.ref (ad 0), .int x, .int y]) (n := 5) (Nat.le_of_ble_eq_true rfl)
  rw [lg_entry_eq]
  generalize (lg_sl ([.ref (ad 0), .int x, .int y]) ++ List.replicate (5 - (lg_sl ([.ref (ad 0), .int x, .int y])).length) Slot.unset).toArray = ls at hl ⊢
  have hl : lv_has ls 5 [(0, .ref (ad 0)), (1, .int x), (2, .int y)] := hl
  have hD := dm_D hJ ct fM nM kn fO fC kp fK fT
  have hS : va_S (dmA ad) s.heap s.heap [] := va_S.rf
  refine lv_iload_n hx hb dX0_mark_0 rfl (lv_at hl 1 rfl) ?_
  refine lv_iload_n hx hb dX0_mark_1 rfl (lv_at hl 2 rfl) ?_
  refine dk_roS (rest := []) ⟨hx, hb, hml, hown, hts⟩ (metX0_isPlace l x y) (va_cwS 2 hts (lw_S q52 q53 q11 q54) rfl rfl rfl (by decide +kernel) ⟨Nat.le_of_ble_eq_true rfl, Nat.le_of_ble_eq_true rfl⟩) rfl hl.1 rfl (Nat.le_of_ble_eq_true rfl) ⟨Nat.le_of_ble_eq_true rfl, Nat.le_of_ble_eq_true rfl⟩ dX0_mark_2 ?_
  refine lv_if_ne (tgt := 10) hx hb dX0_mark_5 (by decide) (fun c_5 => ?_) (fun c_5 => ?_)
  · skip
    have hpl : pl_ x y = true := by
      by_cases q : pl_ x y = true
      · exact q
      · rw [if_neg q] at c_5
        exact absurd rfl c_5
    obtain ⟨X, Y, hX, hY, rfl, rfl⟩ := pl_of hpl
    refine lv_bipush (v := 16) hx hb dX0_mark_10 (by decide) ?_
    refine lv_iload_n hx hb dX0_mark_12 rfl (lv_at hl 2 rfl) ?_
    refine lv_imul hx hb dX0_mark_13 ?_
    refine lv_iload_n hx hb dX0_mark_14 rfl (lv_at hl 1 rfl) ?_
    refine lv_iadd hx hb dX0_mark_15 ?_
    refine dk_top (nI (16 * Y + X)) (ix_e X Y) ?_
    refine lv_istore_n (lv' := [(3, .int (nI (16 * Y + X))), (0, .ref (ad 0)), (1, .int (nI X)), (2, .int (nI Y))]) hx hb dX0_mark_16 rfl hl (by decide) rfl (fun ls hl => ?_)
    refine lv_aload_n hx hb dX0_mark_17 rfl (lv_at hl 1 rfl) ?_
    refine va_get (D := (dC, dI)) (ci := 0) (v := .ref (ad 1)) (C := RX0) (T := TX0) (N := 8) hx hb hts in_X0 hown hK hP 0 rfl rfl 0 (by decide) (hts _ q21) (fun _ h9 => h9) rfl dX0_mark_18 ?_
    refine lv_iload_n hx hb dX0_mark_21 rfl (lv_at hl 0 rfl) ?_
    refine dk_zald hx hb hK hP 1 0 rfl rfl (by omega) (by decide) dX0_mark_22 ?_
    refine lv_if_eq (tgt := 30) hx hb dX0_mark_23 (by decide) (fun c_23 => ?_) (fun c_23 => ?_)
    · skip
      refine lv_iconst (v := 1) hx hb dX0_mark_30 (by decide) ?_
      refine lv_istore (lv' := [(4, .int (1 : Int32)), (3, .int (nI (16 * Y + X))), (0, .ref (ad 0)), (1, .int (nI X)), (2, .int (nI Y))]) hx hb dX0_mark_31 hl (by decide) rfl (fun ls hl => ?_)
      refine lv_aload_n hx hb dX0_mark_33 rfl (lv_at hl 2 rfl) ?_
      refine va_get (D := (dC, dI)) (ci := 0) (v := .ref (ad 1)) (C := RX0) (T := TX0) (N := 8) hx hb hts in_X0 hown hK hP 0 rfl rfl 0 (by decide) (hts _ q21) (fun _ h9 => h9) rfl dX0_mark_34 ?_
      refine lv_iload_n hx hb dX0_mark_37 rfl (lv_at hl 1 rfl) ?_
      refine lv_iconst (v := 1) hx hb dX0_mark_38 (by decide) ?_
      refine dk_zast hx hb hK hP hD hS 1 0 rfl rfl rfl (by omega) (by decide) dX0_mark_39 (fun H locs hP hS => ?_)
      have hP : va_P (dC, dI) vwCl (dmW ad ct (upd fM (16 * Y + X) (1 : Int32)) nM kn fO fC kp fK fT) H := hP
      have hD := dm_D hJ ct (upd fM (16 * Y + X) (1 : Int32)) nM kn fO fC kp fK fT
      refine lv_aload_n hx hb dX0_mark_40 rfl (lv_at hl 2 rfl) ?_
      refine lv_dup hx hb dX0_mark_41 rfl ?_
      refine va_get (D := (dC, dI)) (ci := 0) (v := .int nM) (C := RX0) (T := TX0) (N := 8) hx hb hts in_X0 hown hK hP 0 rfl rfl 1 (by decide) (hts _ q22) (fun _ h9 => h9) rfl dX0_mark_42 ?_
      refine lv_iload hx hb dX0_mark_45 (lv_at hl 0 rfl) ?_
      refine lv_iadd hx hb dX0_mark_47 ?_
      refine va_put (D := (dC, dI)) (ci := 0) (v := .int (nM + (1 : Int32))) (ty := .int) (C := RX0) (T := TX0) (N := 8) hx hb hts in_X0 tyX0 tyX0_ok nmX0 hown hK hP hD hS 0 rfl rfl 1 (by decide) (hts _ q22) (fun _ h9 => h9) rfl (by decide +kernel) rfl rfl (Nat.le_of_ble_eq_true rfl) dX0_mark_48 (fun H locs hP _ hS => ?_)
      have hP : va_P (dC, dI) vwCl (dmW ad ct (upd fM (16 * Y + X) (1 : Int32)) (nM + (1 : Int32)) kn fO fC kp fK fT) H := hP
      have hD := dm_D hJ ct (upd fM (16 * Y + X) (1 : Int32)) (nM + (1 : Int32)) kn fO fC kp fK fT
      refine lv_aload_n hx hb dX0_mark_51 rfl (lv_at hl 2 rfl) ?_
      refine lv_aload_n hx hb dX0_mark_52 rfl (lv_at hl 2 rfl) ?_
      refine va_get (D := (dC, dI)) (ci := 0) (v := .int kn) (C := RX0) (T := TX0) (N := 8) hx hb hts in_X0 hown hK hP 0 rfl rfl 2 (by decide) (hts _ q23) (fun _ h9 => h9) rfl dX0_mark_53 ?_
      refine lv_if_eq (tgt := 68) hx hb dX0_mark_56 (by decide) (fun c_56 => ?_) (fun c_56 => ?_)
      · skip
        refine lv_iconst (v := 0) hx hb dX0_mark_68 (by decide) ?_
        refine va_put (D := (dC, dI)) (ci := 0) (v := .int (0 : Int32)) (ty := .boolean) (C := RX0) (T := TX0) (N := 8) hx hb hts in_X0 tyX0 tyX0_ok nmX0 hown hK hP hD hS 0 rfl rfl 2 (by decide) (hts _ q23) (fun _ h9 => h9) rfl (by decide +kernel) rfl rfl (Nat.le_of_ble_eq_true rfl) dX0_mark_69 (fun H locs hP _ hS => ?_)
        have hP : va_P (dC, dI) vwCl (dmW ad ct (upd fM (16 * Y + X) (1 : Int32)) (nM + (1 : Int32)) (0 : Int32) fO fC kp fK fT) H := hP
        have hD := dm_D hJ ct (upd fM (16 * Y + X) (1 : Int32)) (nM + (1 : Int32)) (0 : Int32) fO fC kp fK fT
        refine lv_iload hx hb dX0_mark_72 (lv_at hl 0 rfl) ?_
        exact W.iret (v := (1 : Int32)) hx hb hr (fun t ht hW => ⟨⟨(1 : Int32), (upd fM (16 * Y + X) (1 : Int32), nM + (1 : Int32), (0 : Int32)), rfl, ⟨by unfold an_mark; rw [if_pos hpl, ix_n hX hY, if_pos c_23], by unfold st_mark; rw [if_pos hpl, ix_n hX hY], dmI_mark0 hI (by omega) c_23⟩, dk_h ht hP⟩, hS.F ht⟩) hS.2.2 dX0_mark_74
      · skip
        refine lv_iload hx hb dX0_mark_59 (lv_at hl 0 rfl) ?_
        refine lv_if_ne (tgt := 68) hx hb dX0_mark_61 (by decide) (fun c_61 => ?_) (fun c_61 => ?_)
        · skip
          refine lv_iconst (v := 0) hx hb dX0_mark_68 (by decide) ?_
          refine va_put (D := (dC, dI)) (ci := 0) (v := .int (0 : Int32)) (ty := .boolean) (C := RX0) (T := TX0) (N := 8) hx hb hts in_X0 tyX0 tyX0_ok nmX0 hown hK hP hD hS 0 rfl rfl 2 (by decide) (hts _ q23) (fun _ h9 => h9) rfl (by decide +kernel) rfl rfl (Nat.le_of_ble_eq_true rfl) dX0_mark_69 (fun H locs hP _ hS => ?_)
          have hP : va_P (dC, dI) vwCl (dmW ad ct (upd fM (16 * Y + X) (1 : Int32)) (nM + (1 : Int32)) (0 : Int32) fO fC kp fK fT) H := hP
          have hD := dm_D hJ ct (upd fM (16 * Y + X) (1 : Int32)) (nM + (1 : Int32)) (0 : Int32) fO fC kp fK fT
          refine lv_iload hx hb dX0_mark_72 (lv_at hl 0 rfl) ?_
          exact W.iret (v := (1 : Int32)) hx hb hr (fun t ht hW => ⟨⟨(1 : Int32), (upd fM (16 * Y + X) (1 : Int32), nM + (1 : Int32), (0 : Int32)), rfl, ⟨by unfold an_mark; rw [if_pos hpl, ix_n hX hY, if_pos c_23], by unfold st_mark; rw [if_pos hpl, ix_n hX hY], dmI_mark0 hI (by omega) c_23⟩, dk_h ht hP⟩, hS.F ht⟩) hS.2.2 dX0_mark_74
        · skip
          exact absurd c_61 (by decide)
    · skip
      refine lv_iconst (v := 0) hx hb dX0_mark_26 (by decide) ?_
      refine lv_goto (tgt := 31) hx hb dX0_mark_27 (by decide) ?_
      refine lv_istore (lv' := [(4, .int (0 : Int32)), (3, .int (nI (16 * Y + X))), (0, .ref (ad 0)), (1, .int (nI X)), (2, .int (nI Y))]) hx hb dX0_mark_31 hl (by decide) rfl (fun ls hl => ?_)
      refine lv_aload_n hx hb dX0_mark_33 rfl (lv_at hl 2 rfl) ?_
      refine va_get (D := (dC, dI)) (ci := 0) (v := .ref (ad 1)) (C := RX0) (T := TX0) (N := 8) hx hb hts in_X0 hown hK hP 0 rfl rfl 0 (by decide) (hts _ q21) (fun _ h9 => h9) rfl dX0_mark_34 ?_
      refine lv_iload_n hx hb dX0_mark_37 rfl (lv_at hl 1 rfl) ?_
      refine lv_iconst (v := 1) hx hb dX0_mark_38 (by decide) ?_
      refine dk_zast hx hb hK hP hD hS 1 0 rfl rfl rfl (by omega) (by decide) dX0_mark_39 (fun H locs hP hS => ?_)
      have hP : va_P (dC, dI) vwCl (dmW ad ct (upd fM (16 * Y + X) (1 : Int32)) nM kn fO fC kp fK fT) H := hP
      have hD := dm_D hJ ct (upd fM (16 * Y + X) (1 : Int32)) nM kn fO fC kp fK fT
      refine lv_aload_n hx hb dX0_mark_40 rfl (lv_at hl 2 rfl) ?_
      refine lv_dup hx hb dX0_mark_41 rfl ?_
      refine va_get (D := (dC, dI)) (ci := 0) (v := .int nM) (C := RX0) (T := TX0) (N := 8) hx hb hts in_X0 hown hK hP 0 rfl rfl 1 (by decide) (hts _ q22) (fun _ h9 => h9) rfl dX0_mark_42 ?_
      refine lv_iload hx hb dX0_mark_45 (lv_at hl 0 rfl) ?_
      refine lv_iadd hx hb dX0_mark_47 ?_
      refine dk_top (nM) (Int32.add_zero nM) ?_
      refine va_put (D := (dC, dI)) (ci := 0) (v := .int nM) (ty := .int) (C := RX0) (T := TX0) (N := 8) hx hb hts in_X0 tyX0 tyX0_ok nmX0 hown hK hP hD hS 0 rfl rfl 1 (by decide) (hts _ q22) (fun _ h9 => h9) rfl (by decide +kernel) rfl rfl (Nat.le_of_ble_eq_true rfl) dX0_mark_48 (fun H locs hP _ hS => ?_)
      have hP : va_P (dC, dI) vwCl (dmW ad ct (upd fM (16 * Y + X) (1 : Int32)) nM kn fO fC kp fK fT) H := hP
      have hD := dm_D hJ ct (upd fM (16 * Y + X) (1 : Int32)) nM kn fO fC kp fK fT
      refine lv_aload_n hx hb dX0_mark_51 rfl (lv_at hl 2 rfl) ?_
      refine lv_aload_n hx hb dX0_mark_52 rfl (lv_at hl 2 rfl) ?_
      refine va_get (D := (dC, dI)) (ci := 0) (v := .int kn) (C := RX0) (T := TX0) (N := 8) hx hb hts in_X0 hown hK hP 0 rfl rfl 2 (by decide) (hts _ q23) (fun _ h9 => h9) rfl dX0_mark_53 ?_
      refine lv_if_eq (tgt := 68) hx hb dX0_mark_56 (by decide) (fun c_56 => ?_) (fun c_56 => ?_)
      · skip
        refine lv_iconst (v := 0) hx hb dX0_mark_68 (by decide) ?_
        refine va_put (D := (dC, dI)) (ci := 0) (v := .int (0 : Int32)) (ty := .boolean) (C := RX0) (T := TX0) (N := 8) hx hb hts in_X0 tyX0 tyX0_ok nmX0 hown hK hP hD hS 0 rfl rfl 2 (by decide) (hts _ q23) (fun _ h9 => h9) rfl (by decide +kernel) rfl rfl (Nat.le_of_ble_eq_true rfl) dX0_mark_69 (fun H locs hP _ hS => ?_)
        have hP : va_P (dC, dI) vwCl (dmW ad ct (upd fM (16 * Y + X) (1 : Int32)) nM (0 : Int32) fO fC kp fK fT) H := hP
        have hD := dm_D hJ ct (upd fM (16 * Y + X) (1 : Int32)) nM (0 : Int32) fO fC kp fK fT
        refine lv_iload hx hb dX0_mark_72 (lv_at hl 0 rfl) ?_
        exact W.iret (v := (0 : Int32)) hx hb hr (fun t ht hW => ⟨⟨(0 : Int32), (upd fM (16 * Y + X) (1 : Int32), nM, (0 : Int32)), rfl, ⟨by unfold an_mark; rw [if_pos hpl, ix_n hX hY, if_neg c_23], by unfold st_mark; rw [if_pos hpl, ix_n hX hY], dmI_same hI (⟨fun q => absurd q c_23, fun q => absurd q (by decide)⟩) (fun q => absurd rfl q)⟩, dk_h ht hP⟩, hS.F ht⟩) hS.2.2 dX0_mark_74
      · skip
        refine lv_iload hx hb dX0_mark_59 (lv_at hl 0 rfl) ?_
        refine lv_if_ne (tgt := 68) hx hb dX0_mark_61 (by decide) (fun c_61 => ?_) (fun c_61 => ?_)
        · skip
          exact absurd rfl c_61
        · skip
          refine lv_iconst (v := 1) hx hb dX0_mark_64 (by decide) ?_
          refine lv_goto (tgt := 69) hx hb dX0_mark_65 (by decide) ?_
          refine va_put (D := (dC, dI)) (ci := 0) (v := .int (1 : Int32)) (ty := .boolean) (C := RX0) (T := TX0) (N := 8) hx hb hts in_X0 tyX0 tyX0_ok nmX0 hown hK hP hD hS 0 rfl rfl 2 (by decide) (hts _ q23) (fun _ h9 => h9) rfl (by decide +kernel) rfl rfl (Nat.le_of_ble_eq_true rfl) dX0_mark_69 (fun H locs hP _ hS => ?_)
          have hP : va_P (dC, dI) vwCl (dmW ad ct (upd fM (16 * Y + X) (1 : Int32)) nM (1 : Int32) fO fC kp fK fT) H := hP
          have hD := dm_D hJ ct (upd fM (16 * Y + X) (1 : Int32)) nM (1 : Int32) fO fC kp fK fT
          refine lv_iload hx hb dX0_mark_72 (lv_at hl 0 rfl) ?_
          exact W.iret (v := (0 : Int32)) hx hb hr (fun t ht hW => ⟨⟨(0 : Int32), (upd fM (16 * Y + X) (1 : Int32), nM, (1 : Int32)), rfl, ⟨by unfold an_mark; rw [if_pos hpl, ix_n hX hY, if_neg c_23], by unfold st_mark; rw [if_pos hpl, ix_n hX hY], dmI_same hI (⟨fun q => absurd q c_23, fun q => absurd q (by decide)⟩) (fun _ => c_56)⟩, dk_h ht hP⟩, hS.F ht⟩) hS.2.2 dX0_mark_74
  · skip
    have hpl : ¬ pl_ x y = true := fun q => by
      rw [if_pos q] at c_5
      exact absurd c_5 (by decide)
    refine lv_iconst (v := -1) hx hb dX0_mark_8 (by decide) ?_
    exact W.iret (v := (-1 : Int32)) hx hb hr (fun t ht hW => ⟨⟨(-1 : Int32), (fM, nM, kn), rfl, ⟨by unfold an_mark; rw [if_neg hpl], by unfold st_mark; rw [if_neg hpl], hI⟩, dk_h ht hP⟩, hS.F ht⟩) hS.2.2 dX0_mark_9
set_option maxHeartbeats 4000000 in
set_option maxRecDepth 100000 in
/-- clear(x, y) -/
theorem metX0_clear (l : Launch) (dC : Nat → ClassId) (dI : Nat → Nat → Nat) (ad : Nat → Nat) (ct : Nat → ClassId) (fM : Nat → Int32) (nM kn : Int32) (fO fC : Nat → Int32) (kp : Int32) (fK fT : Nat → Int32) (hJ : dmJ ad) (hI : dmI fM nM kn fO) (x y : Int32) : Met l yX0_clear (ws_ yX0_clear cX0_clear 5 (some .int)) ({ frames := 1, cells := 0, slots := 0, locals := 21 }) (roP (dC, dI) [.ref (ad 0), .int x, .int y] (dmW ad ct fM nM kn fO fC kp fK fT) (dmT ct)) (muI (dC, dI) (fun (r : Int32) (u : (Nat → Int32) × Int32 × Int32) => r = an_clear fM x y ∧ u.1 = st_clear fM x y ∧ dmI u.1 u.2.1 u.2.2 fO) (fun u => dmW ad ct u.1 u.2.1 u.2.2 fO fC kp fK fT) (dmA ad)) 0 0 (dmA ad) := by
  refine Met.ofW (cc := cX0_clear) (maxL := 5) (ret := (some .int)) (by decide) rfl ?_
  intro p e s m args below meth c s₁ Bo hml hv
  obtain ⟨rfl, hP, hK⟩ := hv
  have hx := Bo.exec
  have hb := Bo.bytes
  have hr := Bo.returns
  have hts := atoms_spec (ws := ws_ yX0_clear cX0_clear 5 (some .int)) Bo.pre
  have hts : ∀ w ∈ lw_all, w.before _ s = true := fun w h => hts w (List.mem_cons_of_mem _ h)
  have hown : s.vm.findClass RX0 = some m.cls := findClass_of_methodNamed Bo.named
  have hlocks := Bo.notSynchronized
  have hl := lv_entry ([.ref (ad 0), .int x, .int y]) (n := 5) (Nat.le_of_ble_eq_true rfl)
  rw [lg_entry_eq]
  generalize (lg_sl ([.ref (ad 0), .int x, .int y]) ++ List.replicate (5 - (lg_sl ([.ref (ad 0), .int x, .int y])).length) Slot.unset).toArray = ls at hl ⊢
  have hl : lv_has ls 5 [(0, .ref (ad 0)), (1, .int x), (2, .int y)] := hl
  have hD := dm_D hJ ct fM nM kn fO fC kp fK fT
  have hS : va_S (dmA ad) s.heap s.heap [] := va_S.rf
  refine lv_iload_n hx hb dX0_clear_0 rfl (lv_at hl 1 rfl) ?_
  refine lv_iload_n hx hb dX0_clear_1 rfl (lv_at hl 2 rfl) ?_
  refine dk_roS (rest := []) ⟨hx, hb, hml, hown, hts⟩ (metX0_isPlace l x y) (va_cwS 2 hts (lw_S q52 q53 q11 q54) rfl rfl rfl (by decide +kernel) ⟨Nat.le_of_ble_eq_true rfl, Nat.le_of_ble_eq_true rfl⟩) rfl hl.1 rfl (Nat.le_of_ble_eq_true rfl) ⟨Nat.le_of_ble_eq_true rfl, Nat.le_of_ble_eq_true rfl⟩ dX0_clear_2 ?_
  refine lv_if_ne (tgt := 10) hx hb dX0_clear_5 (by decide) (fun c_5 => ?_) (fun c_5 => ?_)
  · skip
    have hpl : pl_ x y = true := by
      by_cases q : pl_ x y = true
      · exact q
      · rw [if_neg q] at c_5
        exact absurd rfl c_5
    obtain ⟨X, Y, hX, hY, rfl, rfl⟩ := pl_of hpl
    refine lv_bipush (v := 16) hx hb dX0_clear_10 (by decide) ?_
    refine lv_iload_n hx hb dX0_clear_12 rfl (lv_at hl 2 rfl) ?_
    refine lv_imul hx hb dX0_clear_13 ?_
    refine lv_iload_n hx hb dX0_clear_14 rfl (lv_at hl 1 rfl) ?_
    refine lv_iadd hx hb dX0_clear_15 ?_
    refine dk_top (nI (16 * Y + X)) (ix_e X Y) ?_
    refine lv_istore_n (lv' := [(3, .int (nI (16 * Y + X))), (0, .ref (ad 0)), (1, .int (nI X)), (2, .int (nI Y))]) hx hb dX0_clear_16 rfl hl (by decide) rfl (fun ls hl => ?_)
    refine lv_aload_n hx hb dX0_clear_17 rfl (lv_at hl 1 rfl) ?_
    refine va_get (D := (dC, dI)) (ci := 0) (v := .ref (ad 1)) (C := RX0) (T := TX0) (N := 8) hx hb hts in_X0 hown hK hP 0 rfl rfl 0 (by decide) (hts _ q21) (fun _ h9 => h9) rfl dX0_clear_18 ?_
    refine lv_iload_n hx hb dX0_clear_21 rfl (lv_at hl 0 rfl) ?_
    refine dk_zald hx hb hK hP 1 0 rfl rfl (by omega) (by decide) dX0_clear_22 ?_
    refine lv_if_eq (tgt := 30) hx hb dX0_clear_23 (by decide) (fun c_23 => ?_) (fun c_23 => ?_)
    · skip
      refine lv_iconst (v := 0) hx hb dX0_clear_30 (by decide) ?_
      refine lv_istore (lv' := [(4, .int (0 : Int32)), (3, .int (nI (16 * Y + X))), (0, .ref (ad 0)), (1, .int (nI X)), (2, .int (nI Y))]) hx hb dX0_clear_31 hl (by decide) rfl (fun ls hl => ?_)
      refine lv_aload_n hx hb dX0_clear_33 rfl (lv_at hl 2 rfl) ?_
      refine va_get (D := (dC, dI)) (ci := 0) (v := .ref (ad 1)) (C := RX0) (T := TX0) (N := 8) hx hb hts in_X0 hown hK hP 0 rfl rfl 0 (by decide) (hts _ q21) (fun _ h9 => h9) rfl dX0_clear_34 ?_
      refine lv_iload_n hx hb dX0_clear_37 rfl (lv_at hl 1 rfl) ?_
      refine lv_iconst (v := 0) hx hb dX0_clear_38 (by decide) ?_
      refine dk_zast hx hb hK hP hD hS 1 0 rfl rfl rfl (by omega) (by decide) dX0_clear_39 (fun H locs hP hS => ?_)
      have hP : va_P (dC, dI) vwCl (dmW ad ct (upd fM (16 * Y + X) (0 : Int32)) nM kn fO fC kp fK fT) H := hP
      have hD := dm_D hJ ct (upd fM (16 * Y + X) (0 : Int32)) nM kn fO fC kp fK fT
      refine lv_aload_n hx hb dX0_clear_40 rfl (lv_at hl 2 rfl) ?_
      refine lv_dup hx hb dX0_clear_41 rfl ?_
      refine va_get (D := (dC, dI)) (ci := 0) (v := .int nM) (C := RX0) (T := TX0) (N := 8) hx hb hts in_X0 hown hK hP 0 rfl rfl 1 (by decide) (hts _ q22) (fun _ h9 => h9) rfl dX0_clear_42 ?_
      refine lv_iload hx hb dX0_clear_45 (lv_at hl 0 rfl) ?_
      refine lv_isub hx hb dX0_clear_47 ?_
      refine dk_top (nM) (Int32.sub_zero nM) ?_
      refine va_put (D := (dC, dI)) (ci := 0) (v := .int nM) (ty := .int) (C := RX0) (T := TX0) (N := 8) hx hb hts in_X0 tyX0 tyX0_ok nmX0 hown hK hP hD hS 0 rfl rfl 1 (by decide) (hts _ q22) (fun _ h9 => h9) rfl (by decide +kernel) rfl rfl (Nat.le_of_ble_eq_true rfl) dX0_clear_48 (fun H locs hP _ hS => ?_)
      have hP : va_P (dC, dI) vwCl (dmW ad ct (upd fM (16 * Y + X) (0 : Int32)) nM kn fO fC kp fK fT) H := hP
      have hD := dm_D hJ ct (upd fM (16 * Y + X) (0 : Int32)) nM kn fO fC kp fK fT
      refine lv_aload_n hx hb dX0_clear_51 rfl (lv_at hl 2 rfl) ?_
      refine lv_aload_n hx hb dX0_clear_52 rfl (lv_at hl 2 rfl) ?_
      refine va_get (D := (dC, dI)) (ci := 0) (v := .int kn) (C := RX0) (T := TX0) (N := 8) hx hb hts in_X0 hown hK hP 0 rfl rfl 2 (by decide) (hts _ q23) (fun _ h9 => h9) rfl dX0_clear_53 ?_
      refine lv_if_eq (tgt := 68) hx hb dX0_clear_56 (by decide) (fun c_56 => ?_) (fun c_56 => ?_)
      · skip
        refine lv_iconst (v := 0) hx hb dX0_clear_68 (by decide) ?_
        refine va_put (D := (dC, dI)) (ci := 0) (v := .int (0 : Int32)) (ty := .boolean) (C := RX0) (T := TX0) (N := 8) hx hb hts in_X0 tyX0 tyX0_ok nmX0 hown hK hP hD hS 0 rfl rfl 2 (by decide) (hts _ q23) (fun _ h9 => h9) rfl (by decide +kernel) rfl rfl (Nat.le_of_ble_eq_true rfl) dX0_clear_69 (fun H locs hP _ hS => ?_)
        have hP : va_P (dC, dI) vwCl (dmW ad ct (upd fM (16 * Y + X) (0 : Int32)) nM (0 : Int32) fO fC kp fK fT) H := hP
        have hD := dm_D hJ ct (upd fM (16 * Y + X) (0 : Int32)) nM (0 : Int32) fO fC kp fK fT
        refine lv_iload hx hb dX0_clear_72 (lv_at hl 0 rfl) ?_
        exact W.iret (v := (0 : Int32)) hx hb hr (fun t ht hW => ⟨⟨(0 : Int32), (upd fM (16 * Y + X) (0 : Int32), nM, (0 : Int32)), rfl, ⟨by unfold an_clear; rw [if_pos hpl, ix_n hX hY, if_pos c_23], by unfold st_clear; rw [if_pos hpl, ix_n hX hY], dmI_same hI (⟨fun _ => rfl, fun _ => c_23⟩) (fun q => absurd rfl q)⟩, dk_h ht hP⟩, hS.F ht⟩) hS.2.2 dX0_clear_74
      · skip
        refine lv_iload hx hb dX0_clear_59 (lv_at hl 0 rfl) ?_
        refine lv_if_ne (tgt := 68) hx hb dX0_clear_61 (by decide) (fun c_61 => ?_) (fun c_61 => ?_)
        · skip
          exact absurd rfl c_61
        · skip
          refine lv_iconst (v := 1) hx hb dX0_clear_64 (by decide) ?_
          refine lv_goto (tgt := 69) hx hb dX0_clear_65 (by decide) ?_
          refine va_put (D := (dC, dI)) (ci := 0) (v := .int (1 : Int32)) (ty := .boolean) (C := RX0) (T := TX0) (N := 8) hx hb hts in_X0 tyX0 tyX0_ok nmX0 hown hK hP hD hS 0 rfl rfl 2 (by decide) (hts _ q23) (fun _ h9 => h9) rfl (by decide +kernel) rfl rfl (Nat.le_of_ble_eq_true rfl) dX0_clear_69 (fun H locs hP _ hS => ?_)
          have hP : va_P (dC, dI) vwCl (dmW ad ct (upd fM (16 * Y + X) (0 : Int32)) nM (1 : Int32) fO fC kp fK fT) H := hP
          have hD := dm_D hJ ct (upd fM (16 * Y + X) (0 : Int32)) nM (1 : Int32) fO fC kp fK fT
          refine lv_iload hx hb dX0_clear_72 (lv_at hl 0 rfl) ?_
          exact W.iret (v := (0 : Int32)) hx hb hr (fun t ht hW => ⟨⟨(0 : Int32), (upd fM (16 * Y + X) (0 : Int32), nM, (1 : Int32)), rfl, ⟨by unfold an_clear; rw [if_pos hpl, ix_n hX hY, if_pos c_23], by unfold st_clear; rw [if_pos hpl, ix_n hX hY], dmI_same hI (⟨fun _ => rfl, fun _ => c_23⟩) (fun _ => c_56)⟩, dk_h ht hP⟩, hS.F ht⟩) hS.2.2 dX0_clear_74
    · skip
      refine lv_iconst (v := 1) hx hb dX0_clear_26 (by decide) ?_
      refine lv_goto (tgt := 31) hx hb dX0_clear_27 (by decide) ?_
      refine lv_istore (lv' := [(4, .int (1 : Int32)), (3, .int (nI (16 * Y + X))), (0, .ref (ad 0)), (1, .int (nI X)), (2, .int (nI Y))]) hx hb dX0_clear_31 hl (by decide) rfl (fun ls hl => ?_)
      refine lv_aload_n hx hb dX0_clear_33 rfl (lv_at hl 2 rfl) ?_
      refine va_get (D := (dC, dI)) (ci := 0) (v := .ref (ad 1)) (C := RX0) (T := TX0) (N := 8) hx hb hts in_X0 hown hK hP 0 rfl rfl 0 (by decide) (hts _ q21) (fun _ h9 => h9) rfl dX0_clear_34 ?_
      refine lv_iload_n hx hb dX0_clear_37 rfl (lv_at hl 1 rfl) ?_
      refine lv_iconst (v := 0) hx hb dX0_clear_38 (by decide) ?_
      refine dk_zast hx hb hK hP hD hS 1 0 rfl rfl rfl (by omega) (by decide) dX0_clear_39 (fun H locs hP hS => ?_)
      have hP : va_P (dC, dI) vwCl (dmW ad ct (upd fM (16 * Y + X) (0 : Int32)) nM kn fO fC kp fK fT) H := hP
      have hD := dm_D hJ ct (upd fM (16 * Y + X) (0 : Int32)) nM kn fO fC kp fK fT
      refine lv_aload_n hx hb dX0_clear_40 rfl (lv_at hl 2 rfl) ?_
      refine lv_dup hx hb dX0_clear_41 rfl ?_
      refine va_get (D := (dC, dI)) (ci := 0) (v := .int nM) (C := RX0) (T := TX0) (N := 8) hx hb hts in_X0 hown hK hP 0 rfl rfl 1 (by decide) (hts _ q22) (fun _ h9 => h9) rfl dX0_clear_42 ?_
      refine lv_iload hx hb dX0_clear_45 (lv_at hl 0 rfl) ?_
      refine lv_isub hx hb dX0_clear_47 ?_
      refine va_put (D := (dC, dI)) (ci := 0) (v := .int (nM - (1 : Int32))) (ty := .int) (C := RX0) (T := TX0) (N := 8) hx hb hts in_X0 tyX0 tyX0_ok nmX0 hown hK hP hD hS 0 rfl rfl 1 (by decide) (hts _ q22) (fun _ h9 => h9) rfl (by decide +kernel) rfl rfl (Nat.le_of_ble_eq_true rfl) dX0_clear_48 (fun H locs hP _ hS => ?_)
      have hP : va_P (dC, dI) vwCl (dmW ad ct (upd fM (16 * Y + X) (0 : Int32)) (nM - (1 : Int32)) kn fO fC kp fK fT) H := hP
      have hD := dm_D hJ ct (upd fM (16 * Y + X) (0 : Int32)) (nM - (1 : Int32)) kn fO fC kp fK fT
      refine lv_aload_n hx hb dX0_clear_51 rfl (lv_at hl 2 rfl) ?_
      refine lv_aload_n hx hb dX0_clear_52 rfl (lv_at hl 2 rfl) ?_
      refine va_get (D := (dC, dI)) (ci := 0) (v := .int kn) (C := RX0) (T := TX0) (N := 8) hx hb hts in_X0 hown hK hP 0 rfl rfl 2 (by decide) (hts _ q23) (fun _ h9 => h9) rfl dX0_clear_53 ?_
      refine lv_if_eq (tgt := 68) hx hb dX0_clear_56 (by decide) (fun c_56 => ?_) (fun c_56 => ?_)
      · skip
        refine lv_iconst (v := 0) hx hb dX0_clear_68 (by decide) ?_
        refine va_put (D := (dC, dI)) (ci := 0) (v := .int (0 : Int32)) (ty := .boolean) (C := RX0) (T := TX0) (N := 8) hx hb hts in_X0 tyX0 tyX0_ok nmX0 hown hK hP hD hS 0 rfl rfl 2 (by decide) (hts _ q23) (fun _ h9 => h9) rfl (by decide +kernel) rfl rfl (Nat.le_of_ble_eq_true rfl) dX0_clear_69 (fun H locs hP _ hS => ?_)
        have hP : va_P (dC, dI) vwCl (dmW ad ct (upd fM (16 * Y + X) (0 : Int32)) (nM - (1 : Int32)) (0 : Int32) fO fC kp fK fT) H := hP
        have hD := dm_D hJ ct (upd fM (16 * Y + X) (0 : Int32)) (nM - (1 : Int32)) (0 : Int32) fO fC kp fK fT
        refine lv_iload hx hb dX0_clear_72 (lv_at hl 0 rfl) ?_
        exact W.iret (v := (1 : Int32)) hx hb hr (fun t ht hW => ⟨⟨(1 : Int32), (upd fM (16 * Y + X) (0 : Int32), nM - (1 : Int32), (0 : Int32)), rfl, ⟨by unfold an_clear; rw [if_pos hpl, ix_n hX hY, if_neg c_23], by unfold st_clear; rw [if_pos hpl, ix_n hX hY], dmI_clear1 hI (by omega) c_23⟩, dk_h ht hP⟩, hS.F ht⟩) hS.2.2 dX0_clear_74
      · skip
        refine lv_iload hx hb dX0_clear_59 (lv_at hl 0 rfl) ?_
        refine lv_if_ne (tgt := 68) hx hb dX0_clear_61 (by decide) (fun c_61 => ?_) (fun c_61 => ?_)
        · skip
          refine lv_iconst (v := 0) hx hb dX0_clear_68 (by decide) ?_
          refine va_put (D := (dC, dI)) (ci := 0) (v := .int (0 : Int32)) (ty := .boolean) (C := RX0) (T := TX0) (N := 8) hx hb hts in_X0 tyX0 tyX0_ok nmX0 hown hK hP hD hS 0 rfl rfl 2 (by decide) (hts _ q23) (fun _ h9 => h9) rfl (by decide +kernel) rfl rfl (Nat.le_of_ble_eq_true rfl) dX0_clear_69 (fun H locs hP _ hS => ?_)
          have hP : va_P (dC, dI) vwCl (dmW ad ct (upd fM (16 * Y + X) (0 : Int32)) (nM - (1 : Int32)) (0 : Int32) fO fC kp fK fT) H := hP
          have hD := dm_D hJ ct (upd fM (16 * Y + X) (0 : Int32)) (nM - (1 : Int32)) (0 : Int32) fO fC kp fK fT
          refine lv_iload hx hb dX0_clear_72 (lv_at hl 0 rfl) ?_
          exact W.iret (v := (1 : Int32)) hx hb hr (fun t ht hW => ⟨⟨(1 : Int32), (upd fM (16 * Y + X) (0 : Int32), nM - (1 : Int32), (0 : Int32)), rfl, ⟨by unfold an_clear; rw [if_pos hpl, ix_n hX hY, if_neg c_23], by unfold st_clear; rw [if_pos hpl, ix_n hX hY], dmI_clear1 hI (by omega) c_23⟩, dk_h ht hP⟩, hS.F ht⟩) hS.2.2 dX0_clear_74
        · skip
          exact absurd c_61 (by decide)
  · skip
    have hpl : ¬ pl_ x y = true := fun q => by
      rw [if_pos q] at c_5
      exact absurd c_5 (by decide)
    refine lv_iconst (v := -1) hx hb dX0_clear_8 (by decide) ?_
    exact W.iret (v := (-1 : Int32)) hx hb hr (fun t ht hW => ⟨⟨(-1 : Int32), (fM, nM, kn), rfl, ⟨by unfold an_clear; rw [if_neg hpl], by unfold st_clear; rw [if_neg hpl], hI⟩, dk_h ht hP⟩, hS.F ht⟩) hS.2.2 dX0_clear_9
end
section
/-! the plain law of the sweeps and of the spreading -/
theorem sw_176 (X : Nat) : (176 : Int32) + nI X = iI (176 + (X : Int) - 16 * ((0 : Nat) : Int)) := by
  rw [iI_n, show (176 : Int32) = iI 176 by decide +kernel, iI_add]
  exact iI_of (by omega)
theorem sw_1 {f g : Nat → Int32} {X k : Nat} (h : ∀ r, r < k → g (X + 16 * r) = iI (up f X (r + 1))) : ∀ r, r < k + 1 → upd g (X + 16 * k) (iI (up f X (k + 1))) (X + 16 * r) = iI (up f X (r + 1)) := by
  intro r hr
  by_cases q : r = k
  · subst q
    rw [pk_us]
  · rw [pk_un (by omega)]
    exact h r (by omega)
theorem sw_2 {g fC : Nat → Int32} {X k : Nat} {y : Int32} (hX : X < 16) (h : ∀ q, q % 16 ≠ X → g q = fC q) : ∀ q, q % 16 ≠ X → upd g (X + 16 * k) y q = fC q := by
  intro q hq
  rw [pk_un (by omega)]
  exact h q hq
theorem sw_3 {f g : Nat → Int32} {X j : Nat} {y : Int32} (h : ∀ r, r < 12 - j → g (X + 16 * r) = iI (up f X (r + 1))) (hj : j < 12) : ∀ r, r < 12 - (j + 1) → upd g (X + 16 * (11 - j)) y (X + 16 * r) = iI (up f X (r + 1)) := by
  intro r hr
  rw [pk_un (by omega)]
  exact h r (by omega)
theorem sw_4 {f g : Nat → Int32} {X j : Nat} {y : Int32} (h : ∀ r, 12 - j ≤ r → r < 12 → g (X + 16 * r) = iI (cmv f X r)) (e : y = iI (cmv f X (11 - j))) (hj : j < 12) : ∀ r, 12 - (j + 1) ≤ r → r < 12 → upd g (X + 16 * (11 - j)) y (X + 16 * r) = iI (cmv f X r) := by
  intro r h1 h2
  by_cases q : r = 11 - j
  · subst q
    rw [pk_us, e]
  · rw [pk_un (by omega)]
    exact h r (by omega) h2
theorem sw_5 {f g : Nat → Int32} {X j : Nat} (h : ∀ r, 12 - j ≤ r → r < 12 → g (X + 16 * r) = iI (cmv f X r)) (e : g (X + 16 * (11 - j)) = iI (cmv f X (11 - j))) (hj : j < 12) : ∀ r, 12 - (j + 1) ≤ r → r < 12 → g (X + 16 * r) = iI (cmv f X r) := by
  intro r h1 h2
  by_cases q : r = 11 - j
  · subst q
    exact e
  · exact h r (by omega) h2
theorem sw_m16 {X j : Nat} (hj : j < 12) : nI (X + 16 * (11 - j)) + Int32.ofInt (-16) = iI (176 + (X : Int) - 16 * ((j + 1 : Nat) : Int)) := by
  rw [iI_n]
  exact (iI_add _ (-16)).trans (iI_of (by omega))
theorem up_b (f : Nat → Int32) {X k : Nat} (hX : X < 16) (hk : k ≤ 12) : -1 ≤ up f X k ∧ up f X k < 192 := by
  rcases up_spec f X k with ⟨h, -⟩ | ⟨m, h1, h2, -, -⟩
  · omega
  · omega
theorem dn_b (f : Nat → Int32) {X k : Nat} (hX : X < 16) (hk : k ≤ 12) : -1 ≤ dn f X k ∧ dn f X k < 192 := by
  rcases dn_spec f X k hk with ⟨h, -⟩ | ⟨m, h0, h1, h2, -, -⟩
  · omega
  · omega
theorem cmv_u {f : Nat → Int32} {X j : Nat} (hj : j < 12) (h : dn f X (j + 1) < 0 ∨ (0 ≤ up f X (11 - j + 1) ∧ ((X + 16 * (11 - j) : Nat) : Int) - up f X (11 - j + 1) ≤ dn f X (j + 1) - ((X + 16 * (11 - j) : Nat) : Int))) : cmv f X (11 - j) = up f X (11 - j + 1) := by
  unfold cmv
  rw [show 12 - (11 - j) = j + 1 by omega, if_neg (by omega)]
theorem cmv_d {f : Nat → Int32} {X j : Nat} (hj : j < 12) (h0 : 0 ≤ dn f X (j + 1)) (h : up f X (11 - j + 1) < 0 ∨ dn f X (j + 1) - ((X + 16 * (11 - j) : Nat) : Int) < ((X + 16 * (11 - j) : Nat) : Int) - up f X (11 - j + 1)) : cmv f X (11 - j) = dn f X (j + 1) := by
  unfold cmv
  rw [show 12 - (11 - j) = j + 1 by omega, if_pos ⟨h0, h⟩]
theorem sp_pos {v : Nat → Int} {g : Nat → Nat → Int} {C K : Nat} {kc to : Nat → Nat} (hE : enE (fun c => 0 ≤ v c) g C K kc to) (hne : ∃ c, c < C ∧ 0 ≤ v c) : ∃ K1, K = K1 + 1 := by
  rcases hE.2 with ⟨-, h2⟩ | ⟨h, -⟩
  · obtain ⟨c, h3, h4⟩ := hne
    exact absurd h4 (h2 c h3)
  · exact ⟨K - 1, by omega⟩
theorem sp_1 {g fO : Nat → Int32} {Y x9 : Nat} {y : Int32} (hx : x9 < 16) (h : ∀ q, ¬ (16 * Y + (x9 + 1) ≤ q ∧ q < 16 * Y + 16) → g q = fO q) : ∀ q, ¬ (16 * Y + x9 ≤ q ∧ q < 16 * Y + 16) → upd g (16 * Y + x9) y q = fO q := by
  intro q hq
  rw [pk_un (by omega)]
  exact h q (by omega)
theorem sp_2 {g : Nat → Int32} {v : Nat → Int} {Y x9 K k3 : Nat} {kc to : Nat → Nat} (h : ∀ x, x9 + 1 ≤ x → x < 16 → ∃ j, enA K to x j ∧ g (16 * Y + x) = iI (v (kc j))) (hA : enA K to x9 k3) : ∀ x, x9 ≤ x → x < 16 → ∃ j, enA K to x j ∧ upd g (16 * Y + x9) (iI (v (kc k3))) (16 * Y + x) = iI (v (kc j)) := by
  intro x h1 h2
  by_cases q : x = x9
  · subst q
    exact ⟨k3, hA, by rw [pk_us]⟩
  · obtain ⟨j, h3, h4⟩ := h x (by omega) h2
    exact ⟨j, h3, by rw [pk_un (by omega)]; exact h4⟩
theorem sp_end {g : Nat → Int32} {v : Nat → Int} {Y x K : Nat} {kc to : Nat → Nat} (hE : enE (fun c => 0 ≤ v c) (fun c x => co Y v c x) 16 K kc to) (hx : x < 16) (h : ∃ j, enA K to x j ∧ g (16 * Y + x) = iI (v (kc j))) : ∃ c, (c < 16 ∧ 0 ≤ v c ∧ ∀ c2, c2 < 16 → 0 ≤ v c2 → co Y v c x ≤ co Y v c2 x) ∧ g (16 * Y + x) = iI (v c) := by
  obtain ⟨j, h1, h2⟩ := h
  rcases hE.2 with ⟨h3, -⟩ | ⟨-, h3⟩
  · have := h1.1
    omega
  · obtain ⟨i, a1, a2⟩ := h3 x hx
    have e := en_one hE.1 h1 a1
    subst e
    have hs := hE.1.2.1 j h1.1
    exact ⟨kc j, ⟨hs.1, hs.2.1, a2⟩, h2⟩
end
section
set_option maxHeartbeats 4000000 in
set_option maxRecDepth 100000 in
/-- sweepColumn(X): the nearest mark in the column, for each of its places -/
theorem metX0_sweepColumn (l : Launch) (dC : Nat → ClassId) (dI : Nat → Nat → Nat) (ad : Nat → Nat) (ct : Nat → ClassId) (fM : Nat → Int32) (nM kn : Int32) (fO fC : Nat → Int32) (kp : Int32) (fK fT : Nat → Int32) (hJ : dmJ ad) (X : Nat) (hX : X < 16) : Met l yX0_sweepColumn (ws_ yX0_sweepColumn cX0_sweepColumn 5 none) ({ frames := 0, cells := 0, slots := 0, locals := 0 }) (roP (dC, dI) [.ref (ad 0), .int (nI X)] (dmW ad ct fM nM kn fO fC kp fK fT) (dmT ct)) (muV (dC, dI) (fun (u : Nat → Int32) => (∀ r, r < 12 → u (X + 16 * r) = iI (cmv fM X r)) ∧ ∀ q, q % 16 ≠ X → u q = fC q) (fun u => dmW ad ct fM nM kn fO u kp fK fT) (dmA ad)) 0 0 (dmA ad) := by
  refine Met.ofW (cc := cX0_sweepColumn) (maxL := 5) (ret := none) (by decide) rfl ?_
  intro p e s m args below meth c s₁ Bo hml hv
  obtain ⟨rfl, hP, hK⟩ := hv
  have hx := Bo.exec
  have hb := Bo.bytes
  have hr := Bo.returns
  have hts := atoms_spec (ws := ws_ yX0_sweepColumn cX0_sweepColumn 5 none) Bo.pre
  have hts : ∀ w ∈ lw_all, w.before _ s = true := fun w h => hts w (List.mem_cons_of_mem _ h)
  have hown : s.vm.findClass RX0 = some m.cls := findClass_of_methodNamed Bo.named
  have hlocks := Bo.notSynchronized
  have hl := lv_entry ([.ref (ad 0), .int (nI X)]) (n := 5) (Nat.le_of_ble_eq_true rfl)
  rw [lg_entry_eq]
  generalize (lg_sl ([.ref (ad 0), .int (nI X)]) ++ List.replicate (5 - (lg_sl ([.ref (ad 0), .int (nI X)])).length) Slot.unset).toArray = ls at hl ⊢
  have hl : lv_has ls 5 [(0, .ref (ad 0)), (1, .int (nI X))] := hl
  have hD := dm_D hJ ct fM nM kn fO fC kp fK fT
  have hS : va_S (dmA ad) s.heap s.heap [] := va_S.rf
  refine lv_iconst (v := -1) hx hb dX0_sweepColumn_0 (by decide) ?_
  refine dk_top (iI (up fM X 0)) (iI_m1) ?_
  refine lv_istore_n (lv' := [(2, .int (iI (up fM X 0))), (0, .ref (ad 0)), (1, .int (nI X))]) hx hb dX0_sweepColumn_1 rfl hl (by decide) rfl (fun ls hl => ?_)
  refine lv_iload_n hx hb dX0_sweepColumn_2 rfl (lv_at hl 2 rfl) ?_
  refine dk_top (nI (X + 16 * 0)) (rfl) ?_
  refine lv_istore_n (lv' := [(3, .int (nI (X + 16 * 0))), (2, .int (iI (up fM X 0))), (0, .ref (ad 0)), (1, .int (nI X))]) hx hb dX0_sweepColumn_3 rfl hl (by decide) rfl (fun ls hl => ?_)
  refine dk_loop (Inv := fun (a9 : Nat × (Nat → Int32)) H locs ls => match a9 with | (k, g) => (k ≤ 12 ∧ (∀ r, r < k → g (X + 16 * r) = iI (up fM X (r + 1))) ∧ ∀ q, q % 16 ≠ X → g q = fC q) ∧ va_P (dC, dI) vwCl (dmW ad ct fM nM kn fO g kp fK fT) H ∧ va_S (dmA ad) s.heap H locs ∧ lv_has ls 5 [(0, .ref (ad 0)), (1, .int (nI X)), (2, .int (iI (up fM X k))), (3, .int (nI (X + 16 * k)))]) (μ := fun (a9 : Nat × (Nat → Int32)) => match a9 with | (k, g) => 12 - k) 4 [] (0, fC) ⟨⟨Nat.zero_le _, fun r h => absurd h (Nat.not_lt_zero _), fun _ _ => rfl⟩, hP, hS, lv_sub hl [2, 3, 1, 0] rfl⟩ ?_
  intro a9 H locs ls hI9 ih
  obtain ⟨k, g⟩ := a9
  obtain ⟨⟨hk, hg1, hg2⟩, hP, hS, hl⟩ := hI9
  have hP : va_P (dC, dI) vwCl (dmW ad ct fM nM kn fO g kp fK fT) H := hP
  have hl : lv_has ls 5 [(0, .ref (ad 0)), (1, .int (nI X)), (2, .int (iI (up fM X k))), (3, .int (nI (X + 16 * k)))] := hl
  have hD := dm_D hJ ct fM nM kn fO g kp fK fT
  refine lv_iload_n hx hb dX0_sweepColumn_4 rfl (lv_at hl 3 rfl) ?_
  refine lv_sipush (v := 192) hx hb dX0_sweepColumn_5 (by decide) ?_
  refine dk_top (nI 192) (rfl) ?_
  refine lv_icmp_ge (tgt := 39) hx hb dX0_sweepColumn_8 (by decide) (fun c_8 => ?_) (fun c_8 => ?_)
  · skip
    have hk2 := nm_le c_8 (by omega) (by omega)
    have hk3 : k = 12 := by omega
    subst hk3
    refine lv_iconst (v := -1) hx hb dX0_sweepColumn_39 (by decide) ?_
    refine dk_top (iI (dn fM X 0)) (iI_m1) ?_
    refine lv_istore_n (lv' := [(2, .int (iI (dn fM X 0))), (0, .ref (ad 0)), (1, .int (nI X)), (3, .int (nI (X + 16 * 12)))]) hx hb dX0_sweepColumn_40 rfl hl (by decide) rfl (fun ls hl => ?_)
    refine lv_sipush (v := 176) hx hb dX0_sweepColumn_41 (by decide) ?_
    refine lv_iload_n hx hb dX0_sweepColumn_44 rfl (lv_at hl 2 rfl) ?_
    refine lv_iadd hx hb dX0_sweepColumn_45 ?_
    refine dk_top (iI (176 + (X : Int) - 16 * ((0 : Nat) : Int))) (sw_176 X) ?_
    refine lv_istore_n (lv' := [(3, .int (iI (176 + (X : Int) - 16 * ((0 : Nat) : Int)))), (2, .int (iI (dn fM X 0))), (0, .ref (ad 0)), (1, .int (nI X))]) hx hb dX0_sweepColumn_46 rfl hl (by decide) rfl (fun ls hl => ?_)
    refine dk_loop (Inv := fun (b9 : Nat × (Nat → Int32)) H locs ls => match b9 with | (j, g) => (j ≤ 12 ∧ (∀ r, r < 12 - j → g (X + 16 * r) = iI (up fM X (r + 1))) ∧ (∀ r, 12 - j ≤ r → r < 12 → g (X + 16 * r) = iI (cmv fM X r)) ∧ ∀ q, q % 16 ≠ X → g q = fC q) ∧ va_P (dC, dI) vwCl (dmW ad ct fM nM kn fO g kp fK fT) H ∧ va_S (dmA ad) s.heap H locs ∧ lv_has ls 5 [(0, .ref (ad 0)), (1, .int (nI X)), (2, .int (iI (dn fM X j))), (3, .int (iI (176 + (X : Int) - 16 * (j : Int))))]) (μ := fun (b9 : Nat × (Nat → Int32)) => match b9 with | (j, g) => 12 - j) 47 [] (0, g) ⟨⟨Nat.zero_le _, hg1, fun r h1 h2 => by omega, hg2⟩, hP, hS, lv_sub hl [2, 3, 1, 0] rfl⟩ ?_
    intro b9 H locs ls hI9 ih
    obtain ⟨j, g⟩ := b9
    obtain ⟨⟨hj, hg1, hg3, hg2⟩, hP, hS, hl⟩ := hI9
    have hP : va_P (dC, dI) vwCl (dmW ad ct fM nM kn fO g kp fK fT) H := hP
    have hl : lv_has ls 5 [(0, .ref (ad 0)), (1, .int (nI X)), (2, .int (iI (dn fM X j))), (3, .int (iI (176 + (X : Int) - 16 * (j : Int))))] := hl
    have hD := dm_D hJ ct fM nM kn fO g kp fK fT
    refine lv_iload_n hx hb dX0_sweepColumn_47 rfl (lv_at hl 3 rfl) ?_
    refine lv_if_lt (tgt := 106) hx hb dX0_sweepColumn_48 (by decide) (fun c_48 => ?_) (fun c_48 => ?_)
    · skip
      rw [iI_lt0 (by omega) (by omega)] at c_48
      have hj3 : j = 12 := by omega
      subst hj3
      exact W.vret hx hb hr (fun t ht hW => ⟨⟨g, rfl, ⟨fun r hr9 => hg3 r (by omega) hr9, hg2⟩, dk_h ht hP⟩, hS.F ht⟩) hS.2.2 dX0_sweepColumn_106
    · skip
      rw [iI_lt0 (by omega) (by omega)] at c_48
      have hj3 : j < 12 := by omega
      have e7 : nI (X + 16 * (11 - j)) = iI (176 + (X : Int) - 16 * (j : Int)) := by
        rw [iI_n]
        exact iI_of (by omega)
      have hl : lv_has ls 5 [(0, .ref (ad 0)), (1, .int (nI X)), (2, .int (iI (dn fM X j))), (3, .int (nI (X + 16 * (11 - j))))] := by rw [e7]; exact lv_sub hl [0, 1, 2, 3] rfl
      refine lv_aload_n hx hb dX0_sweepColumn_51 rfl (lv_at hl 0 rfl) ?_
      refine va_get (D := (dC, dI)) (ci := 0) (v := .ref (ad 1)) (C := RX0) (T := TX0) (N := 8) hx hb hts in_X0 hown hK hP 0 rfl rfl 0 (by decide) (hts _ q21) (fun _ h9 => h9) rfl dX0_sweepColumn_52 ?_
      refine lv_iload_n hx hb dX0_sweepColumn_55 rfl (lv_at hl 3 rfl) ?_
      refine dk_zald hx hb hK hP 1 0 rfl rfl (by omega) (by decide) dX0_sweepColumn_56 ?_
      refine lv_if_eq (tgt := 64) hx hb dX0_sweepColumn_57 (by decide) (fun c_57 => ?_) (fun c_57 => ?_)
      · skip
        refine lv_iload_n hx hb dX0_sweepColumn_64 rfl (lv_at hl 2 rfl) ?_
        refine dk_top (iI (dn fM X (j + 1))) (by simp only [dn]; rw [if_pos c_57]) ?_
        refine lv_istore_n (lv' := [(2, .int (iI (dn fM X (j + 1)))), (0, .ref (ad 0)), (1, .int (nI X)), (3, .int (nI (X + 16 * (11 - j))))]) hx hb dX0_sweepColumn_65 rfl hl (by decide) rfl (fun ls hl => ?_)
        refine lv_aload_n hx hb dX0_sweepColumn_66 rfl (lv_at hl 1 rfl) ?_
        refine va_get (D := (dC, dI)) (ci := 0) (v := .ref (ad 3)) (C := RX0) (T := TX0) (N := 8) hx hb hts in_X0 hown hK hP 0 rfl rfl 4 (by decide) (hts _ q25) (fun _ h9 => h9) rfl dX0_sweepColumn_67 ?_
        refine lv_iload_n hx hb dX0_sweepColumn_70 rfl (lv_at hl 3 rfl) ?_
        refine dk_iald hx hb hK hP 3 2 rfl rfl (by omega) (by decide) dX0_sweepColumn_71 ?_
        refine dk_top (iI (up fM X (11 - j + 1))) (hg1 (11 - j) (by omega)) ?_
        refine lv_istore (lv' := [(4, .int (iI (up fM X (11 - j + 1)))), (2, .int (iI (dn fM X (j + 1)))), (0, .ref (ad 0)), (1, .int (nI X)), (3, .int (nI (X + 16 * (11 - j))))]) hx hb dX0_sweepColumn_72 hl (by decide) rfl (fun ls hl => ?_)
        have hub := up_b fM hX (k := 11 - j + 1) (by omega)
        have hdb := dn_b fM hX (k := j + 1) (by omega)
        refine lv_iload_n hx hb dX0_sweepColumn_74 rfl (lv_at hl 1 rfl) ?_
        refine lv_if_lt (tgt := 100) hx hb dX0_sweepColumn_75 (by decide) (fun c_75 => ?_) (fun c_75 => ?_)
        · skip
          rw [iI_lt0 (by omega) (by omega)] at c_75
          have ec : cmv fM X (11 - j) = up fM X (11 - j + 1) := cmv_u (by omega) (Or.inl c_75)
          refine lv_iinc (v := iI (176 + (X : Int) - 16 * ((j + 1 : Nat) : Int))) (lv' := [(3, .int (iI (176 + (X : Int) - 16 * ((j + 1 : Nat) : Int)))), (4, .int (iI (up fM X (11 - j + 1)))), (2, .int (iI (dn fM X (j + 1)))), (0, .ref (ad 0)), (1, .int (nI X))]) hx hb dX0_sweepColumn_100 hl (k := 4) rfl (sw_m16 hj3) (by decide) rfl (fun ls hl => ?_)
          refine lv_goto (tgt := 47) hx hb dX0_sweepColumn_103 (by decide) ?_
          exact ih (j + 1, g) H locs ls (by dsimp only; omega) ⟨⟨by omega, fun r h => hg1 r (by omega), sw_5 hg3 (by rw [hg1 (11 - j) (by omega), ec]) (by omega), hg2⟩, hP, hS, lv_sub hl [3, 4, 2, 0] rfl⟩
        · skip
          rw [iI_lt0 (by omega) (by omega)] at c_75
          refine lv_iload hx hb dX0_sweepColumn_78 (lv_at hl 0 rfl) ?_
          refine lv_if_lt (tgt := 93) hx hb dX0_sweepColumn_80 (by decide) (fun c_80 => ?_) (fun c_80 => ?_)
          · skip
            rw [iI_lt0 (by omega) (by omega)] at c_80
            have ec : cmv fM X (11 - j) = dn fM X (j + 1) := cmv_d (by omega) (by omega) (Or.inl c_80)
            refine lv_aload_n hx hb dX0_sweepColumn_93 rfl (lv_at hl 2 rfl) ?_
            refine va_get (D := (dC, dI)) (ci := 0) (v := .ref (ad 3)) (C := RX0) (T := TX0) (N := 8) hx hb hts in_X0 hown hK hP 0 rfl rfl 4 (by decide) (hts _ q25) (fun _ h9 => h9) rfl dX0_sweepColumn_94 ?_
            refine lv_iload_n hx hb dX0_sweepColumn_97 rfl (lv_at hl 4 rfl) ?_
            refine lv_iload_n hx hb dX0_sweepColumn_98 rfl (lv_at hl 1 rfl) ?_
            refine dk_iast hx hb hK hP hD hS 3 2 rfl rfl (by omega) (by decide) dX0_sweepColumn_99 (fun H locs hP hS => ?_)
            have hP : va_P (dC, dI) vwCl (dmW ad ct fM nM kn fO (upd g (X + 16 * (11 - j)) (iI (dn fM X (j + 1)))) kp fK fT) H := hP
            have hD := dm_D hJ ct fM nM kn fO (upd g (X + 16 * (11 - j)) (iI (dn fM X (j + 1)))) kp fK fT
            refine lv_iinc (v := iI (176 + (X : Int) - 16 * ((j + 1 : Nat) : Int))) (lv' := [(3, .int (iI (176 + (X : Int) - 16 * ((j + 1 : Nat) : Int)))), (4, .int (iI (up fM X (11 - j + 1)))), (2, .int (iI (dn fM X (j + 1)))), (0, .ref (ad 0)), (1, .int (nI X))]) hx hb dX0_sweepColumn_100 hl (k := 4) rfl (sw_m16 hj3) (by decide) rfl (fun ls hl => ?_)
            refine lv_goto (tgt := 47) hx hb dX0_sweepColumn_103 (by decide) ?_
            exact ih (j + 1, upd g (X + 16 * (11 - j)) (iI (dn fM X (j + 1)))) H locs ls (by dsimp only; omega) ⟨⟨by omega, sw_3 hg1 (by omega), sw_4 hg3 (by rw [ec]) (by omega), sw_2 hX hg2⟩, hP, hS, lv_sub hl [3, 4, 2, 0] rfl⟩
          · skip
            rw [iI_lt0 (by omega) (by omega)] at c_80
            refine lv_iload_n hx hb dX0_sweepColumn_83 rfl (lv_at hl 1 rfl) ?_
            refine lv_iload_n hx hb dX0_sweepColumn_84 rfl (lv_at hl 4 rfl) ?_
            refine lv_isub hx hb dX0_sweepColumn_85 ?_
            refine dk_top (iI (dn fM X (j + 1) - ((X + 16 * (11 - j) : Nat) : Int))) (by rw [iI_n, iI_sub]) ?_
            refine lv_iload_n hx hb dX0_sweepColumn_86 rfl (lv_at hl 4 rfl) ?_
            refine lv_iload hx hb dX0_sweepColumn_87 (lv_at hl 0 rfl) ?_
            refine lv_isub hx hb dX0_sweepColumn_89 ?_
            refine dk_top (iI (((X + 16 * (11 - j) : Nat) : Int) - up fM X (11 - j + 1))) (by rw [iI_n, iI_sub]) ?_
            refine lv_icmp_ge (tgt := 100) hx hb dX0_sweepColumn_90 (by decide) (fun c_90 => ?_) (fun c_90 => ?_)
            · skip
              rw [iI_le (by omega) (by omega) (by omega) (by omega)] at c_90
              have ec : cmv fM X (11 - j) = up fM X (11 - j + 1) := cmv_u (by omega) (Or.inr ⟨by omega, by omega⟩)
              refine lv_iinc (v := iI (176 + (X : Int) - 16 * ((j + 1 : Nat) : Int))) (lv' := [(3, .int (iI (176 + (X : Int) - 16 * ((j + 1 : Nat) : Int)))), (4, .int (iI (up fM X (11 - j + 1)))), (2, .int (iI (dn fM X (j + 1)))), (0, .ref (ad 0)), (1, .int (nI X))]) hx hb dX0_sweepColumn_100 hl (k := 4) rfl (sw_m16 hj3) (by decide) rfl (fun ls hl => ?_)
              refine lv_goto (tgt := 47) hx hb dX0_sweepColumn_103 (by decide) ?_
              exact ih (j + 1, g) H locs ls (by dsimp only; omega) ⟨⟨by omega, fun r h => hg1 r (by omega), sw_5 hg3 (by rw [hg1 (11 - j) (by omega), ec]) (by omega), hg2⟩, hP, hS, lv_sub hl [3, 4, 2, 0] rfl⟩
            · skip
              rw [iI_le (by omega) (by omega) (by omega) (by omega)] at c_90
              have ec : cmv fM X (11 - j) = dn fM X (j + 1) := cmv_d (by omega) (by omega) (Or.inr (by omega))
              refine lv_aload_n hx hb dX0_sweepColumn_93 rfl (lv_at hl 2 rfl) ?_
              refine va_get (D := (dC, dI)) (ci := 0) (v := .ref (ad 3)) (C := RX0) (T := TX0) (N := 8) hx hb hts in_X0 hown hK hP 0 rfl rfl 4 (by decide) (hts _ q25) (fun _ h9 => h9) rfl dX0_sweepColumn_94 ?_
              refine lv_iload_n hx hb dX0_sweepColumn_97 rfl (lv_at hl 4 rfl) ?_
              refine lv_iload_n hx hb dX0_sweepColumn_98 rfl (lv_at hl 1 rfl) ?_
              refine dk_iast hx hb hK hP hD hS 3 2 rfl rfl (by omega) (by decide) dX0_sweepColumn_99 (fun H locs hP hS => ?_)
              have hP : va_P (dC, dI) vwCl (dmW ad ct fM nM kn fO (upd g (X + 16 * (11 - j)) (iI (dn fM X (j + 1)))) kp fK fT) H := hP
              have hD := dm_D hJ ct fM nM kn fO (upd g (X + 16 * (11 - j)) (iI (dn fM X (j + 1)))) kp fK fT
              refine lv_iinc (v := iI (176 + (X : Int) - 16 * ((j + 1 : Nat) : Int))) (lv' := [(3, .int (iI (176 + (X : Int) - 16 * ((j + 1 : Nat) : Int)))), (4, .int (iI (up fM X (11 - j + 1)))), (2, .int (iI (dn fM X (j + 1)))), (0, .ref (ad 0)), (1, .int (nI X))]) hx hb dX0_sweepColumn_100 hl (k := 4) rfl (sw_m16 hj3) (by decide) rfl (fun ls hl => ?_)
              refine lv_goto (tgt := 47) hx hb dX0_sweepColumn_103 (by decide) ?_
              exact ih (j + 1, upd g (X + 16 * (11 - j)) (iI (dn fM X (j + 1)))) H locs ls (by dsimp only; omega) ⟨⟨by omega, sw_3 hg1 (by omega), sw_4 hg3 (by rw [ec]) (by omega), sw_2 hX hg2⟩, hP, hS, lv_sub hl [3, 4, 2, 0] rfl⟩
      · skip
        refine lv_iload_n hx hb dX0_sweepColumn_60 rfl (lv_at hl 3 rfl) ?_
        refine lv_goto (tgt := 65) hx hb dX0_sweepColumn_61 (by decide) ?_
        refine dk_top (iI (dn fM X (j + 1))) (by simp only [dn]; rw [if_neg c_57, iI_n]) ?_
        refine lv_istore_n (lv' := [(2, .int (iI (dn fM X (j + 1)))), (0, .ref (ad 0)), (1, .int (nI X)), (3, .int (nI (X + 16 * (11 - j))))]) hx hb dX0_sweepColumn_65 rfl hl (by decide) rfl (fun ls hl => ?_)
        refine lv_aload_n hx hb dX0_sweepColumn_66 rfl (lv_at hl 1 rfl) ?_
        refine va_get (D := (dC, dI)) (ci := 0) (v := .ref (ad 3)) (C := RX0) (T := TX0) (N := 8) hx hb hts in_X0 hown hK hP 0 rfl rfl 4 (by decide) (hts _ q25) (fun _ h9 => h9) rfl dX0_sweepColumn_67 ?_
        refine lv_iload_n hx hb dX0_sweepColumn_70 rfl (lv_at hl 3 rfl) ?_
        refine dk_iald hx hb hK hP 3 2 rfl rfl (by omega) (by decide) dX0_sweepColumn_71 ?_
        refine dk_top (iI (up fM X (11 - j + 1))) (hg1 (11 - j) (by omega)) ?_
        refine lv_istore (lv' := [(4, .int (iI (up fM X (11 - j + 1)))), (2, .int (iI (dn fM X (j + 1)))), (0, .ref (ad 0)), (1, .int (nI X)), (3, .int (nI (X + 16 * (11 - j))))]) hx hb dX0_sweepColumn_72 hl (by decide) rfl (fun ls hl => ?_)
        have hub := up_b fM hX (k := 11 - j + 1) (by omega)
        have hdb := dn_b fM hX (k := j + 1) (by omega)
        refine lv_iload_n hx hb dX0_sweepColumn_74 rfl (lv_at hl 1 rfl) ?_
        refine lv_if_lt (tgt := 100) hx hb dX0_sweepColumn_75 (by decide) (fun c_75 => ?_) (fun c_75 => ?_)
        · skip
          rw [iI_lt0 (by omega) (by omega)] at c_75
          have ec : cmv fM X (11 - j) = up fM X (11 - j + 1) := cmv_u (by omega) (Or.inl c_75)
          refine lv_iinc (v := iI (176 + (X : Int) - 16 * ((j + 1 : Nat) : Int))) (lv' := [(3, .int (iI (176 + (X : Int) - 16 * ((j + 1 : Nat) : Int)))), (4, .int (iI (up fM X (11 - j + 1)))), (2, .int (iI (dn fM X (j + 1)))), (0, .ref (ad 0)), (1, .int (nI X))]) hx hb dX0_sweepColumn_100 hl (k := 4) rfl (sw_m16 hj3) (by decide) rfl (fun ls hl => ?_)
          refine lv_goto (tgt := 47) hx hb dX0_sweepColumn_103 (by decide) ?_
          exact ih (j + 1, g) H locs ls (by dsimp only; omega) ⟨⟨by omega, fun r h => hg1 r (by omega), sw_5 hg3 (by rw [hg1 (11 - j) (by omega), ec]) (by omega), hg2⟩, hP, hS, lv_sub hl [3, 4, 2, 0] rfl⟩
        · skip
          rw [iI_lt0 (by omega) (by omega)] at c_75
          refine lv_iload hx hb dX0_sweepColumn_78 (lv_at hl 0 rfl) ?_
          refine lv_if_lt (tgt := 93) hx hb dX0_sweepColumn_80 (by decide) (fun c_80 => ?_) (fun c_80 => ?_)
          · skip
            rw [iI_lt0 (by omega) (by omega)] at c_80
            have ec : cmv fM X (11 - j) = dn fM X (j + 1) := cmv_d (by omega) (by omega) (Or.inl c_80)
            refine lv_aload_n hx hb dX0_sweepColumn_93 rfl (lv_at hl 2 rfl) ?_
            refine va_get (D := (dC, dI)) (ci := 0) (v := .ref (ad 3)) (C := RX0) (T := TX0) (N := 8) hx hb hts in_X0 hown hK hP 0 rfl rfl 4 (by decide) (hts _ q25) (fun _ h9 => h9) rfl dX0_sweepColumn_94 ?_
            refine lv_iload_n hx hb dX0_sweepColumn_97 rfl (lv_at hl 4 rfl) ?_
            refine lv_iload_n hx hb dX0_sweepColumn_98 rfl (lv_at hl 1 rfl) ?_
            refine dk_iast hx hb hK hP hD hS 3 2 rfl rfl (by omega) (by decide) dX0_sweepColumn_99 (fun H locs hP hS => ?_)
            have hP : va_P (dC, dI) vwCl (dmW ad ct fM nM kn fO (upd g (X + 16 * (11 - j)) (iI (dn fM X (j + 1)))) kp fK fT) H := hP
            have hD := dm_D hJ ct fM nM kn fO (upd g (X + 16 * (11 - j)) (iI (dn fM X (j + 1)))) kp fK fT
            refine lv_iinc (v := iI (176 + (X : Int) - 16 * ((j + 1 : Nat) : Int))) (lv' := [(3, .int (iI (176 + (X : Int) - 16 * ((j + 1 : Nat) : Int)))), (4, .int (iI (up fM X (11 - j + 1)))), (2, .int (iI (dn fM X (j + 1)))), (0, .ref (ad 0)), (1, .int (nI X))]) hx hb dX0_sweepColumn_100 hl (k := 4) rfl (sw_m16 hj3) (by decide) rfl (fun ls hl => ?_)
            refine lv_goto (tgt := 47) hx hb dX0_sweepColumn_103 (by decide) ?_
            exact ih (j + 1, upd g (X + 16 * (11 - j)) (iI (dn fM X (j + 1)))) H locs ls (by dsimp only; omega) ⟨⟨by omega, sw_3 hg1 (by omega), sw_4 hg3 (by rw [ec]) (by omega), sw_2 hX hg2⟩, hP, hS, lv_sub hl [3, 4, 2, 0] rfl⟩
          · skip
            rw [iI_lt0 (by omega) (by omega)] at c_80
            refine lv_iload_n hx hb dX0_sweepColumn_83 rfl (lv_at hl 1 rfl) ?_
            refine lv_iload_n hx hb dX0_sweepColumn_84 rfl (lv_at hl 4 rfl) ?_
            refine lv_isub hx hb dX0_sweepColumn_85 ?_
            refine dk_top (iI (dn fM X (j + 1) - ((X + 16 * (11 - j) : Nat) : Int))) (by rw [iI_n, iI_sub]) ?_
            refine lv_iload_n hx hb dX0_sweepColumn_86 rfl (lv_at hl 4 rfl) ?_
            refine lv_iload hx hb dX0_sweepColumn_87 (lv_at hl 0 rfl) ?_
            refine lv_isub hx hb dX0_sweepColumn_89 ?_
            refine dk_top (iI (((X + 16 * (11 - j) : Nat) : Int) - up fM X (11 - j + 1))) (by rw [iI_n, iI_sub]) ?_
            refine lv_icmp_ge (tgt := 100) hx hb dX0_sweepColumn_90 (by decide) (fun c_90 => ?_) (fun c_90 => ?_)
            · skip
              rw [iI_le (by omega) (by omega) (by omega) (by omega)] at c_90
              have ec : cmv fM X (11 - j) = up fM X (11 - j + 1) := cmv_u (by omega) (Or.inr ⟨by omega, by omega⟩)
              refine lv_iinc (v := iI (176 + (X : Int) - 16 * ((j + 1 : Nat) : Int))) (lv' := [(3, .int (iI (176 + (X : Int) - 16 * ((j + 1 : Nat) : Int)))), (4, .int (iI (up fM X (11 - j + 1)))), (2, .int (iI (dn fM X (j + 1)))), (0, .ref (ad 0)), (1, .int (nI X))]) hx hb dX0_sweepColumn_100 hl (k := 4) rfl (sw_m16 hj3) (by decide) rfl (fun ls hl => ?_)
              refine lv_goto (tgt := 47) hx hb dX0_sweepColumn_103 (by decide) ?_
              exact ih (j + 1, g) H locs ls (by dsimp only; omega) ⟨⟨by omega, fun r h => hg1 r (by omega), sw_5 hg3 (by rw [hg1 (11 - j) (by omega), ec]) (by omega), hg2⟩, hP, hS, lv_sub hl [3, 4, 2, 0] rfl⟩
            · skip
              rw [iI_le (by omega) (by omega) (by omega) (by omega)] at c_90
              have ec : cmv fM X (11 - j) = dn fM X (j + 1) := cmv_d (by omega) (by omega) (Or.inr (by omega))
              refine lv_aload_n hx hb dX0_sweepColumn_93 rfl (lv_at hl 2 rfl) ?_
              refine va_get (D := (dC, dI)) (ci := 0) (v := .ref (ad 3)) (C := RX0) (T := TX0) (N := 8) hx hb hts in_X0 hown hK hP 0 rfl rfl 4 (by decide) (hts _ q25) (fun _ h9 => h9) rfl dX0_sweepColumn_94 ?_
              refine lv_iload_n hx hb dX0_sweepColumn_97 rfl (lv_at hl 4 rfl) ?_
              refine lv_iload_n hx hb dX0_sweepColumn_98 rfl (lv_at hl 1 rfl) ?_
              refine dk_iast hx hb hK hP hD hS 3 2 rfl rfl (by omega) (by decide) dX0_sweepColumn_99 (fun H locs hP hS => ?_)
              have hP : va_P (dC, dI) vwCl (dmW ad ct fM nM kn fO (upd g (X + 16 * (11 - j)) (iI (dn fM X (j + 1)))) kp fK fT) H := hP
              have hD := dm_D hJ ct fM nM kn fO (upd g (X + 16 * (11 - j)) (iI (dn fM X (j + 1)))) kp fK fT
              refine lv_iinc (v := iI (176 + (X : Int) - 16 * ((j + 1 : Nat) : Int))) (lv' := [(3, .int (iI (176 + (X : Int) - 16 * ((j + 1 : Nat) : Int)))), (4, .int (iI (up fM X (11 - j + 1)))), (2, .int (iI (dn fM X (j + 1)))), (0, .ref (ad 0)), (1, .int (nI X))]) hx hb dX0_sweepColumn_100 hl (k := 4) rfl (sw_m16 hj3) (by decide) rfl (fun ls hl => ?_)
              refine lv_goto (tgt := 47) hx hb dX0_sweepColumn_103 (by decide) ?_
              exact ih (j + 1, upd g (X + 16 * (11 - j)) (iI (dn fM X (j + 1)))) H locs ls (by dsimp only; omega) ⟨⟨by omega, sw_3 hg1 (by omega), sw_4 hg3 (by rw [ec]) (by omega), sw_2 hX hg2⟩, hP, hS, lv_sub hl [3, 4, 2, 0] rfl⟩
  · skip
    have hk2 := nm_lt c_8 (by omega) (by omega)
    refine lv_aload_n hx hb dX0_sweepColumn_11 rfl (lv_at hl 0 rfl) ?_
    refine va_get (D := (dC, dI)) (ci := 0) (v := .ref (ad 1)) (C := RX0) (T := TX0) (N := 8) hx hb hts in_X0 hown hK hP 0 rfl rfl 0 (by decide) (hts _ q21) (fun _ h9 => h9) rfl dX0_sweepColumn_12 ?_
    refine lv_iload_n hx hb dX0_sweepColumn_15 rfl (lv_at hl 3 rfl) ?_
    refine dk_zald hx hb hK hP 1 0 rfl rfl (by omega) (by decide) dX0_sweepColumn_16 ?_
    refine lv_if_eq (tgt := 24) hx hb dX0_sweepColumn_17 (by decide) (fun c_17 => ?_) (fun c_17 => ?_)
    · skip
      refine lv_iload_n hx hb dX0_sweepColumn_24 rfl (lv_at hl 2 rfl) ?_
      refine dk_top (iI (up fM X (k + 1))) (by simp only [up]; rw [if_pos c_17]) ?_
      refine lv_istore_n (lv' := [(2, .int (iI (up fM X (k + 1)))), (0, .ref (ad 0)), (1, .int (nI X)), (3, .int (nI (X + 16 * k)))]) hx hb dX0_sweepColumn_25 rfl hl (by decide) rfl (fun ls hl => ?_)
      refine lv_aload_n hx hb dX0_sweepColumn_26 rfl (lv_at hl 1 rfl) ?_
      refine va_get (D := (dC, dI)) (ci := 0) (v := .ref (ad 3)) (C := RX0) (T := TX0) (N := 8) hx hb hts in_X0 hown hK hP 0 rfl rfl 4 (by decide) (hts _ q25) (fun _ h9 => h9) rfl dX0_sweepColumn_27 ?_
      refine lv_iload_n hx hb dX0_sweepColumn_30 rfl (lv_at hl 3 rfl) ?_
      refine lv_iload_n hx hb dX0_sweepColumn_31 rfl (lv_at hl 0 rfl) ?_
      refine dk_iast hx hb hK hP hD hS 3 2 rfl rfl (by omega) (by decide) dX0_sweepColumn_32 (fun H locs hP hS => ?_)
      have hP : va_P (dC, dI) vwCl (dmW ad ct fM nM kn fO (upd g (X + 16 * k) (iI (up fM X (k + 1)))) kp fK fT) H := hP
      have hD := dm_D hJ ct fM nM kn fO (upd g (X + 16 * k) (iI (up fM X (k + 1)))) kp fK fT
      refine lv_iinc (v := nI (X + 16 * (k + 1))) (lv' := [(3, .int (nI (X + 16 * (k + 1)))), (2, .int (iI (up fM X (k + 1)))), (0, .ref (ad 0)), (1, .int (nI X))]) hx hb dX0_sweepColumn_33 hl (k := 3) rfl (by rw [show X + 16 * (k + 1) = (X + 16 * k) + 16 by omega]; exact nI_add (X + 16 * k) 16) (by decide) rfl (fun ls hl => ?_)
      refine lv_goto (tgt := 4) hx hb dX0_sweepColumn_36 (by decide) ?_
      exact ih (k + 1, upd g (X + 16 * k) (iI (up fM X (k + 1)))) H locs ls (by dsimp only; omega) ⟨⟨by omega, sw_1 hg1, sw_2 hX hg2⟩, hP, hS, lv_sub hl [2, 3, 1, 0] rfl⟩
    · skip
      refine lv_iload_n hx hb dX0_sweepColumn_20 rfl (lv_at hl 3 rfl) ?_
      refine lv_goto (tgt := 25) hx hb dX0_sweepColumn_21 (by decide) ?_
      refine dk_top (iI (up fM X (k + 1))) (by simp only [up]; rw [if_neg c_17, iI_n]) ?_
      refine lv_istore_n (lv' := [(2, .int (iI (up fM X (k + 1)))), (0, .ref (ad 0)), (1, .int (nI X)), (3, .int (nI (X + 16 * k)))]) hx hb dX0_sweepColumn_25 rfl hl (by decide) rfl (fun ls hl => ?_)
      refine lv_aload_n hx hb dX0_sweepColumn_26 rfl (lv_at hl 1 rfl) ?_
      refine va_get (D := (dC, dI)) (ci := 0) (v := .ref (ad 3)) (C := RX0) (T := TX0) (N := 8) hx hb hts in_X0 hown hK hP 0 rfl rfl 4 (by decide) (hts _ q25) (fun _ h9 => h9) rfl dX0_sweepColumn_27 ?_
      refine lv_iload_n hx hb dX0_sweepColumn_30 rfl (lv_at hl 3 rfl) ?_
      refine lv_iload_n hx hb dX0_sweepColumn_31 rfl (lv_at hl 0 rfl) ?_
      refine dk_iast hx hb hK hP hD hS 3 2 rfl rfl (by omega) (by decide) dX0_sweepColumn_32 (fun H locs hP hS => ?_)
      have hP : va_P (dC, dI) vwCl (dmW ad ct fM nM kn fO (upd g (X + 16 * k) (iI (up fM X (k + 1)))) kp fK fT) H := hP
      have hD := dm_D hJ ct fM nM kn fO (upd g (X + 16 * k) (iI (up fM X (k + 1)))) kp fK fT
      refine lv_iinc (v := nI (X + 16 * (k + 1))) (lv' := [(3, .int (nI (X + 16 * (k + 1)))), (2, .int (iI (up fM X (k + 1)))), (0, .ref (ad 0)), (1, .int (nI X))]) hx hb dX0_sweepColumn_33 hl (k := 3) rfl (by rw [show X + 16 * (k + 1) = (X + 16 * k) + 16 by omega]; exact nI_add (X + 16 * k) 16) (by decide) rfl (fun ls hl => ?_)
      refine lv_goto (tgt := 4) hx hb dX0_sweepColumn_36 (by decide) ?_
      exact ih (k + 1, upd g (X + 16 * k) (iI (up fM X (k + 1)))) H locs ls (by dsimp only; omega) ⟨⟨by omega, sw_1 hg1, sw_2 hX hg2⟩, hP, hS, lv_sub hl [2, 3, 1, 0] rfl⟩
end
section
set_option maxHeartbeats 4000000 in
set_option maxRecDepth 100000 in
/-- addParabola(c0, Y): the envelope takes column c0 in -/
theorem metX0_addParabola (l : Launch) (dC : Nat → ClassId) (dI : Nat → Nat → Nat) (ad : Nat → Nat) (ct : Nat → ClassId) (fM : Nat → Int32) (nM kn : Int32) (fO fC : Nat → Int32) (kp : Int32) (fK fT : Nat → Int32) (hJ : dmJ ad) (v : Nat → Int) (Y : Nat) (hY : Y < 12) (hv : rowV fC Y v) (c0 : Nat) (hc0 : c0 < 16) (hv0 : 0 ≤ v c0) (hE0 : enR v Y c0 kp fK fT) : Met l yX0_addParabola (ws_ yX0_addParabola cX0_addParabola 5 none) ({ frames := 2, cells := 0, slots := 0, locals := 50 }) (roP (dC, dI) [.ref (ad 0), .int (nI c0), .int (nI Y)] (dmW ad ct fM nM kn fO fC kp fK fT) (dmT ct)) (muV (dC, dI) (fun (u : Int32 × (Nat → Int32) × (Nat → Int32)) => enR v Y (c0 + 1) u.1 u.2.1 u.2.2) (fun u => dmW ad ct fM nM kn fO fC u.1 u.2.1 u.2.2) (dmA ad)) 0 0 (dmA ad) := by
  refine Met.ofW (cc := cX0_addParabola) (maxL := 5) (ret := none) (by decide) rfl ?_
  intro p e s m args below meth c s₁ Bo hml hv
  obtain ⟨rfl, hP, hK⟩ := hv
  have hx := Bo.exec
  have hb := Bo.bytes
  have hr := Bo.returns
  have hts := atoms_spec (ws := ws_ yX0_addParabola cX0_addParabola 5 none) Bo.pre
  have hts : ∀ w ∈ lw_all, w.before _ s = true := fun w h => hts w (List.mem_cons_of_mem _ h)
  have hown : s.vm.findClass RX0 = some m.cls := findClass_of_methodNamed Bo.named
  have hlocks := Bo.notSynchronized
  have hl := lv_entry ([.ref (ad 0), .int (nI c0), .int (nI Y)]) (n := 5) (Nat.le_of_ble_eq_true rfl)
  rw [lg_entry_eq]
  generalize (lg_sl ([.ref (ad 0), .int (nI c0), .int (nI Y)]) ++ List.replicate (5 - (lg_sl ([.ref (ad 0), .int (nI c0), .int (nI Y)])).length) Slot.unset).toArray = ls at hl ⊢
  have hl : lv_has ls 5 [(0, .ref (ad 0)), (1, .int (nI c0)), (2, .int (nI Y))] := hl
  obtain ⟨K0, kc, to, rfl, hR, hE⟩ := hE0
  have hD := dm_D hJ ct fM nM kn fO fC (nI K0) fK fT
  have hS : va_S (dmA ad) s.heap s.heap [] := va_S.rf
  refine lv_iconst (v := 0) hx hb dX0_addParabola_0 (by decide) ?_
  refine lv_istore_n (lv' := [(3, .int (0 : Int32)), (0, .ref (ad 0)), (1, .int (nI c0)), (2, .int (nI Y))]) hx hb dX0_addParabola_1 rfl hl (by decide) rfl (fun ls hl => ?_)
  refine lv_iconst (v := 0) hx hb dX0_addParabola_2 (by decide) ?_
  refine dk_top (nI 0) (nI_0.symm) ?_
  refine lv_istore (lv' := [(4, .int (nI 0)), (3, .int (0 : Int32)), (0, .ref (ad 0)), (1, .int (nI c0)), (2, .int (nI Y))]) hx hb dX0_addParabola_3 hl (by decide) rfl (fun ls hl => ?_)
  refine dk_loop (Inv := fun (a9 : Nat × Int32 × Nat) H locs ls => match a9 with | (Kn, fr, n) => (Kn ≤ K0 ∧ n + Kn ≤ 15 ∧ enP (fun c => 0 ≤ v c) (fun c x => co Y v c x) c0 Kn kc to) ∧ va_P (dC, dI) vwCl (dmW ad ct fM nM kn fO fC (nI Kn) fK fT) H ∧ va_S (dmA ad) s.heap H locs ∧ lv_has ls 5 [(0, .ref (ad 0)), (1, .int (nI c0)), (2, .int (nI Y)), (3, .int fr), (4, .int (nI n))]) (μ := fun (a9 : Nat × Int32 × Nat) => match a9 with | (Kn, fr, n) => Kn) 5 [] (K0, 0, 0) ⟨⟨Nat.le_refl _, by have := hE.1.1; omega, en_in hE⟩, hP, hS, lv_sub hl [2, 3, 4, 1, 0] rfl⟩ ?_
  intro a9 H locs ls hI9 ih
  obtain ⟨Kn, fr, n⟩ := a9
  obtain ⟨⟨hK1, hK2, hE1⟩, hP, hS, hl⟩ := hI9
  have hP : va_P (dC, dI) vwCl (dmW ad ct fM nM kn fO fC (nI Kn) fK fT) H := hP
  have hl : lv_has ls 5 [(0, .ref (ad 0)), (1, .int (nI c0)), (2, .int (nI Y)), (3, .int fr), (4, .int (nI n))] := hl
  have hD := dm_D hJ ct fM nM kn fO fC (nI Kn) fK fT
  refine lv_iload hx hb dX0_addParabola_5 (lv_at hl 4 rfl) ?_
  refine lv_bipush (v := 16) hx hb dX0_addParabola_7 (by decide) ?_
  refine dk_top (nI 16) (rfl) ?_
  refine lv_icmp_ge (tgt := 73) hx hb dX0_addParabola_9 (by decide) (fun c_9 => ?_) (fun c_9 => ?_)
  · skip
    exact absurd (nm_le c_9 (by omega) (by omega)) (by omega)
  · skip
    refine lv_aload_n hx hb dX0_addParabola_12 rfl (lv_at hl 0 rfl) ?_
    refine va_get (D := (dC, dI)) (ci := 0) (v := .int (nI Kn)) (C := RX0) (T := TX0) (N := 8) hx hb hts in_X0 hown hK hP 0 rfl rfl 5 (by decide) (hts _ q26) (fun _ h9 => h9) rfl dX0_addParabola_13 ?_
    refine lv_if_le (tgt := 73) hx hb dX0_addParabola_16 (by decide) (fun c_16 => ?_) (fun c_16 => ?_)
    · skip
      have hK0 : Kn = 0 := by
        rw [← nI_0, nI_leI (by omega) (by omega)] at c_16
        omega
      refine lv_aload_n hx hb dX0_addParabola_73 rfl (lv_at hl 0 rfl) ?_
      refine va_get (D := (dC, dI)) (ci := 0) (v := .int (nI Kn)) (C := RX0) (T := TX0) (N := 8) hx hb hts in_X0 hown hK hP 0 rfl rfl 5 (by decide) (hts _ q26) (fun _ h9 => h9) rfl dX0_addParabola_74 ?_
      refine lv_if_ne (tgt := 82) hx hb dX0_addParabola_77 (by decide) (fun c_77 => ?_) (fun c_77 => ?_)
      · skip
        exact absurd (by rw [hK0]; rfl) c_77
      · skip
        refine lv_iconst (v := 0) hx hb dX0_addParabola_80 (by decide) ?_
        refine dk_top (nI 0) (nI_0.symm) ?_
        refine lv_istore_n (lv' := [(3, .int (nI 0)), (0, .ref (ad 0)), (1, .int (nI c0)), (2, .int (nI Y)), (4, .int (nI n))]) hx hb dX0_addParabola_81 rfl hl (by decide) rfl (fun ls hl => ?_)
        refine lv_iload_n hx hb dX0_addParabola_82 rfl (lv_at hl 0 rfl) ?_
        refine lv_bipush (v := 16) hx hb dX0_addParabola_83 (by decide) ?_
        refine dk_top (nI 16) (rfl) ?_
        refine lv_icmp_ge (tgt := 118) hx hb dX0_addParabola_85 (by decide) (fun c_85 => ?_) (fun c_85 => ?_)
        · skip
          exact absurd (nm_le c_85 (by omega) (by omega)) (by omega)
        · skip
          refine lv_aload_n hx hb dX0_addParabola_88 rfl (lv_at hl 1 rfl) ?_
          refine va_get (D := (dC, dI)) (ci := 0) (v := .ref (ad 4)) (C := RX0) (T := TX0) (N := 8) hx hb hts in_X0 hown hK hP 0 rfl rfl 6 (by decide) (hts _ q27) (fun _ h9 => h9) rfl dX0_addParabola_89 ?_
          refine lv_aload_n hx hb dX0_addParabola_92 rfl (lv_at hl 1 rfl) ?_
          refine va_get (D := (dC, dI)) (ci := 0) (v := .int (nI Kn)) (C := RX0) (T := TX0) (N := 8) hx hb hts in_X0 hown hK hP 0 rfl rfl 5 (by decide) (hts _ q26) (fun _ h9 => h9) rfl dX0_addParabola_93 ?_
          refine lv_iload_n hx hb dX0_addParabola_96 rfl (lv_at hl 2 rfl) ?_
          refine dk_iast hx hb hK hP hD hS 4 3 rfl rfl (by omega) (by decide) dX0_addParabola_97 (fun H locs hP hS => ?_)
          have hP : va_P (dC, dI) vwCl (dmW ad ct fM nM kn fO fC (nI Kn) (upd fK Kn (nI c0)) fT) H := hP
          have hD := dm_D hJ ct fM nM kn fO fC (nI Kn) (upd fK Kn (nI c0)) fT
          refine lv_aload_n hx hb dX0_addParabola_98 rfl (lv_at hl 1 rfl) ?_
          refine va_get (D := (dC, dI)) (ci := 0) (v := .ref (ad 5)) (C := RX0) (T := TX0) (N := 8) hx hb hts in_X0 hown hK hP 0 rfl rfl 7 (by decide) (hts _ q28) (fun _ h9 => h9) rfl dX0_addParabola_99 ?_
          refine lv_aload_n hx hb dX0_addParabola_102 rfl (lv_at hl 1 rfl) ?_
          refine va_get (D := (dC, dI)) (ci := 0) (v := .int (nI Kn)) (C := RX0) (T := TX0) (N := 8) hx hb hts in_X0 hown hK hP 0 rfl rfl 5 (by decide) (hts _ q26) (fun _ h9 => h9) rfl dX0_addParabola_103 ?_
          refine lv_iload_n hx hb dX0_addParabola_106 rfl (lv_at hl 0 rfl) ?_
          refine dk_iast hx hb hK hP hD hS 5 4 rfl rfl (by omega) (by decide) dX0_addParabola_107 (fun H locs hP hS => ?_)
          have hP : va_P (dC, dI) vwCl (dmW ad ct fM nM kn fO fC (nI Kn) (upd fK Kn (nI c0)) (upd fT Kn (nI 0))) H := hP
          have hD := dm_D hJ ct fM nM kn fO fC (nI Kn) (upd fK Kn (nI c0)) (upd fT Kn (nI 0))
          refine lv_aload_n hx hb dX0_addParabola_108 rfl (lv_at hl 1 rfl) ?_
          refine lv_dup hx hb dX0_addParabola_109 rfl ?_
          refine va_get (D := (dC, dI)) (ci := 0) (v := .int (nI Kn)) (C := RX0) (T := TX0) (N := 8) hx hb hts in_X0 hown hK hP 0 rfl rfl 5 (by decide) (hts _ q26) (fun _ h9 => h9) rfl dX0_addParabola_110 ?_
          refine lv_iconst (v := 1) hx hb dX0_addParabola_113 (by decide) ?_
          refine lv_iadd hx hb dX0_addParabola_114 ?_
          refine dk_top (nI (Kn + 1)) (nI_1 Kn) ?_
          refine va_put (D := (dC, dI)) (ci := 0) (v := .int (nI (Kn + 1))) (ty := .int) (C := RX0) (T := TX0) (N := 8) hx hb hts in_X0 tyX0 tyX0_ok nmX0 hown hK hP hD hS 0 rfl rfl 5 (by decide) (hts _ q26) (fun _ h9 => h9) rfl (by decide +kernel) rfl rfl (Nat.le_of_ble_eq_true rfl) dX0_addParabola_115 (fun H locs hP _ hS => ?_)
          have hP : va_P (dC, dI) vwCl (dmW ad ct fM nM kn fO fC (nI (Kn + 1)) (upd fK Kn (nI c0)) (upd fT Kn (nI 0))) H := hP
          have hD := dm_D hJ ct fM nM kn fO fC (nI (Kn + 1)) (upd fK Kn (nI c0)) (upd fT Kn (nI 0))
          exact W.vret hx hb hr (fun t ht hW => ⟨⟨(nI (Kn + 1), upd fK Kn (nI c0), upd fT Kn (nI 0)), rfl, ⟨Kn + 1, up1 kc Kn c0, up1 to Kn 0, rfl, rep_push (fun j hj => hR j (by omega)), by subst hK0; exact en_push0 hE1 hv0 ⟨up1_s _ _ _, up1_s _ _ _⟩⟩, dk_h ht hP⟩, hS.F ht⟩) hS.2.2 dX0_addParabola_118
    · skip
      obtain ⟨k1, rfl⟩ : ∃ k1, Kn = k1 + 1 := ⟨Kn - 1, by rw [← nI_0, nI_leI (by omega) (by omega)] at c_16; omega⟩
      have hR1 := hR k1 (by omega)
      have hS1 := hE1.1.2.1 k1 (by omega)
      have hcr := row_cross hv hS1.1 hc0 hS1.2.1 hv0
      have hlb := lp_b hS1.1 hc0 hY hS1.2.1 (row_b hv (by omega) hS1.2.1) hv0 (row_b hv hc0 hv0)
      refine lv_aload_n hx hb dX0_addParabola_19 rfl (lv_at hl 0 rfl) ?_
      refine lv_aload_n hx hb dX0_addParabola_20 rfl (lv_at hl 0 rfl) ?_
      refine va_get (D := (dC, dI)) (ci := 0) (v := .ref (ad 4)) (C := RX0) (T := TX0) (N := 8) hx hb hts in_X0 hown hK hP 0 rfl rfl 6 (by decide) (hts _ q27) (fun _ h9 => h9) rfl dX0_addParabola_21 ?_
      refine lv_aload_n hx hb dX0_addParabola_24 rfl (lv_at hl 0 rfl) ?_
      refine va_get (D := (dC, dI)) (ci := 0) (v := .int (nI (k1 + 1))) (C := RX0) (T := TX0) (N := 8) hx hb hts in_X0 hown hK hP 0 rfl rfl 5 (by decide) (hts _ q26) (fun _ h9 => h9) rfl dX0_addParabola_25 ?_
      refine lv_iconst (v := 1) hx hb dX0_addParabola_28 (by decide) ?_
      refine lv_isub hx hb dX0_addParabola_29 ?_
      refine dk_top (nI k1) (nI_pred k1) ?_
      refine dk_iald hx hb hK hP 4 3 rfl rfl (by omega) (by decide) dX0_addParabola_30 ?_
      refine dk_top (nI (kc k1)) (hR1.1) ?_
      refine lv_iload_n hx hb dX0_addParabola_31 rfl (lv_at hl 1 rfl) ?_
      refine lv_iload_n hx hb dX0_addParabola_32 rfl (lv_at hl 2 rfl) ?_
      refine dk_roV (rest := []) ⟨hx, hb, hml, hown, hts⟩ (metX0_lastPlace l dC dI ad ct fM nM kn fO fC (nI (k1 + 1)) fK fT v Y (kc k1) c0 hY hS1.1 hc0 hv hS1.2.1 hv0) (cwV 3 hts (lw_V q79 q81 qs4 q11 q82) rfl rfl rfl (by decide +kernel) ⟨Nat.le_of_ble_eq_true rfl, Nat.le_of_ble_eq_true rfl⟩) hK hP 0 rfl rfl rfl rfl hl.1 rfl (Nat.le_of_ble_eq_true rfl) ⟨Nat.le_of_ble_eq_true rfl, Nat.le_of_ble_eq_true rfl⟩ dX0_addParabola_33 ?_
      refine lv_iconst (v := 1) hx hb dX0_addParabola_36 (by decide) ?_
      refine lv_iadd hx hb dX0_addParabola_37 ?_
      refine dk_top (iI (lp Y v (kc k1) c0 + 1)) (by rw [iI_1, iI_add]) ?_
      refine lv_istore_n (lv' := [(3, .int (iI (lp Y v (kc k1) c0 + 1))), (0, .ref (ad 0)), (1, .int (nI c0)), (2, .int (nI Y)), (4, .int (nI n))]) hx hb dX0_addParabola_38 rfl hl (by decide) rfl (fun ls hl => ?_)
      refine lv_iload_n hx hb dX0_addParabola_39 rfl (lv_at hl 0 rfl) ?_
      refine lv_aload_n hx hb dX0_addParabola_40 rfl (lv_at hl 1 rfl) ?_
      refine va_get (D := (dC, dI)) (ci := 0) (v := .ref (ad 5)) (C := RX0) (T := TX0) (N := 8) hx hb hts in_X0 hown hK hP 0 rfl rfl 7 (by decide) (hts _ q28) (fun _ h9 => h9) rfl dX0_addParabola_41 ?_
      refine lv_aload_n hx hb dX0_addParabola_44 rfl (lv_at hl 1 rfl) ?_
      refine va_get (D := (dC, dI)) (ci := 0) (v := .int (nI (k1 + 1))) (C := RX0) (T := TX0) (N := 8) hx hb hts in_X0 hown hK hP 0 rfl rfl 5 (by decide) (hts _ q26) (fun _ h9 => h9) rfl dX0_addParabola_45 ?_
      refine lv_iconst (v := 1) hx hb dX0_addParabola_48 (by decide) ?_
      refine lv_isub hx hb dX0_addParabola_49 ?_
      refine dk_top (nI k1) (nI_pred k1) ?_
      refine dk_iald hx hb hK hP 5 4 rfl rfl (by omega) (by decide) dX0_addParabola_50 ?_
      refine dk_top (nI (to k1)) (hR1.2) ?_
      refine lv_icmp_le (tgt := 57) hx hb dX0_addParabola_51 (by decide) (fun c_51 => ?_) (fun c_51 => ?_)
      · skip
        rw [iI_n, iI_le (by omega) (by omega) (by omega) (by omega)] at c_51
        refine lv_aload_n hx hb dX0_addParabola_57 rfl (lv_at hl 1 rfl) ?_
        refine lv_dup hx hb dX0_addParabola_58 rfl ?_
        refine va_get (D := (dC, dI)) (ci := 0) (v := .int (nI (k1 + 1))) (C := RX0) (T := TX0) (N := 8) hx hb hts in_X0 hown hK hP 0 rfl rfl 5 (by decide) (hts _ q26) (fun _ h9 => h9) rfl dX0_addParabola_59 ?_
        refine lv_iconst (v := 1) hx hb dX0_addParabola_62 (by decide) ?_
        refine lv_isub hx hb dX0_addParabola_63 ?_
        refine dk_top (nI k1) (nI_pred k1) ?_
        refine va_put (D := (dC, dI)) (ci := 0) (v := .int (nI k1)) (ty := .int) (C := RX0) (T := TX0) (N := 8) hx hb hts in_X0 tyX0 tyX0_ok nmX0 hown hK hP hD hS 0 rfl rfl 5 (by decide) (hts _ q26) (fun _ h9 => h9) rfl (by decide +kernel) rfl rfl (Nat.le_of_ble_eq_true rfl) dX0_addParabola_64 (fun H locs hP _ hS => ?_)
        have hP : va_P (dC, dI) vwCl (dmW ad ct fM nM kn fO fC (nI k1) fK fT) H := hP
        have hD := dm_D hJ ct fM nM kn fO fC (nI k1) fK fT
        refine lv_iinc (v := nI (n + 1)) (lv' := [(4, .int (nI (n + 1))), (3, .int (iI (lp Y v (kc k1) c0 + 1))), (0, .ref (ad 0)), (1, .int (nI c0)), (2, .int (nI Y))]) hx hb dX0_addParabola_67 hl (k := 4) rfl (nI_1 n) (by decide) rfl (fun ls hl => ?_)
        refine lv_goto (tgt := 5) hx hb dX0_addParabola_70 (by decide) ?_
        exact ih (k1, iI (lp Y v (kc k1) c0 + 1), n + 1) H locs ls (by dsimp only; omega) ⟨⟨by omega, by omega, en_pop hE1 (fun x _ => hcr x) c_51⟩, hP, hS, lv_sub hl [2, 3, 4, 1, 0] rfl⟩
      · skip
        rw [iI_n, iI_le (by omega) (by omega) (by omega) (by omega)] at c_51
        refine lv_goto (tgt := 73) hx hb dX0_addParabola_54 (by decide) ?_
        refine lv_aload_n hx hb dX0_addParabola_73 rfl (lv_at hl 1 rfl) ?_
        refine va_get (D := (dC, dI)) (ci := 0) (v := .int (nI (k1 + 1))) (C := RX0) (T := TX0) (N := 8) hx hb hts in_X0 hown hK hP 0 rfl rfl 5 (by decide) (hts _ q26) (fun _ h9 => h9) rfl dX0_addParabola_74 ?_
        refine lv_if_ne (tgt := 82) hx hb dX0_addParabola_77 (by decide) (fun c_77 => ?_) (fun c_77 => ?_)
        · skip
          refine lv_iload_n hx hb dX0_addParabola_82 rfl (lv_at hl 0 rfl) ?_
          refine lv_bipush (v := 16) hx hb dX0_addParabola_83 (by decide) ?_
          refine dk_top (nI 16) (rfl) ?_
          refine lv_icmp_ge (tgt := 118) hx hb dX0_addParabola_85 (by decide) (fun c_85 => ?_) (fun c_85 => ?_)
          · skip
            rw [iI_n, iI_le (by omega) (by omega) (by omega) (by omega)] at c_85
            exact W.vret hx hb hr (fun t ht hW => ⟨⟨(nI (k1 + 1), fK, fT), rfl, ⟨k1 + 1, kc, to, rfl, fun j hj => hR j (by omega), en_none hE1 (fun x _ => hcr x) (by omega)⟩, dk_h ht hP⟩, hS.F ht⟩) hS.2.2 dX0_addParabola_118
          · skip
            rw [iI_n, iI_le (by omega) (by omega) (by omega) (by omega)] at c_85
            obtain ⟨f9, hf9⟩ := Int.eq_ofNat_of_zero_le (show 0 ≤ lp Y v (kc k1) c0 + 1 by omega)
            rw [hf9] at c_51 c_85 hcr
            have ef : nI f9 = iI (lp Y v (kc k1) c0 + 1) := by rw [hf9, iI_n]
            have hl : lv_has ls 5 [(0, .ref (ad 0)), (1, .int (nI c0)), (2, .int (nI Y)), (3, .int (nI f9))] := by rw [ef]; exact lv_sub hl [1, 2, 3, 0] rfl
            refine lv_aload_n hx hb dX0_addParabola_88 rfl (lv_at hl 0 rfl) ?_
            refine va_get (D := (dC, dI)) (ci := 0) (v := .ref (ad 4)) (C := RX0) (T := TX0) (N := 8) hx hb hts in_X0 hown hK hP 0 rfl rfl 6 (by decide) (hts _ q27) (fun _ h9 => h9) rfl dX0_addParabola_89 ?_
            refine lv_aload_n hx hb dX0_addParabola_92 rfl (lv_at hl 0 rfl) ?_
            refine va_get (D := (dC, dI)) (ci := 0) (v := .int (nI (k1 + 1))) (C := RX0) (T := TX0) (N := 8) hx hb hts in_X0 hown hK hP 0 rfl rfl 5 (by decide) (hts _ q26) (fun _ h9 => h9) rfl dX0_addParabola_93 ?_
            refine lv_iload_n hx hb dX0_addParabola_96 rfl (lv_at hl 1 rfl) ?_
            refine dk_iast hx hb hK hP hD hS 4 3 rfl rfl (by omega) (by decide) dX0_addParabola_97 (fun H locs hP hS => ?_)
            have hP : va_P (dC, dI) vwCl (dmW ad ct fM nM kn fO fC (nI (k1 + 1)) (upd fK (k1 + 1) (nI c0)) fT) H := hP
            have hD := dm_D hJ ct fM nM kn fO fC (nI (k1 + 1)) (upd fK (k1 + 1) (nI c0)) fT
            refine lv_aload_n hx hb dX0_addParabola_98 rfl (lv_at hl 0 rfl) ?_
            refine va_get (D := (dC, dI)) (ci := 0) (v := .ref (ad 5)) (C := RX0) (T := TX0) (N := 8) hx hb hts in_X0 hown hK hP 0 rfl rfl 7 (by decide) (hts _ q28) (fun _ h9 => h9) rfl dX0_addParabola_99 ?_
            refine lv_aload_n hx hb dX0_addParabola_102 rfl (lv_at hl 0 rfl) ?_
            refine va_get (D := (dC, dI)) (ci := 0) (v := .int (nI (k1 + 1))) (C := RX0) (T := TX0) (N := 8) hx hb hts in_X0 hown hK hP 0 rfl rfl 5 (by decide) (hts _ q26) (fun _ h9 => h9) rfl dX0_addParabola_103 ?_
            refine lv_iload_n hx hb dX0_addParabola_106 rfl (lv_at hl 3 rfl) ?_
            refine dk_iast hx hb hK hP hD hS 5 4 rfl rfl (by omega) (by decide) dX0_addParabola_107 (fun H locs hP hS => ?_)
            have hP : va_P (dC, dI) vwCl (dmW ad ct fM nM kn fO fC (nI (k1 + 1)) (upd fK (k1 + 1) (nI c0)) (upd fT (k1 + 1) (nI f9))) H := hP
            have hD := dm_D hJ ct fM nM kn fO fC (nI (k1 + 1)) (upd fK (k1 + 1) (nI c0)) (upd fT (k1 + 1) (nI f9))
            refine lv_aload_n hx hb dX0_addParabola_108 rfl (lv_at hl 0 rfl) ?_
            refine lv_dup hx hb dX0_addParabola_109 rfl ?_
            refine va_get (D := (dC, dI)) (ci := 0) (v := .int (nI (k1 + 1))) (C := RX0) (T := TX0) (N := 8) hx hb hts in_X0 hown hK hP 0 rfl rfl 5 (by decide) (hts _ q26) (fun _ h9 => h9) rfl dX0_addParabola_110 ?_
            refine lv_iconst (v := 1) hx hb dX0_addParabola_113 (by decide) ?_
            refine lv_iadd hx hb dX0_addParabola_114 ?_
            refine dk_top (nI (k1 + 1 + 1)) (nI_1 (k1 + 1)) ?_
            refine va_put (D := (dC, dI)) (ci := 0) (v := .int (nI (k1 + 1 + 1))) (ty := .int) (C := RX0) (T := TX0) (N := 8) hx hb hts in_X0 tyX0 tyX0_ok nmX0 hown hK hP hD hS 0 rfl rfl 5 (by decide) (hts _ q26) (fun _ h9 => h9) rfl (by decide +kernel) rfl rfl (Nat.le_of_ble_eq_true rfl) dX0_addParabola_115 (fun H locs hP _ hS => ?_)
            have hP : va_P (dC, dI) vwCl (dmW ad ct fM nM kn fO fC (nI (k1 + 1 + 1)) (upd fK (k1 + 1) (nI c0)) (upd fT (k1 + 1) (nI f9))) H := hP
            have hD := dm_D hJ ct fM nM kn fO fC (nI (k1 + 1 + 1)) (upd fK (k1 + 1) (nI c0)) (upd fT (k1 + 1) (nI f9))
            exact W.vret hx hb hr (fun t ht hW => ⟨⟨(nI (k1 + 1 + 1), upd fK (k1 + 1) (nI c0), upd fT (k1 + 1) (nI f9)), rfl, ⟨k1 + 2, up1 kc (k1 + 1) c0, up1 to (k1 + 1) f9, rfl, rep_push (fun j hj => hR j (by omega)), en_push hE1 (fun x _ => hcr x) (by omega) (by omega) hv0 (fun j hj => ⟨up1_n _ _ (by omega), up1_n _ _ (by omega)⟩) ⟨up1_s _ _ _, up1_s _ _ _⟩⟩, dk_h ht hP⟩, hS.F ht⟩) hS.2.2 dX0_addParabola_118
        · skip
          exact absurd c_77 (nI_ne0 (by omega) (by omega))
end
section
set_option maxHeartbeats 4000000 in
set_option maxRecDepth 100000 in
/-- gatherRow(Y): the envelope of the row -/
theorem metX0_gatherRow (l : Launch) (dC : Nat → ClassId) (dI : Nat → Nat → Nat) (ad : Nat → Nat) (ct : Nat → ClassId) (fM : Nat → Int32) (nM kn : Int32) (fO fC : Nat → Int32) (kp : Int32) (fK fT : Nat → Int32) (hJ : dmJ ad) (v : Nat → Int) (Y : Nat) (hY : Y < 12) (hv : rowV fC Y v) : Met l yX0_gatherRow (ws_ yX0_gatherRow cX0_gatherRow 3 none) ({ frames := 3, cells := 0, slots := 0, locals := 74 }) (roP (dC, dI) [.ref (ad 0), .int (nI Y)] (dmW ad ct fM nM kn fO fC kp fK fT) (dmT ct)) (muV (dC, dI) (fun (u : Int32 × (Nat → Int32) × (Nat → Int32)) => enR v Y 16 u.1 u.2.1 u.2.2) (fun u => dmW ad ct fM nM kn fO fC u.1 u.2.1 u.2.2) (dmA ad)) 0 0 (dmA ad) := by
  refine Met.ofW (cc := cX0_gatherRow) (maxL := 3) (ret := none) (by decide) rfl ?_
  intro p e s m args below meth c s₁ Bo hml hv
  obtain ⟨rfl, hP, hK⟩ := hv
  have hx := Bo.exec
  have hb := Bo.bytes
  have hr := Bo.returns
  have hts := atoms_spec (ws := ws_ yX0_gatherRow cX0_gatherRow 3 none) Bo.pre
  have hts : ∀ w ∈ lw_all, w.before _ s = true := fun w h => hts w (List.mem_cons_of_mem _ h)
  have hown : s.vm.findClass RX0 = some m.cls := findClass_of_methodNamed Bo.named
  have hlocks := Bo.notSynchronized
  have hl := lv_entry ([.ref (ad 0), .int (nI Y)]) (n := 3) (Nat.le_of_ble_eq_true rfl)
  rw [lg_entry_eq]
  generalize (lg_sl ([.ref (ad 0), .int (nI Y)]) ++ List.replicate (3 - (lg_sl ([.ref (ad 0), .int (nI Y)])).length) Slot.unset).toArray = ls at hl ⊢
  have hl : lv_has ls 3 [(0, .ref (ad 0)), (1, .int (nI Y))] := hl
  have hD := dm_D hJ ct fM nM kn fO fC kp fK fT
  have hS : va_S (dmA ad) s.heap s.heap [] := va_S.rf
  refine lv_aload_n hx hb dX0_gatherRow_0 rfl (lv_at hl 0 rfl) ?_
  refine lv_iconst (v := 0) hx hb dX0_gatherRow_1 (by decide) ?_
  refine dk_top (nI 0) (nI_0.symm) ?_
  refine va_put (D := (dC, dI)) (ci := 0) (v := .int (nI 0)) (ty := .int) (C := RX0) (T := TX0) (N := 8) hx hb hts in_X0 tyX0 tyX0_ok nmX0 hown hK hP hD hS 0 rfl rfl 5 (by decide) (hts _ q26) (fun _ h9 => h9) rfl (by decide +kernel) rfl rfl (Nat.le_of_ble_eq_true rfl) dX0_gatherRow_2 (fun H locs hP _ hS => ?_)
  have hP : va_P (dC, dI) vwCl (dmW ad ct fM nM kn fO fC (nI 0) fK fT) H := hP
  have hD := dm_D hJ ct fM nM kn fO fC (nI 0) fK fT
  refine lv_iconst (v := 0) hx hb dX0_gatherRow_5 (by decide) ?_
  refine dk_top (nI 0) (nI_0.symm) ?_
  refine lv_istore_n (lv' := [(2, .int (nI 0)), (0, .ref (ad 0)), (1, .int (nI Y))]) hx hb dX0_gatherRow_6 rfl hl (by decide) rfl (fun ls hl => ?_)
  refine dk_loop (Inv := fun (a9 : Nat × Int32 × (Nat → Int32) × (Nat → Int32)) H locs ls => match a9 with | (n, kq, gK, gT) => (n ≤ 16 ∧ enR v Y n kq gK gT) ∧ va_P (dC, dI) vwCl (dmW ad ct fM nM kn fO fC kq gK gT) H ∧ va_S (dmA ad) s.heap H locs ∧ lv_has ls 3 [(0, .ref (ad 0)), (1, .int (nI Y)), (2, .int (nI n))]) (μ := fun (a9 : Nat × Int32 × (Nat → Int32) × (Nat → Int32)) => match a9 with | (n, kq, gK, gT) => 16 - n) 7 [] (0, nI 0, fK, fT) ⟨⟨Nat.zero_le _, 0, fun _ => 0, fun _ => 0, rfl, fun j h => absurd h (Nat.not_lt_zero _), en_0⟩, hP, hS, lv_sub hl [1, 2, 0] rfl⟩ ?_
  intro a9 H locs ls hI9 ih
  obtain ⟨n, kq, gK, gT⟩ := a9
  obtain ⟨⟨hn, hE⟩, hP, hS, hl⟩ := hI9
  have hP : va_P (dC, dI) vwCl (dmW ad ct fM nM kn fO fC kq gK gT) H := hP
  have hl : lv_has ls 3 [(0, .ref (ad 0)), (1, .int (nI Y)), (2, .int (nI n))] := hl
  have hD := dm_D hJ ct fM nM kn fO fC kq gK gT
  refine lv_iload_n hx hb dX0_gatherRow_7 rfl (lv_at hl 2 rfl) ?_
  refine lv_bipush (v := 16) hx hb dX0_gatherRow_8 (by decide) ?_
  refine dk_top (nI 16) (rfl) ?_
  refine lv_icmp_ge (tgt := 39) hx hb dX0_gatherRow_10 (by decide) (fun c_10 => ?_) (fun c_10 => ?_)
  · skip
    have hn2 := nm_le c_10 (by omega) (by omega)
    have hn3 : n = 16 := by omega
    subst hn3
    exact W.vret hx hb hr (fun t ht hW => ⟨⟨(kq, gK, gT), rfl, hE, dk_h ht hP⟩, hS.F ht⟩) hS.2.2 dX0_gatherRow_39
  · skip
    have hn2 := nm_lt c_10 (by omega) (by omega)
    have hvn := hv n hn2
    refine lv_aload_n hx hb dX0_gatherRow_13 rfl (lv_at hl 0 rfl) ?_
    refine va_get (D := (dC, dI)) (ci := 0) (v := .ref (ad 3)) (C := RX0) (T := TX0) (N := 8) hx hb hts in_X0 hown hK hP 0 rfl rfl 4 (by decide) (hts _ q25) (fun _ h9 => h9) rfl dX0_gatherRow_14 ?_
    refine lv_bipush (v := 16) hx hb dX0_gatherRow_17 (by decide) ?_
    refine lv_iload_n hx hb dX0_gatherRow_19 rfl (lv_at hl 1 rfl) ?_
    refine lv_imul hx hb dX0_gatherRow_20 ?_
    refine lv_iload_n hx hb dX0_gatherRow_21 rfl (lv_at hl 2 rfl) ?_
    refine lv_iadd hx hb dX0_gatherRow_22 ?_
    refine dk_top (nI (16 * Y + n)) (ix_e n Y) ?_
    refine dk_iald hx hb hK hP 3 2 rfl rfl (by omega) (by decide) dX0_gatherRow_23 ?_
    refine dk_top (iI (v n)) (hvn.1) ?_
    refine lv_if_lt (tgt := 33) hx hb dX0_gatherRow_24 (by decide) (fun c_24 => ?_) (fun c_24 => ?_)
    · skip
      rw [iI_lt0 (by omega) (by omega)] at c_24
      obtain ⟨K, kc, to, e1, e2, e3⟩ := hE
      have hE2 : enR v Y (n + 1) kq gK gT := ⟨K, kc, to, e1, e2, en_skip e3 (fun q => absurd q (by omega))⟩
      refine lv_iinc (v := nI (n + 1)) (lv' := [(2, .int (nI (n + 1))), (0, .ref (ad 0)), (1, .int (nI Y))]) hx hb dX0_gatherRow_33 hl (k := 2) rfl (nI_1 n) (by decide) rfl (fun ls hl => ?_)
      refine lv_goto (tgt := 7) hx hb dX0_gatherRow_36 (by decide) ?_
      exact ih (n + 1, kq, gK, gT) H locs ls (by dsimp only; omega) ⟨⟨by omega, hE2⟩, hP, hS, lv_sub hl [1, 2, 0] rfl⟩
    · skip
      rw [iI_lt0 (by omega) (by omega)] at c_24
      refine lv_aload_n hx hb dX0_gatherRow_27 rfl (lv_at hl 0 rfl) ?_
      refine lv_iload_n hx hb dX0_gatherRow_28 rfl (lv_at hl 2 rfl) ?_
      refine lv_iload_n hx hb dX0_gatherRow_29 rfl (lv_at hl 1 rfl) ?_
      refine dk_muV (rest := []) ⟨hx, hb, hml, hown, hts⟩ (metX0_addParabola l dC dI ad ct fM nM kn fO fC kq gK gT hJ v Y hY hv n hn2 (by omega) hE) (cwV 2 hts (lw_V q75 q77 qs3 q11 q78) rfl rfl rfl (by decide +kernel) ⟨Nat.le_of_ble_eq_true rfl, Nat.le_of_ble_eq_true rfl⟩) hK hP 0 rfl rfl rfl rfl hl.1 rfl (Nat.le_of_ble_eq_true rfl) ⟨Nat.le_of_ble_eq_true rfl, Nat.le_of_ble_eq_true rfl⟩ hS (fun _ h => h) dX0_gatherRow_30 (fun u H locs hw hP _ hS => ?_)
      obtain ⟨kq2, gK2, gT2⟩ := u
      have hE2 : enR v Y (n + 1) kq2 gK2 gT2 := hw
      have hP : va_P (dC, dI) vwCl (dmW ad ct fM nM kn fO fC kq2 gK2 gT2) H := hP
      have hD := dm_D hJ ct fM nM kn fO fC kq2 gK2 gT2
      refine lv_iinc (v := nI (n + 1)) (lv' := [(2, .int (nI (n + 1))), (0, .ref (ad 0)), (1, .int (nI Y))]) hx hb dX0_gatherRow_33 hl (k := 2) rfl (nI_1 n) (by decide) rfl (fun ls hl => ?_)
      refine lv_goto (tgt := 7) hx hb dX0_gatherRow_36 (by decide) ?_
      exact ih (n + 1, kq2, gK2, gT2) H locs ls (by dsimp only; omega) ⟨⟨by omega, hE2⟩, hP, hS, lv_sub hl [1, 2, 0] rfl⟩
end
section
set_option maxHeartbeats 4000000 in
set_option maxRecDepth 100000 in
/-- spreadRow(Y): each place of the row gets the mark of the column that is lowest there -/
theorem metX0_spreadRow (l : Launch) (dC : Nat → ClassId) (dI : Nat → Nat → Nat) (ad : Nat → Nat) (ct : Nat → ClassId) (fM : Nat → Int32) (nM kn : Int32) (fO fC : Nat → Int32) (kp : Int32) (fK fT : Nat → Int32) (hJ : dmJ ad) (v : Nat → Int) (Y : Nat) (hY : Y < 12) (hv : rowV fC Y v) (hE0 : enR v Y 16 kp fK fT) (hne : ∃ c, c < 16 ∧ 0 ≤ v c) : Met l yX0_spreadRow (ws_ yX0_spreadRow cX0_spreadRow 4 none) ({ frames := 0, cells := 0, slots := 0, locals := 0 }) (roP (dC, dI) [.ref (ad 0), .int (nI Y)] (dmW ad ct fM nM kn fO fC kp fK fT) (dmT ct)) (muV (dC, dI) (fun (u : Nat → Int32) => (∀ q, ¬ (16 * Y ≤ q ∧ q < 16 * Y + 16) → u q = fO q) ∧ ∀ x : Nat, x < 16 → ∃ c : Nat, (c < 16 ∧ 0 ≤ v c ∧ ∀ c2, c2 < 16 → 0 ≤ v c2 → co Y v c x ≤ co Y v c2 x) ∧ u (16 * Y + x) = iI (v c)) (fun u => dmW ad ct fM nM kn u fC kp fK fT) (dmA ad)) 0 0 (dmA ad) := by
  refine Met.ofW (cc := cX0_spreadRow) (maxL := 4) (ret := none) (by decide) rfl ?_
  intro p e s m args below meth c s₁ Bo hml hv
  obtain ⟨rfl, hP, hK⟩ := hv
  have hx := Bo.exec
  have hb := Bo.bytes
  have hr := Bo.returns
  have hts := atoms_spec (ws := ws_ yX0_spreadRow cX0_spreadRow 4 none) Bo.pre
  have hts : ∀ w ∈ lw_all, w.before _ s = true := fun w h => hts w (List.mem_cons_of_mem _ h)
  have hown : s.vm.findClass RX0 = some m.cls := findClass_of_methodNamed Bo.named
  have hlocks := Bo.notSynchronized
  have hl := lv_entry ([.ref (ad 0), .int (nI Y)]) (n := 4) (Nat.le_of_ble_eq_true rfl)
  rw [lg_entry_eq]
  generalize (lg_sl ([.ref (ad 0), .int (nI Y)]) ++ List.replicate (4 - (lg_sl ([.ref (ad 0), .int (nI Y)])).length) Slot.unset).toArray = ls at hl ⊢
  have hl : lv_has ls 4 [(0, .ref (ad 0)), (1, .int (nI Y))] := hl
  obtain ⟨K, kc, to, rfl, hR, hE⟩ := hE0
  obtain ⟨K1, rfl⟩ : ∃ K1, K = K1 + 1 := sp_pos hE hne
  have hK16 : K1 + 1 ≤ 16 := hE.1.1
  have hD := dm_D hJ ct fM nM kn fO fC (nI (K1 + 1)) fK fT
  have hS : va_S (dmA ad) s.heap s.heap [] := va_S.rf
  refine lv_aload_n hx hb dX0_spreadRow_0 rfl (lv_at hl 0 rfl) ?_
  refine va_get (D := (dC, dI)) (ci := 0) (v := .int (nI (K1 + 1))) (C := RX0) (T := TX0) (N := 8) hx hb hts in_X0 hown hK hP 0 rfl rfl 5 (by decide) (hts _ q26) (fun _ h9 => h9) rfl dX0_spreadRow_1 ?_
  refine lv_iconst (v := 1) hx hb dX0_spreadRow_4 (by decide) ?_
  refine lv_isub hx hb dX0_spreadRow_5 ?_
  refine dk_top (nI K1) (nI_pred K1) ?_
  refine lv_istore_n (lv' := [(2, .int (nI K1)), (0, .ref (ad 0)), (1, .int (nI Y))]) hx hb dX0_spreadRow_6 rfl hl (by decide) rfl (fun ls hl => ?_)
  refine lv_bipush (v := 15) hx hb dX0_spreadRow_7 (by decide) ?_
  refine dk_top (iI (((16 : Nat) : Int) - 1)) (by decide +kernel) ?_
  refine lv_istore_n (lv' := [(3, .int (iI (((16 : Nat) : Int) - 1))), (2, .int (nI K1)), (0, .ref (ad 0)), (1, .int (nI Y))]) hx hb dX0_spreadRow_9 rfl hl (by decide) rfl (fun ls hl => ?_)
  refine dk_loop (Inv := fun (a9 : Nat × Nat × (Nat → Int32)) H locs ls => match a9 with | (n, k, g) => (n ≤ 16 ∧ k < K1 + 1 ∧ (k + 1 < K1 + 1 → n ≤ to (k + 1)) ∧ (∀ q, ¬ (16 * Y + n ≤ q ∧ q < 16 * Y + 16) → g q = fO q) ∧ ∀ x, n ≤ x → x < 16 → ∃ j, enA (K1 + 1) to x j ∧ g (16 * Y + x) = iI (v (kc j))) ∧ va_P (dC, dI) vwCl (dmW ad ct fM nM kn g fC (nI (K1 + 1)) fK fT) H ∧ va_S (dmA ad) s.heap H locs ∧ lv_has ls 4 [(0, .ref (ad 0)), (1, .int (nI Y)), (2, .int (nI k)), (3, .int (iI ((n : Int) - 1)))]) (μ := fun (a9 : Nat × Nat × (Nat → Int32)) => match a9 with | (n, k, g) => n) 10 [] (16, K1, fO) ⟨⟨Nat.le_refl _, by omega, fun q => by omega, fun _ _ => rfl, fun x h1 h2 => by omega⟩, hP, hS, lv_sub hl [2, 3, 1, 0] rfl⟩ ?_
  intro a9 H locs ls hI9 ih
  obtain ⟨n, k, g⟩ := a9
  obtain ⟨⟨hn, hk, hk2, hg1, hg2⟩, hP, hS, hl⟩ := hI9
  have hP : va_P (dC, dI) vwCl (dmW ad ct fM nM kn g fC (nI (K1 + 1)) fK fT) H := hP
  have hl : lv_has ls 4 [(0, .ref (ad 0)), (1, .int (nI Y)), (2, .int (nI k)), (3, .int (iI ((n : Int) - 1)))] := hl
  have hD := dm_D hJ ct fM nM kn g fC (nI (K1 + 1)) fK fT
  refine lv_iload_n hx hb dX0_spreadRow_10 rfl (lv_at hl 3 rfl) ?_
  refine lv_if_lt (tgt := 67) hx hb dX0_spreadRow_11 (by decide) (fun c_11 => ?_) (fun c_11 => ?_)
  · skip
    rw [iI_lt0 (by omega) (by omega)] at c_11
    have hn3 : n = 0 := by omega
    subst hn3
    exact W.vret hx hb hr (fun t ht hW => ⟨⟨g, rfl, ⟨fun q h => hg1 q (by omega), fun x hx9 => sp_end hE hx9 (hg2 x (Nat.zero_le _) hx9)⟩, dk_h ht hP⟩, hS.F ht⟩) hS.2.2 dX0_spreadRow_67
  · skip
    rw [iI_lt0 (by omega) (by omega)] at c_11
    obtain ⟨x9, rfl⟩ : ∃ x9, n = x9 + 1 := ⟨n - 1, by omega⟩
    have e7 : nI x9 = iI (((x9 + 1 : Nat) : Int) - 1) := by
      rw [iI_n]
      exact iI_of (by omega)
    have hl : lv_has ls 4 [(0, .ref (ad 0)), (1, .int (nI Y)), (2, .int (nI k)), (3, .int (nI x9))] := by rw [e7]; exact lv_sub hl [0, 1, 2, 3] rfl
    refine dk_loopR (Inv := fun (k3 : Nat) ls => (k3 < K1 + 1 ∧ (k3 + 1 < K1 + 1 → x9 < to (k3 + 1))) ∧ lv_has ls 4 [(0, .ref (ad 0)), (1, .int (nI Y)), (2, .int (nI k3)), (3, .int (nI x9))]) (μ := fun (k3 : Nat) => k3) 14 [] k ⟨⟨hk, fun q => by have := hk2 q; omega⟩, lv_sub hl [0, 1, 2, 3] rfl⟩ ?_
    intro k3 ls hI3 ih3
    obtain ⟨⟨hk3, hk4⟩, hl⟩ := hI3
    have hSt := hE.1.2.1 k3 hk3
    have hR3 := hR k3 hk3
    refine lv_iload_n hx hb dX0_spreadRow_14 rfl (lv_at hl 2 rfl) ?_
    refine lv_if_le (tgt := 34) hx hb dX0_spreadRow_15 (by decide) (fun c_15 => ?_) (fun c_15 => ?_)
    · skip
      have hka : to k3 ≤ x9 := by
        have : k3 = 0 := by
          rw [← nI_0, nI_leI (by omega) (by omega)] at c_15
          omega
        rw [this, hE.1.2.2.1 (by omega)]
        exact Nat.zero_le _
      refine lv_aload_n hx hb dX0_spreadRow_34 rfl (lv_at hl 0 rfl) ?_
      refine va_get (D := (dC, dI)) (ci := 0) (v := .ref (ad 2)) (C := RX0) (T := TX0) (N := 8) hx hb hts in_X0 hown hK hP 0 rfl rfl 3 (by decide) (hts _ q24) (fun _ h9 => h9) rfl dX0_spreadRow_35 ?_
      refine lv_bipush (v := 16) hx hb dX0_spreadRow_38 (by decide) ?_
      refine lv_iload_n hx hb dX0_spreadRow_40 rfl (lv_at hl 1 rfl) ?_
      refine lv_imul hx hb dX0_spreadRow_41 ?_
      refine lv_iload_n hx hb dX0_spreadRow_42 rfl (lv_at hl 3 rfl) ?_
      refine lv_iadd hx hb dX0_spreadRow_43 ?_
      refine dk_top (nI (16 * Y + x9)) (ix_e x9 Y) ?_
      refine lv_aload_n hx hb dX0_spreadRow_44 rfl (lv_at hl 0 rfl) ?_
      refine va_get (D := (dC, dI)) (ci := 0) (v := .ref (ad 3)) (C := RX0) (T := TX0) (N := 8) hx hb hts in_X0 hown hK hP 0 rfl rfl 4 (by decide) (hts _ q25) (fun _ h9 => h9) rfl dX0_spreadRow_45 ?_
      refine lv_bipush (v := 16) hx hb dX0_spreadRow_48 (by decide) ?_
      refine lv_iload_n hx hb dX0_spreadRow_50 rfl (lv_at hl 1 rfl) ?_
      refine lv_imul hx hb dX0_spreadRow_51 ?_
      refine lv_aload_n hx hb dX0_spreadRow_52 rfl (lv_at hl 0 rfl) ?_
      refine va_get (D := (dC, dI)) (ci := 0) (v := .ref (ad 4)) (C := RX0) (T := TX0) (N := 8) hx hb hts in_X0 hown hK hP 0 rfl rfl 6 (by decide) (hts _ q27) (fun _ h9 => h9) rfl dX0_spreadRow_53 ?_
      refine lv_iload_n hx hb dX0_spreadRow_56 rfl (lv_at hl 2 rfl) ?_
      refine dk_iald hx hb hK hP 4 3 rfl rfl (by omega) (by decide) dX0_spreadRow_57 ?_
      refine dk_top (nI (kc k3)) (hR3.1) ?_
      refine lv_iadd hx hb dX0_spreadRow_58 ?_
      refine dk_top (nI (16 * Y + kc k3)) (ix_e (kc k3) Y) ?_
      refine dk_iald hx hb hK hP 3 2 rfl rfl (by omega) (by decide) dX0_spreadRow_59 ?_
      refine dk_top (iI (v (kc k3))) ((hv (kc k3) hSt.1).1) ?_
      refine dk_iast hx hb hK hP hD hS 2 1 rfl rfl (by omega) (by decide) dX0_spreadRow_60 (fun H locs hP hS => ?_)
      have hP : va_P (dC, dI) vwCl (dmW ad ct fM nM kn (upd g (16 * Y + x9) (iI (v (kc k3)))) fC (nI (K1 + 1)) fK fT) H := hP
      have hD := dm_D hJ ct fM nM kn (upd g (16 * Y + x9) (iI (v (kc k3)))) fC (nI (K1 + 1)) fK fT
      refine lv_iinc (v := iI ((x9 : Int) - 1)) (lv' := [(3, .int (iI ((x9 : Int) - 1))), (0, .ref (ad 0)), (1, .int (nI Y)), (2, .int (nI k3))]) hx hb dX0_spreadRow_61 hl (k := 3) rfl (by rw [iI_n]; exact iI_add _ (-1)) (by decide) rfl (fun ls hl => ?_)
      refine lv_goto (tgt := 10) hx hb dX0_spreadRow_64 (by decide) ?_
      exact ih (x9, k3, upd g (16 * Y + x9) (iI (v (kc k3)))) H locs ls (by dsimp only; omega) ⟨⟨by omega, hk3, fun q => by have := hk4 q; omega, sp_1 (by omega) hg1, sp_2 hg2 ⟨hk3, hka, hk4⟩⟩, hP, hS, lv_sub hl [1, 2, 3, 0] rfl⟩
    · skip
      have hk0 : 0 < k3 := by
        rw [← nI_0, nI_leI (by omega) (by omega)] at c_15
        omega
      refine lv_aload_n hx hb dX0_spreadRow_18 rfl (lv_at hl 0 rfl) ?_
      refine va_get (D := (dC, dI)) (ci := 0) (v := .ref (ad 5)) (C := RX0) (T := TX0) (N := 8) hx hb hts in_X0 hown hK hP 0 rfl rfl 7 (by decide) (hts _ q28) (fun _ h9 => h9) rfl dX0_spreadRow_19 ?_
      refine lv_iload_n hx hb dX0_spreadRow_22 rfl (lv_at hl 2 rfl) ?_
      refine dk_iald hx hb hK hP 5 4 rfl rfl (by omega) (by decide) dX0_spreadRow_23 ?_
      refine dk_top (nI (to k3)) (hR3.2) ?_
      refine lv_iload_n hx hb dX0_spreadRow_24 rfl (lv_at hl 3 rfl) ?_
      refine lv_icmp_le (tgt := 34) hx hb dX0_spreadRow_25 (by decide) (fun c_25 => ?_) (fun c_25 => ?_)
      · skip
        have hka : to k3 ≤ x9 := (nI_leI (by omega) (by omega)).mp c_25
        refine lv_aload_n hx hb dX0_spreadRow_34 rfl (lv_at hl 0 rfl) ?_
        refine va_get (D := (dC, dI)) (ci := 0) (v := .ref (ad 2)) (C := RX0) (T := TX0) (N := 8) hx hb hts in_X0 hown hK hP 0 rfl rfl 3 (by decide) (hts _ q24) (fun _ h9 => h9) rfl dX0_spreadRow_35 ?_
        refine lv_bipush (v := 16) hx hb dX0_spreadRow_38 (by decide) ?_
        refine lv_iload_n hx hb dX0_spreadRow_40 rfl (lv_at hl 1 rfl) ?_
        refine lv_imul hx hb dX0_spreadRow_41 ?_
        refine lv_iload_n hx hb dX0_spreadRow_42 rfl (lv_at hl 3 rfl) ?_
        refine lv_iadd hx hb dX0_spreadRow_43 ?_
        refine dk_top (nI (16 * Y + x9)) (ix_e x9 Y) ?_
        refine lv_aload_n hx hb dX0_spreadRow_44 rfl (lv_at hl 0 rfl) ?_
        refine va_get (D := (dC, dI)) (ci := 0) (v := .ref (ad 3)) (C := RX0) (T := TX0) (N := 8) hx hb hts in_X0 hown hK hP 0 rfl rfl 4 (by decide) (hts _ q25) (fun _ h9 => h9) rfl dX0_spreadRow_45 ?_
        refine lv_bipush (v := 16) hx hb dX0_spreadRow_48 (by decide) ?_
        refine lv_iload_n hx hb dX0_spreadRow_50 rfl (lv_at hl 1 rfl) ?_
        refine lv_imul hx hb dX0_spreadRow_51 ?_
        refine lv_aload_n hx hb dX0_spreadRow_52 rfl (lv_at hl 0 rfl) ?_
        refine va_get (D := (dC, dI)) (ci := 0) (v := .ref (ad 4)) (C := RX0) (T := TX0) (N := 8) hx hb hts in_X0 hown hK hP 0 rfl rfl 6 (by decide) (hts _ q27) (fun _ h9 => h9) rfl dX0_spreadRow_53 ?_
        refine lv_iload_n hx hb dX0_spreadRow_56 rfl (lv_at hl 2 rfl) ?_
        refine dk_iald hx hb hK hP 4 3 rfl rfl (by omega) (by decide) dX0_spreadRow_57 ?_
        refine dk_top (nI (kc k3)) (hR3.1) ?_
        refine lv_iadd hx hb dX0_spreadRow_58 ?_
        refine dk_top (nI (16 * Y + kc k3)) (ix_e (kc k3) Y) ?_
        refine dk_iald hx hb hK hP 3 2 rfl rfl (by omega) (by decide) dX0_spreadRow_59 ?_
        refine dk_top (iI (v (kc k3))) ((hv (kc k3) hSt.1).1) ?_
        refine dk_iast hx hb hK hP hD hS 2 1 rfl rfl (by omega) (by decide) dX0_spreadRow_60 (fun H locs hP hS => ?_)
        have hP : va_P (dC, dI) vwCl (dmW ad ct fM nM kn (upd g (16 * Y + x9) (iI (v (kc k3)))) fC (nI (K1 + 1)) fK fT) H := hP
        have hD := dm_D hJ ct fM nM kn (upd g (16 * Y + x9) (iI (v (kc k3)))) fC (nI (K1 + 1)) fK fT
        refine lv_iinc (v := iI ((x9 : Int) - 1)) (lv' := [(3, .int (iI ((x9 : Int) - 1))), (0, .ref (ad 0)), (1, .int (nI Y)), (2, .int (nI k3))]) hx hb dX0_spreadRow_61 hl (k := 3) rfl (by rw [iI_n]; exact iI_add _ (-1)) (by decide) rfl (fun ls hl => ?_)
        refine lv_goto (tgt := 10) hx hb dX0_spreadRow_64 (by decide) ?_
        exact ih (x9, k3, upd g (16 * Y + x9) (iI (v (kc k3)))) H locs ls (by dsimp only; omega) ⟨⟨by omega, hk3, fun q => by have := hk4 q; omega, sp_1 (by omega) hg1, sp_2 hg2 ⟨hk3, hka, hk4⟩⟩, hP, hS, lv_sub hl [1, 2, 3, 0] rfl⟩
      · skip
        have hkb : x9 < to k3 := Nat.not_le.mp (fun q => c_25 ((nI_leI (by omega) (by omega)).mpr q))
        refine lv_iinc (v := nI (k3 - 1)) (lv' := [(2, .int (nI (k3 - 1))), (0, .ref (ad 0)), (1, .int (nI Y)), (3, .int (nI x9))]) hx hb dX0_spreadRow_28 hl (k := 2) rfl (sb_m1 hk0) (by decide) rfl (fun ls hl => ?_)
        refine lv_goto (tgt := 14) hx hb dX0_spreadRow_31 (by decide) ?_
        exact ih3 (k3 - 1) ls (by show _ < _; omega) ⟨⟨by omega, fun q => by rw [show k3 - 1 + 1 = k3 by omega]; exact hkb⟩, lv_sub hl [1, 2, 0, 3] rfl⟩
end
section
/-! the plain law of workOut -/
theorem wo_1 {f g u : Nat → Int32} {n : Nat} (hn : n < 16) (hg : ∀ x, x < n → ∀ r, r < 12 → g (x + 16 * r) = iI (cmv f x r)) (h1 : ∀ r, r < 12 → u (n + 16 * r) = iI (cmv f n r)) (h2 : ∀ q, q % 16 ≠ n → u q = g q) : ∀ x, x < n + 1 → ∀ r, r < 12 → u (x + 16 * r) = iI (cmv f x r) := by
  intro x hx r hr
  by_cases q : x = n
  · subst q
    exact h1 r hr
  · rw [h2 _ (by omega)]
    exact hg x (by omega) r hr
theorem wo_row {f g : Nat → Int32} {Y : Nat} (hY : Y < 12) (hg : ∀ x, x < 16 → ∀ r, r < 12 → g (x + 16 * r) = iI (cmv f x r)) : rowV g Y (fun c => cmv f c Y) := by
  intro c hc
  refine ⟨?_, cs_b hc (cmv_cs f c Y hY)⟩
  rw [show 16 * Y + c = c + 16 * Y by omega]
  exact hg c hc Y hY
theorem wo_ne {f : Nat → Int32} {Y : Nat} (hY : Y < 12) (hne : cn f 192 ≠ 0) : ∃ c, c < 16 ∧ 0 ≤ (fun c => cmv f c Y) c := by
  have h1 := m_nr hne 0
  rcases nr_spec f 0 192 with ⟨h2, -⟩ | ⟨w, h2, h3, -, -⟩
  · omega
  · refine ⟨w % 16, by omega, ?_⟩
    show 0 ≤ cmv f (w % 16) Y
    rcases cmv_cs f (w % 16) Y hY with ⟨-, h4⟩ | ⟨m, -, h4, -⟩
    · have h5 := h4 (w / 16) (by omega)
      rw [show w % 16 + 16 * (w / 16) = w by omega] at h5
      exact absurd h5 h3
    · omega
theorem wo_2 {f gO u : Nat → Int32} {Y : Nat} (hY : Y < 12) (hg : ∀ q, q < 16 * Y → gO q = iI (nr f q 192)) (h1 : ∀ q, ¬ (16 * Y ≤ q ∧ q < 16 * Y + 16) → u q = gO q) (h2 : ∀ x : Nat, x < 16 → ∃ c : Nat, (c < 16 ∧ 0 ≤ (fun c => cmv f c Y) c ∧ ∀ c2, c2 < 16 → 0 ≤ (fun c => cmv f c Y) c2 → co Y (fun c => cmv f c Y) c x ≤ co Y (fun c => cmv f c Y) c2 x) ∧ u (16 * Y + x) = iI ((fun c => cmv f c Y) c)) : ∀ q, q < 16 * (Y + 1) → u q = iI (nr f q 192) := by
  intro q hq
  by_cases h : q < 16 * Y
  · rw [h1 q (by omega)]
    exact hg q h
  · obtain ⟨c, ⟨a1, a2, a3⟩, a4⟩ := h2 (q - 16 * Y) (by omega)
    have e := row_near (f := f) (Y := Y) (v := fun c => cmv f c Y) hY (fun c hc => cmv_cs f c Y hY) (x := q - 16 * Y) (c := c) (by omega) a1 a2 a3
    rw [show 16 * Y + (q - 16 * Y) = q by omega] at a4 e
    rw [a4, e]
end
section
set_option maxHeartbeats 4000000 in
set_option maxRecDepth 100000 in
/-- workOut(): markOf has the nearest mark of every place -/
theorem metX0_workOut (l : Launch) (dC : Nat → ClassId) (dI : Nat → Nat → Nat) (ad : Nat → Nat) (ct : Nat → ClassId) (fM : Nat → Int32) (nM kn : Int32) (fO fC : Nat → Int32) (kp : Int32) (fK fT : Nat → Int32) (hJ : dmJ ad) (hI : dmI fM nM kn fO) (hne : cn fM 192 ≠ 0) : Met l yX0_workOut (ws_ yX0_workOut cX0_workOut 2 none) ({ frames := 4, cells := 0, slots := 0, locals := 96 }) (roP (dC, dI) [.ref (ad 0)] (dmW ad ct fM nM kn fO fC kp fK fT) (dmT ct)) (muV (dC, dI) (fun (u : Int32 × (Nat → Int32) × (Nat → Int32) × Int32 × (Nat → Int32) × (Nat → Int32)) => u.1 ≠ 0 ∧ dmI fM nM u.1 u.2.1) (fun u => dmW ad ct fM nM u.1 u.2.1 u.2.2.1 u.2.2.2.1 u.2.2.2.2.1 u.2.2.2.2.2) (dmA ad)) 0 0 (dmA ad) := by
  refine Met.ofW (cc := cX0_workOut) (maxL := 2) (ret := none) (by decide) rfl ?_
  intro p e s m args below meth c s₁ Bo hml hv
  obtain ⟨rfl, hP, hK⟩ := hv
  have hx := Bo.exec
  have hb := Bo.bytes
  have hr := Bo.returns
  have hts := atoms_spec (ws := ws_ yX0_workOut cX0_workOut 2 none) Bo.pre
  have hts : ∀ w ∈ lw_all, w.before _ s = true := fun w h => hts w (List.mem_cons_of_mem _ h)
  have hown : s.vm.findClass RX0 = some m.cls := findClass_of_methodNamed Bo.named
  have hlocks := Bo.notSynchronized
  have hl := lv_entry ([.ref (ad 0)]) (n := 2) (Nat.le_of_ble_eq_true rfl)
  rw [lg_entry_eq]
  generalize (lg_sl ([.ref (ad 0)]) ++ List.replicate (2 - (lg_sl ([.ref (ad 0)])).length) Slot.unset).toArray = ls at hl ⊢
  have hl : lv_has ls 2 [(0, .ref (ad 0))] := hl
  have hD := dm_D hJ ct fM nM kn fO fC kp fK fT
  have hS : va_S (dmA ad) s.heap s.heap [] := va_S.rf
  refine lv_aload_n hx hb dX0_workOut_0 rfl (lv_at hl 0 rfl) ?_
  refine va_get (D := (dC, dI)) (ci := 0) (v := .int kn) (C := RX0) (T := TX0) (N := 8) hx hb hts in_X0 hown hK hP 0 rfl rfl 2 (by decide) (hts _ q23) (fun _ h9 => h9) rfl dX0_workOut_1 ?_
  refine lv_if_eq (tgt := 8) hx hb dX0_workOut_4 (by decide) (fun c_4 => ?_) (fun c_4 => ?_)
  · skip
    refine lv_aload_n hx hb dX0_workOut_8 rfl (lv_at hl 0 rfl) ?_
    refine lv_iconst (v := 1) hx hb dX0_workOut_9 (by decide) ?_
    refine va_put (D := (dC, dI)) (ci := 0) (v := .int (1 : Int32)) (ty := .boolean) (C := RX0) (T := TX0) (N := 8) hx hb hts in_X0 tyX0 tyX0_ok nmX0 hown hK hP hD hS 0 rfl rfl 2 (by decide) (hts _ q23) (fun _ h9 => h9) rfl (by decide +kernel) rfl rfl (Nat.le_of_ble_eq_true rfl) dX0_workOut_10 (fun H locs hP _ hS => ?_)
    have hP : va_P (dC, dI) vwCl (dmW ad ct fM nM (1 : Int32) fO fC kp fK fT) H := hP
    have hD := dm_D hJ ct fM nM (1 : Int32) fO fC kp fK fT
    refine lv_iconst (v := 0) hx hb dX0_workOut_13 (by decide) ?_
    refine dk_top (nI 0) (nI_0.symm) ?_
    refine lv_istore_n (lv' := [(1, .int (nI 0)), (0, .ref (ad 0))]) hx hb dX0_workOut_14 rfl hl (by decide) rfl (fun ls hl => ?_)
    refine dk_loop (Inv := fun (a9 : Nat × (Nat → Int32)) H locs ls => match a9 with | (n, g) => (n ≤ 16 ∧ ∀ x, x < n → ∀ r, r < 12 → g (x + 16 * r) = iI (cmv fM x r)) ∧ va_P (dC, dI) vwCl (dmW ad ct fM nM (1 : Int32) fO g kp fK fT) H ∧ va_S (dmA ad) s.heap H locs ∧ lv_has ls 2 [(0, .ref (ad 0)), (1, .int (nI n))]) (μ := fun (a9 : Nat × (Nat → Int32)) => match a9 with | (n, g) => 16 - n) 15 [] (0, fC) ⟨⟨Nat.zero_le _, fun x h => absurd h (Nat.not_lt_zero _)⟩, hP, hS, lv_sub hl [1, 0] rfl⟩ ?_
    intro a9 H locs ls hI9 ih
    obtain ⟨n, g⟩ := a9
    obtain ⟨⟨hn, hg⟩, hP, hS, hl⟩ := hI9
    have hP : va_P (dC, dI) vwCl (dmW ad ct fM nM (1 : Int32) fO g kp fK fT) H := hP
    have hl : lv_has ls 2 [(0, .ref (ad 0)), (1, .int (nI n))] := hl
    have hD := dm_D hJ ct fM nM (1 : Int32) fO g kp fK fT
    refine lv_iload_n hx hb dX0_workOut_15 rfl (lv_at hl 1 rfl) ?_
    refine lv_bipush (v := 16) hx hb dX0_workOut_16 (by decide) ?_
    refine dk_top (nI 16) (rfl) ?_
    refine lv_icmp_ge (tgt := 32) hx hb dX0_workOut_18 (by decide) (fun c_18 => ?_) (fun c_18 => ?_)
    · skip
      have hn2 := nm_le c_18 (by omega) (by omega)
      have hn3 : n = 16 := by omega
      subst hn3
      refine lv_iconst (v := 0) hx hb dX0_workOut_32 (by decide) ?_
      refine dk_top (nI 0) (nI_0.symm) ?_
      refine lv_istore_n (lv' := [(1, .int (nI 0)), (0, .ref (ad 0))]) hx hb dX0_workOut_33 rfl hl (by decide) rfl (fun ls hl => ?_)
      refine dk_loop (Inv := fun (b9 : Nat × (Nat → Int32) × Int32 × (Nat → Int32) × (Nat → Int32)) H locs ls => match b9 with | (y9, gO, kq, gK, gT) => (y9 ≤ 12 ∧ ∀ q, q < 16 * y9 → gO q = iI (nr fM q 192)) ∧ va_P (dC, dI) vwCl (dmW ad ct fM nM (1 : Int32) gO g kq gK gT) H ∧ va_S (dmA ad) s.heap H locs ∧ lv_has ls 2 [(0, .ref (ad 0)), (1, .int (nI y9))]) (μ := fun (b9 : Nat × (Nat → Int32) × Int32 × (Nat → Int32) × (Nat → Int32)) => match b9 with | (y9, gO, kq, gK, gT) => 12 - y9) 34 [] (0, fO, kp, fK, fT) ⟨⟨Nat.zero_le _, fun q h => by omega⟩, hP, hS, lv_sub hl [1, 0] rfl⟩ ?_
      intro b9 H locs ls hI9 ih
      obtain ⟨y9, gO, kq, gK, gT⟩ := b9
      obtain ⟨⟨hy, hgO⟩, hP, hS, hl⟩ := hI9
      have hP : va_P (dC, dI) vwCl (dmW ad ct fM nM (1 : Int32) gO g kq gK gT) H := hP
      have hl : lv_has ls 2 [(0, .ref (ad 0)), (1, .int (nI y9))] := hl
      have hD := dm_D hJ ct fM nM (1 : Int32) gO g kq gK gT
      refine lv_iload_n hx hb dX0_workOut_34 rfl (lv_at hl 1 rfl) ?_
      refine lv_bipush (v := 12) hx hb dX0_workOut_35 (by decide) ?_
      refine dk_top (nI 12) (rfl) ?_
      refine lv_icmp_ge (tgt := 56) hx hb dX0_workOut_37 (by decide) (fun c_37 => ?_) (fun c_37 => ?_)
      · skip
        have hy2 := nm_le c_37 (by omega) (by omega)
        have hy3 : y9 = 12 := by omega
        subst hy3
        exact W.vret hx hb hr (fun t ht hW => ⟨⟨((1 : Int32), gO, g, kq, gK, gT), rfl, ⟨(by decide : (1 : Int32) ≠ 0), hI.1, fun _ p9 hp9 => hgO p9 (by omega)⟩, dk_h ht hP⟩, hS.F ht⟩) hS.2.2 dX0_workOut_56
      · skip
        have hy2 := nm_lt c_37 (by omega) (by omega)
        have hv := wo_row (Y := y9) hy2 hg
        have hnv := wo_ne (Y := y9) hy2 hne
        refine lv_aload_n hx hb dX0_workOut_40 rfl (lv_at hl 0 rfl) ?_
        refine lv_iload_n hx hb dX0_workOut_41 rfl (lv_at hl 1 rfl) ?_
        refine dk_muV (rest := []) ⟨hx, hb, hml, hown, hts⟩ (metX0_gatherRow l dC dI ad ct fM nM (1 : Int32) gO g kq gK gT hJ (fun c => cmv fM c y9) y9 hy2 hv) (cwV 1 hts (lw_V q71 q73 qs2 q11 q74) rfl rfl rfl (by decide +kernel) ⟨Nat.le_of_ble_eq_true rfl, Nat.le_of_ble_eq_true rfl⟩) hK hP 0 rfl rfl rfl rfl hl.1 rfl (Nat.le_of_ble_eq_true rfl) ⟨Nat.le_of_ble_eq_true rfl, Nat.le_of_ble_eq_true rfl⟩ hS (fun _ h => h) dX0_workOut_42 (fun u H locs hw hP _ hS => ?_)
        obtain ⟨kq2, gK2, gT2⟩ := u
        have hE2 : enR (fun c => cmv fM c y9) y9 16 kq2 gK2 gT2 := hw
        have hP : va_P (dC, dI) vwCl (dmW ad ct fM nM (1 : Int32) gO g kq2 gK2 gT2) H := hP
        have hD := dm_D hJ ct fM nM (1 : Int32) gO g kq2 gK2 gT2
        refine lv_aload_n hx hb dX0_workOut_45 rfl (lv_at hl 0 rfl) ?_
        refine lv_iload_n hx hb dX0_workOut_46 rfl (lv_at hl 1 rfl) ?_
        refine dk_muV (rest := []) ⟨hx, hb, hml, hown, hts⟩ (metX0_spreadRow l dC dI ad ct fM nM (1 : Int32) gO g kq2 gK2 gT2 hJ (fun c => cmv fM c y9) y9 hy2 hv hE2 hnv) (cwV 1 hts (lw_V q87 q89 qs6 q11 q90) rfl rfl rfl (by decide +kernel) ⟨Nat.le_of_ble_eq_true rfl, Nat.le_of_ble_eq_true rfl⟩) hK hP 0 rfl rfl rfl rfl hl.1 rfl (Nat.le_of_ble_eq_true rfl) ⟨Nat.le_of_ble_eq_true rfl, Nat.le_of_ble_eq_true rfl⟩ hS (fun _ h => h) dX0_workOut_47 (fun u H locs hw hP _ hS => ?_)
        have hg4 := wo_2 hy2 hgO hw.1 hw.2
        have hP : va_P (dC, dI) vwCl (dmW ad ct fM nM (1 : Int32) u g kq2 gK2 gT2) H := hP
        have hD := dm_D hJ ct fM nM (1 : Int32) u g kq2 gK2 gT2
        refine lv_iinc (v := nI (y9 + 1)) (lv' := [(1, .int (nI (y9 + 1))), (0, .ref (ad 0))]) hx hb dX0_workOut_50 hl (k := 1) rfl (nI_1 y9) (by decide) rfl (fun ls hl => ?_)
        refine lv_goto (tgt := 34) hx hb dX0_workOut_53 (by decide) ?_
        exact ih (y9 + 1, u, kq2, gK2, gT2) H locs ls (by dsimp only; omega) ⟨⟨by omega, hg4⟩, hP, hS, lv_sub hl [1, 0] rfl⟩
    · skip
      have hn2 := nm_lt c_18 (by omega) (by omega)
      refine lv_aload_n hx hb dX0_workOut_21 rfl (lv_at hl 0 rfl) ?_
      refine lv_iload_n hx hb dX0_workOut_22 rfl (lv_at hl 1 rfl) ?_
      refine dk_muV (rest := []) ⟨hx, hb, hml, hown, hts⟩ (metX0_sweepColumn l dC dI ad ct fM nM (1 : Int32) fO g kp fK fT hJ n hn2) (cwV 1 hts (lw_V q67 q69 qs1 q11 q70) rfl rfl rfl (by decide +kernel) ⟨Nat.le_of_ble_eq_true rfl, Nat.le_of_ble_eq_true rfl⟩) hK hP 0 rfl rfl rfl rfl hl.1 rfl (Nat.le_of_ble_eq_true rfl) ⟨Nat.le_of_ble_eq_true rfl, Nat.le_of_ble_eq_true rfl⟩ hS (fun _ h => h) dX0_workOut_23 (fun u H locs hw hP _ hS => ?_)
      have hg3 := wo_1 hn2 hg hw.1 hw.2
      have hP : va_P (dC, dI) vwCl (dmW ad ct fM nM (1 : Int32) fO u kp fK fT) H := hP
      have hD := dm_D hJ ct fM nM (1 : Int32) fO u kp fK fT
      refine lv_iinc (v := nI (n + 1)) (lv' := [(1, .int (nI (n + 1))), (0, .ref (ad 0))]) hx hb dX0_workOut_26 hl (k := 1) rfl (nI_1 n) (by decide) rfl (fun ls hl => ?_)
      refine lv_goto (tgt := 15) hx hb dX0_workOut_29 (by decide) ?_
      exact ih (n + 1, u) H locs ls (by dsimp only; omega) ⟨⟨by omega, hg3⟩, hP, hS, lv_sub hl [1, 0] rfl⟩
  · skip
    exact W.vret hx hb hr (fun t ht hW => ⟨⟨(kn, fO, fC, kp, fK, fT), rfl, ⟨c_4, hI⟩, dk_h ht hP⟩, hS.F ht⟩) hS.2.2 dX0_workOut_7
end
section
set_option maxHeartbeats 4000000 in
set_option maxRecDepth 100000 in
/-- distance(x, y) -/
theorem metX0_distance (l : Launch) (dC : Nat → ClassId) (dI : Nat → Nat → Nat) (ad : Nat → Nat) (ct : Nat → ClassId) (fM : Nat → Int32) (nM kn : Int32) (fO fC : Nat → Int32) (kp : Int32) (fK fT : Nat → Int32) (hJ : dmJ ad) (hI : dmI fM nM kn fO) (x y : Int32) : Met l yX0_distance (ws_ yX0_distance cX0_distance 3 (some .int)) ({ frames := 5, cells := 0, slots := 0, locals := 117 }) (roP (dC, dI) [.ref (ad 0), .int x, .int y] (dmW ad ct fM nM kn fO fC kp fK fT) (dmT ct)) (muI (dC, dI) (fun (r : Int32) (u : Int32 × (Nat → Int32) × (Nat → Int32) × Int32 × (Nat → Int32) × (Nat → Int32)) => r = an_distance fM x y ∧ dmI fM nM u.1 u.2.1) (fun u => dmW ad ct fM nM u.1 u.2.1 u.2.2.1 u.2.2.2.1 u.2.2.2.2.1 u.2.2.2.2.2) (dmA ad)) 0 0 (dmA ad) := by
  refine Met.ofW (cc := cX0_distance) (maxL := 3) (ret := (some .int)) (by decide) rfl ?_
  intro p e s m args below meth c s₁ Bo hml hv
  obtain ⟨rfl, hP, hK⟩ := hv
  have hx := Bo.exec
  have hb := Bo.bytes
  have hr := Bo.returns
  have hts := atoms_spec (ws := ws_ yX0_distance cX0_distance 3 (some .int)) Bo.pre
  have hts : ∀ w ∈ lw_all, w.before _ s = true := fun w h => hts w (List.mem_cons_of_mem _ h)
  have hown : s.vm.findClass RX0 = some m.cls := findClass_of_methodNamed Bo.named
  have hlocks := Bo.notSynchronized
  have hl := lv_entry ([.ref (ad 0), .int x, .int y]) (n := 3) (Nat.le_of_ble_eq_true rfl)
  rw [lg_entry_eq]
  generalize (lg_sl ([.ref (ad 0), .int x, .int y]) ++ List.replicate (3 - (lg_sl ([.ref (ad 0), .int x, .int y])).length) Slot.unset).toArray = ls at hl ⊢
  have hl : lv_has ls 3 [(0, .ref (ad 0)), (1, .int x), (2, .int y)] := hl
  have hD := dm_D hJ ct fM nM kn fO fC kp fK fT
  have hS : va_S (dmA ad) s.heap s.heap [] := va_S.rf
  refine lv_iload_n hx hb dX0_distance_0 rfl (lv_at hl 1 rfl) ?_
  refine lv_iload_n hx hb dX0_distance_1 rfl (lv_at hl 2 rfl) ?_
  refine dk_roS (rest := []) ⟨hx, hb, hml, hown, hts⟩ (metX0_isPlace l x y) (va_cwS 2 hts (lw_S q52 q53 q11 q54) rfl rfl rfl (by decide +kernel) ⟨Nat.le_of_ble_eq_true rfl, Nat.le_of_ble_eq_true rfl⟩) rfl hl.1 rfl (Nat.le_of_ble_eq_true rfl) ⟨Nat.le_of_ble_eq_true rfl, Nat.le_of_ble_eq_true rfl⟩ dX0_distance_2 ?_
  refine lv_if_eq (tgt := 15) hx hb dX0_distance_5 (by decide) (fun c_5 => ?_) (fun c_5 => ?_)
  · skip
    have hpl : ¬ pl_ x y = true := fun q => by
      rw [if_pos q] at c_5
      exact absurd c_5 (by decide)
    refine lv_iconst (v := -1) hx hb dX0_distance_15 (by decide) ?_
    exact W.iret (v := (-1 : Int32)) hx hb hr (fun t ht hW => ⟨⟨(-1 : Int32), (kn, fO, fC, kp, fK, fT), rfl, ⟨by unfold an_distance; rw [if_neg hpl], hI⟩, dk_h ht hP⟩, hS.F ht⟩) hS.2.2 dX0_distance_16
  · skip
    have hpl : pl_ x y = true := by
      by_cases q : pl_ x y = true
      · exact q
      · rw [if_neg q] at c_5
        exact absurd rfl c_5
    obtain ⟨X, Y, hX, hY, rfl, rfl⟩ := pl_of hpl
    refine lv_aload_n hx hb dX0_distance_8 rfl (lv_at hl 0 rfl) ?_
    refine va_get (D := (dC, dI)) (ci := 0) (v := .int nM) (C := RX0) (T := TX0) (N := 8) hx hb hts in_X0 hown hK hP 0 rfl rfl 1 (by decide) (hts _ q22) (fun _ h9 => h9) rfl dX0_distance_9 ?_
    refine lv_if_ne (tgt := 17) hx hb dX0_distance_12 (by decide) (fun c_12 => ?_) (fun c_12 => ?_)
    · skip
      have hm : cn fM 192 ≠ 0 := fun q => c_12 ((dmI_0 hI).mpr q)
      refine lv_aload_n hx hb dX0_distance_17 rfl (lv_at hl 0 rfl) ?_
      refine dk_muV (rest := []) ⟨hx, hb, hml, hown, hts⟩ (metX0_workOut l dC dI ad ct fM nM kn fO fC kp fK fT hJ hI hm) (cwV 0 hts (lw_V q63 q65 qs0 q11 q66) rfl rfl rfl (by decide +kernel) ⟨Nat.le_of_ble_eq_true rfl, Nat.le_of_ble_eq_true rfl⟩) hK hP 0 rfl rfl rfl rfl hl.1 rfl (Nat.le_of_ble_eq_true rfl) ⟨Nat.le_of_ble_eq_true rfl, Nat.le_of_ble_eq_true rfl⟩ hS (fun _ h => h) dX0_distance_18 (fun u H locs hw hP _ hS => ?_)
      obtain ⟨kn1, fO1, fC1, kp1, fK1, fT1⟩ := u
      have hI1 : dmI fM nM kn1 fO1 := hw.2
      have hO := hI1.2 hw.1
      have hP : va_P (dC, dI) vwCl (dmW ad ct fM nM kn1 fO1 fC1 kp1 fK1 fT1) H := hP
      have hD := dm_D hJ ct fM nM kn1 fO1 fC1 kp1 fK1 fT1
      refine lv_aload_n hx hb dX0_distance_21 rfl (lv_at hl 0 rfl) ?_
      refine lv_bipush (v := 16) hx hb dX0_distance_22 (by decide) ?_
      refine lv_iload_n hx hb dX0_distance_24 rfl (lv_at hl 2 rfl) ?_
      refine lv_imul hx hb dX0_distance_25 ?_
      refine lv_iload_n hx hb dX0_distance_26 rfl (lv_at hl 1 rfl) ?_
      refine lv_iadd hx hb dX0_distance_27 ?_
      refine dk_top (nI (16 * Y + X)) (ix_e X Y) ?_
      refine dk_roV (rest := []) ⟨hx, hb, hml, hown, hts⟩ (metX0_distanceOf l dC dI ad ct fM nM kn1 fO1 fC1 kp1 fK1 fT1 (16 * Y + X) (nr fM (16 * Y + X) 192).toNat (by omega) (by have := m_nr hm (16 * Y + X); omega) (by rw [hO (16 * Y + X) (by omega), nm_nr (m_nr hm (16 * Y + X)).1])) (cwV 1 hts (lw_V q91 q93 qs7 q11 q94) rfl rfl rfl (by decide +kernel) ⟨Nat.le_of_ble_eq_true rfl, Nat.le_of_ble_eq_true rfl⟩) hK hP 0 rfl rfl rfl rfl hl.1 rfl (Nat.le_of_ble_eq_true rfl) ⟨Nat.le_of_ble_eq_true rfl, Nat.le_of_ble_eq_true rfl⟩ dX0_distance_28 ?_
      exact W.iret (v := (iI (ap (16 * Y + X) (nr fM (16 * Y + X) 192).toNat))) hx hb hr (fun t ht hW => ⟨⟨iI (ap (16 * Y + X) (nr fM (16 * Y + X) 192).toNat), (kn1, fO1, fC1, kp1, fK1, fT1), rfl, ⟨by unfold an_distance; rw [if_pos hpl, ix_n hX hY, (m_dI hm (by omega)).1], hI1⟩, dk_h ht hP⟩, hS.F ht⟩) hS.2.2 dX0_distance_31
    · skip
      have hm : cn fM 192 = 0 := (dmI_0 hI).mp c_12
      refine lv_iconst (v := -1) hx hb dX0_distance_15 (by decide) ?_
      exact W.iret (v := (-1 : Int32)) hx hb hr (fun t ht hW => ⟨⟨(-1 : Int32), (kn, fO, fC, kp, fK, fT), rfl, ⟨by unfold an_distance; rw [if_pos hpl, ix_n hX hY, z_dI hm], hI⟩, dk_h ht hP⟩, hS.F ht⟩) hS.2.2 dX0_distance_16
set_option maxHeartbeats 4000000 in
set_option maxRecDepth 100000 in
/-- nearest(x, y) -/
theorem metX0_nearest (l : Launch) (dC : Nat → ClassId) (dI : Nat → Nat → Nat) (ad : Nat → Nat) (ct : Nat → ClassId) (fM : Nat → Int32) (nM kn : Int32) (fO fC : Nat → Int32) (kp : Int32) (fK fT : Nat → Int32) (hJ : dmJ ad) (hI : dmI fM nM kn fO) (x y : Int32) : Met l yX0_nearest (ws_ yX0_nearest cX0_nearest 3 (some .int)) ({ frames := 5, cells := 0, slots := 0, locals := 117 }) (roP (dC, dI) [.ref (ad 0), .int x, .int y] (dmW ad ct fM nM kn fO fC kp fK fT) (dmT ct)) (muI (dC, dI) (fun (r : Int32) (u : Int32 × (Nat → Int32) × (Nat → Int32) × Int32 × (Nat → Int32) × (Nat → Int32)) => r = an_nearest fM x y ∧ dmI fM nM u.1 u.2.1) (fun u => dmW ad ct fM nM u.1 u.2.1 u.2.2.1 u.2.2.2.1 u.2.2.2.2.1 u.2.2.2.2.2) (dmA ad)) 0 0 (dmA ad) := by
  refine Met.ofW (cc := cX0_nearest) (maxL := 3) (ret := (some .int)) (by decide) rfl ?_
  intro p e s m args below meth c s₁ Bo hml hv
  obtain ⟨rfl, hP, hK⟩ := hv
  have hx := Bo.exec
  have hb := Bo.bytes
  have hr := Bo.returns
  have hts := atoms_spec (ws := ws_ yX0_nearest cX0_nearest 3 (some .int)) Bo.pre
  have hts : ∀ w ∈ lw_all, w.before _ s = true := fun w h => hts w (List.mem_cons_of_mem _ h)
  have hown : s.vm.findClass RX0 = some m.cls := findClass_of_methodNamed Bo.named
  have hlocks := Bo.notSynchronized
  have hl := lv_entry ([.ref (ad 0), .int x, .int y]) (n := 3) (Nat.le_of_ble_eq_true rfl)
  rw [lg_entry_eq]
  generalize (lg_sl ([.ref (ad 0), .int x, .int y]) ++ List.replicate (3 - (lg_sl ([.ref (ad 0), .int x, .int y])).length) Slot.unset).toArray = ls at hl ⊢
  have hl : lv_has ls 3 [(0, .ref (ad 0)), (1, .int x), (2, .int y)] := hl
  have hD := dm_D hJ ct fM nM kn fO fC kp fK fT
  have hS : va_S (dmA ad) s.heap s.heap [] := va_S.rf
  refine lv_iload_n hx hb dX0_nearest_0 rfl (lv_at hl 1 rfl) ?_
  refine lv_iload_n hx hb dX0_nearest_1 rfl (lv_at hl 2 rfl) ?_
  refine dk_roS (rest := []) ⟨hx, hb, hml, hown, hts⟩ (metX0_isPlace l x y) (va_cwS 2 hts (lw_S q52 q53 q11 q54) rfl rfl rfl (by decide +kernel) ⟨Nat.le_of_ble_eq_true rfl, Nat.le_of_ble_eq_true rfl⟩) rfl hl.1 rfl (Nat.le_of_ble_eq_true rfl) ⟨Nat.le_of_ble_eq_true rfl, Nat.le_of_ble_eq_true rfl⟩ dX0_nearest_2 ?_
  refine lv_if_eq (tgt := 15) hx hb dX0_nearest_5 (by decide) (fun c_5 => ?_) (fun c_5 => ?_)
  · skip
    have hpl : ¬ pl_ x y = true := fun q => by
      rw [if_pos q] at c_5
      exact absurd c_5 (by decide)
    refine lv_iconst (v := -1) hx hb dX0_nearest_15 (by decide) ?_
    exact W.iret (v := (-1 : Int32)) hx hb hr (fun t ht hW => ⟨⟨(-1 : Int32), (kn, fO, fC, kp, fK, fT), rfl, ⟨by unfold an_nearest; rw [if_neg hpl], hI⟩, dk_h ht hP⟩, hS.F ht⟩) hS.2.2 dX0_nearest_16
  · skip
    have hpl : pl_ x y = true := by
      by_cases q : pl_ x y = true
      · exact q
      · rw [if_neg q] at c_5
        exact absurd rfl c_5
    obtain ⟨X, Y, hX, hY, rfl, rfl⟩ := pl_of hpl
    refine lv_aload_n hx hb dX0_nearest_8 rfl (lv_at hl 0 rfl) ?_
    refine va_get (D := (dC, dI)) (ci := 0) (v := .int nM) (C := RX0) (T := TX0) (N := 8) hx hb hts in_X0 hown hK hP 0 rfl rfl 1 (by decide) (hts _ q22) (fun _ h9 => h9) rfl dX0_nearest_9 ?_
    refine lv_if_ne (tgt := 17) hx hb dX0_nearest_12 (by decide) (fun c_12 => ?_) (fun c_12 => ?_)
    · skip
      have hm : cn fM 192 ≠ 0 := fun q => c_12 ((dmI_0 hI).mpr q)
      refine lv_aload_n hx hb dX0_nearest_17 rfl (lv_at hl 0 rfl) ?_
      refine dk_muV (rest := []) ⟨hx, hb, hml, hown, hts⟩ (metX0_workOut l dC dI ad ct fM nM kn fO fC kp fK fT hJ hI hm) (cwV 0 hts (lw_V q63 q65 qs0 q11 q66) rfl rfl rfl (by decide +kernel) ⟨Nat.le_of_ble_eq_true rfl, Nat.le_of_ble_eq_true rfl⟩) hK hP 0 rfl rfl rfl rfl hl.1 rfl (Nat.le_of_ble_eq_true rfl) ⟨Nat.le_of_ble_eq_true rfl, Nat.le_of_ble_eq_true rfl⟩ hS (fun _ h => h) dX0_nearest_18 (fun u H locs hw hP _ hS => ?_)
      obtain ⟨kn1, fO1, fC1, kp1, fK1, fT1⟩ := u
      have hI1 : dmI fM nM kn1 fO1 := hw.2
      have hO := hI1.2 hw.1
      have hP : va_P (dC, dI) vwCl (dmW ad ct fM nM kn1 fO1 fC1 kp1 fK1 fT1) H := hP
      have hD := dm_D hJ ct fM nM kn1 fO1 fC1 kp1 fK1 fT1
      refine lv_aload_n hx hb dX0_nearest_21 rfl (lv_at hl 0 rfl) ?_
      refine va_get (D := (dC, dI)) (ci := 0) (v := .ref (ad 2)) (C := RX0) (T := TX0) (N := 8) hx hb hts in_X0 hown hK hP 0 rfl rfl 3 (by decide) (hts _ q24) (fun _ h9 => h9) rfl dX0_nearest_22 ?_
      refine lv_bipush (v := 16) hx hb dX0_nearest_25 (by decide) ?_
      refine lv_iload_n hx hb dX0_nearest_27 rfl (lv_at hl 2 rfl) ?_
      refine lv_imul hx hb dX0_nearest_28 ?_
      refine lv_iload_n hx hb dX0_nearest_29 rfl (lv_at hl 1 rfl) ?_
      refine lv_iadd hx hb dX0_nearest_30 ?_
      refine dk_top (nI (16 * Y + X)) (ix_e X Y) ?_
      refine dk_iald hx hb hK hP 2 1 rfl rfl (by omega) (by decide) dX0_nearest_31 ?_
      refine dk_top (iI (nr fM (16 * Y + X) 192)) (hO _ (by omega)) ?_
      exact W.iret (v := (iI (nr fM (16 * Y + X) 192))) hx hb hr (fun t ht hW => ⟨⟨iI (nr fM (16 * Y + X) 192), (kn1, fO1, fC1, kp1, fK1, fT1), rfl, ⟨by unfold an_nearest; rw [if_pos hpl, ix_n hX hY], hI1⟩, dk_h ht hP⟩, hS.F ht⟩) hS.2.2 dX0_nearest_32
    · skip
      have hm : cn fM 192 = 0 := (dmI_0 hI).mp c_12
      refine lv_iconst (v := -1) hx hb dX0_nearest_15 (by decide) ?_
      exact W.iret (v := (-1 : Int32)) hx hb hr (fun t ht hW => ⟨⟨(-1 : Int32), (kn, fO, fC, kp, fK, fT), rfl, ⟨by unfold an_nearest; rw [if_pos hpl, ix_n hX hY, z_nr hm, iI_m1], hI⟩, dk_h ht hP⟩, hS.F ht⟩) hS.2.2 dX0_nearest_16
set_option maxHeartbeats 4000000 in
set_option maxRecDepth 100000 in
/-- reach(x, y) -/
theorem metX0_reach (l : Launch) (dC : Nat → ClassId) (dI : Nat → Nat → Nat) (ad : Nat → Nat) (ct : Nat → ClassId) (fM : Nat → Int32) (nM kn : Int32) (fO fC : Nat → Int32) (kp : Int32) (fK fT : Nat → Int32) (hJ : dmJ ad) (hI : dmI fM nM kn fO) (x y : Int32) : Met l yX0_reach (ws_ yX0_reach cX0_reach 5 (some .int)) ({ frames := 5, cells := 0, slots := 0, locals := 117 }) (roP (dC, dI) [.ref (ad 0), .int x, .int y] (dmW ad ct fM nM kn fO fC kp fK fT) (dmT ct)) (muI (dC, dI) (fun (r : Int32) (u : Int32 × (Nat → Int32) × (Nat → Int32) × Int32 × (Nat → Int32) × (Nat → Int32)) => r = an_reach fM x y ∧ dmI fM nM u.1 u.2.1) (fun u => dmW ad ct fM nM u.1 u.2.1 u.2.2.1 u.2.2.2.1 u.2.2.2.2.1 u.2.2.2.2.2) (dmA ad)) 0 0 (dmA ad) := by
  refine Met.ofW (cc := cX0_reach) (maxL := 5) (ret := (some .int)) (by decide) rfl ?_
  intro p e s m args below meth c s₁ Bo hml hv
  obtain ⟨rfl, hP, hK⟩ := hv
  have hx := Bo.exec
  have hb := Bo.bytes
  have hr := Bo.returns
  have hts := atoms_spec (ws := ws_ yX0_reach cX0_reach 5 (some .int)) Bo.pre
  have hts : ∀ w ∈ lw_all, w.before _ s = true := fun w h => hts w (List.mem_cons_of_mem _ h)
  have hown : s.vm.findClass RX0 = some m.cls := findClass_of_methodNamed Bo.named
  have hlocks := Bo.notSynchronized
  have hl := lv_entry ([.ref (ad 0), .int x, .int y]) (n := 5) (Nat.le_of_ble_eq_true rfl)
  rw [lg_entry_eq]
  generalize (lg_sl ([.ref (ad 0), .int x, .int y]) ++ List.replicate (5 - (lg_sl ([.ref (ad 0), .int x, .int y])).length) Slot.unset).toArray = ls at hl ⊢
  have hl : lv_has ls 5 [(0, .ref (ad 0)), (1, .int x), (2, .int y)] := hl
  have hD := dm_D hJ ct fM nM kn fO fC kp fK fT
  have hS : va_S (dmA ad) s.heap s.heap [] := va_S.rf
  refine lv_iload_n hx hb dX0_reach_0 rfl (lv_at hl 1 rfl) ?_
  refine lv_iload_n hx hb dX0_reach_1 rfl (lv_at hl 2 rfl) ?_
  refine dk_roS (rest := []) ⟨hx, hb, hml, hown, hts⟩ (metX0_isPlace l x y) (va_cwS 2 hts (lw_S q52 q53 q11 q54) rfl rfl rfl (by decide +kernel) ⟨Nat.le_of_ble_eq_true rfl, Nat.le_of_ble_eq_true rfl⟩) rfl hl.1 rfl (Nat.le_of_ble_eq_true rfl) ⟨Nat.le_of_ble_eq_true rfl, Nat.le_of_ble_eq_true rfl⟩ dX0_reach_2 ?_
  refine lv_if_ne (tgt := 10) hx hb dX0_reach_5 (by decide) (fun c_5 => ?_) (fun c_5 => ?_)
  · skip
    have hpl : pl_ x y = true := by
      by_cases q : pl_ x y = true
      · exact q
      · rw [if_neg q] at c_5
        exact absurd rfl c_5
    obtain ⟨X, Y, hX, hY, rfl, rfl⟩ := pl_of hpl
    refine lv_aload_n hx hb dX0_reach_10 rfl (lv_at hl 0 rfl) ?_
    refine va_get (D := (dC, dI)) (ci := 0) (v := .int nM) (C := RX0) (T := TX0) (N := 8) hx hb hts in_X0 hown hK hP 0 rfl rfl 1 (by decide) (hts _ q22) (fun _ h9 => h9) rfl dX0_reach_11 ?_
    refine lv_if_ne (tgt := 19) hx hb dX0_reach_14 (by decide) (fun c_14 => ?_) (fun c_14 => ?_)
    · skip
      have hm : cn fM 192 ≠ 0 := fun q => c_14 ((dmI_0 hI).mpr q)
      refine lv_aload_n hx hb dX0_reach_19 rfl (lv_at hl 0 rfl) ?_
      refine dk_muV (rest := []) ⟨hx, hb, hml, hown, hts⟩ (metX0_workOut l dC dI ad ct fM nM kn fO fC kp fK fT hJ hI hm) (cwV 0 hts (lw_V q63 q65 qs0 q11 q66) rfl rfl rfl (by decide +kernel) ⟨Nat.le_of_ble_eq_true rfl, Nat.le_of_ble_eq_true rfl⟩) hK hP 0 rfl rfl rfl rfl hl.1 rfl (Nat.le_of_ble_eq_true rfl) ⟨Nat.le_of_ble_eq_true rfl, Nat.le_of_ble_eq_true rfl⟩ hS (fun _ h => h) dX0_reach_20 (fun u H locs hw hP _ hS => ?_)
      obtain ⟨kn1, fO1, fC1, kp1, fK1, fT1⟩ := u
      have hI1 : dmI fM nM kn1 fO1 := hw.2
      have hO := hI1.2 hw.1
      have hP : va_P (dC, dI) vwCl (dmW ad ct fM nM kn1 fO1 fC1 kp1 fK1 fT1) H := hP
      have hD := dm_D hJ ct fM nM kn1 fO1 fC1 kp1 fK1 fT1
      refine lv_iconst (v := 0) hx hb dX0_reach_23 (by decide) ?_
      refine dk_top (ar_ fM (nI (16 * Y + X)) 0) (rfl) ?_
      refine lv_istore_n (lv' := [(3, .int (ar_ fM (nI (16 * Y + X)) 0)), (0, .ref (ad 0)), (1, .int (nI X)), (2, .int (nI Y))]) hx hb dX0_reach_24 rfl hl (by decide) rfl (fun ls hl => ?_)
      refine lv_iconst (v := 0) hx hb dX0_reach_25 (by decide) ?_
      refine dk_top (nI 0) (nI_0.symm) ?_
      refine lv_istore (lv' := [(4, .int (nI 0)), (3, .int (ar_ fM (nI (16 * Y + X)) 0)), (0, .ref (ad 0)), (1, .int (nI X)), (2, .int (nI Y))]) hx hb dX0_reach_26 hl (by decide) rfl (fun ls hl => ?_)
      refine dk_loopR (Inv := fun (i : Nat) ls => (i ≤ 192) ∧ lv_has ls 5 [(0, .ref (ad 0)), (1, .int (nI X)), (2, .int (nI Y)), (3, .int (ar_ fM (nI (16 * Y + X)) i)), (4, .int (nI i))]) (μ := fun (i : Nat) => 192 - i) 28 [] 0 ⟨Nat.zero_le _, lv_sub hl [2, 3, 4, 1, 0] rfl⟩ ?_
      intro i ls hI ih
      obtain ⟨hi, hl⟩ := hI
      refine lv_iload hx hb dX0_reach_28 (lv_at hl 4 rfl) ?_
      refine lv_sipush (v := 192) hx hb dX0_reach_30 (by decide) ?_
      refine dk_top (nI 192) (rfl) ?_
      refine lv_icmp_ge (tgt := 66) hx hb dX0_reach_33 (by decide) (fun c_33 => ?_) (fun c_33 => ?_)
      · skip
        have hi2 := nm_le c_33 (by omega) (by omega)
        have hi3 : i = 192 := by omega
        subst hi3
        refine lv_iload_n hx hb dX0_reach_66 rfl (lv_at hl 3 rfl) ?_
        exact W.iret (v := (ar_ fM (nI (16 * Y + X)) 192)) hx hb hr (fun t ht hW => ⟨⟨ar_ fM (nI (16 * Y + X)) 192, (kn1, fO1, fC1, kp1, fK1, fT1), rfl, ⟨by unfold an_reach; rw [if_pos hpl, ix_n hX hY], hI1⟩, dk_h ht hP⟩, hS.F ht⟩) hS.2.2 dX0_reach_67
      · skip
        have hi2 := nm_lt c_33 (by omega) (by omega)
        refine lv_iload_n hx hb dX0_reach_36 rfl (lv_at hl 3 rfl) ?_
        refine lv_aload_n hx hb dX0_reach_37 rfl (lv_at hl 0 rfl) ?_
        refine va_get (D := (dC, dI)) (ci := 0) (v := .ref (ad 2)) (C := RX0) (T := TX0) (N := 8) hx hb hts in_X0 hown hK hP 0 rfl rfl 3 (by decide) (hts _ q24) (fun _ h9 => h9) rfl dX0_reach_38 ?_
        refine lv_iload hx hb dX0_reach_41 (lv_at hl 4 rfl) ?_
        refine dk_iald hx hb hK hP 2 1 rfl rfl (by omega) (by decide) dX0_reach_43 ?_
        refine dk_top (iI (nr fM i 192)) (hO i hi2) ?_
        refine lv_bipush (v := 16) hx hb dX0_reach_44 (by decide) ?_
        refine lv_iload_n hx hb dX0_reach_46 rfl (lv_at hl 2 rfl) ?_
        refine lv_imul hx hb dX0_reach_47 ?_
        refine lv_iload_n hx hb dX0_reach_48 rfl (lv_at hl 1 rfl) ?_
        refine lv_iadd hx hb dX0_reach_49 ?_
        refine dk_top (nI (16 * Y + X)) (ix_e X Y) ?_
        refine lv_icmp_ne (tgt := 57) hx hb dX0_reach_50 (by decide) (fun c_50 => ?_) (fun c_50 => ?_)
        · skip
          refine lv_iconst (v := 0) hx hb dX0_reach_57 (by decide) ?_
          refine lv_iadd hx hb dX0_reach_58 ?_
          refine dk_top (ar_ fM (nI (16 * Y + X)) (i + 1)) (by simp only [ar_]; rw [if_neg c_50]) ?_
          refine lv_istore_n (lv' := [(3, .int (ar_ fM (nI (16 * Y + X)) (i + 1))), (0, .ref (ad 0)), (1, .int (nI X)), (2, .int (nI Y)), (4, .int (nI i))]) hx hb dX0_reach_59 rfl hl (by decide) rfl (fun ls hl => ?_)
          refine lv_iinc (v := nI (i + 1)) (lv' := [(4, .int (nI (i + 1))), (3, .int (ar_ fM (nI (16 * Y + X)) (i + 1))), (0, .ref (ad 0)), (1, .int (nI X)), (2, .int (nI Y))]) hx hb dX0_reach_60 hl (k := 4) rfl (nI_1 i) (by decide) rfl (fun ls hl => ?_)
          refine lv_goto (tgt := 28) hx hb dX0_reach_63 (by decide) ?_
          exact ih (i + 1) _ (by omega) ⟨by omega, lv_sub hl [2, 3, 4, 1, 0] rfl⟩
        · skip
          refine lv_iconst (v := 1) hx hb dX0_reach_53 (by decide) ?_
          refine lv_goto (tgt := 58) hx hb dX0_reach_54 (by decide) ?_
          refine lv_iadd hx hb dX0_reach_58 ?_
          refine dk_top (ar_ fM (nI (16 * Y + X)) (i + 1)) (by simp only [ar_]; rw [if_pos c_50]) ?_
          refine lv_istore_n (lv' := [(3, .int (ar_ fM (nI (16 * Y + X)) (i + 1))), (0, .ref (ad 0)), (1, .int (nI X)), (2, .int (nI Y)), (4, .int (nI i))]) hx hb dX0_reach_59 rfl hl (by decide) rfl (fun ls hl => ?_)
          refine lv_iinc (v := nI (i + 1)) (lv' := [(4, .int (nI (i + 1))), (3, .int (ar_ fM (nI (16 * Y + X)) (i + 1))), (0, .ref (ad 0)), (1, .int (nI X)), (2, .int (nI Y))]) hx hb dX0_reach_60 hl (k := 4) rfl (nI_1 i) (by decide) rfl (fun ls hl => ?_)
          refine lv_goto (tgt := 28) hx hb dX0_reach_63 (by decide) ?_
          exact ih (i + 1) _ (by omega) ⟨by omega, lv_sub hl [2, 3, 4, 1, 0] rfl⟩
    · skip
      have hm : cn fM 192 = 0 := (dmI_0 hI).mp c_14
      refine lv_iconst (v := 0) hx hb dX0_reach_17 (by decide) ?_
      exact W.iret (v := (0 : Int32)) hx hb hr (fun t ht hW => ⟨⟨(0 : Int32), (kn, fO, fC, kp, fK, fT), rfl, ⟨by unfold an_reach; rw [if_pos hpl, ix_n hX hY, z_ar hm (by omega)], hI⟩, dk_h ht hP⟩, hS.F ht⟩) hS.2.2 dX0_reach_18
  · skip
    have hpl : ¬ pl_ x y = true := fun q => by
      rw [if_pos q] at c_5
      exact absurd c_5 (by decide)
    refine lv_iconst (v := -1) hx hb dX0_reach_8 (by decide) ?_
    exact W.iret (v := (-1 : Int32)) hx hb hr (fun t ht hW => ⟨⟨(-1 : Int32), (kn, fO, fC, kp, fK, fT), rfl, ⟨by unfold an_reach; rw [if_neg hpl], hI⟩, dk_h ht hP⟩, hS.F ht⟩) hS.2.2 dX0_reach_9
set_option maxHeartbeats 4000000 in
set_option maxRecDepth 100000 in
/-- farthest() -/
theorem metX0_farthest (l : Launch) (dC : Nat → ClassId) (dI : Nat → Nat → Nat) (ad : Nat → Nat) (ct : Nat → ClassId) (fM : Nat → Int32) (nM kn : Int32) (fO fC : Nat → Int32) (kp : Int32) (fK fT : Nat → Int32) (hJ : dmJ ad) (hI : dmI fM nM kn fO) : Met l yX0_farthest (ws_ yX0_farthest cX0_farthest 4 (some .int)) ({ frames := 5, cells := 0, slots := 0, locals := 117 }) (roP (dC, dI) [.ref (ad 0)] (dmW ad ct fM nM kn fO fC kp fK fT) (dmT ct)) (muI (dC, dI) (fun (r : Int32) (u : Int32 × (Nat → Int32) × (Nat → Int32) × Int32 × (Nat → Int32) × (Nat → Int32)) => r = an_farthest fM ∧ dmI fM nM u.1 u.2.1) (fun u => dmW ad ct fM nM u.1 u.2.1 u.2.2.1 u.2.2.2.1 u.2.2.2.2.1 u.2.2.2.2.2) (dmA ad)) 0 0 (dmA ad) := by
  refine Met.ofW (cc := cX0_farthest) (maxL := 4) (ret := (some .int)) (by decide) rfl ?_
  intro p e s m args below meth c s₁ Bo hml hv
  obtain ⟨rfl, hP, hK⟩ := hv
  have hx := Bo.exec
  have hb := Bo.bytes
  have hr := Bo.returns
  have hts := atoms_spec (ws := ws_ yX0_farthest cX0_farthest 4 (some .int)) Bo.pre
  have hts : ∀ w ∈ lw_all, w.before _ s = true := fun w h => hts w (List.mem_cons_of_mem _ h)
  have hown : s.vm.findClass RX0 = some m.cls := findClass_of_methodNamed Bo.named
  have hlocks := Bo.notSynchronized
  have hl := lv_entry ([.ref (ad 0)]) (n := 4) (Nat.le_of_ble_eq_true rfl)
  rw [lg_entry_eq]
  generalize (lg_sl ([.ref (ad 0)]) ++ List.replicate (4 - (lg_sl ([.ref (ad 0)])).length) Slot.unset).toArray = ls at hl ⊢
  have hl : lv_has ls 4 [(0, .ref (ad 0))] := hl
  have hD := dm_D hJ ct fM nM kn fO fC kp fK fT
  have hS : va_S (dmA ad) s.heap s.heap [] := va_S.rf
  refine lv_aload_n hx hb dX0_farthest_0 rfl (lv_at hl 0 rfl) ?_
  refine va_get (D := (dC, dI)) (ci := 0) (v := .int nM) (C := RX0) (T := TX0) (N := 8) hx hb hts in_X0 hown hK hP 0 rfl rfl 1 (by decide) (hts _ q22) (fun _ h9 => h9) rfl dX0_farthest_1 ?_
  refine lv_if_ne (tgt := 9) hx hb dX0_farthest_4 (by decide) (fun c_4 => ?_) (fun c_4 => ?_)
  · skip
    have hm : cn fM 192 ≠ 0 := fun q => c_4 ((dmI_0 hI).mpr q)
    refine lv_aload_n hx hb dX0_farthest_9 rfl (lv_at hl 0 rfl) ?_
    refine dk_muV (rest := []) ⟨hx, hb, hml, hown, hts⟩ (metX0_workOut l dC dI ad ct fM nM kn fO fC kp fK fT hJ hI hm) (cwV 0 hts (lw_V q63 q65 qs0 q11 q66) rfl rfl rfl (by decide +kernel) ⟨Nat.le_of_ble_eq_true rfl, Nat.le_of_ble_eq_true rfl⟩) hK hP 0 rfl rfl rfl rfl hl.1 rfl (Nat.le_of_ble_eq_true rfl) ⟨Nat.le_of_ble_eq_true rfl, Nat.le_of_ble_eq_true rfl⟩ hS (fun _ h => h) dX0_farthest_10 (fun u H locs hw hP _ hS => ?_)
    obtain ⟨kn1, fO1, fC1, kp1, fK1, fT1⟩ := u
    have hI1 : dmI fM nM kn1 fO1 := hw.2
    have hO := hI1.2 hw.1
    have hP : va_P (dC, dI) vwCl (dmW ad ct fM nM kn1 fO1 fC1 kp1 fK1 fT1) H := hP
    have hD := dm_D hJ ct fM nM kn1 fO1 fC1 kp1 fK1 fT1
    refine lv_iconst (v := 0) hx hb dX0_farthest_13 (by decide) ?_
    refine dk_top (af_ 0 fM 0) (rfl) ?_
    refine lv_istore_n (lv' := [(1, .int (af_ 0 fM 0)), (0, .ref (ad 0))]) hx hb dX0_farthest_14 rfl hl (by decide) rfl (fun ls hl => ?_)
    refine lv_iconst (v := 0) hx hb dX0_farthest_15 (by decide) ?_
    refine dk_top (nI 0) (nI_0.symm) ?_
    refine lv_istore_n (lv' := [(2, .int (nI 0)), (1, .int (af_ 0 fM 0)), (0, .ref (ad 0))]) hx hb dX0_farthest_16 rfl hl (by decide) rfl (fun ls hl => ?_)
    refine dk_loopR (Inv := fun (i : Nat) ls => (i ≤ 192) ∧ lv_has ls 4 [(0, .ref (ad 0)), (1, .int (af_ 0 fM i)), (2, .int (nI i))]) (μ := fun (i : Nat) => 192 - i) 17 [] 0 ⟨Nat.zero_le _, lv_sub hl [2, 1, 0] rfl⟩ ?_
    intro i ls hI ih
    obtain ⟨hi, hl⟩ := hI
    refine lv_iload_n hx hb dX0_farthest_17 rfl (lv_at hl 2 rfl) ?_
    refine lv_sipush (v := 192) hx hb dX0_farthest_18 (by decide) ?_
    refine dk_top (nI 192) (rfl) ?_
    refine lv_icmp_ge (tgt := 47) hx hb dX0_farthest_21 (by decide) (fun c_21 => ?_) (fun c_21 => ?_)
    · skip
      have hi2 := nm_le c_21 (by omega) (by omega)
      have hi3 : i = 192 := by omega
      subst hi3
      refine lv_iload_n hx hb dX0_farthest_47 rfl (lv_at hl 1 rfl) ?_
      exact W.iret (v := (af_ 0 fM 192)) hx hb hr (fun t ht hW => ⟨⟨af_ 0 fM 192, (kn1, fO1, fC1, kp1, fK1, fT1), rfl, ⟨by unfold an_farthest; rw [m_af hm 191 (by omega)], hI1⟩, dk_h ht hP⟩, hS.F ht⟩) hS.2.2 dX0_farthest_48
    · skip
      have hi2 := nm_lt c_21 (by omega) (by omega)
      refine lv_aload_n hx hb dX0_farthest_24 rfl (lv_at hl 0 rfl) ?_
      refine lv_iload_n hx hb dX0_farthest_25 rfl (lv_at hl 2 rfl) ?_
      refine dk_roV (rest := []) ⟨hx, hb, hml, hown, hts⟩ (metX0_distanceOf l dC dI ad ct fM nM kn1 fO1 fC1 kp1 fK1 fT1 (i) (nr fM (i) 192).toNat (hi2) (by have := m_nr hm (i); omega) (by rw [hO (i) (hi2), nm_nr (m_nr hm (i)).1])) (cwV 1 hts (lw_V q91 q93 qs7 q11 q94) rfl rfl rfl (by decide +kernel) ⟨Nat.le_of_ble_eq_true rfl, Nat.le_of_ble_eq_true rfl⟩) hK hP 0 rfl rfl rfl rfl hl.1 rfl (Nat.le_of_ble_eq_true rfl) ⟨Nat.le_of_ble_eq_true rfl, Nat.le_of_ble_eq_true rfl⟩ dX0_farthest_26 ?_
      refine dk_top (dI_ fM i) ((m_dI hm hi2).1.symm) ?_
      refine lv_istore_n (lv' := [(3, .int (dI_ fM i)), (0, .ref (ad 0)), (1, .int (af_ 0 fM i)), (2, .int (nI i))]) hx hb dX0_farthest_29 rfl hl (by decide) rfl (fun ls hl => ?_)
      refine lv_iload_n hx hb dX0_farthest_30 rfl (lv_at hl 0 rfl) ?_
      refine lv_iload_n hx hb dX0_farthest_31 rfl (lv_at hl 2 rfl) ?_
      refine lv_icmp_le (tgt := 39) hx hb dX0_farthest_32 (by decide) (fun c_32 => ?_) (fun c_32 => ?_)
      · skip
        refine lv_iload_n hx hb dX0_farthest_39 rfl (lv_at hl 2 rfl) ?_
        refine dk_top (af_ 0 fM (i + 1)) (by simp only [af_]; rw [if_neg (i32_nlt.mpr c_32)]) ?_
        refine lv_istore_n (lv' := [(1, .int (af_ 0 fM (i + 1))), (3, .int (dI_ fM i)), (0, .ref (ad 0)), (2, .int (nI i))]) hx hb dX0_farthest_40 rfl hl (by decide) rfl (fun ls hl => ?_)
        refine lv_iinc (v := nI (i + 1)) (lv' := [(2, .int (nI (i + 1))), (1, .int (af_ 0 fM (i + 1))), (3, .int (dI_ fM i)), (0, .ref (ad 0))]) hx hb dX0_farthest_41 hl (k := 3) rfl (nI_1 i) (by decide) rfl (fun ls hl => ?_)
        refine lv_goto (tgt := 17) hx hb dX0_farthest_44 (by decide) ?_
        exact ih (i + 1) _ (by omega) ⟨by omega, lv_sub hl [3, 1, 0] rfl⟩
      · skip
        refine lv_iload_n hx hb dX0_farthest_35 rfl (lv_at hl 0 rfl) ?_
        refine lv_goto (tgt := 40) hx hb dX0_farthest_36 (by decide) ?_
        refine dk_top (af_ 0 fM (i + 1)) (by simp only [af_]; rw [if_pos (i32_nle.mp c_32)]) ?_
        refine lv_istore_n (lv' := [(1, .int (af_ 0 fM (i + 1))), (3, .int (dI_ fM i)), (0, .ref (ad 0)), (2, .int (nI i))]) hx hb dX0_farthest_40 rfl hl (by decide) rfl (fun ls hl => ?_)
        refine lv_iinc (v := nI (i + 1)) (lv' := [(2, .int (nI (i + 1))), (1, .int (af_ 0 fM (i + 1))), (3, .int (dI_ fM i)), (0, .ref (ad 0))]) hx hb dX0_farthest_41 hl (k := 3) rfl (nI_1 i) (by decide) rfl (fun ls hl => ?_)
        refine lv_goto (tgt := 17) hx hb dX0_farthest_44 (by decide) ?_
        exact ih (i + 1) _ (by omega) ⟨by omega, lv_sub hl [3, 1, 0] rfl⟩
  · skip
    have hm : cn fM 192 = 0 := (dmI_0 hI).mp c_4
    refine lv_iconst (v := -1) hx hb dX0_farthest_7 (by decide) ?_
    exact W.iret (v := (-1 : Int32)) hx hb hr (fun t ht hW => ⟨⟨(-1 : Int32), (kn, fO, fC, kp, fK, fT), rfl, ⟨by unfold an_farthest; rw [z_af hm], hI⟩, dk_h ht hP⟩, hS.F ht⟩) hS.2.2 dX0_farthest_8
set_option maxHeartbeats 4000000 in
set_option maxRecDepth 100000 in
/-- within(lim) -/
theorem metX0_within (l : Launch) (dC : Nat → ClassId) (dI : Nat → Nat → Nat) (ad : Nat → Nat) (ct : Nat → ClassId) (fM : Nat → Int32) (nM kn : Int32) (fO fC : Nat → Int32) (kp : Int32) (fK fT : Nat → Int32) (hJ : dmJ ad) (hI : dmI fM nM kn fO) (lim : Int32) : Met l yX0_within (ws_ yX0_within cX0_within 5 (some .int)) ({ frames := 5, cells := 0, slots := 0, locals := 117 }) (roP (dC, dI) [.ref (ad 0), .int lim] (dmW ad ct fM nM kn fO fC kp fK fT) (dmT ct)) (muI (dC, dI) (fun (r : Int32) (u : Int32 × (Nat → Int32) × (Nat → Int32) × Int32 × (Nat → Int32) × (Nat → Int32)) => r = an_within fM lim ∧ dmI fM nM u.1 u.2.1) (fun u => dmW ad ct fM nM u.1 u.2.1 u.2.2.1 u.2.2.2.1 u.2.2.2.2.1 u.2.2.2.2.2) (dmA ad)) 0 0 (dmA ad) := by
  refine Met.ofW (cc := cX0_within) (maxL := 5) (ret := (some .int)) (by decide) rfl ?_
  intro p e s m args below meth c s₁ Bo hml hv
  obtain ⟨rfl, hP, hK⟩ := hv
  have hx := Bo.exec
  have hb := Bo.bytes
  have hr := Bo.returns
  have hts := atoms_spec (ws := ws_ yX0_within cX0_within 5 (some .int)) Bo.pre
  have hts : ∀ w ∈ lw_all, w.before _ s = true := fun w h => hts w (List.mem_cons_of_mem _ h)
  have hown : s.vm.findClass RX0 = some m.cls := findClass_of_methodNamed Bo.named
  have hlocks := Bo.notSynchronized
  have hl := lv_entry ([.ref (ad 0), .int lim]) (n := 5) (Nat.le_of_ble_eq_true rfl)
  rw [lg_entry_eq]
  generalize (lg_sl ([.ref (ad 0), .int lim]) ++ List.replicate (5 - (lg_sl ([.ref (ad 0), .int lim])).length) Slot.unset).toArray = ls at hl ⊢
  have hl : lv_has ls 5 [(0, .ref (ad 0)), (1, .int lim)] := hl
  have hD := dm_D hJ ct fM nM kn fO fC kp fK fT
  have hS : va_S (dmA ad) s.heap s.heap [] := va_S.rf
  refine lv_aload_n hx hb dX0_within_0 rfl (lv_at hl 0 rfl) ?_
  refine va_get (D := (dC, dI)) (ci := 0) (v := .int nM) (C := RX0) (T := TX0) (N := 8) hx hb hts in_X0 hown hK hP 0 rfl rfl 1 (by decide) (hts _ q22) (fun _ h9 => h9) rfl dX0_within_1 ?_
  refine lv_if_ne (tgt := 9) hx hb dX0_within_4 (by decide) (fun c_4 => ?_) (fun c_4 => ?_)
  · skip
    have hm : cn fM 192 ≠ 0 := fun q => c_4 ((dmI_0 hI).mpr q)
    refine lv_aload_n hx hb dX0_within_9 rfl (lv_at hl 0 rfl) ?_
    refine dk_muV (rest := []) ⟨hx, hb, hml, hown, hts⟩ (metX0_workOut l dC dI ad ct fM nM kn fO fC kp fK fT hJ hI hm) (cwV 0 hts (lw_V q63 q65 qs0 q11 q66) rfl rfl rfl (by decide +kernel) ⟨Nat.le_of_ble_eq_true rfl, Nat.le_of_ble_eq_true rfl⟩) hK hP 0 rfl rfl rfl rfl hl.1 rfl (Nat.le_of_ble_eq_true rfl) ⟨Nat.le_of_ble_eq_true rfl, Nat.le_of_ble_eq_true rfl⟩ hS (fun _ h => h) dX0_within_10 (fun u H locs hw hP _ hS => ?_)
    obtain ⟨kn1, fO1, fC1, kp1, fK1, fT1⟩ := u
    have hI1 : dmI fM nM kn1 fO1 := hw.2
    have hO := hI1.2 hw.1
    have hP : va_P (dC, dI) vwCl (dmW ad ct fM nM kn1 fO1 fC1 kp1 fK1 fT1) H := hP
    have hD := dm_D hJ ct fM nM kn1 fO1 fC1 kp1 fK1 fT1
    refine lv_iconst (v := 0) hx hb dX0_within_13 (by decide) ?_
    refine dk_top (aw_ fM lim 0) (rfl) ?_
    refine lv_istore_n (lv' := [(2, .int (aw_ fM lim 0)), (0, .ref (ad 0)), (1, .int lim)]) hx hb dX0_within_14 rfl hl (by decide) rfl (fun ls hl => ?_)
    refine lv_iconst (v := 0) hx hb dX0_within_15 (by decide) ?_
    refine dk_top (nI 0) (nI_0.symm) ?_
    refine lv_istore_n (lv' := [(3, .int (nI 0)), (2, .int (aw_ fM lim 0)), (0, .ref (ad 0)), (1, .int lim)]) hx hb dX0_within_16 rfl hl (by decide) rfl (fun ls hl => ?_)
    refine dk_loopR (Inv := fun (i : Nat) ls => (i ≤ 192) ∧ lv_has ls 5 [(0, .ref (ad 0)), (1, .int lim), (2, .int (aw_ fM lim i)), (3, .int (nI i))]) (μ := fun (i : Nat) => 192 - i) 17 [] 0 ⟨Nat.zero_le _, lv_sub hl [2, 3, 1, 0] rfl⟩ ?_
    intro i ls hI ih
    obtain ⟨hi, hl⟩ := hI
    refine lv_iload_n hx hb dX0_within_17 rfl (lv_at hl 3 rfl) ?_
    refine lv_sipush (v := 192) hx hb dX0_within_18 (by decide) ?_
    refine dk_top (nI 192) (rfl) ?_
    refine lv_icmp_ge (tgt := 51) hx hb dX0_within_21 (by decide) (fun c_21 => ?_) (fun c_21 => ?_)
    · skip
      have hi2 := nm_le c_21 (by omega) (by omega)
      have hi3 : i = 192 := by omega
      subst hi3
      refine lv_iload_n hx hb dX0_within_51 rfl (lv_at hl 2 rfl) ?_
      exact W.iret (v := (aw_ fM lim 192)) hx hb hr (fun t ht hW => ⟨⟨aw_ fM lim 192, (kn1, fO1, fC1, kp1, fK1, fT1), rfl, ⟨rfl, hI1⟩, dk_h ht hP⟩, hS.F ht⟩) hS.2.2 dX0_within_52
    · skip
      have hi2 := nm_lt c_21 (by omega) (by omega)
      refine lv_aload_n hx hb dX0_within_24 rfl (lv_at hl 0 rfl) ?_
      refine lv_iload_n hx hb dX0_within_25 rfl (lv_at hl 3 rfl) ?_
      refine dk_roV (rest := []) ⟨hx, hb, hml, hown, hts⟩ (metX0_distanceOf l dC dI ad ct fM nM kn1 fO1 fC1 kp1 fK1 fT1 (i) (nr fM (i) 192).toNat (hi2) (by have := m_nr hm (i); omega) (by rw [hO (i) (hi2), nm_nr (m_nr hm (i)).1])) (cwV 1 hts (lw_V q91 q93 qs7 q11 q94) rfl rfl rfl (by decide +kernel) ⟨Nat.le_of_ble_eq_true rfl, Nat.le_of_ble_eq_true rfl⟩) hK hP 0 rfl rfl rfl rfl hl.1 rfl (Nat.le_of_ble_eq_true rfl) ⟨Nat.le_of_ble_eq_true rfl, Nat.le_of_ble_eq_true rfl⟩ dX0_within_26 ?_
      refine dk_top (dI_ fM i) ((m_dI hm hi2).1.symm) ?_
      refine lv_istore (lv' := [(4, .int (dI_ fM i)), (0, .ref (ad 0)), (1, .int lim), (2, .int (aw_ fM lim i)), (3, .int (nI i))]) hx hb dX0_within_29 hl (by decide) rfl (fun ls hl => ?_)
      refine lv_iload_n hx hb dX0_within_31 rfl (lv_at hl 3 rfl) ?_
      refine lv_iload hx hb dX0_within_32 (lv_at hl 0 rfl) ?_
      refine lv_iload_n hx hb dX0_within_34 rfl (lv_at hl 2 rfl) ?_
      refine lv_icmp_gt (tgt := 42) hx hb dX0_within_35 (by decide) (fun c_35 => ?_) (fun c_35 => ?_)
      · skip
        refine lv_iconst (v := 0) hx hb dX0_within_42 (by decide) ?_
        refine lv_iadd hx hb dX0_within_43 ?_
        refine dk_top (aw_ fM lim (i + 1)) (by simp only [aw_]; rw [if_neg (fun q => i32_nlt.mpr q.2 c_35)]) ?_
        refine lv_istore_n (lv' := [(2, .int (aw_ fM lim (i + 1))), (4, .int (dI_ fM i)), (0, .ref (ad 0)), (1, .int lim), (3, .int (nI i))]) hx hb dX0_within_44 rfl hl (by decide) rfl (fun ls hl => ?_)
        refine lv_iinc (v := nI (i + 1)) (lv' := [(3, .int (nI (i + 1))), (2, .int (aw_ fM lim (i + 1))), (4, .int (dI_ fM i)), (0, .ref (ad 0)), (1, .int lim)]) hx hb dX0_within_45 hl (k := 4) rfl (nI_1 i) (by decide) rfl (fun ls hl => ?_)
        refine lv_goto (tgt := 17) hx hb dX0_within_48 (by decide) ?_
        exact ih (i + 1) _ (by omega) ⟨by omega, lv_sub hl [3, 4, 1, 0] rfl⟩
      · skip
        refine lv_iconst (v := 1) hx hb dX0_within_38 (by decide) ?_
        refine lv_goto (tgt := 43) hx hb dX0_within_39 (by decide) ?_
        refine lv_iadd hx hb dX0_within_43 ?_
        refine dk_top (aw_ fM lim (i + 1)) (by simp only [aw_]; rw [if_pos ⟨m_dI0 hm hi2, i32_nlt.mp c_35⟩]) ?_
        refine lv_istore_n (lv' := [(2, .int (aw_ fM lim (i + 1))), (4, .int (dI_ fM i)), (0, .ref (ad 0)), (1, .int lim), (3, .int (nI i))]) hx hb dX0_within_44 rfl hl (by decide) rfl (fun ls hl => ?_)
        refine lv_iinc (v := nI (i + 1)) (lv' := [(3, .int (nI (i + 1))), (2, .int (aw_ fM lim (i + 1))), (4, .int (dI_ fM i)), (0, .ref (ad 0)), (1, .int lim)]) hx hb dX0_within_45 hl (k := 4) rfl (nI_1 i) (by decide) rfl (fun ls hl => ?_)
        refine lv_goto (tgt := 17) hx hb dX0_within_48 (by decide) ?_
        exact ih (i + 1) _ (by omega) ⟨by omega, lv_sub hl [3, 4, 1, 0] rfl⟩
  · skip
    have hm : cn fM 192 = 0 := (dmI_0 hI).mp c_4
    refine lv_iconst (v := 0) hx hb dX0_within_7 (by decide) ?_
    exact W.iret (v := (0 : Int32)) hx hb hr (fun t ht hW => ⟨⟨(0 : Int32), (kn, fO, fC, kp, fK, fT), rfl, ⟨by unfold an_within; rw [z_aw hm], hI⟩, dk_h ht hP⟩, hS.F ht⟩) hS.2.2 dX0_within_8
set_option maxHeartbeats 4000000 in
set_option maxRecDepth 100000 in
/-- edges() -/
theorem metX0_edges (l : Launch) (dC : Nat → ClassId) (dI : Nat → Nat → Nat) (ad : Nat → Nat) (ct : Nat → ClassId) (fM : Nat → Int32) (nM kn : Int32) (fO fC : Nat → Int32) (kp : Int32) (fK fT : Nat → Int32) (hJ : dmJ ad) (hI : dmI fM nM kn fO) : Met l yX0_edges (ws_ yX0_edges cX0_edges 3 (some .int)) ({ frames := 5, cells := 0, slots := 0, locals := 117 }) (roP (dC, dI) [.ref (ad 0)] (dmW ad ct fM nM kn fO fC kp fK fT) (dmT ct)) (muI (dC, dI) (fun (r : Int32) (u : Int32 × (Nat → Int32) × (Nat → Int32) × Int32 × (Nat → Int32) × (Nat → Int32)) => r = an_edges fM ∧ dmI fM nM u.1 u.2.1) (fun u => dmW ad ct fM nM u.1 u.2.1 u.2.2.1 u.2.2.2.1 u.2.2.2.2.1 u.2.2.2.2.2) (dmA ad)) 0 0 (dmA ad) := by
  refine Met.ofW (cc := cX0_edges) (maxL := 3) (ret := (some .int)) (by decide) rfl ?_
  intro p e s m args below meth c s₁ Bo hml hv
  obtain ⟨rfl, hP, hK⟩ := hv
  have hx := Bo.exec
  have hb := Bo.bytes
  have hr := Bo.returns
  have hts := atoms_spec (ws := ws_ yX0_edges cX0_edges 3 (some .int)) Bo.pre
  have hts : ∀ w ∈ lw_all, w.before _ s = true := fun w h => hts w (List.mem_cons_of_mem _ h)
  have hown : s.vm.findClass RX0 = some m.cls := findClass_of_methodNamed Bo.named
  have hlocks := Bo.notSynchronized
  have hl := lv_entry ([.ref (ad 0)]) (n := 3) (Nat.le_of_ble_eq_true rfl)
  rw [lg_entry_eq]
  generalize (lg_sl ([.ref (ad 0)]) ++ List.replicate (3 - (lg_sl ([.ref (ad 0)])).length) Slot.unset).toArray = ls at hl ⊢
  have hl : lv_has ls 3 [(0, .ref (ad 0))] := hl
  have hD := dm_D hJ ct fM nM kn fO fC kp fK fT
  have hS : va_S (dmA ad) s.heap s.heap [] := va_S.rf
  refine lv_aload_n hx hb dX0_edges_0 rfl (lv_at hl 0 rfl) ?_
  refine va_get (D := (dC, dI)) (ci := 0) (v := .int nM) (C := RX0) (T := TX0) (N := 8) hx hb hts in_X0 hown hK hP 0 rfl rfl 1 (by decide) (hts _ q22) (fun _ h9 => h9) rfl dX0_edges_1 ?_
  refine lv_if_ne (tgt := 9) hx hb dX0_edges_4 (by decide) (fun c_4 => ?_) (fun c_4 => ?_)
  · skip
    have hm : cn fM 192 ≠ 0 := fun q => c_4 ((dmI_0 hI).mpr q)
    refine lv_aload_n hx hb dX0_edges_9 rfl (lv_at hl 0 rfl) ?_
    refine dk_muV (rest := []) ⟨hx, hb, hml, hown, hts⟩ (metX0_workOut l dC dI ad ct fM nM kn fO fC kp fK fT hJ hI hm) (cwV 0 hts (lw_V q63 q65 qs0 q11 q66) rfl rfl rfl (by decide +kernel) ⟨Nat.le_of_ble_eq_true rfl, Nat.le_of_ble_eq_true rfl⟩) hK hP 0 rfl rfl rfl rfl hl.1 rfl (Nat.le_of_ble_eq_true rfl) ⟨Nat.le_of_ble_eq_true rfl, Nat.le_of_ble_eq_true rfl⟩ hS (fun _ h => h) dX0_edges_10 (fun u H locs hw hP _ hS => ?_)
    obtain ⟨kn1, fO1, fC1, kp1, fK1, fT1⟩ := u
    have hI1 : dmI fM nM kn1 fO1 := hw.2
    have hO := hI1.2 hw.1
    have hP : va_P (dC, dI) vwCl (dmW ad ct fM nM kn1 fO1 fC1 kp1 fK1 fT1) H := hP
    have hD := dm_D hJ ct fM nM kn1 fO1 fC1 kp1 fK1 fT1
    refine lv_iconst (v := 0) hx hb dX0_edges_13 (by decide) ?_
    refine dk_top (ae_ fM 0) (rfl) ?_
    refine lv_istore_n (lv' := [(1, .int (ae_ fM 0)), (0, .ref (ad 0))]) hx hb dX0_edges_14 rfl hl (by decide) rfl (fun ls hl => ?_)
    refine lv_iconst (v := 0) hx hb dX0_edges_15 (by decide) ?_
    refine dk_top (nI 0) (nI_0.symm) ?_
    refine lv_istore_n (lv' := [(2, .int (nI 0)), (1, .int (ae_ fM 0)), (0, .ref (ad 0))]) hx hb dX0_edges_16 rfl hl (by decide) rfl (fun ls hl => ?_)
    refine dk_loopR (Inv := fun (i : Nat) ls => (i ≤ 192) ∧ lv_has ls 3 [(0, .ref (ad 0)), (1, .int (ae_ fM i)), (2, .int (nI i))]) (μ := fun (i : Nat) => 192 - i) 17 [] 0 ⟨Nat.zero_le _, lv_sub hl [2, 1, 0] rfl⟩ ?_
    intro i ls hI ih
    obtain ⟨hi, hl⟩ := hI
    refine lv_iload_n hx hb dX0_edges_17 rfl (lv_at hl 2 rfl) ?_
    refine lv_sipush (v := 192) hx hb dX0_edges_18 (by decide) ?_
    refine dk_top (nI 192) (rfl) ?_
    refine lv_icmp_ge (tgt := 97) hx hb dX0_edges_21 (by decide) (fun c_21 => ?_) (fun c_21 => ?_)
    · skip
      have hi2 := nm_le c_21 (by omega) (by omega)
      have hi3 : i = 192 := by omega
      subst hi3
      refine lv_iload_n hx hb dX0_edges_97 rfl (lv_at hl 1 rfl) ?_
      exact W.iret (v := (ae_ fM 192)) hx hb hr (fun t ht hW => ⟨⟨ae_ fM 192, (kn1, fO1, fC1, kp1, fK1, fT1), rfl, ⟨rfl, hI1⟩, dk_h ht hP⟩, hS.F ht⟩) hS.2.2 dX0_edges_98
    · skip
      have hi2 := nm_lt c_21 (by omega) (by omega)
      refine lv_iload_n hx hb dX0_edges_24 rfl (lv_at hl 1 rfl) ?_
      refine lv_iload_n hx hb dX0_edges_25 rfl (lv_at hl 2 rfl) ?_
      refine lv_bipush (v := 15) hx hb dX0_edges_26 (by decide) ?_
      refine lv_iand hx hb dX0_edges_28 ?_
      refine dk_top (nI (i % 16)) (nm_and (by omega)) ?_
      refine lv_bipush (v := 15) hx hb dX0_edges_29 (by decide) ?_
      refine dk_top (nI 15) (rfl) ?_
      refine lv_icmp_ge (tgt := 55) hx hb dX0_edges_31 (by decide) (fun c_31 => ?_) (fun c_31 => ?_)
      · skip
        refine lv_iconst (v := 0) hx hb dX0_edges_55 (by decide) ?_
        refine dk_top (ae1 fM i) (by unfold ae1; rw [if_neg (fun q => absurd (nm_le c_31 (by omega) (by omega)) (by omega))]) ?_
        refine lv_iadd hx hb dX0_edges_56 ?_
        refine lv_istore_n (lv' := [(1, .int ((ae_ fM i) + (ae1 fM i))), (0, .ref (ad 0)), (2, .int (nI i))]) hx hb dX0_edges_57 rfl hl (by decide) rfl (fun ls hl => ?_)
        refine lv_iload_n hx hb dX0_edges_58 rfl (lv_at hl 0 rfl) ?_
        refine lv_iload_n hx hb dX0_edges_59 rfl (lv_at hl 2 rfl) ?_
        refine lv_sipush (v := 176) hx hb dX0_edges_60 (by decide) ?_
        refine dk_top (nI 176) (rfl) ?_
        refine lv_icmp_ge (tgt := 88) hx hb dX0_edges_63 (by decide) (fun c_63 => ?_) (fun c_63 => ?_)
        · skip
          refine lv_iconst (v := 0) hx hb dX0_edges_88 (by decide) ?_
          refine dk_top (ae2 fM i) (by unfold ae2; rw [if_neg (fun q => absurd (nm_le c_63 (by omega) (by omega)) (by omega))]) ?_
          refine lv_iadd hx hb dX0_edges_89 ?_
          refine dk_top (ae_ fM (i + 1)) (rfl) ?_
          refine lv_istore_n (lv' := [(1, .int (ae_ fM (i + 1))), (0, .ref (ad 0)), (2, .int (nI i))]) hx hb dX0_edges_90 rfl hl (by decide) rfl (fun ls hl => ?_)
          refine lv_iinc (v := nI (i + 1)) (lv' := [(2, .int (nI (i + 1))), (1, .int (ae_ fM (i + 1))), (0, .ref (ad 0))]) hx hb dX0_edges_91 hl (k := 2) rfl (nI_1 i) (by decide) rfl (fun ls hl => ?_)
          refine lv_goto (tgt := 17) hx hb dX0_edges_94 (by decide) ?_
          exact ih (i + 1) _ (by omega) ⟨by omega, lv_sub hl [2, 1, 0] rfl⟩
        · skip
          have hi5 := nm_lt c_63 (by omega) (by omega)
          refine lv_aload_n hx hb dX0_edges_66 rfl (lv_at hl 1 rfl) ?_
          refine va_get (D := (dC, dI)) (ci := 0) (v := .ref (ad 2)) (C := RX0) (T := TX0) (N := 8) hx hb hts in_X0 hown hK hP 0 rfl rfl 3 (by decide) (hts _ q24) (fun _ h9 => h9) rfl dX0_edges_67 ?_
          refine lv_iload_n hx hb dX0_edges_70 rfl (lv_at hl 2 rfl) ?_
          refine dk_iald hx hb hK hP 2 1 rfl rfl (by omega) (by decide) dX0_edges_71 ?_
          refine dk_top (iI (nr fM i 192)) (hO i hi2) ?_
          refine lv_aload_n hx hb dX0_edges_72 rfl (lv_at hl 1 rfl) ?_
          refine va_get (D := (dC, dI)) (ci := 0) (v := .ref (ad 2)) (C := RX0) (T := TX0) (N := 8) hx hb hts in_X0 hown hK hP 0 rfl rfl 3 (by decide) (hts _ q24) (fun _ h9 => h9) rfl dX0_edges_73 ?_
          refine lv_iload_n hx hb dX0_edges_76 rfl (lv_at hl 2 rfl) ?_
          refine lv_bipush (v := 16) hx hb dX0_edges_77 (by decide) ?_
          refine lv_iadd hx hb dX0_edges_79 ?_
          refine dk_top (nI (i + 16)) (nI_add i 16) ?_
          refine dk_iald hx hb hK hP 2 1 rfl rfl (by omega) (by decide) dX0_edges_80 ?_
          refine dk_top (iI (nr fM (i + 16) 192)) (hO (i + 16) (by omega)) ?_
          refine lv_icmp_eq (tgt := 88) hx hb dX0_edges_81 (by decide) (fun c_81 => ?_) (fun c_81 => ?_)
          · skip
            refine lv_iconst (v := 0) hx hb dX0_edges_88 (by decide) ?_
            refine dk_top (ae2 fM i) (by unfold ae2; rw [if_neg (fun q => q.2 c_81)]) ?_
            refine lv_iadd hx hb dX0_edges_89 ?_
            refine dk_top (ae_ fM (i + 1)) (rfl) ?_
            refine lv_istore_n (lv' := [(1, .int (ae_ fM (i + 1))), (0, .ref (ad 0)), (2, .int (nI i))]) hx hb dX0_edges_90 rfl hl (by decide) rfl (fun ls hl => ?_)
            refine lv_iinc (v := nI (i + 1)) (lv' := [(2, .int (nI (i + 1))), (1, .int (ae_ fM (i + 1))), (0, .ref (ad 0))]) hx hb dX0_edges_91 hl (k := 2) rfl (nI_1 i) (by decide) rfl (fun ls hl => ?_)
            refine lv_goto (tgt := 17) hx hb dX0_edges_94 (by decide) ?_
            exact ih (i + 1) _ (by omega) ⟨by omega, lv_sub hl [2, 1, 0] rfl⟩
          · skip
            refine lv_iconst (v := 1) hx hb dX0_edges_84 (by decide) ?_
            refine lv_goto (tgt := 89) hx hb dX0_edges_85 (by decide) ?_
            refine dk_top (ae2 fM i) (by unfold ae2; rw [if_pos ⟨hi5, c_81⟩]) ?_
            refine lv_iadd hx hb dX0_edges_89 ?_
            refine dk_top (ae_ fM (i + 1)) (rfl) ?_
            refine lv_istore_n (lv' := [(1, .int (ae_ fM (i + 1))), (0, .ref (ad 0)), (2, .int (nI i))]) hx hb dX0_edges_90 rfl hl (by decide) rfl (fun ls hl => ?_)
            refine lv_iinc (v := nI (i + 1)) (lv' := [(2, .int (nI (i + 1))), (1, .int (ae_ fM (i + 1))), (0, .ref (ad 0))]) hx hb dX0_edges_91 hl (k := 2) rfl (nI_1 i) (by decide) rfl (fun ls hl => ?_)
            refine lv_goto (tgt := 17) hx hb dX0_edges_94 (by decide) ?_
            exact ih (i + 1) _ (by omega) ⟨by omega, lv_sub hl [2, 1, 0] rfl⟩
      · skip
        have hi4 := nm_lt c_31 (by omega) (by omega)
        refine lv_aload_n hx hb dX0_edges_34 rfl (lv_at hl 0 rfl) ?_
        refine va_get (D := (dC, dI)) (ci := 0) (v := .ref (ad 2)) (C := RX0) (T := TX0) (N := 8) hx hb hts in_X0 hown hK hP 0 rfl rfl 3 (by decide) (hts _ q24) (fun _ h9 => h9) rfl dX0_edges_35 ?_
        refine lv_iload_n hx hb dX0_edges_38 rfl (lv_at hl 2 rfl) ?_
        refine dk_iald hx hb hK hP 2 1 rfl rfl (by omega) (by decide) dX0_edges_39 ?_
        refine dk_top (iI (nr fM i 192)) (hO i hi2) ?_
        refine lv_aload_n hx hb dX0_edges_40 rfl (lv_at hl 0 rfl) ?_
        refine va_get (D := (dC, dI)) (ci := 0) (v := .ref (ad 2)) (C := RX0) (T := TX0) (N := 8) hx hb hts in_X0 hown hK hP 0 rfl rfl 3 (by decide) (hts _ q24) (fun _ h9 => h9) rfl dX0_edges_41 ?_
        refine lv_iload_n hx hb dX0_edges_44 rfl (lv_at hl 2 rfl) ?_
        refine lv_iconst (v := 1) hx hb dX0_edges_45 (by decide) ?_
        refine lv_iadd hx hb dX0_edges_46 ?_
        refine dk_top (nI (i + 1)) (nI_1 i) ?_
        refine dk_iald hx hb hK hP 2 1 rfl rfl (by omega) (by decide) dX0_edges_47 ?_
        refine dk_top (iI (nr fM (i + 1) 192)) (hO (i + 1) (by omega)) ?_
        refine lv_icmp_eq (tgt := 55) hx hb dX0_edges_48 (by decide) (fun c_48 => ?_) (fun c_48 => ?_)
        · skip
          refine lv_iconst (v := 0) hx hb dX0_edges_55 (by decide) ?_
          refine dk_top (ae1 fM i) (by unfold ae1; rw [if_neg (fun q => q.2 c_48)]) ?_
          refine lv_iadd hx hb dX0_edges_56 ?_
          refine lv_istore_n (lv' := [(1, .int ((ae_ fM i) + (ae1 fM i))), (0, .ref (ad 0)), (2, .int (nI i))]) hx hb dX0_edges_57 rfl hl (by decide) rfl (fun ls hl => ?_)
          refine lv_iload_n hx hb dX0_edges_58 rfl (lv_at hl 0 rfl) ?_
          refine lv_iload_n hx hb dX0_edges_59 rfl (lv_at hl 2 rfl) ?_
          refine lv_sipush (v := 176) hx hb dX0_edges_60 (by decide) ?_
          refine dk_top (nI 176) (rfl) ?_
          refine lv_icmp_ge (tgt := 88) hx hb dX0_edges_63 (by decide) (fun c_63 => ?_) (fun c_63 => ?_)
          · skip
            refine lv_iconst (v := 0) hx hb dX0_edges_88 (by decide) ?_
            refine dk_top (ae2 fM i) (by unfold ae2; rw [if_neg (fun q => absurd (nm_le c_63 (by omega) (by omega)) (by omega))]) ?_
            refine lv_iadd hx hb dX0_edges_89 ?_
            refine dk_top (ae_ fM (i + 1)) (rfl) ?_
            refine lv_istore_n (lv' := [(1, .int (ae_ fM (i + 1))), (0, .ref (ad 0)), (2, .int (nI i))]) hx hb dX0_edges_90 rfl hl (by decide) rfl (fun ls hl => ?_)
            refine lv_iinc (v := nI (i + 1)) (lv' := [(2, .int (nI (i + 1))), (1, .int (ae_ fM (i + 1))), (0, .ref (ad 0))]) hx hb dX0_edges_91 hl (k := 2) rfl (nI_1 i) (by decide) rfl (fun ls hl => ?_)
            refine lv_goto (tgt := 17) hx hb dX0_edges_94 (by decide) ?_
            exact ih (i + 1) _ (by omega) ⟨by omega, lv_sub hl [2, 1, 0] rfl⟩
          · skip
            have hi5 := nm_lt c_63 (by omega) (by omega)
            refine lv_aload_n hx hb dX0_edges_66 rfl (lv_at hl 1 rfl) ?_
            refine va_get (D := (dC, dI)) (ci := 0) (v := .ref (ad 2)) (C := RX0) (T := TX0) (N := 8) hx hb hts in_X0 hown hK hP 0 rfl rfl 3 (by decide) (hts _ q24) (fun _ h9 => h9) rfl dX0_edges_67 ?_
            refine lv_iload_n hx hb dX0_edges_70 rfl (lv_at hl 2 rfl) ?_
            refine dk_iald hx hb hK hP 2 1 rfl rfl (by omega) (by decide) dX0_edges_71 ?_
            refine dk_top (iI (nr fM i 192)) (hO i hi2) ?_
            refine lv_aload_n hx hb dX0_edges_72 rfl (lv_at hl 1 rfl) ?_
            refine va_get (D := (dC, dI)) (ci := 0) (v := .ref (ad 2)) (C := RX0) (T := TX0) (N := 8) hx hb hts in_X0 hown hK hP 0 rfl rfl 3 (by decide) (hts _ q24) (fun _ h9 => h9) rfl dX0_edges_73 ?_
            refine lv_iload_n hx hb dX0_edges_76 rfl (lv_at hl 2 rfl) ?_
            refine lv_bipush (v := 16) hx hb dX0_edges_77 (by decide) ?_
            refine lv_iadd hx hb dX0_edges_79 ?_
            refine dk_top (nI (i + 16)) (nI_add i 16) ?_
            refine dk_iald hx hb hK hP 2 1 rfl rfl (by omega) (by decide) dX0_edges_80 ?_
            refine dk_top (iI (nr fM (i + 16) 192)) (hO (i + 16) (by omega)) ?_
            refine lv_icmp_eq (tgt := 88) hx hb dX0_edges_81 (by decide) (fun c_81 => ?_) (fun c_81 => ?_)
            · skip
              refine lv_iconst (v := 0) hx hb dX0_edges_88 (by decide) ?_
              refine dk_top (ae2 fM i) (by unfold ae2; rw [if_neg (fun q => q.2 c_81)]) ?_
              refine lv_iadd hx hb dX0_edges_89 ?_
              refine dk_top (ae_ fM (i + 1)) (rfl) ?_
              refine lv_istore_n (lv' := [(1, .int (ae_ fM (i + 1))), (0, .ref (ad 0)), (2, .int (nI i))]) hx hb dX0_edges_90 rfl hl (by decide) rfl (fun ls hl => ?_)
              refine lv_iinc (v := nI (i + 1)) (lv' := [(2, .int (nI (i + 1))), (1, .int (ae_ fM (i + 1))), (0, .ref (ad 0))]) hx hb dX0_edges_91 hl (k := 2) rfl (nI_1 i) (by decide) rfl (fun ls hl => ?_)
              refine lv_goto (tgt := 17) hx hb dX0_edges_94 (by decide) ?_
              exact ih (i + 1) _ (by omega) ⟨by omega, lv_sub hl [2, 1, 0] rfl⟩
            · skip
              refine lv_iconst (v := 1) hx hb dX0_edges_84 (by decide) ?_
              refine lv_goto (tgt := 89) hx hb dX0_edges_85 (by decide) ?_
              refine dk_top (ae2 fM i) (by unfold ae2; rw [if_pos ⟨hi5, c_81⟩]) ?_
              refine lv_iadd hx hb dX0_edges_89 ?_
              refine dk_top (ae_ fM (i + 1)) (rfl) ?_
              refine lv_istore_n (lv' := [(1, .int (ae_ fM (i + 1))), (0, .ref (ad 0)), (2, .int (nI i))]) hx hb dX0_edges_90 rfl hl (by decide) rfl (fun ls hl => ?_)
              refine lv_iinc (v := nI (i + 1)) (lv' := [(2, .int (nI (i + 1))), (1, .int (ae_ fM (i + 1))), (0, .ref (ad 0))]) hx hb dX0_edges_91 hl (k := 2) rfl (nI_1 i) (by decide) rfl (fun ls hl => ?_)
              refine lv_goto (tgt := 17) hx hb dX0_edges_94 (by decide) ?_
              exact ih (i + 1) _ (by omega) ⟨by omega, lv_sub hl [2, 1, 0] rfl⟩
        · skip
          refine lv_iconst (v := 1) hx hb dX0_edges_51 (by decide) ?_
          refine lv_goto (tgt := 56) hx hb dX0_edges_52 (by decide) ?_
          refine dk_top (ae1 fM i) (by unfold ae1; rw [if_pos ⟨hi4, c_48⟩]) ?_
          refine lv_iadd hx hb dX0_edges_56 ?_
          refine lv_istore_n (lv' := [(1, .int ((ae_ fM i) + (ae1 fM i))), (0, .ref (ad 0)), (2, .int (nI i))]) hx hb dX0_edges_57 rfl hl (by decide) rfl (fun ls hl => ?_)
          refine lv_iload_n hx hb dX0_edges_58 rfl (lv_at hl 0 rfl) ?_
          refine lv_iload_n hx hb dX0_edges_59 rfl (lv_at hl 2 rfl) ?_
          refine lv_sipush (v := 176) hx hb dX0_edges_60 (by decide) ?_
          refine dk_top (nI 176) (rfl) ?_
          refine lv_icmp_ge (tgt := 88) hx hb dX0_edges_63 (by decide) (fun c_63 => ?_) (fun c_63 => ?_)
          · skip
            refine lv_iconst (v := 0) hx hb dX0_edges_88 (by decide) ?_
            refine dk_top (ae2 fM i) (by unfold ae2; rw [if_neg (fun q => absurd (nm_le c_63 (by omega) (by omega)) (by omega))]) ?_
            refine lv_iadd hx hb dX0_edges_89 ?_
            refine dk_top (ae_ fM (i + 1)) (rfl) ?_
            refine lv_istore_n (lv' := [(1, .int (ae_ fM (i + 1))), (0, .ref (ad 0)), (2, .int (nI i))]) hx hb dX0_edges_90 rfl hl (by decide) rfl (fun ls hl => ?_)
            refine lv_iinc (v := nI (i + 1)) (lv' := [(2, .int (nI (i + 1))), (1, .int (ae_ fM (i + 1))), (0, .ref (ad 0))]) hx hb dX0_edges_91 hl (k := 2) rfl (nI_1 i) (by decide) rfl (fun ls hl => ?_)
            refine lv_goto (tgt := 17) hx hb dX0_edges_94 (by decide) ?_
            exact ih (i + 1) _ (by omega) ⟨by omega, lv_sub hl [2, 1, 0] rfl⟩
          · skip
            have hi5 := nm_lt c_63 (by omega) (by omega)
            refine lv_aload_n hx hb dX0_edges_66 rfl (lv_at hl 1 rfl) ?_
            refine va_get (D := (dC, dI)) (ci := 0) (v := .ref (ad 2)) (C := RX0) (T := TX0) (N := 8) hx hb hts in_X0 hown hK hP 0 rfl rfl 3 (by decide) (hts _ q24) (fun _ h9 => h9) rfl dX0_edges_67 ?_
            refine lv_iload_n hx hb dX0_edges_70 rfl (lv_at hl 2 rfl) ?_
            refine dk_iald hx hb hK hP 2 1 rfl rfl (by omega) (by decide) dX0_edges_71 ?_
            refine dk_top (iI (nr fM i 192)) (hO i hi2) ?_
            refine lv_aload_n hx hb dX0_edges_72 rfl (lv_at hl 1 rfl) ?_
            refine va_get (D := (dC, dI)) (ci := 0) (v := .ref (ad 2)) (C := RX0) (T := TX0) (N := 8) hx hb hts in_X0 hown hK hP 0 rfl rfl 3 (by decide) (hts _ q24) (fun _ h9 => h9) rfl dX0_edges_73 ?_
            refine lv_iload_n hx hb dX0_edges_76 rfl (lv_at hl 2 rfl) ?_
            refine lv_bipush (v := 16) hx hb dX0_edges_77 (by decide) ?_
            refine lv_iadd hx hb dX0_edges_79 ?_
            refine dk_top (nI (i + 16)) (nI_add i 16) ?_
            refine dk_iald hx hb hK hP 2 1 rfl rfl (by omega) (by decide) dX0_edges_80 ?_
            refine dk_top (iI (nr fM (i + 16) 192)) (hO (i + 16) (by omega)) ?_
            refine lv_icmp_eq (tgt := 88) hx hb dX0_edges_81 (by decide) (fun c_81 => ?_) (fun c_81 => ?_)
            · skip
              refine lv_iconst (v := 0) hx hb dX0_edges_88 (by decide) ?_
              refine dk_top (ae2 fM i) (by unfold ae2; rw [if_neg (fun q => q.2 c_81)]) ?_
              refine lv_iadd hx hb dX0_edges_89 ?_
              refine dk_top (ae_ fM (i + 1)) (rfl) ?_
              refine lv_istore_n (lv' := [(1, .int (ae_ fM (i + 1))), (0, .ref (ad 0)), (2, .int (nI i))]) hx hb dX0_edges_90 rfl hl (by decide) rfl (fun ls hl => ?_)
              refine lv_iinc (v := nI (i + 1)) (lv' := [(2, .int (nI (i + 1))), (1, .int (ae_ fM (i + 1))), (0, .ref (ad 0))]) hx hb dX0_edges_91 hl (k := 2) rfl (nI_1 i) (by decide) rfl (fun ls hl => ?_)
              refine lv_goto (tgt := 17) hx hb dX0_edges_94 (by decide) ?_
              exact ih (i + 1) _ (by omega) ⟨by omega, lv_sub hl [2, 1, 0] rfl⟩
            · skip
              refine lv_iconst (v := 1) hx hb dX0_edges_84 (by decide) ?_
              refine lv_goto (tgt := 89) hx hb dX0_edges_85 (by decide) ?_
              refine dk_top (ae2 fM i) (by unfold ae2; rw [if_pos ⟨hi5, c_81⟩]) ?_
              refine lv_iadd hx hb dX0_edges_89 ?_
              refine dk_top (ae_ fM (i + 1)) (rfl) ?_
              refine lv_istore_n (lv' := [(1, .int (ae_ fM (i + 1))), (0, .ref (ad 0)), (2, .int (nI i))]) hx hb dX0_edges_90 rfl hl (by decide) rfl (fun ls hl => ?_)
              refine lv_iinc (v := nI (i + 1)) (lv' := [(2, .int (nI (i + 1))), (1, .int (ae_ fM (i + 1))), (0, .ref (ad 0))]) hx hb dX0_edges_91 hl (k := 2) rfl (nI_1 i) (by decide) rfl (fun ls hl => ?_)
              refine lv_goto (tgt := 17) hx hb dX0_edges_94 (by decide) ?_
              exact ih (i + 1) _ (by omega) ⟨by omega, lv_sub hl [2, 1, 0] rfl⟩
  · skip
    have hm : cn fM 192 = 0 := (dmI_0 hI).mp c_4
    refine lv_iconst (v := 0) hx hb dX0_edges_7 (by decide) ?_
    exact W.iret (v := (0 : Int32)) hx hb hr (fun t ht hW => ⟨⟨(0 : Int32), (kn, fO, fC, kp, fK, fT), rfl, ⟨by unfold an_edges; rw [z_ae hm], hI⟩, dk_h ht hP⟩, hS.F ht⟩) hS.2.2 dX0_edges_8
set_option maxHeartbeats 4000000 in
set_option maxRecDepth 100000 in
/-- total() -/
theorem metX0_total (l : Launch) (dC : Nat → ClassId) (dI : Nat → Nat → Nat) (ad : Nat → Nat) (ct : Nat → ClassId) (fM : Nat → Int32) (nM kn : Int32) (fO fC : Nat → Int32) (kp : Int32) (fK fT : Nat → Int32) (hJ : dmJ ad) (hI : dmI fM nM kn fO) : Met l yX0_total (ws_ yX0_total cX0_total 3 (some .int)) ({ frames := 5, cells := 0, slots := 0, locals := 117 }) (roP (dC, dI) [.ref (ad 0)] (dmW ad ct fM nM kn fO fC kp fK fT) (dmT ct)) (muI (dC, dI) (fun (r : Int32) (u : Int32 × (Nat → Int32) × (Nat → Int32) × Int32 × (Nat → Int32) × (Nat → Int32)) => r = an_total fM ∧ dmI fM nM u.1 u.2.1) (fun u => dmW ad ct fM nM u.1 u.2.1 u.2.2.1 u.2.2.2.1 u.2.2.2.2.1 u.2.2.2.2.2) (dmA ad)) 0 0 (dmA ad) := by
  refine Met.ofW (cc := cX0_total) (maxL := 3) (ret := (some .int)) (by decide) rfl ?_
  intro p e s m args below meth c s₁ Bo hml hv
  obtain ⟨rfl, hP, hK⟩ := hv
  have hx := Bo.exec
  have hb := Bo.bytes
  have hr := Bo.returns
  have hts := atoms_spec (ws := ws_ yX0_total cX0_total 3 (some .int)) Bo.pre
  have hts : ∀ w ∈ lw_all, w.before _ s = true := fun w h => hts w (List.mem_cons_of_mem _ h)
  have hown : s.vm.findClass RX0 = some m.cls := findClass_of_methodNamed Bo.named
  have hlocks := Bo.notSynchronized
  have hl := lv_entry ([.ref (ad 0)]) (n := 3) (Nat.le_of_ble_eq_true rfl)
  rw [lg_entry_eq]
  generalize (lg_sl ([.ref (ad 0)]) ++ List.replicate (3 - (lg_sl ([.ref (ad 0)])).length) Slot.unset).toArray = ls at hl ⊢
  have hl : lv_has ls 3 [(0, .ref (ad 0))] := hl
  have hD := dm_D hJ ct fM nM kn fO fC kp fK fT
  have hS : va_S (dmA ad) s.heap s.heap [] := va_S.rf
  refine lv_aload_n hx hb dX0_total_0 rfl (lv_at hl 0 rfl) ?_
  refine va_get (D := (dC, dI)) (ci := 0) (v := .int nM) (C := RX0) (T := TX0) (N := 8) hx hb hts in_X0 hown hK hP 0 rfl rfl 1 (by decide) (hts _ q22) (fun _ h9 => h9) rfl dX0_total_1 ?_
  refine lv_if_ne (tgt := 9) hx hb dX0_total_4 (by decide) (fun c_4 => ?_) (fun c_4 => ?_)
  · skip
    have hm : cn fM 192 ≠ 0 := fun q => c_4 ((dmI_0 hI).mpr q)
    refine lv_aload_n hx hb dX0_total_9 rfl (lv_at hl 0 rfl) ?_
    refine dk_muV (rest := []) ⟨hx, hb, hml, hown, hts⟩ (metX0_workOut l dC dI ad ct fM nM kn fO fC kp fK fT hJ hI hm) (cwV 0 hts (lw_V q63 q65 qs0 q11 q66) rfl rfl rfl (by decide +kernel) ⟨Nat.le_of_ble_eq_true rfl, Nat.le_of_ble_eq_true rfl⟩) hK hP 0 rfl rfl rfl rfl hl.1 rfl (Nat.le_of_ble_eq_true rfl) ⟨Nat.le_of_ble_eq_true rfl, Nat.le_of_ble_eq_true rfl⟩ hS (fun _ h => h) dX0_total_10 (fun u H locs hw hP _ hS => ?_)
    obtain ⟨kn1, fO1, fC1, kp1, fK1, fT1⟩ := u
    have hI1 : dmI fM nM kn1 fO1 := hw.2
    have hO := hI1.2 hw.1
    have hP : va_P (dC, dI) vwCl (dmW ad ct fM nM kn1 fO1 fC1 kp1 fK1 fT1) H := hP
    have hD := dm_D hJ ct fM nM kn1 fO1 fC1 kp1 fK1 fT1
    refine lv_iconst (v := 0) hx hb dX0_total_13 (by decide) ?_
    refine dk_top (at_ fM 0) (rfl) ?_
    refine lv_istore_n (lv' := [(1, .int (at_ fM 0)), (0, .ref (ad 0))]) hx hb dX0_total_14 rfl hl (by decide) rfl (fun ls hl => ?_)
    refine lv_iconst (v := 0) hx hb dX0_total_15 (by decide) ?_
    refine dk_top (nI 0) (nI_0.symm) ?_
    refine lv_istore_n (lv' := [(2, .int (nI 0)), (1, .int (at_ fM 0)), (0, .ref (ad 0))]) hx hb dX0_total_16 rfl hl (by decide) rfl (fun ls hl => ?_)
    refine dk_loopR (Inv := fun (i : Nat) ls => (i ≤ 192) ∧ lv_has ls 3 [(0, .ref (ad 0)), (1, .int (at_ fM i)), (2, .int (nI i))]) (μ := fun (i : Nat) => 192 - i) 17 [] 0 ⟨Nat.zero_le _, lv_sub hl [2, 1, 0] rfl⟩ ?_
    intro i ls hI ih
    obtain ⟨hi, hl⟩ := hI
    refine lv_iload_n hx hb dX0_total_17 rfl (lv_at hl 2 rfl) ?_
    refine lv_sipush (v := 192) hx hb dX0_total_18 (by decide) ?_
    refine dk_top (nI 192) (rfl) ?_
    refine lv_icmp_ge (tgt := 38) hx hb dX0_total_21 (by decide) (fun c_21 => ?_) (fun c_21 => ?_)
    · skip
      have hi2 := nm_le c_21 (by omega) (by omega)
      have hi3 : i = 192 := by omega
      subst hi3
      refine lv_iload_n hx hb dX0_total_38 rfl (lv_at hl 1 rfl) ?_
      exact W.iret (v := (at_ fM 192)) hx hb hr (fun t ht hW => ⟨⟨at_ fM 192, (kn1, fO1, fC1, kp1, fK1, fT1), rfl, ⟨by unfold an_total; rw [if_neg hm], hI1⟩, dk_h ht hP⟩, hS.F ht⟩) hS.2.2 dX0_total_39
    · skip
      have hi2 := nm_lt c_21 (by omega) (by omega)
      refine lv_iload_n hx hb dX0_total_24 rfl (lv_at hl 1 rfl) ?_
      refine lv_aload_n hx hb dX0_total_25 rfl (lv_at hl 0 rfl) ?_
      refine lv_iload_n hx hb dX0_total_26 rfl (lv_at hl 2 rfl) ?_
      refine dk_roV (rest := [.int (at_ fM i)]) ⟨hx, hb, hml, hown, hts⟩ (metX0_distanceOf l dC dI ad ct fM nM kn1 fO1 fC1 kp1 fK1 fT1 (i) (nr fM (i) 192).toNat (hi2) (by have := m_nr hm (i); omega) (by rw [hO (i) (hi2), nm_nr (m_nr hm (i)).1])) (cwV 1 hts (lw_V q91 q93 qs7 q11 q94) rfl rfl rfl (by decide +kernel) ⟨Nat.le_of_ble_eq_true rfl, Nat.le_of_ble_eq_true rfl⟩) hK hP 0 rfl rfl rfl rfl hl.1 rfl (Nat.le_of_ble_eq_true rfl) ⟨Nat.le_of_ble_eq_true rfl, Nat.le_of_ble_eq_true rfl⟩ dX0_total_27 ?_
      refine dk_top (dI_ fM i) ((m_dI hm hi2).1.symm) ?_
      refine lv_iadd hx hb dX0_total_30 ?_
      refine dk_top (at_ fM (i + 1)) (rfl) ?_
      refine lv_istore_n (lv' := [(1, .int (at_ fM (i + 1))), (0, .ref (ad 0)), (2, .int (nI i))]) hx hb dX0_total_31 rfl hl (by decide) rfl (fun ls hl => ?_)
      refine lv_iinc (v := nI (i + 1)) (lv' := [(2, .int (nI (i + 1))), (1, .int (at_ fM (i + 1))), (0, .ref (ad 0))]) hx hb dX0_total_32 hl (k := 2) rfl (nI_1 i) (by decide) rfl (fun ls hl => ?_)
      refine lv_goto (tgt := 17) hx hb dX0_total_35 (by decide) ?_
      exact ih (i + 1) _ (by omega) ⟨by omega, lv_sub hl [2, 1, 0] rfl⟩
  · skip
    have hm : cn fM 192 = 0 := (dmI_0 hI).mp c_4
    refine lv_iconst (v := -1) hx hb dX0_total_7 (by decide) ?_
    exact W.iret (v := (-1 : Int32)) hx hb hr (fun t ht hW => ⟨⟨(-1 : Int32), (kn, fO, fC, kp, fK, fT), rfl, ⟨by unfold an_total; rw [if_pos hm], hI⟩, dk_h ht hP⟩, hS.F ht⟩) hS.2.2 dX0_total_8
end
section
/-! the constructors -/
def mk6 (a0 a1 a2 a3 a4 a5 : Nat) : Nat → Nat := fun k => match k with | 0 => a0 | 1 => a1 | 2 => a2 | 3 => a3 | 4 => a4 | _ => a5
def mkc (c1 c2 c3 c4 c5 : ClassId) : Nat → ClassId := fun k => match k with | 1 => c1 | 2 => c2 | 3 => c3 | 4 => c4 | _ => c5
/-- a new DistanceMap -/
abbrev dm0 (ad : Nat → Nat) (ct : Nat → ClassId) : va_W := dmW ad ct (fun _ => 0) 0 0 (fun _ => 0) (fun _ => 0) 0 (fun _ => 0) (fun _ => 0)
abbrev BX0_init (dC : Nat → ClassId) (dI : Nat → Nat → Nat) (A : Nat → Prop) (_ : Nat) (u : (Nat → Nat) × (Nat → ClassId)) (t : State) : Prop := va_P (dC, dI) vwCl (dm0 u.1 u.2) t.heap ∧ va_K (dC, dI) vwCl (dmT u.2) t ∧ va_D A (dm0 u.1 u.2)
abbrev BX1_init (dC : Nat → ClassId) (dI : Nat → Nat → Nat) (A : Nat → Prop) (h : Nat) (u : Nat × ClassId) (t : State) : Prop := va_P (dC, dI) vwCl (mdW h u.1 u.2 (fun _ => 0)) t.heap ∧ va_K (dC, dI) vwCl (mdT u.2) t ∧ va_D A (mdW h u.1 u.2 (fun _ => 0))
set_option maxHeartbeats 4000000 in
set_option maxRecDepth 100000 in
/-- the constructor: its arrays, all 0 -/
theorem metX0_init (l : Launch) (dC : Nat → ClassId) (dI : Nat → Nat → Nat) (h sz : Nat) : Met l yX0_init (ws_ yX0_init cX0_init 1 none) ({ frames := 1, cells := 5, slots := 608, locals := 12 }) (va_Pc [.ref h] (fun U => U.heap.size = sz ∧ va_P (dC, dI) vwCl [(h, .inr (0, [.null, .int 0, .int 0, .null, .null, .int 0, .null, .null]))] U.heap ∧ va_K (dC, dI) vwCl [] U ∧ va_D (fun _ => True) [(h, .inr (0, [.null, .int 0, .int 0, .null, .null, .int 0, .null, .null]))])) (va_Qv (fun u : (Nat → Nat) × (Nat → ClassId) => u.1 0 = h) (BX0_init dC dI (va_A [(h, .inr (0, [.null, .int 0, .int 0, .null, .null, .int 0, .null, .null]))] sz) h) (va_A [(h, .inr (0, [.null, .int 0, .int 0, .null, .null, .int 0, .null, .null]))] sz)) 5 608 (va_A [(h, .inr (0, [.null, .int 0, .int 0, .null, .null, .int 0, .null, .null]))] sz) := by
  refine Met.ofW (cc := cX0_init) (maxL := 1) (ret := none) (by decide) rfl ?_
  intro p e s m args below meth c s₁ Bo hml hv
  obtain ⟨rfl, hsz, hP, hK, hD0⟩ := hv
  have hx := Bo.exec
  have hb := Bo.bytes
  have hr := Bo.returns
  have hts := atoms_spec (ws := ws_ yX0_init cX0_init 1 none) Bo.pre
  have hts : ∀ w ∈ lw_all, w.before _ s = true := fun w h => hts w (List.mem_cons_of_mem _ h)
  have hown : s.vm.findClass RX0 = some m.cls := findClass_of_methodNamed Bo.named
  have hlocks := Bo.notSynchronized
  have hin : meth.name = "<init>" := (name_of_methodNamed Bo.named Bo.method).1
  subst hsz
  have hD := hD0.self (sz := s.heap.size)
  generalize hAe : va_A [(h, .inr (0, [.null, .int 0, .int 0, .null, .null, .int 0, .null, .null]))] s.heap.size = A at hD ⊢
  have hA : ∀ q : Nat, s.heap.size ≤ q → A q := fun q h => by rw [← hAe]; exact Or.inr h
  have hS : va_S A s.heap s.heap [] := va_S.rf
  have hP : va_P (dC, dI) vwCl [(h, .inr (0, [.null, .int 0, .int 0, .null, .null, .int 0, .null, .null]))] s.heap := hP
  have hl := lv_entry ([.ref h]) (n := 1) (Nat.le_of_ble_eq_true rfl)
  rw [lg_entry_eq]
  generalize (lg_sl ([.ref h]) ++ List.replicate (1 - (lg_sl ([.ref h])).length) Slot.unset).toArray = ls at hl ⊢
  have hl : lv_has ls 1 [(0, .ref h)] := hl
  refine lv_aload_n hx hb dX0_init_0 rfl (lv_at hl 0 rfl) ?_
  refine W.objInit hx hb hown (hts _ q18) (hts _ q19) (hts _ q20) rfl (by rw [hml]; exact hl.1) rfl dX0_init_1 (Nat.le_of_ble_eq_true rfl) (Nat.le_of_ble_eq_true rfl) ?_
  refine W.eq (g2 := F0 m 4 ls []) rfl ?_
  refine lv_aload_n hx hb dX0_init_4 rfl (lv_at hl 0 rfl) ?_
  refine lv_sipush (v := 192) hx hb dX0_init_5 (by decide) ?_
  refine va_newa (atype := .boolean) (ty := .boolean) (n := 192) (a0 := (192, .inl (fun _ => 0))) (N' := 192) hx hb (hts _ q46) rfl hK hP hD hS hA (fun _ => rfl) (by decide +kernel) (by decide +kernel) (by decide +kernel) (Nat.le_of_ble_eq_true rfl) (Nat.le_of_ble_eq_true rfl) dX0_init_8 (fun q1 c1 H hK hP hD hS => ?_)
  have hP : va_P (dC, dI) vwCl [(h, .inr (0, [.null, .int 0, .int 0, .null, .null, .int 0, .null, .null])), (q1, .inl (c1, 192, .inl (fun _ => 0)))] H := hP
  have hD : va_D A [(h, .inr (0, [.null, .int 0, .int 0, .null, .null, .int 0, .null, .null])), (q1, .inl (c1, 192, .inl (fun _ => 0)))] := hD
  have hK : va_K (dC, dI) vwCl [(c1, .boolean)] s := hK
  refine va_putF (D := (dC, dI)) (ci := 0) (v := .ref q1) (ty := .array .boolean) (C := RX0) (T := TX0) (N := 8) hx hb hts in_X0 tyX0 tyX0_ok nmX0 hown hK hP hD hS 0 rfl rfl 0 (by decide) (hts _ q21) (fun _ h9 => h9) rfl hin rfl (by decide +kernel) rfl rfl (Nat.le_of_ble_eq_true rfl) dX0_init_10 (fun H locs hP hD hS => ?_)
  have hP : va_P (dC, dI) vwCl [(h, .inr (0, [.ref q1, .int 0, .int 0, .null, .null, .int 0, .null, .null])), (q1, .inl (c1, 192, .inl (fun _ => 0)))] H := hP
  have hD : va_D A [(h, .inr (0, [.ref q1, .int 0, .int 0, .null, .null, .int 0, .null, .null])), (q1, .inl (c1, 192, .inl (fun _ => 0)))] := hD
  refine lv_aload_n hx hb dX0_init_13 rfl (lv_at hl 0 rfl) ?_
  refine lv_sipush (v := 192) hx hb dX0_init_14 (by decide) ?_
  refine va_newa (atype := .int) (ty := .int) (n := 192) (a0 := (192, .inl (fun _ => 0))) (N' := 192) hx hb (hts _ q47) rfl hK hP hD hS hA (fun _ => rfl) (by decide +kernel) (by decide +kernel) (by decide +kernel) (Nat.le_of_ble_eq_true rfl) (Nat.le_of_ble_eq_true rfl) dX0_init_17 (fun q2 c2 H hK hP hD hS => ?_)
  have hP : va_P (dC, dI) vwCl [(h, .inr (0, [.ref q1, .int 0, .int 0, .null, .null, .int 0, .null, .null])), (q1, .inl (c1, 192, .inl (fun _ => 0))), (q2, .inl (c2, 192, .inl (fun _ => 0)))] H := hP
  have hD : va_D A [(h, .inr (0, [.ref q1, .int 0, .int 0, .null, .null, .int 0, .null, .null])), (q1, .inl (c1, 192, .inl (fun _ => 0))), (q2, .inl (c2, 192, .inl (fun _ => 0)))] := hD
  have hK : va_K (dC, dI) vwCl [(c1, .boolean), (c2, .int)] s := hK
  refine va_putF (D := (dC, dI)) (ci := 0) (v := .ref q2) (ty := .array .int) (C := RX0) (T := TX0) (N := 8) hx hb hts in_X0 tyX0 tyX0_ok nmX0 hown hK hP hD hS 0 rfl rfl 3 (by decide) (hts _ q24) (fun _ h9 => h9) rfl hin rfl (by decide +kernel) rfl rfl (Nat.le_of_ble_eq_true rfl) dX0_init_19 (fun H locs hP hD hS => ?_)
  have hP : va_P (dC, dI) vwCl [(h, .inr (0, [.ref q1, .int 0, .int 0, .ref q2, .null, .int 0, .null, .null])), (q1, .inl (c1, 192, .inl (fun _ => 0))), (q2, .inl (c2, 192, .inl (fun _ => 0)))] H := hP
  have hD : va_D A [(h, .inr (0, [.ref q1, .int 0, .int 0, .ref q2, .null, .int 0, .null, .null])), (q1, .inl (c1, 192, .inl (fun _ => 0))), (q2, .inl (c2, 192, .inl (fun _ => 0)))] := hD
  refine lv_aload_n hx hb dX0_init_22 rfl (lv_at hl 0 rfl) ?_
  refine lv_sipush (v := 192) hx hb dX0_init_23 (by decide) ?_
  refine va_newa (atype := .int) (ty := .int) (n := 192) (a0 := (192, .inl (fun _ => 0))) (N' := 192) hx hb (hts _ q47) rfl hK hP hD hS hA (fun _ => rfl) (by decide +kernel) (by decide +kernel) (by decide +kernel) (Nat.le_of_ble_eq_true rfl) (Nat.le_of_ble_eq_true rfl) dX0_init_26 (fun q3 c3 H hK hP hD hS => ?_)
  have hP : va_P (dC, dI) vwCl [(h, .inr (0, [.ref q1, .int 0, .int 0, .ref q2, .null, .int 0, .null, .null])), (q1, .inl (c1, 192, .inl (fun _ => 0))), (q2, .inl (c2, 192, .inl (fun _ => 0))), (q3, .inl (c3, 192, .inl (fun _ => 0)))] H := hP
  have hD : va_D A [(h, .inr (0, [.ref q1, .int 0, .int 0, .ref q2, .null, .int 0, .null, .null])), (q1, .inl (c1, 192, .inl (fun _ => 0))), (q2, .inl (c2, 192, .inl (fun _ => 0))), (q3, .inl (c3, 192, .inl (fun _ => 0)))] := hD
  have hK : va_K (dC, dI) vwCl [(c1, .boolean), (c2, .int), (c3, .int)] s := hK
  refine va_putF (D := (dC, dI)) (ci := 0) (v := .ref q3) (ty := .array .int) (C := RX0) (T := TX0) (N := 8) hx hb hts in_X0 tyX0 tyX0_ok nmX0 hown hK hP hD hS 0 rfl rfl 4 (by decide) (hts _ q25) (fun _ h9 => h9) rfl hin rfl (by decide +kernel) rfl rfl (Nat.le_of_ble_eq_true rfl) dX0_init_28 (fun H locs hP hD hS => ?_)
  have hP : va_P (dC, dI) vwCl [(h, .inr (0, [.ref q1, .int 0, .int 0, .ref q2, .ref q3, .int 0, .null, .null])), (q1, .inl (c1, 192, .inl (fun _ => 0))), (q2, .inl (c2, 192, .inl (fun _ => 0))), (q3, .inl (c3, 192, .inl (fun _ => 0)))] H := hP
  have hD : va_D A [(h, .inr (0, [.ref q1, .int 0, .int 0, .ref q2, .ref q3, .int 0, .null, .null])), (q1, .inl (c1, 192, .inl (fun _ => 0))), (q2, .inl (c2, 192, .inl (fun _ => 0))), (q3, .inl (c3, 192, .inl (fun _ => 0)))] := hD
  refine lv_aload_n hx hb dX0_init_31 rfl (lv_at hl 0 rfl) ?_
  refine lv_bipush (v := 16) hx hb dX0_init_32 (by decide) ?_
  refine va_newa (atype := .int) (ty := .int) (n := 16) (a0 := (16, .inl (fun _ => 0))) (N' := 16) hx hb (hts _ q47) rfl hK hP hD hS hA (fun _ => rfl) (by decide +kernel) (by decide +kernel) (by decide +kernel) (Nat.le_of_ble_eq_true rfl) (Nat.le_of_ble_eq_true rfl) dX0_init_34 (fun q4 c4 H hK hP hD hS => ?_)
  have hP : va_P (dC, dI) vwCl [(h, .inr (0, [.ref q1, .int 0, .int 0, .ref q2, .ref q3, .int 0, .null, .null])), (q1, .inl (c1, 192, .inl (fun _ => 0))), (q2, .inl (c2, 192, .inl (fun _ => 0))), (q3, .inl (c3, 192, .inl (fun _ => 0))), (q4, .inl (c4, 16, .inl (fun _ => 0)))] H := hP
  have hD : va_D A [(h, .inr (0, [.ref q1, .int 0, .int 0, .ref q2, .ref q3, .int 0, .null, .null])), (q1, .inl (c1, 192, .inl (fun _ => 0))), (q2, .inl (c2, 192, .inl (fun _ => 0))), (q3, .inl (c3, 192, .inl (fun _ => 0))), (q4, .inl (c4, 16, .inl (fun _ => 0)))] := hD
  have hK : va_K (dC, dI) vwCl [(c1, .boolean), (c2, .int), (c3, .int), (c4, .int)] s := hK
  refine va_putF (D := (dC, dI)) (ci := 0) (v := .ref q4) (ty := .array .int) (C := RX0) (T := TX0) (N := 8) hx hb hts in_X0 tyX0 tyX0_ok nmX0 hown hK hP hD hS 0 rfl rfl 6 (by decide) (hts _ q27) (fun _ h9 => h9) rfl hin rfl (by decide +kernel) rfl rfl (Nat.le_of_ble_eq_true rfl) dX0_init_36 (fun H locs hP hD hS => ?_)
  have hP : va_P (dC, dI) vwCl [(h, .inr (0, [.ref q1, .int 0, .int 0, .ref q2, .ref q3, .int 0, .ref q4, .null])), (q1, .inl (c1, 192, .inl (fun _ => 0))), (q2, .inl (c2, 192, .inl (fun _ => 0))), (q3, .inl (c3, 192, .inl (fun _ => 0))), (q4, .inl (c4, 16, .inl (fun _ => 0)))] H := hP
  have hD : va_D A [(h, .inr (0, [.ref q1, .int 0, .int 0, .ref q2, .ref q3, .int 0, .ref q4, .null])), (q1, .inl (c1, 192, .inl (fun _ => 0))), (q2, .inl (c2, 192, .inl (fun _ => 0))), (q3, .inl (c3, 192, .inl (fun _ => 0))), (q4, .inl (c4, 16, .inl (fun _ => 0)))] := hD
  refine lv_aload_n hx hb dX0_init_39 rfl (lv_at hl 0 rfl) ?_
  refine lv_bipush (v := 16) hx hb dX0_init_40 (by decide) ?_
  refine va_newa (atype := .int) (ty := .int) (n := 16) (a0 := (16, .inl (fun _ => 0))) (N' := 16) hx hb (hts _ q47) rfl hK hP hD hS hA (fun _ => rfl) (by decide +kernel) (by decide +kernel) (by decide +kernel) (Nat.le_of_ble_eq_true rfl) (Nat.le_of_ble_eq_true rfl) dX0_init_42 (fun q5 c5 H hK hP hD hS => ?_)
  have hP : va_P (dC, dI) vwCl [(h, .inr (0, [.ref q1, .int 0, .int 0, .ref q2, .ref q3, .int 0, .ref q4, .null])), (q1, .inl (c1, 192, .inl (fun _ => 0))), (q2, .inl (c2, 192, .inl (fun _ => 0))), (q3, .inl (c3, 192, .inl (fun _ => 0))), (q4, .inl (c4, 16, .inl (fun _ => 0))), (q5, .inl (c5, 16, .inl (fun _ => 0)))] H := hP
  have hD : va_D A [(h, .inr (0, [.ref q1, .int 0, .int 0, .ref q2, .ref q3, .int 0, .ref q4, .null])), (q1, .inl (c1, 192, .inl (fun _ => 0))), (q2, .inl (c2, 192, .inl (fun _ => 0))), (q3, .inl (c3, 192, .inl (fun _ => 0))), (q4, .inl (c4, 16, .inl (fun _ => 0))), (q5, .inl (c5, 16, .inl (fun _ => 0)))] := hD
  have hK : va_K (dC, dI) vwCl [(c1, .boolean), (c2, .int), (c3, .int), (c4, .int), (c5, .int)] s := hK
  refine va_putF (D := (dC, dI)) (ci := 0) (v := .ref q5) (ty := .array .int) (C := RX0) (T := TX0) (N := 8) hx hb hts in_X0 tyX0 tyX0_ok nmX0 hown hK hP hD hS 0 rfl rfl 7 (by decide) (hts _ q28) (fun _ h9 => h9) rfl hin rfl (by decide +kernel) rfl rfl (Nat.le_of_ble_eq_true rfl) dX0_init_44 (fun H locs hP hD hS => ?_)
  have hP : va_P (dC, dI) vwCl [(h, .inr (0, [.ref q1, .int 0, .int 0, .ref q2, .ref q3, .int 0, .ref q4, .ref q5])), (q1, .inl (c1, 192, .inl (fun _ => 0))), (q2, .inl (c2, 192, .inl (fun _ => 0))), (q3, .inl (c3, 192, .inl (fun _ => 0))), (q4, .inl (c4, 16, .inl (fun _ => 0))), (q5, .inl (c5, 16, .inl (fun _ => 0)))] H := hP
  have hD : va_D A [(h, .inr (0, [.ref q1, .int 0, .int 0, .ref q2, .ref q3, .int 0, .ref q4, .ref q5])), (q1, .inl (c1, 192, .inl (fun _ => 0))), (q2, .inl (c2, 192, .inl (fun _ => 0))), (q3, .inl (c3, 192, .inl (fun _ => 0))), (q4, .inl (c4, 16, .inl (fun _ => 0))), (q5, .inl (c5, 16, .inl (fun _ => 0)))] := hD
  refine W.widen (k := 5) (n := 608) (by omega) (by omega) ?_
  exact W.vret hx hb hr (fun t ht hW => ⟨⟨(mk6 h q1 q2 q3 q4 q5, mkc c1 c2 c3 c4 c5), rfl, rfl, dk_h ht hP, va_K.moved hW.alike hK, hD⟩, hS.F ht⟩) hS.2.2 dX0_init_47
set_option maxHeartbeats 4000000 in
set_option maxRecDepth 100000 in
/-- the constructor: its arrays, all 0 -/
theorem metX1_init (l : Launch) (dC : Nat → ClassId) (dI : Nat → Nat → Nat) (h sz : Nat) : Met l yX1_init (ws_ yX1_init cX1_init 1 none) ({ frames := 1, cells := 1, slots := 192, locals := 12 }) (va_Pc [.ref h] (fun U => U.heap.size = sz ∧ va_P (dC, dI) vwCl [(h, .inr (1, [.null]))] U.heap ∧ va_K (dC, dI) vwCl [] U ∧ va_D (fun _ => True) [(h, .inr (1, [.null]))])) (va_Qv (fun u : Nat × ClassId => True) (BX1_init dC dI (va_A [(h, .inr (1, [.null]))] sz) h) (va_A [(h, .inr (1, [.null]))] sz)) 1 192 (va_A [(h, .inr (1, [.null]))] sz) := by
  refine Met.ofW (cc := cX1_init) (maxL := 1) (ret := none) (by decide) rfl ?_
  intro p e s m args below meth c s₁ Bo hml hv
  obtain ⟨rfl, hsz, hP, hK, hD0⟩ := hv
  have hx := Bo.exec
  have hb := Bo.bytes
  have hr := Bo.returns
  have hts := atoms_spec (ws := ws_ yX1_init cX1_init 1 none) Bo.pre
  have hts : ∀ w ∈ lw_all, w.before _ s = true := fun w h => hts w (List.mem_cons_of_mem _ h)
  have hown : s.vm.findClass RX1 = some m.cls := findClass_of_methodNamed Bo.named
  have hlocks := Bo.notSynchronized
  have hin : meth.name = "<init>" := (name_of_methodNamed Bo.named Bo.method).1
  subst hsz
  have hD := hD0.self (sz := s.heap.size)
  generalize hAe : va_A [(h, .inr (1, [.null]))] s.heap.size = A at hD ⊢
  have hA : ∀ q : Nat, s.heap.size ≤ q → A q := fun q h => by rw [← hAe]; exact Or.inr h
  have hS : va_S A s.heap s.heap [] := va_S.rf
  have hP : va_P (dC, dI) vwCl [(h, .inr (1, [.null]))] s.heap := hP
  have hl := lv_entry ([.ref h]) (n := 1) (Nat.le_of_ble_eq_true rfl)
  rw [lg_entry_eq]
  generalize (lg_sl ([.ref h]) ++ List.replicate (1 - (lg_sl ([.ref h])).length) Slot.unset).toArray = ls at hl ⊢
  have hl : lv_has ls 1 [(0, .ref h)] := hl
  refine lv_aload_n hx hb dX1_init_0 rfl (lv_at hl 0 rfl) ?_
  refine W.objInit hx hb hown (hts _ q124) (hts _ q19) (hts _ q20) rfl (by rw [hml]; exact hl.1) rfl dX1_init_1 (Nat.le_of_ble_eq_true rfl) (Nat.le_of_ble_eq_true rfl) ?_
  refine W.eq (g2 := F0 m 4 ls []) rfl ?_
  refine lv_aload_n hx hb dX1_init_4 rfl (lv_at hl 0 rfl) ?_
  refine lv_sipush (v := 192) hx hb dX1_init_5 (by decide) ?_
  refine va_newa (atype := .boolean) (ty := .boolean) (n := 192) (a0 := (192, .inl (fun _ => 0))) (N' := 192) hx hb (hts _ q46) rfl hK hP hD hS hA (fun _ => rfl) (by decide +kernel) (by decide +kernel) (by decide +kernel) (Nat.le_of_ble_eq_true rfl) (Nat.le_of_ble_eq_true rfl) dX1_init_8 (fun q1 c1 H hK hP hD hS => ?_)
  have hP : va_P (dC, dI) vwCl [(h, .inr (1, [.null])), (q1, .inl (c1, 192, .inl (fun _ => 0)))] H := hP
  have hD : va_D A [(h, .inr (1, [.null])), (q1, .inl (c1, 192, .inl (fun _ => 0)))] := hD
  have hK : va_K (dC, dI) vwCl [(c1, .boolean)] s := hK
  refine va_putF (D := (dC, dI)) (ci := 1) (v := .ref q1) (ty := .array .boolean) (C := RX1) (T := TX1) (N := 1) hx hb hts in_X1 tyX1 tyX1_ok nmX1 hown hK hP hD hS 0 rfl rfl 0 (by decide) (hts _ q125) (fun _ h9 => h9) rfl hin rfl (by decide +kernel) rfl rfl (Nat.le_of_ble_eq_true rfl) dX1_init_10 (fun H locs hP hD hS => ?_)
  have hP : va_P (dC, dI) vwCl [(h, .inr (1, [.ref q1])), (q1, .inl (c1, 192, .inl (fun _ => 0)))] H := hP
  have hD : va_D A [(h, .inr (1, [.ref q1])), (q1, .inl (c1, 192, .inl (fun _ => 0)))] := hD
  refine W.widen (k := 1) (n := 192) (by omega) (by omega) ?_
  exact W.vret hx hb hr (fun t ht hW => ⟨⟨(q1, c1), rfl, trivial, dk_h ht hP, va_K.moved hW.alike hK, hD⟩, hS.F ht⟩) hS.2.2 dX1_init_13
end
section
/-! THE CLAIM OUT OF ONE WALK OF THE LAW'S BODY. Your part is whole_start (and what it stands on); all else here is the same for every law, but numbers. -/
def R_law : String := "DistanceMapLaw"
def lw_P (b : Addr) (xs : List Int32) (args : Array Value) (s : State) : Prop := args = #[.ref b] ∧ s.IntsAt b xs ∧ xs.length ≤ 192 ∧ (Jvm.Cond.and given_1 narrow_1).before args s = true
def lw_Q (_ : Array Value) (s : State) (o : Outcome) (t : State) : Prop := o = .returned (some (.int 1)) ∧ Framed s o t [] 600000 7290000
def lw_Z (below : List Frame) (a : Array Value) (s : State) : State → Prop := fun t => ∃ o, t.status = .running ∧ Ended t below o ∧ lw_Q a s o t
/-- the law's own end, with 1 on the stack, nothing written that was there before, its room as the claim has it -/
theorem lw_ret {p : Program} {l : Launch} {e : Env} {s : State} {m : MethodId} {below : List Frame} {meth : Method} {c : Code} {b : Nat} (hx : p.tables.exec = Jvm.exec) (hb : c.code = code) (hr : meth.sig.returnType = ret) (hlocks : meth.locks = false) {pc : Nat} {H : Heap} {ls : Array Slot} (hdg : decode code pc = .ok (.ireturn, 1)) : W p l e room_1 s m #[Value.ref b] below meth c H [] 600000 7290000 (lw_Z below #[Value.ref b] s) (F0 m pc ls [.int 1]) := by
  intro T hT X
  obtain ⟨fs, hret, hrun, hended, hW, hframe⟩ := X.leave (v := some (.int 1)) (hlocks := hlocks) (fun h => by rw [hr] at h; cases h)
  have hmeth' : T.vm.method? m = some meth := X.method'
  refine ⟨T.setFrames fs, ?_, .returned (some (.int 1)), hrun, hended, rfl, ⟨_, rfl⟩, hW, hframe⟩
  jvm_step X.here [X.here.top, hx, hb, hdg, hmeth', hr, ret, narrow_b1]
  (try refine ⟨rfl, ?_⟩); (try refine ⟨rfl, ?_⟩)
  first | (intro acts; rw [hret _ acts rfl rfl rfl]) | rw [hret _ _ rfl rfl rfl]
  exact Steps.refl _
/-- what holds at the law's entry: the machine, the code, the tables' words (any of lw_tbl by 'hts w (by decide +kernel)'), the script of L ints xs at the cell b, what the Statement gives of the start (any of its parts by flat_of_before) -/
def lw_At (p : Program) (s : State) (m : MethodId) (meth : Method) (c : Code) (b L : Nat) (xs : Nat → Int32) : Prop :=
  p.tables.exec = Jvm.exec ∧ c.code = code ∧ meth.sig.returnType = ret ∧ c.maxLocals = 4 ∧ s.vm.findClass R_law = some m.cls ∧ (∀ w ∈ lw_tbl, w.before #[Value.ref b] s = true) ∧ va_X b L xs s s.heap ∧ b < s.heap.size ∧ meth.locks = false ∧ (Jvm.Cond.and given_1 narrow_1).before #[Value.ref b] s = true
/-! the law: its script, its two objects -/
section LS
variable {p : Program} {l : Launch} {e : Env} {R : Room} {s : State} {m : MethodId} {args : Array Value} {below : List Frame} {meth : Method} {c : Code} {H : Heap} {locs : List Loc} {cells slots : Nat} {Q : State → Prop} {cc : ByteArray} {pc : Nat} {ls : Array Slot} {rest : List Value} {A : Nat → Prop} {H0 : Heap}
theorem dk_sld (hexec : p.tables.exec = Jvm.exec) (hb : c.code = cc) {b L : Nat} {xs : Nat → Int32} (hX : va_X b L xs s H0) (hbl : b < H0.size) (hbA : ¬ A b) (hS : va_S A H0 H locs) {j : Nat} (hj : j < L) (hL : L < 2 ^ 31) (hdg : decode cc pc = .ok (.iaload, 1))
    (kk : W p l e R s m args below meth c H locs cells slots Q (F0 m (pc + 1) ls (.int (xs j) :: rest))) : W p l e R s m args below meth c H locs cells slots Q (F0 m pc ls (.int (nI j) :: .ref b :: rest)) :=
  va_sld hexec hb hX hbl hbA hS (vp_in_nI hj hL) hdg (by rw [nI_clamp (show j < 2 ^ 31 by omega)]; exact kk)
end LS
theorem lw_l3 (L : Nat) : Int32.ofNat L - (3 : Int32) = iI ((L : Int) - 3) := by
  rw [show Int32.ofNat L = nI L from rfl, iI_n, show (3 : Int32) = iI 3 by decide +kernel, iI_sub]
theorem md_keep {D : va_G} {h a : Nat} {ct : ClassId} {f : Nat → Int32} {H H1 : Heap} {A1 : Nat → Prop} (hP : va_P D vwCl (mdW h a ct f) H) (hk : ∀ q : Nat, q < H.size → ¬ A1 q → H1[q]? = H[q]?) (hs : ¬ A1 h ∧ ¬ A1 a) : va_P D vwCl (mdW h a ct f) H1 := by
  refine hP.kept (fun k q hq => hk q.1 ((hP k q hq).lt) ?_)
  have hl : k < 2 := (List.getElem?_eq_some_iff.mp hq).1
  match k, hl, hq with
  | 0, _, hq => cases hq; exact hs.1
  | 1, _, hq => cases hq; exact hs.2
theorem dm_keep {D : va_G} {ad : Nat → Nat} {ct : Nat → ClassId} {fM : Nat → Int32} {nM kn : Int32} {fO fC : Nat → Int32} {kp : Int32} {fK fT : Nat → Int32} {H H1 : Heap} {A1 : Nat → Prop} (hP : va_P D vwCl (dmW ad ct fM nM kn fO fC kp fK fT) H) (hk : ∀ q : Nat, q < H.size → ¬ A1 q → H1[q]? = H[q]?) (hs : ∀ k, k < 6 → ¬ A1 (ad k)) : va_P D vwCl (dmW ad ct fM nM kn fO fC kp fK fT) H1 := by
  refine hP.kept (fun k q hq => hk q.1 ((hP k q hq).lt) ?_)
  have hl : k < 6 := (List.getElem?_eq_some_iff.mp hq).1
  match k, hl, hq with
  | 0, _, hq => cases hq; exact hs 0 (by omega)
  | 1, _, hq => cases hq; exact hs 1 (by omega)
  | 2, _, hq => cases hq; exact hs 2 (by omega)
  | 3, _, hq => cases hq; exact hs 3 (by omega)
  | 4, _, hq => cases hq; exact hs 4 (by omega)
  | 5, _, hq => cases hq; exact hs 5 (by omega)
/-- two objects side by side: what their addresses are -/
theorem lw_apart {A : Nat → Prop} {ad : Nat → Nat} {ct : Nat → ClassId} {h a : Nat} {ct9 : ClassId} {f : Nat → Int32} (hD : va_D A (dm0 ad ct ++ mdW h a ct9 f)) : dmJ ad ∧ h ≠ a ∧ (∀ q, dmA ad q → A q) ∧ (∀ q, mdA h a q → A q) ∧ (¬ dmA ad h ∧ ¬ dmA ad a) ∧ ∀ k, k < 6 → ¬ mdA h a (ad k) := by
  have g : ∀ k, k < 6 → ∃ e : va_E, (dm0 ad ct ++ mdW h a ct9 f)[k]? = some (ad k, e) := by
    intro k hk
    match k, hk with
    | 0, _ => exact ⟨_, rfl⟩
    | 1, _ => exact ⟨_, rfl⟩
    | 2, _ => exact ⟨_, rfl⟩
    | 3, _ => exact ⟨_, rfl⟩
    | 4, _ => exact ⟨_, rfl⟩
    | 5, _ => exact ⟨_, rfl⟩
  have g6 : ∃ e : va_E, (dm0 ad ct ++ mdW h a ct9 f)[6]? = some (h, e) := ⟨_, rfl⟩
  have g7 : ∃ e : va_E, (dm0 ad ct ++ mdW h a ct9 f)[7]? = some (a, e) := ⟨_, rfl⟩
  obtain ⟨e6, h6⟩ := g6
  obtain ⟨e7, h7⟩ := g7
  have n6 : ∀ k, k < 6 → ad k ≠ h := by
    intro k hk q
    obtain ⟨e, he⟩ := g k hk
    have := hD.1 k 6 _ _ he h6 q
    omega
  have n7 : ∀ k, k < 6 → ad k ≠ a := by
    intro k hk q
    obtain ⟨e, he⟩ := g k hk
    have := hD.1 k 7 _ _ he h7 q
    omega
  refine ⟨fun i j hi hj q => ?_, fun q => ?_, fun q hq => ?_, fun q hq => ?_, ⟨fun q => ?_, fun q => ?_⟩, fun k hk q => ?_⟩
  · obtain ⟨e1, h1⟩ := g i hi
    obtain ⟨e2, h2⟩ := g j hj
    exact hD.1 i j _ _ h1 h2 q
  · have := hD.1 6 7 _ _ h6 h7 q
    omega
  · obtain ⟨k, hk, rfl⟩ := hq
    obtain ⟨e1, h1⟩ := g k hk
    exact hD.2 k _ h1
  · rcases hq with rfl | rfl
    · exact hD.2 6 _ h6
    · exact hD.2 7 _ h7
  · obtain ⟨k, hk, hq⟩ := q
    exact n6 k hk hq.symm
  · obtain ⟨k, hk, hq⟩ := q
    exact n7 k hk hq.symm
  · rcases q with q | q
    · exact n6 k hk q
    · exact n7 k hk q
end
section
set_option maxHeartbeats 4000000 in
set_option maxRecDepth 100000 in
/-- the law's loop at its head: i ints read; both objects have the same marks -/
theorem law_loop {p : Program} {e : Env} {s : State} {m : MethodId} {below : List Frame} {meth : Method} {c : Code} (l : Launch) {b L : Nat} {xs : Nat → Int32} {dC : Nat → ClassId} {dI : Nat → Nat → Nat} {ad : Nat → Nat} {ct : Nat → ClassId} {h a : Nat} {ct9 : ClassId} (hL : L ≤ 192) (C0 : lw_At p s m meth c b L xs) (hK1 : va_K (dC, dI) vwCl (dmT ct) s) (hK2 : va_K (dC, dI) vwCl (mdT ct9) s) (hJ : dmJ ad) (hJ2 : h ≠ a) (hA1 : ∀ q, dmA ad q → s.heap.size ≤ q) (hA2 : ∀ q, mdA h a q → s.heap.size ≤ q) (hs1 : ¬ dmA ad h ∧ ¬ dmA ad a) (hs2 : ∀ k, k < 6 → ¬ mdA h a (ad k)) {H : Heap} {locs : List Loc} {ls : Array Slot}
    (hP1 : va_P (dC, dI) vwCl (dm0 ad ct) H) (hP2 : va_P (dC, dI) vwCl (mdW h a ct9 (fun _ => 0)) H) (hS : va_S (fun q : Nat => s.heap.size ≤ q) s.heap H locs) (hl : lv_has ls 4 [(0, .ref b), (1, .ref (ad 0)), (2, .ref h), (3, .int (nI 0))]) : W p l e room_1 s m #[Value.ref b] below meth c H locs 8 809 (lw_Z below #[Value.ref b] s) (F0 m 18 ls []) := by
  obtain ⟨hx, hb, hr, hml, hown, hts0, hX, hbl, hlocks, hgv⟩ := id C0
  have hts : ∀ w ∈ lw_all, w.before #[Value.ref b] s = true := fun w h => hts0 w (lw_all_tbl h)
  have hbA : ¬ (fun q : Nat => s.heap.size ≤ q) b := Nat.not_le.mpr hbl
  refine dk_loop (Inv := fun (a9 : Nat × (Nat → Int32) × Int32 × Int32 × (Nat → Int32) × (Nat → Int32) × Int32 × (Nat → Int32) × (Nat → Int32)) H locs ls => match a9 with | (i, fM, nM, kn, fO, fC, kp, fK, fT) => (i ≤ L ∧ dmI fM nM kn fO) ∧ va_P (dC, dI) vwCl (dmW ad ct fM nM kn fO fC kp fK fT) H ∧ va_P (dC, dI) vwCl (mdW h a ct9 fM) H ∧ va_S (fun q : Nat => s.heap.size ≤ q) s.heap H locs ∧ lv_has ls 4 [(0, .ref b), (1, .ref (ad 0)), (2, .ref h), (3, .int (nI i))]) (μ := fun (a9 : Nat × (Nat → Int32) × Int32 × Int32 × (Nat → Int32) × (Nat → Int32) × Int32 × (Nat → Int32) × (Nat → Int32)) => match a9 with | (i, fM, nM, kn, fO, fC, kp, fK, fT) => L - i) 18 [] (0, (fun _ => 0), 0, 0, (fun _ => 0), (fun _ => 0), 0, (fun _ => 0), (fun _ => 0)) ⟨⟨Nat.zero_le _, dmI_init⟩, hP1, hP2, hS, hl⟩ ?_
  clear hP1 hP2 hS hl
  intro a9 H locs ls hI9 ih
  obtain ⟨i, fM, nM, kn, fO, fC, kp, fK, fT⟩ := a9
  obtain ⟨⟨hi, hI⟩, hP1, hP2, hS, hl⟩ := hI9
  have hP1 : va_P (dC, dI) vwCl (dmW ad ct fM nM kn fO fC kp fK fT) H := hP1
  have hP2 : va_P (dC, dI) vwCl (mdW h a ct9 fM) H := hP2
  have hl : lv_has ls 4 [(0, .ref b), (1, .ref (ad 0)), (2, .ref h), (3, .int (nI i))] := hl
  refine lv_iload_n hx hb dL_law_18 rfl (lv_at hl 3 rfl) ?_
  refine lv_aload_n hx hb dL_law_19 rfl (lv_at hl 0 rfl) ?_
  refine va_slen hx hb hX hbl hbA hS dL_law_20 ?_
  refine lv_iconst (v := 3) hx hb dL_law_21 (by decide) ?_
  refine lv_isub hx hb dL_law_22 ?_
  refine dk_top (iI ((L : Int) - 3)) (lw_l3 L) ?_
  refine lv_icmp_gt (tgt := 317) hx hb dL_law_23 (by decide) (fun c_23 => ?_) (fun c_23 => ?_)
  · refine lv_iconst (v := 1) hx hb dL_law_317 (by decide) ?_
    refine va_forget (fun q hq => hS.2.2 q hq) ?_
    refine W.widen (k := 600000) (n := 7290000) (Nat.le_of_ble_eq_true rfl) (Nat.le_of_ble_eq_true rfl) ?_
    exact lw_ret hx hb hr hlocks dL_law_318
  · rw [iI_n, iI_lt (by omega) (by omega) (by omega) (by omega)] at c_23
    refine lv_aload_n hx hb dL_law_26 rfl (lv_at hl 0 rfl) ?_
    refine lv_iload_n hx hb dL_law_27 rfl (lv_at hl 3 rfl) ?_
    refine dk_sld hx hb hX hbl hbA hS (j := i) (by omega) (by omega) dL_law_28 ?_
    refine lv_bipush (v := 15) hx hb dL_law_29 (by decide) ?_
    refine lv_iand hx hb dL_law_31 ?_
    obtain ⟨k9, hk9, ek9⟩ := pk_andE (xs i) (m := 15) 4 (by decide)
    refine dk_top (nI k9) ek9 ?_
    by_cases hbig : 9 ≤ k9
    · skip
      refine lv_tableOut (tgt := 311) hx hb dL_law_32 (Or.inr (by rw [nI_toInt (by omega)]; omega)) (by decide) ?_
      refine lv_iinc (v := nI (i + 3)) (lv' := [(3, .int (nI (i + 3))), (0, .ref b), (1, .ref (ad 0)), (2, .ref h)]) hx hb dL_law_311 hl (k := 3) rfl (nI_add i 3) (by decide) rfl (fun ls hl => ?_)
      refine lv_goto (tgt := 18) hx hb dL_law_314 (by decide) ?_
      exact ih (i + 3, fM, nM, kn, fO, fC, kp, fK, fT) H locs ls (by dsimp only; omega) ⟨⟨by omega, hI⟩, hP1, hP2, hS, lv_sub hl [1, 2, 3, 0] rfl⟩
    · skip
      obtain h9 | h9 | h9 | h9 | h9 | h9 | h9 | h9 | h9 : k9 = 0 ∨ k9 = 1 ∨ k9 = 2 ∨ k9 = 3 ∨ k9 = 4 ∨ k9 = 5 ∨ k9 = 6 ∨ k9 = 7 ∨ k9 = 8 := by omega
      · subst h9
        refine lv_tableIn (off := 52) (tgt := 84) hx hb dL_law_32 (by decide +kernel) (by decide +kernel) (by decide +kernel) (by decide) ?_
        refine lv_aload_n hx hb dL_law_84 rfl (lv_at hl 1 rfl) ?_
        refine lv_aload_n hx hb dL_law_85 rfl (lv_at hl 0 rfl) ?_
        refine lv_iload_n hx hb dL_law_86 rfl (lv_at hl 3 rfl) ?_
        refine lv_iconst (v := 1) hx hb dL_law_87 (by decide) ?_
        refine lv_iadd hx hb dL_law_88 ?_
        refine dk_top (nI (i + 1)) (nI_add i 1) ?_
        refine dk_sld hx hb hX hbl hbA hS (j := i + 1) (by omega) (by omega) dL_law_89 ?_
        refine lv_aload_n hx hb dL_law_90 rfl (lv_at hl 0 rfl) ?_
        refine lv_iload_n hx hb dL_law_91 rfl (lv_at hl 3 rfl) ?_
        refine lv_iconst (v := 2) hx hb dL_law_92 (by decide) ?_
        refine lv_iadd hx hb dL_law_93 ?_
        refine dk_top (nI (i + 2)) (nI_add i 2) ?_
        refine dk_sld hx hb hX hbl hbA hS (j := i + 2) (by omega) (by omega) dL_law_94 ?_
        refine dk_muI (rest := []) ⟨hx, hb, hml, hown, hts⟩ (metX0_mark l dC dI ad ct fM nM kn fO fC kp fK fT hJ hI (xs (i + 1)) (xs (i + 2))) (cwV 2 hts (lw_V q48 q49 q50 q11 q51) rfl rfl rfl (by decide +kernel) ⟨Nat.le_of_ble_eq_true rfl, Nat.le_of_ble_eq_true rfl⟩) hK1 hP1 0 rfl rfl rfl rfl hl.1 rfl (Nat.le_of_ble_eq_true rfl) ⟨Nat.le_of_ble_eq_true rfl, Nat.le_of_ble_eq_true rfl⟩ hS hA1 dL_law_95 (fun r1 u H locs hw hP1 hk hS => ?_)
        have hP2 := md_keep hP2 hk hs1
        obtain ⟨fM1, nM1, kn1⟩ := u
        obtain ⟨hr1, hf1, hI1⟩ := hw
        have hP1 : va_P (dC, dI) vwCl (dmW ad ct fM1 nM1 kn1 fO fC kp fK fT) H := hP1
        refine lv_aload_n hx hb dL_law_98 rfl (lv_at hl 2 rfl) ?_
        refine lv_aload_n hx hb dL_law_99 rfl (lv_at hl 0 rfl) ?_
        refine lv_iload_n hx hb dL_law_100 rfl (lv_at hl 3 rfl) ?_
        refine lv_iconst (v := 1) hx hb dL_law_101 (by decide) ?_
        refine lv_iadd hx hb dL_law_102 ?_
        refine dk_top (nI (i + 1)) (nI_add i 1) ?_
        refine dk_sld hx hb hX hbl hbA hS (j := i + 1) (by omega) (by omega) dL_law_103 ?_
        refine lv_aload_n hx hb dL_law_104 rfl (lv_at hl 0 rfl) ?_
        refine lv_iload_n hx hb dL_law_105 rfl (lv_at hl 3 rfl) ?_
        refine lv_iconst (v := 2) hx hb dL_law_106 (by decide) ?_
        refine lv_iadd hx hb dL_law_107 ?_
        refine dk_top (nI (i + 2)) (nI_add i 2) ?_
        refine dk_sld hx hb hX hbl hbA hS (j := i + 2) (by omega) (by omega) dL_law_108 ?_
        refine dk_muI (rest := [.int r1]) ⟨hx, hb, hml, hown, hts⟩ (metX1_mark l dC dI h a ct9 fM hJ2 (xs (i + 1)) (xs (i + 2))) (cwV 2 hts (lw_V q129 q130 q131 q12 q132) rfl rfl rfl (by decide +kernel) ⟨Nat.le_of_ble_eq_true rfl, Nat.le_of_ble_eq_true rfl⟩) hK2 hP2 1 rfl rfl rfl rfl hl.1 rfl (Nat.le_of_ble_eq_true rfl) ⟨Nat.le_of_ble_eq_true rfl, Nat.le_of_ble_eq_true rfl⟩ hS hA2 dL_law_109 (fun r2 u H locs hw hP2 hk hS => ?_)
        obtain ⟨hr2, hf2⟩ := hw
        have hf3 : u = fM1 := hf2.trans hf1.symm
        subst hf3
        have hP1 := dm_keep hP1 hk hs2
        refine lv_icmp_eq (tgt := 311) hx hb dL_law_112 (by decide) (fun c_9 => ?_) (fun c_9 => ?_)
        · skip
          refine lv_iinc (v := nI (i + 3)) (lv' := [(3, .int (nI (i + 3))), (0, .ref b), (1, .ref (ad 0)), (2, .ref h)]) hx hb dL_law_311 hl (k := 3) rfl (nI_add i 3) (by decide) rfl (fun ls hl => ?_)
          refine lv_goto (tgt := 18) hx hb dL_law_314 (by decide) ?_
          exact ih (i + 3, u, nM1, kn1, fO, fC, kp, fK, fT) H locs ls (by dsimp only; omega) ⟨⟨by omega, hI1⟩, hP1, hP2, hS, lv_sub hl [1, 2, 3, 0] rfl⟩
        · exact absurd (hr1.trans hr2.symm) c_9
      · subst h9
        refine lv_tableIn (off := 85) (tgt := 117) hx hb dL_law_32 (by decide +kernel) (by decide +kernel) (by decide +kernel) (by decide) ?_
        refine lv_aload_n hx hb dL_law_117 rfl (lv_at hl 1 rfl) ?_
        refine lv_aload_n hx hb dL_law_118 rfl (lv_at hl 0 rfl) ?_
        refine lv_iload_n hx hb dL_law_119 rfl (lv_at hl 3 rfl) ?_
        refine lv_iconst (v := 1) hx hb dL_law_120 (by decide) ?_
        refine lv_iadd hx hb dL_law_121 ?_
        refine dk_top (nI (i + 1)) (nI_add i 1) ?_
        refine dk_sld hx hb hX hbl hbA hS (j := i + 1) (by omega) (by omega) dL_law_122 ?_
        refine lv_aload_n hx hb dL_law_123 rfl (lv_at hl 0 rfl) ?_
        refine lv_iload_n hx hb dL_law_124 rfl (lv_at hl 3 rfl) ?_
        refine lv_iconst (v := 2) hx hb dL_law_125 (by decide) ?_
        refine lv_iadd hx hb dL_law_126 ?_
        refine dk_top (nI (i + 2)) (nI_add i 2) ?_
        refine dk_sld hx hb hX hbl hbA hS (j := i + 2) (by omega) (by omega) dL_law_127 ?_
        refine dk_muI (rest := []) ⟨hx, hb, hml, hown, hts⟩ (metX0_clear l dC dI ad ct fM nM kn fO fC kp fK fT hJ hI (xs (i + 1)) (xs (i + 2))) (cwV 2 hts (lw_V q55 q56 q57 q11 q58) rfl rfl rfl (by decide +kernel) ⟨Nat.le_of_ble_eq_true rfl, Nat.le_of_ble_eq_true rfl⟩) hK1 hP1 0 rfl rfl rfl rfl hl.1 rfl (Nat.le_of_ble_eq_true rfl) ⟨Nat.le_of_ble_eq_true rfl, Nat.le_of_ble_eq_true rfl⟩ hS hA1 dL_law_128 (fun r1 u H locs hw hP1 hk hS => ?_)
        have hP2 := md_keep hP2 hk hs1
        obtain ⟨fM1, nM1, kn1⟩ := u
        obtain ⟨hr1, hf1, hI1⟩ := hw
        have hP1 : va_P (dC, dI) vwCl (dmW ad ct fM1 nM1 kn1 fO fC kp fK fT) H := hP1
        refine lv_aload_n hx hb dL_law_131 rfl (lv_at hl 2 rfl) ?_
        refine lv_aload_n hx hb dL_law_132 rfl (lv_at hl 0 rfl) ?_
        refine lv_iload_n hx hb dL_law_133 rfl (lv_at hl 3 rfl) ?_
        refine lv_iconst (v := 1) hx hb dL_law_134 (by decide) ?_
        refine lv_iadd hx hb dL_law_135 ?_
        refine dk_top (nI (i + 1)) (nI_add i 1) ?_
        refine dk_sld hx hb hX hbl hbA hS (j := i + 1) (by omega) (by omega) dL_law_136 ?_
        refine lv_aload_n hx hb dL_law_137 rfl (lv_at hl 0 rfl) ?_
        refine lv_iload_n hx hb dL_law_138 rfl (lv_at hl 3 rfl) ?_
        refine lv_iconst (v := 2) hx hb dL_law_139 (by decide) ?_
        refine lv_iadd hx hb dL_law_140 ?_
        refine dk_top (nI (i + 2)) (nI_add i 2) ?_
        refine dk_sld hx hb hX hbl hbA hS (j := i + 2) (by omega) (by omega) dL_law_141 ?_
        refine dk_muI (rest := [.int r1]) ⟨hx, hb, hml, hown, hts⟩ (metX1_clear l dC dI h a ct9 fM hJ2 (xs (i + 1)) (xs (i + 2))) (cwV 2 hts (lw_V q136 q137 q138 q12 q139) rfl rfl rfl (by decide +kernel) ⟨Nat.le_of_ble_eq_true rfl, Nat.le_of_ble_eq_true rfl⟩) hK2 hP2 1 rfl rfl rfl rfl hl.1 rfl (Nat.le_of_ble_eq_true rfl) ⟨Nat.le_of_ble_eq_true rfl, Nat.le_of_ble_eq_true rfl⟩ hS hA2 dL_law_142 (fun r2 u H locs hw hP2 hk hS => ?_)
        obtain ⟨hr2, hf2⟩ := hw
        have hf3 : u = fM1 := hf2.trans hf1.symm
        subst hf3
        have hP1 := dm_keep hP1 hk hs2
        refine lv_icmp_eq (tgt := 311) hx hb dL_law_145 (by decide) (fun c_9 => ?_) (fun c_9 => ?_)
        · skip
          refine lv_iinc (v := nI (i + 3)) (lv' := [(3, .int (nI (i + 3))), (0, .ref b), (1, .ref (ad 0)), (2, .ref h)]) hx hb dL_law_311 hl (k := 3) rfl (nI_add i 3) (by decide) rfl (fun ls hl => ?_)
          refine lv_goto (tgt := 18) hx hb dL_law_314 (by decide) ?_
          exact ih (i + 3, u, nM1, kn1, fO, fC, kp, fK, fT) H locs ls (by dsimp only; omega) ⟨⟨by omega, hI1⟩, hP1, hP2, hS, lv_sub hl [1, 2, 3, 0] rfl⟩
        · exact absurd (hr1.trans hr2.symm) c_9
      · subst h9
        refine lv_tableIn (off := 118) (tgt := 150) hx hb dL_law_32 (by decide +kernel) (by decide +kernel) (by decide +kernel) (by decide) ?_
        refine lv_aload_n hx hb dL_law_150 rfl (lv_at hl 1 rfl) ?_
        refine lv_aload_n hx hb dL_law_151 rfl (lv_at hl 0 rfl) ?_
        refine lv_iload_n hx hb dL_law_152 rfl (lv_at hl 3 rfl) ?_
        refine lv_iconst (v := 1) hx hb dL_law_153 (by decide) ?_
        refine lv_iadd hx hb dL_law_154 ?_
        refine dk_top (nI (i + 1)) (nI_add i 1) ?_
        refine dk_sld hx hb hX hbl hbA hS (j := i + 1) (by omega) (by omega) dL_law_155 ?_
        refine lv_aload_n hx hb dL_law_156 rfl (lv_at hl 0 rfl) ?_
        refine lv_iload_n hx hb dL_law_157 rfl (lv_at hl 3 rfl) ?_
        refine lv_iconst (v := 2) hx hb dL_law_158 (by decide) ?_
        refine lv_iadd hx hb dL_law_159 ?_
        refine dk_top (nI (i + 2)) (nI_add i 2) ?_
        refine dk_sld hx hb hX hbl hbA hS (j := i + 2) (by omega) (by omega) dL_law_160 ?_
        refine dk_muI (rest := []) ⟨hx, hb, hml, hown, hts⟩ (metX0_distance l dC dI ad ct fM nM kn fO fC kp fK fT hJ hI (xs (i + 1)) (xs (i + 2))) (cwV 2 hts (lw_V q59 q60 q61 q11 q62) rfl rfl rfl (by decide +kernel) ⟨Nat.le_of_ble_eq_true rfl, Nat.le_of_ble_eq_true rfl⟩) hK1 hP1 0 rfl rfl rfl rfl hl.1 rfl (Nat.le_of_ble_eq_true rfl) ⟨Nat.le_of_ble_eq_true rfl, Nat.le_of_ble_eq_true rfl⟩ hS hA1 dL_law_161 (fun r1 u H locs hw hP1 hk hS => ?_)
        have hP2 := md_keep hP2 hk hs1
        obtain ⟨kn1, fO1, fC1, kp1, fK1, fT1⟩ := u
        obtain ⟨hr1, hI1⟩ := hw
        have hP1 : va_P (dC, dI) vwCl (dmW ad ct fM nM kn1 fO1 fC1 kp1 fK1 fT1) H := hP1
        refine lv_aload_n hx hb dL_law_164 rfl (lv_at hl 2 rfl) ?_
        refine lv_aload_n hx hb dL_law_165 rfl (lv_at hl 0 rfl) ?_
        refine lv_iload_n hx hb dL_law_166 rfl (lv_at hl 3 rfl) ?_
        refine lv_iconst (v := 1) hx hb dL_law_167 (by decide) ?_
        refine lv_iadd hx hb dL_law_168 ?_
        refine dk_top (nI (i + 1)) (nI_add i 1) ?_
        refine dk_sld hx hb hX hbl hbA hS (j := i + 1) (by omega) (by omega) dL_law_169 ?_
        refine lv_aload_n hx hb dL_law_170 rfl (lv_at hl 0 rfl) ?_
        refine lv_iload_n hx hb dL_law_171 rfl (lv_at hl 3 rfl) ?_
        refine lv_iconst (v := 2) hx hb dL_law_172 (by decide) ?_
        refine lv_iadd hx hb dL_law_173 ?_
        refine dk_top (nI (i + 2)) (nI_add i 2) ?_
        refine dk_sld hx hb hX hbl hbA hS (j := i + 2) (by omega) (by omega) dL_law_174 ?_
        refine dk_roV (rest := [.int r1]) ⟨hx, hb, hml, hown, hts⟩ (metX1_distance l dC dI h a ct9 fM (xs (i + 1)) (xs (i + 2))) (cwV 2 hts (lw_V q140 q141 q142 q12 q143) rfl rfl rfl (by decide +kernel) ⟨Nat.le_of_ble_eq_true rfl, Nat.le_of_ble_eq_true rfl⟩) hK2 hP2 1 rfl rfl rfl rfl hl.1 rfl (Nat.le_of_ble_eq_true rfl) ⟨Nat.le_of_ble_eq_true rfl, Nat.le_of_ble_eq_true rfl⟩ dL_law_175 ?_
        refine lv_icmp_eq (tgt := 311) hx hb dL_law_178 (by decide) (fun c_9 => ?_) (fun c_9 => ?_)
        · skip
          refine lv_iinc (v := nI (i + 3)) (lv' := [(3, .int (nI (i + 3))), (0, .ref b), (1, .ref (ad 0)), (2, .ref h)]) hx hb dL_law_311 hl (k := 3) rfl (nI_add i 3) (by decide) rfl (fun ls hl => ?_)
          refine lv_goto (tgt := 18) hx hb dL_law_314 (by decide) ?_
          exact ih (i + 3, fM, nM, kn1, fO1, fC1, kp1, fK1, fT1) H locs ls (by dsimp only; omega) ⟨⟨by omega, hI1⟩, hP1, hP2, hS, lv_sub hl [1, 2, 3, 0] rfl⟩
        · exact absurd (hr1) c_9
      · subst h9
        refine lv_tableIn (off := 151) (tgt := 183) hx hb dL_law_32 (by decide +kernel) (by decide +kernel) (by decide +kernel) (by decide) ?_
        refine lv_aload_n hx hb dL_law_183 rfl (lv_at hl 1 rfl) ?_
        refine lv_aload_n hx hb dL_law_184 rfl (lv_at hl 0 rfl) ?_
        refine lv_iload_n hx hb dL_law_185 rfl (lv_at hl 3 rfl) ?_
        refine lv_iconst (v := 1) hx hb dL_law_186 (by decide) ?_
        refine lv_iadd hx hb dL_law_187 ?_
        refine dk_top (nI (i + 1)) (nI_add i 1) ?_
        refine dk_sld hx hb hX hbl hbA hS (j := i + 1) (by omega) (by omega) dL_law_188 ?_
        refine lv_aload_n hx hb dL_law_189 rfl (lv_at hl 0 rfl) ?_
        refine lv_iload_n hx hb dL_law_190 rfl (lv_at hl 3 rfl) ?_
        refine lv_iconst (v := 2) hx hb dL_law_191 (by decide) ?_
        refine lv_iadd hx hb dL_law_192 ?_
        refine dk_top (nI (i + 2)) (nI_add i 2) ?_
        refine dk_sld hx hb hX hbl hbA hS (j := i + 2) (by omega) (by omega) dL_law_193 ?_
        refine dk_muI (rest := []) ⟨hx, hb, hml, hown, hts⟩ (metX0_nearest l dC dI ad ct fM nM kn fO fC kp fK fT hJ hI (xs (i + 1)) (xs (i + 2))) (cwV 2 hts (lw_V q95 q96 q97 q11 q98) rfl rfl rfl (by decide +kernel) ⟨Nat.le_of_ble_eq_true rfl, Nat.le_of_ble_eq_true rfl⟩) hK1 hP1 0 rfl rfl rfl rfl hl.1 rfl (Nat.le_of_ble_eq_true rfl) ⟨Nat.le_of_ble_eq_true rfl, Nat.le_of_ble_eq_true rfl⟩ hS hA1 dL_law_194 (fun r1 u H locs hw hP1 hk hS => ?_)
        have hP2 := md_keep hP2 hk hs1
        obtain ⟨kn1, fO1, fC1, kp1, fK1, fT1⟩ := u
        obtain ⟨hr1, hI1⟩ := hw
        have hP1 : va_P (dC, dI) vwCl (dmW ad ct fM nM kn1 fO1 fC1 kp1 fK1 fT1) H := hP1
        refine lv_aload_n hx hb dL_law_197 rfl (lv_at hl 2 rfl) ?_
        refine lv_aload_n hx hb dL_law_198 rfl (lv_at hl 0 rfl) ?_
        refine lv_iload_n hx hb dL_law_199 rfl (lv_at hl 3 rfl) ?_
        refine lv_iconst (v := 1) hx hb dL_law_200 (by decide) ?_
        refine lv_iadd hx hb dL_law_201 ?_
        refine dk_top (nI (i + 1)) (nI_add i 1) ?_
        refine dk_sld hx hb hX hbl hbA hS (j := i + 1) (by omega) (by omega) dL_law_202 ?_
        refine lv_aload_n hx hb dL_law_203 rfl (lv_at hl 0 rfl) ?_
        refine lv_iload_n hx hb dL_law_204 rfl (lv_at hl 3 rfl) ?_
        refine lv_iconst (v := 2) hx hb dL_law_205 (by decide) ?_
        refine lv_iadd hx hb dL_law_206 ?_
        refine dk_top (nI (i + 2)) (nI_add i 2) ?_
        refine dk_sld hx hb hX hbl hbA hS (j := i + 2) (by omega) (by omega) dL_law_207 ?_
        refine dk_roV (rest := [.int r1]) ⟨hx, hb, hml, hown, hts⟩ (metX1_nearest l dC dI h a ct9 fM (xs (i + 1)) (xs (i + 2))) (cwV 2 hts (lw_V q155 q156 q157 q12 q158) rfl rfl rfl (by decide +kernel) ⟨Nat.le_of_ble_eq_true rfl, Nat.le_of_ble_eq_true rfl⟩) hK2 hP2 1 rfl rfl rfl rfl hl.1 rfl (Nat.le_of_ble_eq_true rfl) ⟨Nat.le_of_ble_eq_true rfl, Nat.le_of_ble_eq_true rfl⟩ dL_law_208 ?_
        refine lv_icmp_eq (tgt := 311) hx hb dL_law_211 (by decide) (fun c_9 => ?_) (fun c_9 => ?_)
        · skip
          refine lv_iinc (v := nI (i + 3)) (lv' := [(3, .int (nI (i + 3))), (0, .ref b), (1, .ref (ad 0)), (2, .ref h)]) hx hb dL_law_311 hl (k := 3) rfl (nI_add i 3) (by decide) rfl (fun ls hl => ?_)
          refine lv_goto (tgt := 18) hx hb dL_law_314 (by decide) ?_
          exact ih (i + 3, fM, nM, kn1, fO1, fC1, kp1, fK1, fT1) H locs ls (by dsimp only; omega) ⟨⟨by omega, hI1⟩, hP1, hP2, hS, lv_sub hl [1, 2, 3, 0] rfl⟩
        · exact absurd (hr1) c_9
      · subst h9
        refine lv_tableIn (off := 184) (tgt := 216) hx hb dL_law_32 (by decide +kernel) (by decide +kernel) (by decide +kernel) (by decide) ?_
        refine lv_aload_n hx hb dL_law_216 rfl (lv_at hl 1 rfl) ?_
        refine lv_aload_n hx hb dL_law_217 rfl (lv_at hl 0 rfl) ?_
        refine lv_iload_n hx hb dL_law_218 rfl (lv_at hl 3 rfl) ?_
        refine lv_iconst (v := 1) hx hb dL_law_219 (by decide) ?_
        refine lv_iadd hx hb dL_law_220 ?_
        refine dk_top (nI (i + 1)) (nI_add i 1) ?_
        refine dk_sld hx hb hX hbl hbA hS (j := i + 1) (by omega) (by omega) dL_law_221 ?_
        refine lv_aload_n hx hb dL_law_222 rfl (lv_at hl 0 rfl) ?_
        refine lv_iload_n hx hb dL_law_223 rfl (lv_at hl 3 rfl) ?_
        refine lv_iconst (v := 2) hx hb dL_law_224 (by decide) ?_
        refine lv_iadd hx hb dL_law_225 ?_
        refine dk_top (nI (i + 2)) (nI_add i 2) ?_
        refine dk_sld hx hb hX hbl hbA hS (j := i + 2) (by omega) (by omega) dL_law_226 ?_
        refine dk_muI (rest := []) ⟨hx, hb, hml, hown, hts⟩ (metX0_reach l dC dI ad ct fM nM kn fO fC kp fK fT hJ hI (xs (i + 1)) (xs (i + 2))) (cwV 2 hts (lw_V q99 q100 q101 q11 q102) rfl rfl rfl (by decide +kernel) ⟨Nat.le_of_ble_eq_true rfl, Nat.le_of_ble_eq_true rfl⟩) hK1 hP1 0 rfl rfl rfl rfl hl.1 rfl (Nat.le_of_ble_eq_true rfl) ⟨Nat.le_of_ble_eq_true rfl, Nat.le_of_ble_eq_true rfl⟩ hS hA1 dL_law_227 (fun r1 u H locs hw hP1 hk hS => ?_)
        have hP2 := md_keep hP2 hk hs1
        obtain ⟨kn1, fO1, fC1, kp1, fK1, fT1⟩ := u
        obtain ⟨hr1, hI1⟩ := hw
        have hP1 : va_P (dC, dI) vwCl (dmW ad ct fM nM kn1 fO1 fC1 kp1 fK1 fT1) H := hP1
        refine lv_aload_n hx hb dL_law_230 rfl (lv_at hl 2 rfl) ?_
        refine lv_aload_n hx hb dL_law_231 rfl (lv_at hl 0 rfl) ?_
        refine lv_iload_n hx hb dL_law_232 rfl (lv_at hl 3 rfl) ?_
        refine lv_iconst (v := 1) hx hb dL_law_233 (by decide) ?_
        refine lv_iadd hx hb dL_law_234 ?_
        refine dk_top (nI (i + 1)) (nI_add i 1) ?_
        refine dk_sld hx hb hX hbl hbA hS (j := i + 1) (by omega) (by omega) dL_law_235 ?_
        refine lv_aload_n hx hb dL_law_236 rfl (lv_at hl 0 rfl) ?_
        refine lv_iload_n hx hb dL_law_237 rfl (lv_at hl 3 rfl) ?_
        refine lv_iconst (v := 2) hx hb dL_law_238 (by decide) ?_
        refine lv_iadd hx hb dL_law_239 ?_
        refine dk_top (nI (i + 2)) (nI_add i 2) ?_
        refine dk_sld hx hb hX hbl hbA hS (j := i + 2) (by omega) (by omega) dL_law_240 ?_
        refine dk_roV (rest := [.int r1]) ⟨hx, hb, hml, hown, hts⟩ (metX1_reach l dC dI h a ct9 fM (xs (i + 1)) (xs (i + 2))) (cwV 2 hts (lw_V q159 q160 q161 q12 q162) rfl rfl rfl (by decide +kernel) ⟨Nat.le_of_ble_eq_true rfl, Nat.le_of_ble_eq_true rfl⟩) hK2 hP2 1 rfl rfl rfl rfl hl.1 rfl (Nat.le_of_ble_eq_true rfl) ⟨Nat.le_of_ble_eq_true rfl, Nat.le_of_ble_eq_true rfl⟩ dL_law_241 ?_
        refine lv_icmp_eq (tgt := 311) hx hb dL_law_244 (by decide) (fun c_9 => ?_) (fun c_9 => ?_)
        · skip
          refine lv_iinc (v := nI (i + 3)) (lv' := [(3, .int (nI (i + 3))), (0, .ref b), (1, .ref (ad 0)), (2, .ref h)]) hx hb dL_law_311 hl (k := 3) rfl (nI_add i 3) (by decide) rfl (fun ls hl => ?_)
          refine lv_goto (tgt := 18) hx hb dL_law_314 (by decide) ?_
          exact ih (i + 3, fM, nM, kn1, fO1, fC1, kp1, fK1, fT1) H locs ls (by dsimp only; omega) ⟨⟨by omega, hI1⟩, hP1, hP2, hS, lv_sub hl [1, 2, 3, 0] rfl⟩
        · exact absurd (hr1) c_9
      · subst h9
        refine lv_tableIn (off := 217) (tgt := 249) hx hb dL_law_32 (by decide +kernel) (by decide +kernel) (by decide +kernel) (by decide) ?_
        refine lv_aload_n hx hb dL_law_249 rfl (lv_at hl 1 rfl) ?_
        refine dk_muI (rest := []) ⟨hx, hb, hml, hown, hts⟩ (metX0_farthest l dC dI ad ct fM nM kn fO fC kp fK fT hJ hI ) (cwV 0 hts (lw_V q103 q104 q105 q11 q106) rfl rfl rfl (by decide +kernel) ⟨Nat.le_of_ble_eq_true rfl, Nat.le_of_ble_eq_true rfl⟩) hK1 hP1 0 rfl rfl rfl rfl hl.1 rfl (Nat.le_of_ble_eq_true rfl) ⟨Nat.le_of_ble_eq_true rfl, Nat.le_of_ble_eq_true rfl⟩ hS hA1 dL_law_250 (fun r1 u H locs hw hP1 hk hS => ?_)
        have hP2 := md_keep hP2 hk hs1
        obtain ⟨kn1, fO1, fC1, kp1, fK1, fT1⟩ := u
        obtain ⟨hr1, hI1⟩ := hw
        have hP1 : va_P (dC, dI) vwCl (dmW ad ct fM nM kn1 fO1 fC1 kp1 fK1 fT1) H := hP1
        refine lv_aload_n hx hb dL_law_253 rfl (lv_at hl 2 rfl) ?_
        refine dk_roV (rest := [.int r1]) ⟨hx, hb, hml, hown, hts⟩ (metX1_farthest l dC dI h a ct9 fM ) (cwV 0 hts (lw_V q163 q164 q165 q12 q166) rfl rfl rfl (by decide +kernel) ⟨Nat.le_of_ble_eq_true rfl, Nat.le_of_ble_eq_true rfl⟩) hK2 hP2 1 rfl rfl rfl rfl hl.1 rfl (Nat.le_of_ble_eq_true rfl) ⟨Nat.le_of_ble_eq_true rfl, Nat.le_of_ble_eq_true rfl⟩ dL_law_254 ?_
        refine lv_icmp_eq (tgt := 311) hx hb dL_law_257 (by decide) (fun c_9 => ?_) (fun c_9 => ?_)
        · skip
          refine lv_iinc (v := nI (i + 3)) (lv' := [(3, .int (nI (i + 3))), (0, .ref b), (1, .ref (ad 0)), (2, .ref h)]) hx hb dL_law_311 hl (k := 3) rfl (nI_add i 3) (by decide) rfl (fun ls hl => ?_)
          refine lv_goto (tgt := 18) hx hb dL_law_314 (by decide) ?_
          exact ih (i + 3, fM, nM, kn1, fO1, fC1, kp1, fK1, fT1) H locs ls (by dsimp only; omega) ⟨⟨by omega, hI1⟩, hP1, hP2, hS, lv_sub hl [1, 2, 3, 0] rfl⟩
        · exact absurd (hr1) c_9
      · subst h9
        refine lv_tableIn (off := 230) (tgt := 262) hx hb dL_law_32 (by decide +kernel) (by decide +kernel) (by decide +kernel) (by decide) ?_
        refine lv_aload_n hx hb dL_law_262 rfl (lv_at hl 1 rfl) ?_
        refine lv_aload_n hx hb dL_law_263 rfl (lv_at hl 0 rfl) ?_
        refine lv_iload_n hx hb dL_law_264 rfl (lv_at hl 3 rfl) ?_
        refine lv_iconst (v := 1) hx hb dL_law_265 (by decide) ?_
        refine lv_iadd hx hb dL_law_266 ?_
        refine dk_top (nI (i + 1)) (nI_add i 1) ?_
        refine dk_sld hx hb hX hbl hbA hS (j := i + 1) (by omega) (by omega) dL_law_267 ?_
        refine dk_muI (rest := []) ⟨hx, hb, hml, hown, hts⟩ (metX0_within l dC dI ad ct fM nM kn fO fC kp fK fT hJ hI (xs (i + 1))) (cwV 1 hts (lw_V q107 q108 q109 q11 q110) rfl rfl rfl (by decide +kernel) ⟨Nat.le_of_ble_eq_true rfl, Nat.le_of_ble_eq_true rfl⟩) hK1 hP1 0 rfl rfl rfl rfl hl.1 rfl (Nat.le_of_ble_eq_true rfl) ⟨Nat.le_of_ble_eq_true rfl, Nat.le_of_ble_eq_true rfl⟩ hS hA1 dL_law_268 (fun r1 u H locs hw hP1 hk hS => ?_)
        have hP2 := md_keep hP2 hk hs1
        obtain ⟨kn1, fO1, fC1, kp1, fK1, fT1⟩ := u
        obtain ⟨hr1, hI1⟩ := hw
        have hP1 : va_P (dC, dI) vwCl (dmW ad ct fM nM kn1 fO1 fC1 kp1 fK1 fT1) H := hP1
        refine lv_aload_n hx hb dL_law_271 rfl (lv_at hl 2 rfl) ?_
        refine lv_aload_n hx hb dL_law_272 rfl (lv_at hl 0 rfl) ?_
        refine lv_iload_n hx hb dL_law_273 rfl (lv_at hl 3 rfl) ?_
        refine lv_iconst (v := 1) hx hb dL_law_274 (by decide) ?_
        refine lv_iadd hx hb dL_law_275 ?_
        refine dk_top (nI (i + 1)) (nI_add i 1) ?_
        refine dk_sld hx hb hX hbl hbA hS (j := i + 1) (by omega) (by omega) dL_law_276 ?_
        refine dk_roV (rest := [.int r1]) ⟨hx, hb, hml, hown, hts⟩ (metX1_within l dC dI h a ct9 fM (xs (i + 1))) (cwV 1 hts (lw_V q167 q168 q169 q12 q170) rfl rfl rfl (by decide +kernel) ⟨Nat.le_of_ble_eq_true rfl, Nat.le_of_ble_eq_true rfl⟩) hK2 hP2 1 rfl rfl rfl rfl hl.1 rfl (Nat.le_of_ble_eq_true rfl) ⟨Nat.le_of_ble_eq_true rfl, Nat.le_of_ble_eq_true rfl⟩ dL_law_277 ?_
        refine lv_icmp_eq (tgt := 311) hx hb dL_law_280 (by decide) (fun c_9 => ?_) (fun c_9 => ?_)
        · skip
          refine lv_iinc (v := nI (i + 3)) (lv' := [(3, .int (nI (i + 3))), (0, .ref b), (1, .ref (ad 0)), (2, .ref h)]) hx hb dL_law_311 hl (k := 3) rfl (nI_add i 3) (by decide) rfl (fun ls hl => ?_)
          refine lv_goto (tgt := 18) hx hb dL_law_314 (by decide) ?_
          exact ih (i + 3, fM, nM, kn1, fO1, fC1, kp1, fK1, fT1) H locs ls (by dsimp only; omega) ⟨⟨by omega, hI1⟩, hP1, hP2, hS, lv_sub hl [1, 2, 3, 0] rfl⟩
        · exact absurd (hr1) c_9
      · subst h9
        refine lv_tableIn (off := 253) (tgt := 285) hx hb dL_law_32 (by decide +kernel) (by decide +kernel) (by decide +kernel) (by decide) ?_
        refine lv_aload_n hx hb dL_law_285 rfl (lv_at hl 1 rfl) ?_
        refine dk_muI (rest := []) ⟨hx, hb, hml, hown, hts⟩ (metX0_edges l dC dI ad ct fM nM kn fO fC kp fK fT hJ hI ) (cwV 0 hts (lw_V q111 q112 q113 q11 q114) rfl rfl rfl (by decide +kernel) ⟨Nat.le_of_ble_eq_true rfl, Nat.le_of_ble_eq_true rfl⟩) hK1 hP1 0 rfl rfl rfl rfl hl.1 rfl (Nat.le_of_ble_eq_true rfl) ⟨Nat.le_of_ble_eq_true rfl, Nat.le_of_ble_eq_true rfl⟩ hS hA1 dL_law_286 (fun r1 u H locs hw hP1 hk hS => ?_)
        have hP2 := md_keep hP2 hk hs1
        obtain ⟨kn1, fO1, fC1, kp1, fK1, fT1⟩ := u
        obtain ⟨hr1, hI1⟩ := hw
        have hP1 : va_P (dC, dI) vwCl (dmW ad ct fM nM kn1 fO1 fC1 kp1 fK1 fT1) H := hP1
        refine lv_aload_n hx hb dL_law_289 rfl (lv_at hl 2 rfl) ?_
        refine dk_roV (rest := [.int r1]) ⟨hx, hb, hml, hown, hts⟩ (metX1_edges l dC dI h a ct9 fM ) (cwV 0 hts (lw_V q171 q172 q173 q12 q174) rfl rfl rfl (by decide +kernel) ⟨Nat.le_of_ble_eq_true rfl, Nat.le_of_ble_eq_true rfl⟩) hK2 hP2 1 rfl rfl rfl rfl hl.1 rfl (Nat.le_of_ble_eq_true rfl) ⟨Nat.le_of_ble_eq_true rfl, Nat.le_of_ble_eq_true rfl⟩ dL_law_290 ?_
        refine lv_icmp_eq (tgt := 311) hx hb dL_law_293 (by decide) (fun c_9 => ?_) (fun c_9 => ?_)
        · skip
          refine lv_iinc (v := nI (i + 3)) (lv' := [(3, .int (nI (i + 3))), (0, .ref b), (1, .ref (ad 0)), (2, .ref h)]) hx hb dL_law_311 hl (k := 3) rfl (nI_add i 3) (by decide) rfl (fun ls hl => ?_)
          refine lv_goto (tgt := 18) hx hb dL_law_314 (by decide) ?_
          exact ih (i + 3, fM, nM, kn1, fO1, fC1, kp1, fK1, fT1) H locs ls (by dsimp only; omega) ⟨⟨by omega, hI1⟩, hP1, hP2, hS, lv_sub hl [1, 2, 3, 0] rfl⟩
        · exact absurd (hr1) c_9
      · subst h9
        refine lv_tableIn (off := 266) (tgt := 298) hx hb dL_law_32 (by decide +kernel) (by decide +kernel) (by decide +kernel) (by decide) ?_
        refine lv_aload_n hx hb dL_law_298 rfl (lv_at hl 1 rfl) ?_
        refine dk_muI (rest := []) ⟨hx, hb, hml, hown, hts⟩ (metX0_total l dC dI ad ct fM nM kn fO fC kp fK fT hJ hI ) (cwV 0 hts (lw_V q115 q116 q117 q11 q118) rfl rfl rfl (by decide +kernel) ⟨Nat.le_of_ble_eq_true rfl, Nat.le_of_ble_eq_true rfl⟩) hK1 hP1 0 rfl rfl rfl rfl hl.1 rfl (Nat.le_of_ble_eq_true rfl) ⟨Nat.le_of_ble_eq_true rfl, Nat.le_of_ble_eq_true rfl⟩ hS hA1 dL_law_299 (fun r1 u H locs hw hP1 hk hS => ?_)
        have hP2 := md_keep hP2 hk hs1
        obtain ⟨kn1, fO1, fC1, kp1, fK1, fT1⟩ := u
        obtain ⟨hr1, hI1⟩ := hw
        have hP1 : va_P (dC, dI) vwCl (dmW ad ct fM nM kn1 fO1 fC1 kp1 fK1 fT1) H := hP1
        refine lv_aload_n hx hb dL_law_302 rfl (lv_at hl 2 rfl) ?_
        refine dk_roV (rest := [.int r1]) ⟨hx, hb, hml, hown, hts⟩ (metX1_total l dC dI h a ct9 fM ) (cwV 0 hts (lw_V q175 q176 q177 q12 q178) rfl rfl rfl (by decide +kernel) ⟨Nat.le_of_ble_eq_true rfl, Nat.le_of_ble_eq_true rfl⟩) hK2 hP2 1 rfl rfl rfl rfl hl.1 rfl (Nat.le_of_ble_eq_true rfl) ⟨Nat.le_of_ble_eq_true rfl, Nat.le_of_ble_eq_true rfl⟩ dL_law_303 ?_
        refine lv_icmp_eq (tgt := 311) hx hb dL_law_306 (by decide) (fun c_9 => ?_) (fun c_9 => ?_)
        · skip
          refine lv_iinc (v := nI (i + 3)) (lv' := [(3, .int (nI (i + 3))), (0, .ref b), (1, .ref (ad 0)), (2, .ref h)]) hx hb dL_law_311 hl (k := 3) rfl (nI_add i 3) (by decide) rfl (fun ls hl => ?_)
          refine lv_goto (tgt := 18) hx hb dL_law_314 (by decide) ?_
          exact ih (i + 3, fM, nM, kn1, fO1, fC1, kp1, fK1, fT1) H locs ls (by dsimp only; omega) ⟨⟨by omega, hI1⟩, hP1, hP2, hS, lv_sub hl [1, 2, 3, 0] rfl⟩
        · exact absurd (hr1) c_9
end
section
set_option maxHeartbeats 4000000 in
set_option maxRecDepth 100000 in
/-- from the entry, for every script of at most 192 ints, the law comes to its end with true -/
theorem whole_start {p : Program} {e : Env} {s : State} {m : MethodId} {below : List Frame} {meth : Method} {c : Code} (l : Launch) {b L : Nat} {xs : Nat → Int32} (hL : L ≤ 192) (C0 : lw_At p s m meth c b L xs) : W p l e room_1 s m #[Value.ref b] below meth c s.heap [] 0 0 (lw_Z below #[Value.ref b] s) (entryFrame m ([Value.ref b] : List Value).toArray 4) := by
  obtain ⟨hx, hb, hr, hml, hown, hts0, hX, hbl, hlocks, hgv⟩ := id C0
  have hts : ∀ w ∈ lw_all, w.before #[Value.ref b] s = true := fun w h => hts0 w (lw_all_tbl h)
  have hA : ∀ q : Nat, s.heap.size ≤ q → (fun q : Nat => s.heap.size ≤ q) q := fun _ h => h
  obtain ⟨c0, iS0, hKn0⟩ := u_known (C := RX0) (T := TX0) (N := 8) (n := 8) hts0 (fun w h => lw_all_tbl (in_X0 w h)) (hts0 _ (lw_all_tbl q14))
  obtain ⟨c1, iS1, hKn1⟩ := u_known (C := RX1) (T := TX1) (N := 1) (n := 1) hts0 (fun w h => lw_all_tbl (in_X1 w h)) (hts0 _ (lw_all_tbl q120))
  obtain ⟨dC, dI, hKc⟩ : ∃ (dC : Nat → ClassId) (dI : Nat → Nat → Nat), ∀ (k : Nat) (q : vw_C), vwCl[k]? = some q → u_Kn s q.1 q.2.1 q.2.2 (dC k) (dI k) := by
    refine ⟨fun k => if k = 0 then c0 else c1, fun k => if k = 0 then iS0 else iS1, ?_⟩
    intro k q hq
    match k, hq with
    | 0, hq => cases hq; exact hKn0
    | 1, hq => cases hq; exact hKn1
    | k + 2, hq => simp [vwCl] at hq
  have hS : va_S (fun q : Nat => s.heap.size ≤ q) s.heap s.heap [] := va_S.rf
  have hK : va_K (dC, dI) vwCl [] s := ⟨hKc, fun k q h => by simp at h⟩
  have hP : va_P (dC, dI) vwCl [] s.heap := fun k q h => by simp at h
  have hD : va_D (fun q : Nat => s.heap.size ≤ q) [] := ⟨fun i j p q h => by simp at h, fun k q h => by simp at h⟩
  have hl := lv_entry ([.ref b]) (n := 4) (Nat.le_of_ble_eq_true rfl)
  rw [lg_entry_eq]
  generalize (lg_sl ([.ref b]) ++ List.replicate (4 - (lg_sl ([.ref b])).length) Slot.unset).toArray = ls at hl ⊢
  have hl : lv_has ls 4 [(0, .ref b)] := hl
  refine va_new (ci := 0) (fs := [.null, .int 0, .int 0, .null, .null, .int 0, .null, .null]) (C := RX0) (T := TX0) (N := 8) hx hb hts in_X0 tyX0 tyX0_ok hown (hts _ q13) (hts _ q14) (hts _ q11) hK hP hD hS hA rfl (fun j hj => by rcases (show j = 0 ∨ j = 1 ∨ j = 2 ∨ j = 3 ∨ j = 4 ∨ j = 5 ∨ j = 6 ∨ j = 7 by omega) with rfl | rfl | rfl | rfl | rfl | rfl | rfl | rfl <;> rfl) (Nat.le_of_ble_eq_true rfl) (Nat.le_of_ble_eq_true rfl) dL_law_0 (fun qm H hP hD hS => ?_)
  have hP : va_P (dC, dI) vwCl [(qm, .inr (0, [.null, .int 0, .int 0, .null, .null, .int 0, .null, .null]))] H := hP
  have hD : va_D (fun q : Nat => s.heap.size ≤ q) [(qm, .inr (0, [.null, .int 0, .int 0, .null, .null, .int 0, .null, .null]))] := hD
  refine W.widen (k := 1) (n := 8) (by omega) (by omega) ?_
  refine lv_dup hx hb dL_law_3 rfl ?_
  have hFc := va_free (wc := [(qm, .inr (0, [.null, .int 0, .int 0, .null, .null, .int 0, .null, .null]))]) hD hS hA [0] rfl
  refine va_callv (va_runI (As := []) (rest := [.ref qm]) ⟨hx, hb, hml, hown, hts⟩ (metX0_init l dC dI qm H.size) (cwI 0 hts (lw_meth q17) rfl rfl rfl (hts _ q11) (hts _ q15) (hts _ q16) rfl (by decide +kernel) ⟨Nat.le_of_ble_eq_true rfl, Nat.le_of_ble_eq_true rfl⟩) ⟨fun a U g mk q => by obtain ⟨q0, q1, qP, qK, qD⟩ := q; exact ⟨q0, q1, qP, va_K.moved (u := U) (U := U.calling g mk a) (Vm.Alike.refl U.vm) qK, qD⟩, fun U hU hW => ⟨rfl, by rw [hU], by rw [hU]; exact hP, va_K.moved hW.alike hK, hD.weaken (fun _ _ _ _ => trivial)⟩⟩ rfl rfl hl.1 rfl (lv_room (Nat.le_of_ble_eq_true rfl)) dL_law_4 ⟨Nat.le_of_ble_eq_true rfl, Nat.le_of_ble_eq_true rfl⟩) hS (fun q _ h => hFc q h) hFc (fun u t H1 locs ht hvm hw hB hz1 hk1 hS => ?_)
  obtain ⟨ad, ct⟩ := u
  have hw : ad 0 = qm := hw
  subst hw
  obtain ⟨hP1, hK1, hD1⟩ := hB
  rw [ht] at hP1
  have hK1 : va_K (dC, dI) vwCl (dmT ct) s := va_K.moved hvm.symm hK1
  obtain ⟨hP, hD⟩ := va_join (wr := []) (w1 := dm0 ad ct) hP hD [0] [] rfl rfl (by decide) (by decide) hk1 hFc hP1 hD1
  generalize H1 = H at hP hS ⊢
  have hP : va_P (dC, dI) vwCl (dm0 ad ct) H := hP
  have hD : va_D (fun q : Nat => s.heap.size ≤ q) (dm0 ad ct) := hD
  refine W.widen (k := 6) (n := 616) (by omega) (by omega) ?_
  refine lv_astore_n (lv' := [(1, .ref (ad 0)), (0, .ref b)]) hx hb dL_law_7 rfl hl (by decide) rfl (fun ls hl => ?_)
  refine va_new (ci := 1) (fs := [.null]) (C := RX1) (T := TX1) (N := 1) hx hb hts in_X1 tyX1 tyX1_ok hown (hts _ q119) (hts _ q120) (hts _ q12) hK hP hD hS hA rfl (fun j hj => by rcases (show j = 0 by omega) with rfl <;> rfl) (Nat.le_of_ble_eq_true rfl) (Nat.le_of_ble_eq_true rfl) dL_law_8 (fun h H hP hD hS => ?_)
  have hP : va_P (dC, dI) vwCl (dm0 ad ct ++ [(h, .inr (1, [.null]))]) H := hP
  have hD : va_D (fun q : Nat => s.heap.size ≤ q) (dm0 ad ct ++ [(h, .inr (1, [.null]))]) := hD
  refine W.widen (k := 7) (n := 617) (by omega) (by omega) ?_
  refine lv_dup hx hb dL_law_11 rfl ?_
  have hPc := hP.sub (ws' := [(h, .inr (1, [.null]))]) [6] rfl
  have hDc := hD.sub (ws' := [(h, .inr (1, [.null]))]) [6] (by decide) rfl
  have hFc := va_free (wc := [(h, .inr (1, [.null]))]) hD hS hA [6] rfl
  refine va_callv (va_runI (As := []) (rest := [.ref h]) ⟨hx, hb, hml, hown, hts⟩ (metX1_init l dC dI h H.size) (cwI 0 hts (lw_meth q123) rfl rfl rfl (hts _ q12) (hts _ q121) (hts _ q122) rfl (by decide +kernel) ⟨Nat.le_of_ble_eq_true rfl, Nat.le_of_ble_eq_true rfl⟩) ⟨fun a U g mk q => by obtain ⟨q0, q1, qP, qK, qD⟩ := q; exact ⟨q0, q1, qP, va_K.moved (u := U) (U := U.calling g mk a) (Vm.Alike.refl U.vm) qK, qD⟩, fun U hU hW => ⟨rfl, by rw [hU], by rw [hU]; exact hPc, va_K.moved hW.alike hK, hDc.weaken (fun _ _ _ _ => trivial)⟩⟩ rfl rfl hl.1 rfl (lv_room (Nat.le_of_ble_eq_true rfl)) dL_law_12 ⟨Nat.le_of_ble_eq_true rfl, Nat.le_of_ble_eq_true rfl⟩) hS (fun q _ h => hFc q h) hFc (fun u t H1 locs ht hvm hw hB hz1 hk1 hS => ?_)
  obtain ⟨a, ct9⟩ := u
  obtain ⟨hP2, hK2, hD2⟩ := hB
  rw [ht] at hP2
  have hK2 : va_K (dC, dI) vwCl (mdT ct9) s := va_K.moved hvm.symm hK2
  obtain ⟨hP, hD⟩ := va_join (wr := dm0 ad ct) (w1 := mdW h a ct9 (fun _ => 0)) hP hD [6] [0, 1, 2, 3, 4, 5] rfl rfl (by decide) (by decide) hk1 hFc hP2 hD2
  generalize H1 = H at hP hS ⊢
  have hPa := hP.sub (ws' := dm0 ad ct) [0, 1, 2, 3, 4, 5] rfl
  have hPb := hP.sub (ws' := mdW h a ct9 (fun _ => 0)) [6, 7] rfl
  obtain ⟨hJ, hJ2, hA1, hA2, hs1, hs2⟩ := lw_apart hD
  refine W.widen (k := 8) (n := 809) (by omega) (by omega) ?_
  refine lv_astore_n (lv' := [(2, .ref h), (1, .ref (ad 0)), (0, .ref b)]) hx hb dL_law_15 rfl hl (by decide) rfl (fun ls hl => ?_)
  refine lv_iconst (v := 0) hx hb dL_law_16 (by decide) ?_
  refine dk_top (nI 0) nI_0.symm ?_
  refine lv_istore_n (lv' := [(3, .int (nI 0)), (2, .ref h), (1, .ref (ad 0)), (0, .ref b)]) hx hb dL_law_17 rfl hl (by decide) rfl (fun ls hl => ?_)
  exact law_loop l hL C0 hK1 hK2 hJ hJ2 hA1 hA2 hs1 hs2 hPa hPb hS (lv_sub hl [3, 2, 1, 0] rfl)
end
section
set_option maxHeartbeats 4000000 in
theorem lw_walk (l : Launch) (b : Addr) (xs : List Int32) : MetFree l x (headSpec (Jvm.Cond.code x code maxLocals ret :: tables_1) room_1) (lw_P b xs) (fun _ _ _ _ _ => True) lw_Q := by
  refine MetFree.of_bodyS (code := code) (maxLocals := maxLocals) (ret := ret) (by decide) ?_ ?_
  · intro args s m h hn
    obtain ⟨meth, c, h1, h2, h3, h4, h5, h6, -, -⟩ := Cond.code_spec hn (atoms_spec (ws := Jvm.Cond.code x code maxLocals ret :: tables_1) h _ List.mem_cons_self)
    exact ⟨meth, c, h1, h2, h3, h4, h5, h6⟩
  · intro p e s m args below meth c s₁ B hml0 hP _
    obtain ⟨rfl, hx, hbd, hgv⟩ := hP
    obtain ⟨scr, harrAt, hlist, hof, hsmall⟩ := hx
    obtain ⟨hcb, hkn, -, -⟩ := State.arrayAt?_spec harrAt
    have hown : s.vm.findClass R_law = some m.cls := findClass_of_methodNamed B.named
    have hts0 : ∀ c ∈ (Jvm.Cond.code x code maxLocals ret :: tables_1), c.before #[Value.ref b] s = true := atoms_spec (ws := Jvm.Cond.code x code maxLocals ret :: tables_1) B.pre
    have hts : ∀ w ∈ lw_tbl, w.before #[Value.ref b] s = true := k2_hts_sels lw_privs (fun w hw => hts0 w (List.mem_cons_of_mem _ hw)) lw_privs_ok
    have hml : c.maxLocals = 4 := B.maxLocals_eq (hts0 _ List.mem_cons_self)
    have X₀ : Stand p l e room_1 s m #[Value.ref b] below meth c s₁ [] 0 0 := Stand.of_body B
    have hh0 : s₁.heap = s.heap := by rw [B.state]; rfl
    have hsz : scr.slots.size = xs.length := by rw [← Array.length_toList, hlist, List.length_map]
    have hval : ∀ j : Nat, j < xs.length → scr.slots[j]? = some (.int (xs.getD j 0)) := fun j hj => by
      rw [← Array.getElem?_toList, hlist]
      simp [hj]
    have hbl : b < s.heap.size := (Array.getElem?_eq_some_iff.mp hcb).1
    have hX : va_X b xs.length (fun j => xs.getD j 0) s s.heap := ⟨scr, hcb, hof, hkn, hsz, hval⟩
    have K : W p l e room_1 s m #[Value.ref b] below meth c s₁.heap [] 0 0 (lw_Z below #[Value.ref b] s) (entryFrame m ([Value.ref b] : List Value).toArray 4) := by
      rw [hh0]
      exact whole_start l hbd ⟨B.exec, B.bytes, B.returns, hml, hown, hts, hX, hbl, B.notSynchronized, hgv⟩
    obtain ⟨t, a1, o, b1, b2, b3⟩ := K s₁ rfl X₀
    exact ⟨t, o, a1, b1, b2, b3⟩
theorem lw_pre_spec {args : Array Value} {s : State} (h : (Jvm.Cond.and given_1 narrow_1).before args s = true) (hr : rest_1_c.before args s = true) : ∃ (b : Addr) (xs : List Int32), lw_P b xs args s := by
  have hs := flat_of_before _ h
  have hq := flat_of_before _ hr
  have hc : (Cond.count 1).before args s = true := hs _ (by decide +kernel)
  have harr : (Cond.arrayOf (.arg 0) .int).before args s = true := hs _ (by decide +kernel)
  have hle : (Cond.le (.length (.arg 0)) (.int 192)).before args s = true := hs _ (by decide +kernel)
  have hlen : (Cond.isInt (.length (.arg 0))).before args s = true := hq _ (by decide +kernel)
  have hall : (Cond.all (.arg 0) (.isInt (.elem (.arg 0) (.index 0)))).before args s = true := hq _ (by decide +kernel)
  obtain ⟨b, xs, hb, hx⟩ := State.ints_of_pre rfl harr hlen hall
  have hsm : xs.length < 2 ^ 31 := hx.choose_spec.2.2.2
  have hev : (Term.length (.arg 0)).eval args s none [] s = some (.int xs.length.toInt32) := hx.length_eval hb
  have hv := Cond.le_ints hev (show (Term.int 192).eval args s none [] s = some (.int 192) from rfl)
  have hd : xs.length.toInt32 ≤ 192 := by
    simpa [Cond.before, Cond.holds, hv] using hle
  have hN : xs.length ≤ 192 := (Int32.ofNat_le_ofNat hsm (by decide)).mp (show Int32.ofNat xs.length ≤ Int32.ofNat 192 from hd)
  exact ⟨b, xs, Cond.one_arg hc (show args[0]? = some (.ref b) from hb), hx, hN, h⟩
theorem lw_comes (l : Launch) : Comes l x (Jvm.Cond.code x code maxLocals ret :: tables_1) room_1 (fun tb e args s => Calls_1 tb e args s ∧ rest_1 tb e args s ∧ Pre_1 tb e args s)
    (fun _ _ args s o t => lw_Q args s o t) := by
  intro p e ha hc hk s m args below hf hfit hheap happ hpre
  obtain ⟨b, xs, hP⟩ := lw_pre_spec hpre.2.2 hpre.2.1
  obtain ⟨k, o, h1, h2, h3, hQ⟩ := lw_walk l b xs p e ha hc hk s m args below hf ((Spec.applies_iff_loose hf).mp happ).1 hP trivial
  exact ⟨k, o, h1, h2, h3, hQ⟩
theorem lw_frame {s t : State} {o : Outcome} {args : Array Value} (h : Framed s o t [] 600000 7290000) :
    Framed s o t (fieldLocs frame_1_writes args s ++ arrayLocs frame_1_arrays args s ++ staticLocs frame_1_statics s) 600000 7290000 := h
theorem lw_limb (L : Cond) (hL : ∀ (args : Array Value) (s t : State), L.after args s (.returned (some (.int 1))) t = true) :
    ArmFor flags0 classFile x code maxLocals ret World_1 tables_1 room_1 Calls_1 rest_1 Pre_1
      (fun tb e a s o t => postC L tb e a s o t ∧ Framed s o t (fieldLocs frame_1_writes a s ++ arrayLocs frame_1_arrays a s ++ staticLocs frame_1_statics s) 600000 7290000) := by
  intro l _ _ _ p e ha hc hk s m args below hf hfit hheap happ hpre
  obtain ⟨k, o, h1, h2, h3, rfl, hF⟩ := lw_comes l p e ha hc hk s m args below hf hfit hheap happ hpre
  exact ⟨k, _, h1, h2, h3, hL args s _, lw_frame hF⟩
theorem i_vc : Claimed_1_1 ∧ Claimed_1_2 := ⟨lw_limb limb_1_1 (fun args s t => by simp [limb_1_1, Cond.after, Cond.holds, Cond.value]), lw_limb limb_1_2 (fun args s t => Cond.after_iff.mpr (by
  first | (rw [show limb_1_2 = Cond.eq .result (.int 1) from rfl, Cond.eq_ints (x := 1) (y := 1) rfl rfl]; simp; done) | (simp [limb_1_2, Cond.value, Term.eval]; done)))⟩
end
