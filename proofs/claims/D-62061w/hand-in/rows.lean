section
-- ===== PART A: goes FIRST, ahead of the names: the tables' words, and 'selects' of the private methods out of them =====
/-- a private method of a class that the tables say can be made, by its rows of tables_1 -/
def lw_okq (q : MethodName × Nat) : Prop := (q.1.cls ≠ "java/lang/invoke/MethodHandle" ∧ q.1.cls ≠ "java/lang/invoke/VarHandle") ∧ Cond.instantiable q.1.cls q.2 ∈ tables_1 ∧ Cond.privateMethod q.1 ∈ tables_1 ∧ Cond.instanceMethod q.1 ∈ tables_1
set_option maxRecDepth 100000
theorem lw_p0 : lw_okq (⟨"PolygonFill", "addCorner", "(II)V"⟩, 11) := ⟨⟨by decide +kernel, by decide +kernel⟩, List.mem_of_getElem? (i := 4) rfl, List.mem_of_getElem? (i := 54) rfl, List.mem_of_getElem? (i := 55) rfl⟩
theorem lw_p1 : lw_okq (⟨"PolygonFill", "coverAll", "(Z)V"⟩, 11) := ⟨⟨by decide +kernel, by decide +kernel⟩, List.mem_of_getElem? (i := 4) rfl, List.mem_of_getElem? (i := 78) rfl, List.mem_of_getElem? (i := 79) rfl⟩
theorem lw_p2 : lw_okq (⟨"PolygonFill", "sweep", "(IZ)V"⟩, 11) := ⟨⟨by decide +kernel, by decide +kernel⟩, List.mem_of_getElem? (i := 4) rfl, List.mem_of_getElem? (i := 82) rfl, List.mem_of_getElem? (i := 83) rfl⟩
theorem lw_p3 : lw_okq (⟨"PolygonFill", "findCrossings", "(I)V"⟩, 11) := ⟨⟨by decide +kernel, by decide +kernel⟩, List.mem_of_getElem? (i := 4) rfl, List.mem_of_getElem? (i := 86) rfl, List.mem_of_getElem? (i := 87) rfl⟩
theorem lw_p4 : lw_okq (⟨"PolygonFill", "addEdge", "(IIIII)V"⟩, 11) := ⟨⟨by decide +kernel, by decide +kernel⟩, List.mem_of_getElem? (i := 4) rfl, List.mem_of_getElem? (i := 90) rfl, List.mem_of_getElem? (i := 91) rfl⟩
theorem lw_p5 : lw_okq (⟨"PolygonFill", "leftOf", "(II)Z"⟩, 11) := ⟨⟨by decide +kernel, by decide +kernel⟩, List.mem_of_getElem? (i := 4) rfl, List.mem_of_getElem? (i := 94) rfl, List.mem_of_getElem? (i := 95) rfl⟩
theorem lw_p6 : lw_okq (⟨"PolygonFill", "exchange", "(II)V"⟩, 11) := ⟨⟨by decide +kernel, by decide +kernel⟩, List.mem_of_getElem? (i := 4) rfl, List.mem_of_getElem? (i := 98) rfl, List.mem_of_getElem? (i := 99) rfl⟩
theorem lw_p7 : lw_okq (⟨"PolygonFill", "allWays", "()I"⟩, 11) := ⟨⟨by decide +kernel, by decide +kernel⟩, List.mem_of_getElem? (i := 4) rfl, List.mem_of_getElem? (i := 102) rfl, List.mem_of_getElem? (i := 103) rfl⟩
theorem lw_p8 : lw_okq (⟨"PolygonFillModel", "out", "(I)Z"⟩, 6) := ⟨⟨by decide +kernel, by decide +kernel⟩, List.mem_of_getElem? (i := 136) rfl, List.mem_of_getElem? (i := 165) rfl, List.mem_of_getElem? (i := 166) rfl⟩
theorem lw_p9 : lw_okq (⟨"PolygonFillModel", "put", "(II)V"⟩, 6) := ⟨⟨by decide +kernel, by decide +kernel⟩, List.mem_of_getElem? (i := 136) rfl, List.mem_of_getElem? (i := 169) rfl, List.mem_of_getElem? (i := 170) rfl⟩
theorem lw_p10 : lw_okq (⟨"PolygonFillModel", "badPixel", "(II)Z"⟩, 6) := ⟨⟨by decide +kernel, by decide +kernel⟩, List.mem_of_getElem? (i := 136) rfl, List.mem_of_getElem? (i := 197) rfl, List.mem_of_getElem? (i := 198) rfl⟩
theorem lw_p11 : lw_okq (⟨"PolygonFillModel", "inside", "(IIZ)Z"⟩, 6) := ⟨⟨by decide +kernel, by decide +kernel⟩, List.mem_of_getElem? (i := 136) rfl, List.mem_of_getElem? (i := 201) rfl, List.mem_of_getElem? (i := 202) rfl⟩
theorem lw_p12 : lw_okq (⟨"PolygonFillModel", "edge", "(IIII)I"⟩, 6) := ⟨⟨by decide +kernel, by decide +kernel⟩, List.mem_of_getElem? (i := 136) rfl, List.mem_of_getElem? (i := 209) rfl, List.mem_of_getElem? (i := 210) rfl⟩
def lw_privs_1 : List (MethodName × Nat) := [(⟨"PolygonFill", "addCorner", "(II)V"⟩, 11), (⟨"PolygonFill", "coverAll", "(Z)V"⟩, 11), (⟨"PolygonFill", "sweep", "(IZ)V"⟩, 11), (⟨"PolygonFill", "findCrossings", "(I)V"⟩, 11), (⟨"PolygonFill", "addEdge", "(IIIII)V"⟩, 11), (⟨"PolygonFill", "leftOf", "(II)Z"⟩, 11), (⟨"PolygonFill", "exchange", "(II)V"⟩, 11), (⟨"PolygonFill", "allWays", "()I"⟩, 11), (⟨"PolygonFillModel", "out", "(I)Z"⟩, 6), (⟨"PolygonFillModel", "put", "(II)V"⟩, 6), (⟨"PolygonFillModel", "badPixel", "(II)Z"⟩, 6), (⟨"PolygonFillModel", "inside", "(IIZ)Z"⟩, 6), (⟨"PolygonFillModel", "edge", "(IIII)I"⟩, 6)]
theorem lw_r1 : ∀ q ∈ lw_privs_1, lw_okq q := List.forall_mem_cons.mpr ⟨lw_p0, List.forall_mem_cons.mpr ⟨lw_p1, List.forall_mem_cons.mpr ⟨lw_p2, List.forall_mem_cons.mpr ⟨lw_p3, List.forall_mem_cons.mpr ⟨lw_p4, List.forall_mem_cons.mpr ⟨lw_p5, List.forall_mem_cons.mpr ⟨lw_p6, List.forall_mem_cons.mpr ⟨lw_p7, List.forall_mem_cons.mpr ⟨lw_p8, List.forall_mem_cons.mpr ⟨lw_p9, List.forall_mem_cons.mpr ⟨lw_p10, List.forall_mem_cons.mpr ⟨lw_p11, List.forall_mem_cons.mpr ⟨lw_p12, fun _ h => absurd h List.not_mem_nil⟩⟩⟩⟩⟩⟩⟩⟩⟩⟩⟩⟩⟩
def lw_privs : List (MethodName × Nat) := lw_privs_1
def lw_tbl : List Cond := k2_sels lw_privs ++ tables_1
theorem lw_privs_ok : ∀ q ∈ lw_privs, lw_okq q := lw_r1
-- ===== ONE list of words for every method: the tables' words that hold all through a run =====
def lw_all : List Cond := lw_tbl.filter goodWord
/-- a word of the tables by its place: claim/WORDS.tsv -/
theorem lw_w {w : Cond} (i : Nat) (h : lw_tbl[i]? = some w) (g : goodWord w = true) : w ∈ lw_all := List.mem_filter.mpr ⟨List.mem_of_getElem? h, g⟩
theorem lw_all_tbl {w : Cond} (h : w ∈ lw_all) : w ∈ lw_tbl := (List.mem_filter.mp h).1
theorem lw_self : GoodIn lw_all lw_all := fun w h => ⟨h, good_of_word (List.mem_filter.mp h).2⟩
/-- a class's field words, by their places -/
theorem lw_in (ws : List Cond) (ps : List Nat) (hp : ws = ps.filterMap (fun i => lw_tbl[i]?)) (hg : ws.all goodWord = true) : ∀ w ∈ ws, w ∈ lw_all := by
  intro w h
  have h1 := List.all_eq_true.mp hg w h
  rw [hp] at h
  obtain ⟨i, -, hi⟩ := List.mem_filterMap.mp h
  exact lw_w i hi h1
/-- the words of a contract for the method y with code b, L locals, answer r -/
abbrev ws_ (y : MethodName) (b : ByteArray) (L : Nat) (r : Option FieldType) : List Cond := Cond.code y b L r :: lw_all
theorem lw_meth {y : MethodName} {b : ByteArray} {L : Nat} {r : Option FieldType} (h : Cond.code y b L r ∈ lw_all) : GoodIn lw_all (ws_ y b L r) := by
  intro w hw
  rcases List.mem_cons.mp hw with e | e
  · rw [e]
    exact lw_self _ h
  · exact lw_self _ e
theorem lw_app {a c : List Cond} (ha : ∀ w ∈ a, w ∈ lw_all) (hc : GoodIn lw_all c) : GoodIn lw_all (a ++ c) := by
  intro w hw
  rcases List.mem_append.mp hw with e | e
  · exact lw_self w (ha w e)
  · exact hc w e
/-- what a call through an object asks: cwV n hts (lw_V ..) -/
theorem lw_V {own : String} {idx : Nat} {C : String} {y : MethodName} {b : ByteArray} {L : Nat} {r : Option FieldType} (h1 : Cond.methodLink own idx y ∈ lw_all) (h2 : Cond.instanceMethod y ∈ lw_all) (h3 : Cond.selects C y y ∈ lw_all) (h4 : Cond.initialized C ∈ lw_all) (h5 : Cond.code y b L r ∈ lw_all) : GoodIn lw_all (wsV own idx C y (ws_ y b L r)) := by
  refine lw_app ?_ (lw_meth h5)
  intro w hw
  simp only [List.mem_cons, List.not_mem_nil, or_false] at hw
  rcases hw with e | e | e | e
  · rw [e]; exact h1
  · rw [e]; exact h2
  · rw [e]; exact h3
  · rw [e]; exact h4
/-- what a static call asks: va_cwS n hts (lw_S ..) -/
theorem lw_S {own : String} {idx : Nat} {y : MethodName} {b : ByteArray} {L : Nat} {r : Option FieldType} (h1 : Cond.methodLink own idx y ∈ lw_all) (h2 : Cond.static y ∈ lw_all) (h3 : Cond.initialized y.cls ∈ lw_all) (h4 : Cond.code y b L r ∈ lw_all) : GoodIn lw_all (va_wsS own idx y (ws_ y b L r)) := by
  refine lw_app ?_ (lw_meth h4)
  intro w hw
  simp only [List.mem_cons, List.not_mem_nil, or_false] at hw
  rcases hw with e | e | e
  · rw [e]; exact h1
  · rw [e]; exact h2
  · rw [e]; exact h3
/-- the words of a contract for a method WITH HANDLERS (hh: its table) -/
abbrev wsW_ (y : MethodName) (b : ByteArray) (L : Nat) (r : Option FieldType) (hh : List (Nat × Nat × Nat × Nat)) : List Cond := Cond.codeWith y b L r hh :: lw_all
theorem lw_methW {y : MethodName} {b : ByteArray} {L : Nat} {r : Option FieldType} {hh : List (Nat × Nat × Nat × Nat)} (h : Cond.codeWith y b L r hh ∈ lw_all) : GoodIn lw_all (wsW_ y b L r hh) := by
  intro w hw
  rcases List.mem_cons.mp hw with e | e
  · rw [e]
    exact lw_self _ h
  · exact lw_self _ e
/-- any list of words by their places (lw_in), good -/
theorem lw_good {ws : List Cond} (h : ∀ w ∈ ws, w ∈ lw_all) : GoodIn lw_all ws := fun w hw => lw_self w (h w hw)
/-- what a call of a method with handlers asks: vx_cwVW n hts (lw_VW ..), vx_cwSW n hts (lw_SW ..) -/
theorem lw_VW {own : String} {idx : Nat} {C : String} {y : MethodName} {b : ByteArray} {L : Nat} {r : Option FieldType} {hh : List (Nat × Nat × Nat × Nat)} (h1 : Cond.methodLink own idx y ∈ lw_all) (h2 : Cond.instanceMethod y ∈ lw_all) (h3 : Cond.selects C y y ∈ lw_all) (h4 : Cond.initialized C ∈ lw_all) (h5 : Cond.codeWith y b L r hh ∈ lw_all) : GoodIn lw_all (wsV own idx C y (wsW_ y b L r hh)) := by
  refine lw_app ?_ (lw_methW h5)
  intro w hw
  simp only [List.mem_cons, List.not_mem_nil, or_false] at hw
  rcases hw with e | e | e | e
  · rw [e]; exact h1
  · rw [e]; exact h2
  · rw [e]; exact h3
  · rw [e]; exact h4
theorem lw_SW {own : String} {idx : Nat} {y : MethodName} {b : ByteArray} {L : Nat} {r : Option FieldType} {hh : List (Nat × Nat × Nat × Nat)} (h1 : Cond.methodLink own idx y ∈ lw_all) (h2 : Cond.static y ∈ lw_all) (h3 : Cond.initialized y.cls ∈ lw_all) (h4 : Cond.codeWith y b L r hh ∈ lw_all) : GoodIn lw_all (va_wsS own idx y (wsW_ y b L r hh)) := by
  refine lw_app ?_ (lw_methW h4)
  intro w hw
  simp only [List.mem_cons, List.not_mem_nil, or_false] at hw
  rcases hw with e | e | e
  · rw [e]; exact h1
  · rw [e]; exact h2
  · rw [e]; exact h3
/-- a word by its place in its run of the tables -/
theorem lw_at {r : List Cond} (hr : ∀ w ∈ r, w ∈ lw_tbl) {w : Cond} (i : Nat) (h : r[i]? = some w) : w ∈ lw_tbl := hr w (List.mem_of_getElem? h)
theorem lw_g {w : Cond} (h : w ∈ lw_tbl) (g : goodWord w = true) : w ∈ lw_all := List.mem_filter.mpr ⟨h, g⟩
theorem lw_ms : ∀ w ∈ k2_sels lw_privs, w ∈ lw_tbl := fun w h => show w ∈ k2_sels lw_privs ++ tables_1 from List.mem_append_left _ h
theorem lw_m0 : ∀ w ∈ tables_1, w ∈ lw_tbl := fun w h => show w ∈ k2_sels lw_privs ++ tables_1 from List.mem_append_right (k2_sels lw_privs) h
theorem qs0 : (Cond.selects "PolygonFill" ⟨"PolygonFill", "addCorner", "(II)V"⟩ ⟨"PolygonFill", "addCorner", "(II)V"⟩) ∈ lw_all := lw_g (lw_at lw_ms 0 rfl) rfl
theorem qs1 : (Cond.selects "PolygonFill" ⟨"PolygonFill", "coverAll", "(Z)V"⟩ ⟨"PolygonFill", "coverAll", "(Z)V"⟩) ∈ lw_all := lw_g (lw_at lw_ms 1 rfl) rfl
theorem qs2 : (Cond.selects "PolygonFill" ⟨"PolygonFill", "sweep", "(IZ)V"⟩ ⟨"PolygonFill", "sweep", "(IZ)V"⟩) ∈ lw_all := lw_g (lw_at lw_ms 2 rfl) rfl
theorem qs3 : (Cond.selects "PolygonFill" ⟨"PolygonFill", "findCrossings", "(I)V"⟩ ⟨"PolygonFill", "findCrossings", "(I)V"⟩) ∈ lw_all := lw_g (lw_at lw_ms 3 rfl) rfl
theorem qs4 : (Cond.selects "PolygonFill" ⟨"PolygonFill", "addEdge", "(IIIII)V"⟩ ⟨"PolygonFill", "addEdge", "(IIIII)V"⟩) ∈ lw_all := lw_g (lw_at lw_ms 4 rfl) rfl
theorem qs5 : (Cond.selects "PolygonFill" ⟨"PolygonFill", "leftOf", "(II)Z"⟩ ⟨"PolygonFill", "leftOf", "(II)Z"⟩) ∈ lw_all := lw_g (lw_at lw_ms 5 rfl) rfl
theorem qs6 : (Cond.selects "PolygonFill" ⟨"PolygonFill", "exchange", "(II)V"⟩ ⟨"PolygonFill", "exchange", "(II)V"⟩) ∈ lw_all := lw_g (lw_at lw_ms 6 rfl) rfl
theorem qs7 : (Cond.selects "PolygonFill" ⟨"PolygonFill", "allWays", "()I"⟩ ⟨"PolygonFill", "allWays", "()I"⟩) ∈ lw_all := lw_g (lw_at lw_ms 7 rfl) rfl
theorem qs8 : (Cond.selects "PolygonFillModel" ⟨"PolygonFillModel", "out", "(I)Z"⟩ ⟨"PolygonFillModel", "out", "(I)Z"⟩) ∈ lw_all := lw_g (lw_at lw_ms 8 rfl) rfl
theorem qs9 : (Cond.selects "PolygonFillModel" ⟨"PolygonFillModel", "put", "(II)V"⟩ ⟨"PolygonFillModel", "put", "(II)V"⟩) ∈ lw_all := lw_g (lw_at lw_ms 9 rfl) rfl
theorem qs10 : (Cond.selects "PolygonFillModel" ⟨"PolygonFillModel", "badPixel", "(II)Z"⟩ ⟨"PolygonFillModel", "badPixel", "(II)Z"⟩) ∈ lw_all := lw_g (lw_at lw_ms 10 rfl) rfl
theorem qs11 : (Cond.selects "PolygonFillModel" ⟨"PolygonFillModel", "inside", "(IIZ)Z"⟩ ⟨"PolygonFillModel", "inside", "(IIZ)Z"⟩) ∈ lw_all := lw_g (lw_at lw_ms 11 rfl) rfl
theorem qs12 : (Cond.selects "PolygonFillModel" ⟨"PolygonFillModel", "edge", "(IIII)I"⟩ ⟨"PolygonFillModel", "edge", "(IIII)I"⟩) ∈ lw_all := lw_g (lw_at lw_ms 12 rfl) rfl
end
section
/-! PolygonFill -/
set_option maxRecDepth 100000
def RX0 : String := "PolygonFill"
def TX0 : u_T := fun k => match k with
  | 0 => ("PolygonFill", "colours", "[I", true)
  | 1 => ("PolygonFill", "contours", "I", false)
  | 2 => ("PolygonFill", "corners", "I", false)
  | 3 => ("PolygonFill", "first", "[I", true)
  | 4 => ("PolygonFill", "xs", "[I", true)
  | 5 => ("PolygonFill", "ys", "[I", true)
  | 6 => ("PolygonFill", "crossings", "I", false)
  | 7 => ("PolygonFill", "top", "[I", true)
  | 8 => ("PolygonFill", "bottom", "[I", true)
  | 9 => ("PolygonFill", "way", "[I", true)
  | _ => ("PolygonFill", "covered", "[I", true)
def tyX0 : Nat → FieldType := fun k => match k with
  | 0 => .array .int
  | 1 => .int
  | 2 => .int
  | 3 => .array .int
  | 4 => .array .int
  | 5 => .array .int
  | 6 => .int
  | 7 => .array .int
  | 8 => .array .int
  | 9 => .array .int
  | _ => .array .int
abbrev wsX00 : List Cond := u_ws RX0 TX0 11
theorem nmX0 : ∀ a, a < 11 → ∀ b, b < 11 → a ≠ b → (TX0 a).2.1 ≠ (TX0 b).2.1 := by decide +kernel
theorem tyX0_ok : ∀ k, k < 11 → parseFieldDescriptor (TX0 k).2.2.1 = some (tyX0 k) := by decide +kernel
abbrev cX0_init : ByteArray := prog_1_method_1_code
def yX0_init : MethodName := ⟨RX0, "<init>", "()V"⟩
theorem dX0_init_0 : decode cX0_init 0 = .ok (.aload_n 0, 1) := by decide +kernel
theorem dX0_init_1 : decode cX0_init 1 = .ok (.invokespecial 1, 3) := by decide +kernel
theorem dX0_init_4 : decode cX0_init 4 = .ok (.aload_n 0, 1) := by decide +kernel
theorem dX0_init_5 : decode cX0_init 5 = .ok (.sipush 256, 3) := by decide +kernel
theorem dX0_init_8 : decode cX0_init 8 = .ok (.newarray .int, 2) := by decide +kernel
theorem dX0_init_10 : decode cX0_init 10 = .ok (.putfield 7, 3) := by decide +kernel
theorem dX0_init_13 : decode cX0_init 13 = .ok (.aload_n 0, 1) := by decide +kernel
theorem dX0_init_14 : decode cX0_init 14 = .ok (.iconst 5, 1) := by decide +kernel
theorem dX0_init_15 : decode cX0_init 15 = .ok (.newarray .int, 2) := by decide +kernel
theorem dX0_init_17 : decode cX0_init 17 = .ok (.putfield 13, 3) := by decide +kernel
theorem dX0_init_20 : decode cX0_init 20 = .ok (.aload_n 0, 1) := by decide +kernel
theorem dX0_init_21 : decode cX0_init 21 = .ok (.bipush 12, 2) := by decide +kernel
theorem dX0_init_23 : decode cX0_init 23 = .ok (.newarray .int, 2) := by decide +kernel
theorem dX0_init_25 : decode cX0_init 25 = .ok (.putfield 16, 3) := by decide +kernel
theorem dX0_init_28 : decode cX0_init 28 = .ok (.aload_n 0, 1) := by decide +kernel
theorem dX0_init_29 : decode cX0_init 29 = .ok (.bipush 12, 2) := by decide +kernel
theorem dX0_init_31 : decode cX0_init 31 = .ok (.newarray .int, 2) := by decide +kernel
theorem dX0_init_33 : decode cX0_init 33 = .ok (.putfield 19, 3) := by decide +kernel
theorem dX0_init_36 : decode cX0_init 36 = .ok (.aload_n 0, 1) := by decide +kernel
theorem dX0_init_37 : decode cX0_init 37 = .ok (.bipush 12, 2) := by decide +kernel
theorem dX0_init_39 : decode cX0_init 39 = .ok (.newarray .int, 2) := by decide +kernel
theorem dX0_init_41 : decode cX0_init 41 = .ok (.putfield 22, 3) := by decide +kernel
theorem dX0_init_44 : decode cX0_init 44 = .ok (.aload_n 0, 1) := by decide +kernel
theorem dX0_init_45 : decode cX0_init 45 = .ok (.bipush 12, 2) := by decide +kernel
theorem dX0_init_47 : decode cX0_init 47 = .ok (.newarray .int, 2) := by decide +kernel
theorem dX0_init_49 : decode cX0_init 49 = .ok (.putfield 25, 3) := by decide +kernel
theorem dX0_init_52 : decode cX0_init 52 = .ok (.aload_n 0, 1) := by decide +kernel
theorem dX0_init_53 : decode cX0_init 53 = .ok (.bipush 12, 2) := by decide +kernel
theorem dX0_init_55 : decode cX0_init 55 = .ok (.newarray .int, 2) := by decide +kernel
theorem dX0_init_57 : decode cX0_init 57 = .ok (.putfield 28, 3) := by decide +kernel
theorem dX0_init_60 : decode cX0_init 60 = .ok (.aload_n 0, 1) := by decide +kernel
theorem dX0_init_61 : decode cX0_init 61 = .ok (.sipush 256, 3) := by decide +kernel
theorem dX0_init_64 : decode cX0_init 64 = .ok (.newarray .int, 2) := by decide +kernel
theorem dX0_init_66 : decode cX0_init 66 = .ok (.putfield 31, 3) := by decide +kernel
theorem dX0_init_69 : decode cX0_init 69 = .ok (.aload_n 0, 1) := by decide +kernel
theorem dX0_init_70 : decode cX0_init 70 = .ok (.iconst 0, 1) := by decide +kernel
theorem dX0_init_71 : decode cX0_init 71 = .ok (.putfield 34, 3) := by decide +kernel
theorem dX0_init_74 : decode cX0_init 74 = .ok (.return_, 1) := by decide +kernel
abbrev cX0_begin : ByteArray := prog_1_method_5_code
def yX0_begin : MethodName := ⟨RX0, "begin", "(II)I"⟩
theorem dX0_begin_0 : decode cX0_begin 0 = .ok (.iload_n 1, 1) := by decide +kernel
theorem dX0_begin_1 : decode cX0_begin 1 = .ok (.iload_n 2, 1) := by decide +kernel
theorem dX0_begin_2 : decode cX0_begin 2 = .ok (.invokestatic 41, 3) := by decide +kernel
theorem dX0_begin_5 : decode cX0_begin 5 = .ok (.ifCond .eq 5, 3) := by decide +kernel
theorem dX0_begin_8 : decode cX0_begin 8 = .ok (.iconst (-1), 1) := by decide +kernel
theorem dX0_begin_9 : decode cX0_begin 9 = .ok (.ireturn, 1) := by decide +kernel
theorem dX0_begin_10 : decode cX0_begin 10 = .ok (.aload_n 0, 1) := by decide +kernel
theorem dX0_begin_11 : decode cX0_begin 11 = .ok (.getfield 34, 3) := by decide +kernel
theorem dX0_begin_14 : decode cX0_begin 14 = .ok (.iconst 4, 1) := by decide +kernel
theorem dX0_begin_15 : decode cX0_begin 15 = .ok (.if_icmp .ge 12, 3) := by decide +kernel
theorem dX0_begin_18 : decode cX0_begin 18 = .ok (.aload_n 0, 1) := by decide +kernel
theorem dX0_begin_19 : decode cX0_begin 19 = .ok (.getfield 38, 3) := by decide +kernel
theorem dX0_begin_22 : decode cX0_begin 22 = .ok (.bipush 12, 2) := by decide +kernel
theorem dX0_begin_24 : decode cX0_begin 24 = .ok (.if_icmp .lt 6, 3) := by decide +kernel
theorem dX0_begin_27 : decode cX0_begin 27 = .ok (.bipush (-2), 2) := by decide +kernel
theorem dX0_begin_29 : decode cX0_begin 29 = .ok (.ireturn, 1) := by decide +kernel
theorem dX0_begin_30 : decode cX0_begin 30 = .ok (.aload_n 0, 1) := by decide +kernel
theorem dX0_begin_31 : decode cX0_begin 31 = .ok (.getfield 13, 3) := by decide +kernel
theorem dX0_begin_34 : decode cX0_begin 34 = .ok (.aload_n 0, 1) := by decide +kernel
theorem dX0_begin_35 : decode cX0_begin 35 = .ok (.getfield 34, 3) := by decide +kernel
theorem dX0_begin_38 : decode cX0_begin 38 = .ok (.aload_n 0, 1) := by decide +kernel
theorem dX0_begin_39 : decode cX0_begin 39 = .ok (.getfield 38, 3) := by decide +kernel
theorem dX0_begin_42 : decode cX0_begin 42 = .ok (.iastore, 1) := by decide +kernel
theorem dX0_begin_43 : decode cX0_begin 43 = .ok (.aload_n 0, 1) := by decide +kernel
theorem dX0_begin_44 : decode cX0_begin 44 = .ok (.dup, 1) := by decide +kernel
theorem dX0_begin_45 : decode cX0_begin 45 = .ok (.getfield 34, 3) := by decide +kernel
theorem dX0_begin_48 : decode cX0_begin 48 = .ok (.iconst 1, 1) := by decide +kernel
theorem dX0_begin_49 : decode cX0_begin 49 = .ok (.iadd, 1) := by decide +kernel
theorem dX0_begin_50 : decode cX0_begin 50 = .ok (.putfield 34, 3) := by decide +kernel
theorem dX0_begin_53 : decode cX0_begin 53 = .ok (.aload_n 0, 1) := by decide +kernel
theorem dX0_begin_54 : decode cX0_begin 54 = .ok (.iload_n 1, 1) := by decide +kernel
theorem dX0_begin_55 : decode cX0_begin 55 = .ok (.iload_n 2, 1) := by decide +kernel
theorem dX0_begin_56 : decode cX0_begin 56 = .ok (.invokevirtual 45, 3) := by decide +kernel
theorem dX0_begin_59 : decode cX0_begin 59 = .ok (.aload_n 0, 1) := by decide +kernel
theorem dX0_begin_60 : decode cX0_begin 60 = .ok (.getfield 34, 3) := by decide +kernel
theorem dX0_begin_63 : decode cX0_begin 63 = .ok (.ireturn, 1) := by decide +kernel
abbrev cX0_badPoint : ByteArray := prog_1_method_2_code
def yX0_badPoint : MethodName := ⟨RX0, "badPoint", "(II)Z"⟩
theorem dX0_badPoint_0 : decode cX0_badPoint 0 = .ok (.iload_n 0, 1) := by decide +kernel
theorem dX0_badPoint_1 : decode cX0_badPoint 1 = .ok (.ifCond .lt 19, 3) := by decide +kernel
theorem dX0_badPoint_4 : decode cX0_badPoint 4 = .ok (.iload_n 0, 1) := by decide +kernel
theorem dX0_badPoint_5 : decode cX0_badPoint 5 = .ok (.bipush 64, 2) := by decide +kernel
theorem dX0_badPoint_7 : decode cX0_badPoint 7 = .ok (.if_icmp .gt 13, 3) := by decide +kernel
theorem dX0_badPoint_10 : decode cX0_badPoint 10 = .ok (.iload_n 1, 1) := by decide +kernel
theorem dX0_badPoint_11 : decode cX0_badPoint 11 = .ok (.ifCond .lt 9, 3) := by decide +kernel
theorem dX0_badPoint_14 : decode cX0_badPoint 14 = .ok (.iload_n 1, 1) := by decide +kernel
theorem dX0_badPoint_15 : decode cX0_badPoint 15 = .ok (.bipush 64, 2) := by decide +kernel
theorem dX0_badPoint_17 : decode cX0_badPoint 17 = .ok (.if_icmp .le 7, 3) := by decide +kernel
theorem dX0_badPoint_20 : decode cX0_badPoint 20 = .ok (.iconst 1, 1) := by decide +kernel
theorem dX0_badPoint_21 : decode cX0_badPoint 21 = .ok (.goto 4, 3) := by decide +kernel
theorem dX0_badPoint_24 : decode cX0_badPoint 24 = .ok (.iconst 0, 1) := by decide +kernel
theorem dX0_badPoint_25 : decode cX0_badPoint 25 = .ok (.ireturn, 1) := by decide +kernel
abbrev cX0_addCorner : ByteArray := prog_1_method_4_code
def yX0_addCorner : MethodName := ⟨RX0, "addCorner", "(II)V"⟩
theorem dX0_addCorner_0 : decode cX0_addCorner 0 = .ok (.aload_n 0, 1) := by decide +kernel
theorem dX0_addCorner_1 : decode cX0_addCorner 1 = .ok (.getfield 16, 3) := by decide +kernel
theorem dX0_addCorner_4 : decode cX0_addCorner 4 = .ok (.aload_n 0, 1) := by decide +kernel
theorem dX0_addCorner_5 : decode cX0_addCorner 5 = .ok (.getfield 38, 3) := by decide +kernel
theorem dX0_addCorner_8 : decode cX0_addCorner 8 = .ok (.iload_n 1, 1) := by decide +kernel
theorem dX0_addCorner_9 : decode cX0_addCorner 9 = .ok (.iastore, 1) := by decide +kernel
theorem dX0_addCorner_10 : decode cX0_addCorner 10 = .ok (.aload_n 0, 1) := by decide +kernel
theorem dX0_addCorner_11 : decode cX0_addCorner 11 = .ok (.getfield 19, 3) := by decide +kernel
theorem dX0_addCorner_14 : decode cX0_addCorner 14 = .ok (.aload_n 0, 1) := by decide +kernel
theorem dX0_addCorner_15 : decode cX0_addCorner 15 = .ok (.getfield 38, 3) := by decide +kernel
theorem dX0_addCorner_18 : decode cX0_addCorner 18 = .ok (.iload_n 2, 1) := by decide +kernel
theorem dX0_addCorner_19 : decode cX0_addCorner 19 = .ok (.iastore, 1) := by decide +kernel
theorem dX0_addCorner_20 : decode cX0_addCorner 20 = .ok (.aload_n 0, 1) := by decide +kernel
theorem dX0_addCorner_21 : decode cX0_addCorner 21 = .ok (.dup, 1) := by decide +kernel
theorem dX0_addCorner_22 : decode cX0_addCorner 22 = .ok (.getfield 38, 3) := by decide +kernel
theorem dX0_addCorner_25 : decode cX0_addCorner 25 = .ok (.iconst 1, 1) := by decide +kernel
theorem dX0_addCorner_26 : decode cX0_addCorner 26 = .ok (.iadd, 1) := by decide +kernel
theorem dX0_addCorner_27 : decode cX0_addCorner 27 = .ok (.putfield 38, 3) := by decide +kernel
theorem dX0_addCorner_30 : decode cX0_addCorner 30 = .ok (.aload_n 0, 1) := by decide +kernel
theorem dX0_addCorner_31 : decode cX0_addCorner 31 = .ok (.getfield 13, 3) := by decide +kernel
theorem dX0_addCorner_34 : decode cX0_addCorner 34 = .ok (.aload_n 0, 1) := by decide +kernel
theorem dX0_addCorner_35 : decode cX0_addCorner 35 = .ok (.getfield 34, 3) := by decide +kernel
theorem dX0_addCorner_38 : decode cX0_addCorner 38 = .ok (.aload_n 0, 1) := by decide +kernel
theorem dX0_addCorner_39 : decode cX0_addCorner 39 = .ok (.getfield 38, 3) := by decide +kernel
theorem dX0_addCorner_42 : decode cX0_addCorner 42 = .ok (.iastore, 1) := by decide +kernel
theorem dX0_addCorner_43 : decode cX0_addCorner 43 = .ok (.return_, 1) := by decide +kernel
abbrev cX0_corner : ByteArray := prog_1_method_6_code
def yX0_corner : MethodName := ⟨RX0, "corner", "(II)I"⟩
theorem dX0_corner_0 : decode cX0_corner 0 = .ok (.iload_n 1, 1) := by decide +kernel
theorem dX0_corner_1 : decode cX0_corner 1 = .ok (.iload_n 2, 1) := by decide +kernel
theorem dX0_corner_2 : decode cX0_corner 2 = .ok (.invokestatic 41, 3) := by decide +kernel
theorem dX0_corner_5 : decode cX0_corner 5 = .ok (.ifCond .eq 5, 3) := by decide +kernel
theorem dX0_corner_8 : decode cX0_corner 8 = .ok (.iconst (-1), 1) := by decide +kernel
theorem dX0_corner_9 : decode cX0_corner 9 = .ok (.ireturn, 1) := by decide +kernel
theorem dX0_corner_10 : decode cX0_corner 10 = .ok (.aload_n 0, 1) := by decide +kernel
theorem dX0_corner_11 : decode cX0_corner 11 = .ok (.getfield 34, 3) := by decide +kernel
theorem dX0_corner_14 : decode cX0_corner 14 = .ok (.ifCond .eq 12, 3) := by decide +kernel
theorem dX0_corner_17 : decode cX0_corner 17 = .ok (.aload_n 0, 1) := by decide +kernel
theorem dX0_corner_18 : decode cX0_corner 18 = .ok (.getfield 38, 3) := by decide +kernel
theorem dX0_corner_21 : decode cX0_corner 21 = .ok (.bipush 12, 2) := by decide +kernel
theorem dX0_corner_23 : decode cX0_corner 23 = .ok (.if_icmp .lt 6, 3) := by decide +kernel
theorem dX0_corner_26 : decode cX0_corner 26 = .ok (.bipush (-2), 2) := by decide +kernel
theorem dX0_corner_28 : decode cX0_corner 28 = .ok (.ireturn, 1) := by decide +kernel
theorem dX0_corner_29 : decode cX0_corner 29 = .ok (.aload_n 0, 1) := by decide +kernel
theorem dX0_corner_30 : decode cX0_corner 30 = .ok (.iload_n 1, 1) := by decide +kernel
theorem dX0_corner_31 : decode cX0_corner 31 = .ok (.iload_n 2, 1) := by decide +kernel
theorem dX0_corner_32 : decode cX0_corner 32 = .ok (.invokevirtual 45, 3) := by decide +kernel
theorem dX0_corner_35 : decode cX0_corner 35 = .ok (.aload_n 0, 1) := by decide +kernel
theorem dX0_corner_36 : decode cX0_corner 36 = .ok (.getfield 38, 3) := by decide +kernel
theorem dX0_corner_39 : decode cX0_corner 39 = .ok (.ireturn, 1) := by decide +kernel
abbrev cX0_move : ByteArray := prog_1_method_7_code
def yX0_move : MethodName := ⟨RX0, "move", "(II)I"⟩
theorem dX0_move_0 : decode cX0_move 0 = .ok (.iconst 0, 1) := by decide +kernel
theorem dX0_move_1 : decode cX0_move 1 = .ok (.istore_n 3, 1) := by decide +kernel
theorem dX0_move_2 : decode cX0_move 2 = .ok (.iload_n 3, 1) := by decide +kernel
theorem dX0_move_3 : decode cX0_move 3 = .ok (.aload_n 0, 1) := by decide +kernel
theorem dX0_move_4 : decode cX0_move 4 = .ok (.getfield 38, 3) := by decide +kernel
theorem dX0_move_7 : decode cX0_move 7 = .ok (.if_icmp .ge 59, 3) := by decide +kernel
theorem dX0_move_10 : decode cX0_move 10 = .ok (.iload_n 1, 1) := by decide +kernel
theorem dX0_move_11 : decode cX0_move 11 = .ok (.aload_n 0, 1) := by decide +kernel
theorem dX0_move_12 : decode cX0_move 12 = .ok (.getfield 16, 3) := by decide +kernel
theorem dX0_move_15 : decode cX0_move 15 = .ok (.iload_n 3, 1) := by decide +kernel
theorem dX0_move_16 : decode cX0_move 16 = .ok (.iaload, 1) := by decide +kernel
theorem dX0_move_17 : decode cX0_move 17 = .ok (.ineg, 1) := by decide +kernel
theorem dX0_move_18 : decode cX0_move 18 = .ok (.if_icmp .lt 40, 3) := by decide +kernel
theorem dX0_move_21 : decode cX0_move 21 = .ok (.iload_n 1, 1) := by decide +kernel
theorem dX0_move_22 : decode cX0_move 22 = .ok (.bipush 64, 2) := by decide +kernel
theorem dX0_move_24 : decode cX0_move 24 = .ok (.aload_n 0, 1) := by decide +kernel
theorem dX0_move_25 : decode cX0_move 25 = .ok (.getfield 16, 3) := by decide +kernel
theorem dX0_move_28 : decode cX0_move 28 = .ok (.iload_n 3, 1) := by decide +kernel
theorem dX0_move_29 : decode cX0_move 29 = .ok (.iaload, 1) := by decide +kernel
theorem dX0_move_30 : decode cX0_move 30 = .ok (.isub, 1) := by decide +kernel
theorem dX0_move_31 : decode cX0_move 31 = .ok (.if_icmp .gt 27, 3) := by decide +kernel
theorem dX0_move_34 : decode cX0_move 34 = .ok (.iload_n 2, 1) := by decide +kernel
theorem dX0_move_35 : decode cX0_move 35 = .ok (.aload_n 0, 1) := by decide +kernel
theorem dX0_move_36 : decode cX0_move 36 = .ok (.getfield 19, 3) := by decide +kernel
theorem dX0_move_39 : decode cX0_move 39 = .ok (.iload_n 3, 1) := by decide +kernel
theorem dX0_move_40 : decode cX0_move 40 = .ok (.iaload, 1) := by decide +kernel
theorem dX0_move_41 : decode cX0_move 41 = .ok (.ineg, 1) := by decide +kernel
theorem dX0_move_42 : decode cX0_move 42 = .ok (.if_icmp .lt 16, 3) := by decide +kernel
theorem dX0_move_45 : decode cX0_move 45 = .ok (.iload_n 2, 1) := by decide +kernel
theorem dX0_move_46 : decode cX0_move 46 = .ok (.bipush 64, 2) := by decide +kernel
theorem dX0_move_48 : decode cX0_move 48 = .ok (.aload_n 0, 1) := by decide +kernel
theorem dX0_move_49 : decode cX0_move 49 = .ok (.getfield 19, 3) := by decide +kernel
theorem dX0_move_52 : decode cX0_move 52 = .ok (.iload_n 3, 1) := by decide +kernel
theorem dX0_move_53 : decode cX0_move 53 = .ok (.iaload, 1) := by decide +kernel
theorem dX0_move_54 : decode cX0_move 54 = .ok (.isub, 1) := by decide +kernel
theorem dX0_move_55 : decode cX0_move 55 = .ok (.if_icmp .le 5, 3) := by decide +kernel
theorem dX0_move_58 : decode cX0_move 58 = .ok (.iconst (-1), 1) := by decide +kernel
theorem dX0_move_59 : decode cX0_move 59 = .ok (.ireturn, 1) := by decide +kernel
theorem dX0_move_60 : decode cX0_move 60 = .ok (.iinc 3 1, 3) := by decide +kernel
theorem dX0_move_63 : decode cX0_move 63 = .ok (.goto (-61), 3) := by decide +kernel
theorem dX0_move_66 : decode cX0_move 66 = .ok (.iconst 0, 1) := by decide +kernel
theorem dX0_move_67 : decode cX0_move 67 = .ok (.istore_n 3, 1) := by decide +kernel
theorem dX0_move_68 : decode cX0_move 68 = .ok (.iload_n 3, 1) := by decide +kernel
theorem dX0_move_69 : decode cX0_move 69 = .ok (.aload_n 0, 1) := by decide +kernel
theorem dX0_move_70 : decode cX0_move 70 = .ok (.getfield 38, 3) := by decide +kernel
theorem dX0_move_73 : decode cX0_move 73 = .ok (.if_icmp .ge 29, 3) := by decide +kernel
theorem dX0_move_76 : decode cX0_move 76 = .ok (.aload_n 0, 1) := by decide +kernel
theorem dX0_move_77 : decode cX0_move 77 = .ok (.getfield 16, 3) := by decide +kernel
theorem dX0_move_80 : decode cX0_move 80 = .ok (.iload_n 3, 1) := by decide +kernel
theorem dX0_move_81 : decode cX0_move 81 = .ok (.dup2, 1) := by decide +kernel
theorem dX0_move_82 : decode cX0_move 82 = .ok (.iaload, 1) := by decide +kernel
theorem dX0_move_83 : decode cX0_move 83 = .ok (.iload_n 1, 1) := by decide +kernel
theorem dX0_move_84 : decode cX0_move 84 = .ok (.iadd, 1) := by decide +kernel
theorem dX0_move_85 : decode cX0_move 85 = .ok (.iastore, 1) := by decide +kernel
theorem dX0_move_86 : decode cX0_move 86 = .ok (.aload_n 0, 1) := by decide +kernel
theorem dX0_move_87 : decode cX0_move 87 = .ok (.getfield 19, 3) := by decide +kernel
theorem dX0_move_90 : decode cX0_move 90 = .ok (.iload_n 3, 1) := by decide +kernel
theorem dX0_move_91 : decode cX0_move 91 = .ok (.dup2, 1) := by decide +kernel
theorem dX0_move_92 : decode cX0_move 92 = .ok (.iaload, 1) := by decide +kernel
theorem dX0_move_93 : decode cX0_move 93 = .ok (.iload_n 2, 1) := by decide +kernel
theorem dX0_move_94 : decode cX0_move 94 = .ok (.iadd, 1) := by decide +kernel
theorem dX0_move_95 : decode cX0_move 95 = .ok (.iastore, 1) := by decide +kernel
theorem dX0_move_96 : decode cX0_move 96 = .ok (.iinc 3 1, 3) := by decide +kernel
theorem dX0_move_99 : decode cX0_move 99 = .ok (.goto (-31), 3) := by decide +kernel
theorem dX0_move_102 : decode cX0_move 102 = .ok (.aload_n 0, 1) := by decide +kernel
theorem dX0_move_103 : decode cX0_move 103 = .ok (.getfield 38, 3) := by decide +kernel
theorem dX0_move_106 : decode cX0_move 106 = .ok (.ireturn, 1) := by decide +kernel
abbrev cX0_mirror : ByteArray := prog_1_method_8_code
def yX0_mirror : MethodName := ⟨RX0, "mirror", "()V"⟩
theorem dX0_mirror_0 : decode cX0_mirror 0 = .ok (.iconst 0, 1) := by decide +kernel
theorem dX0_mirror_1 : decode cX0_mirror 1 = .ok (.istore_n 1, 1) := by decide +kernel
theorem dX0_mirror_2 : decode cX0_mirror 2 = .ok (.iload_n 1, 1) := by decide +kernel
theorem dX0_mirror_3 : decode cX0_mirror 3 = .ok (.aload_n 0, 1) := by decide +kernel
theorem dX0_mirror_4 : decode cX0_mirror 4 = .ok (.getfield 38, 3) := by decide +kernel
theorem dX0_mirror_7 : decode cX0_mirror 7 = .ok (.if_icmp .ge 35, 3) := by decide +kernel
theorem dX0_mirror_10 : decode cX0_mirror 10 = .ok (.aload_n 0, 1) := by decide +kernel
theorem dX0_mirror_11 : decode cX0_mirror 11 = .ok (.getfield 16, 3) := by decide +kernel
theorem dX0_mirror_14 : decode cX0_mirror 14 = .ok (.iload_n 1, 1) := by decide +kernel
theorem dX0_mirror_15 : decode cX0_mirror 15 = .ok (.iaload, 1) := by decide +kernel
theorem dX0_mirror_16 : decode cX0_mirror 16 = .ok (.istore_n 2, 1) := by decide +kernel
theorem dX0_mirror_17 : decode cX0_mirror 17 = .ok (.aload_n 0, 1) := by decide +kernel
theorem dX0_mirror_18 : decode cX0_mirror 18 = .ok (.getfield 16, 3) := by decide +kernel
theorem dX0_mirror_21 : decode cX0_mirror 21 = .ok (.iload_n 1, 1) := by decide +kernel
theorem dX0_mirror_22 : decode cX0_mirror 22 = .ok (.aload_n 0, 1) := by decide +kernel
theorem dX0_mirror_23 : decode cX0_mirror 23 = .ok (.getfield 19, 3) := by decide +kernel
theorem dX0_mirror_26 : decode cX0_mirror 26 = .ok (.iload_n 1, 1) := by decide +kernel
theorem dX0_mirror_27 : decode cX0_mirror 27 = .ok (.iaload, 1) := by decide +kernel
theorem dX0_mirror_28 : decode cX0_mirror 28 = .ok (.iastore, 1) := by decide +kernel
theorem dX0_mirror_29 : decode cX0_mirror 29 = .ok (.aload_n 0, 1) := by decide +kernel
theorem dX0_mirror_30 : decode cX0_mirror 30 = .ok (.getfield 19, 3) := by decide +kernel
theorem dX0_mirror_33 : decode cX0_mirror 33 = .ok (.iload_n 1, 1) := by decide +kernel
theorem dX0_mirror_34 : decode cX0_mirror 34 = .ok (.iload_n 2, 1) := by decide +kernel
theorem dX0_mirror_35 : decode cX0_mirror 35 = .ok (.iastore, 1) := by decide +kernel
theorem dX0_mirror_36 : decode cX0_mirror 36 = .ok (.iinc 1 1, 3) := by decide +kernel
theorem dX0_mirror_39 : decode cX0_mirror 39 = .ok (.goto (-37), 3) := by decide +kernel
theorem dX0_mirror_42 : decode cX0_mirror 42 = .ok (.return_, 1) := by decide +kernel
abbrev cX0_clear : ByteArray := prog_1_method_9_code
def yX0_clear : MethodName := ⟨RX0, "clear", "()V"⟩
theorem dX0_clear_0 : decode cX0_clear 0 = .ok (.aload_n 0, 1) := by decide +kernel
theorem dX0_clear_1 : decode cX0_clear 1 = .ok (.iconst 0, 1) := by decide +kernel
theorem dX0_clear_2 : decode cX0_clear 2 = .ok (.putfield 34, 3) := by decide +kernel
theorem dX0_clear_5 : decode cX0_clear 5 = .ok (.aload_n 0, 1) := by decide +kernel
theorem dX0_clear_6 : decode cX0_clear 6 = .ok (.iconst 0, 1) := by decide +kernel
theorem dX0_clear_7 : decode cX0_clear 7 = .ok (.putfield 38, 3) := by decide +kernel
theorem dX0_clear_10 : decode cX0_clear 10 = .ok (.return_, 1) := by decide +kernel
abbrev cX0_paint : ByteArray := prog_1_method_18_code
def yX0_paint : MethodName := ⟨RX0, "paint", "(IZ)I"⟩
theorem dX0_paint_0 : decode cX0_paint 0 = .ok (.iload_n 1, 1) := by decide +kernel
theorem dX0_paint_1 : decode cX0_paint 1 = .ok (.ifCond .lt 10, 3) := by decide +kernel
theorem dX0_paint_4 : decode cX0_paint 4 = .ok (.iload_n 1, 1) := by decide +kernel
theorem dX0_paint_5 : decode cX0_paint 5 = .ok (.sipush 255, 3) := by decide +kernel
theorem dX0_paint_8 : decode cX0_paint 8 = .ok (.if_icmp .le 6, 3) := by decide +kernel
theorem dX0_paint_11 : decode cX0_paint 11 = .ok (.bipush (-3), 2) := by decide +kernel
theorem dX0_paint_13 : decode cX0_paint 13 = .ok (.ireturn, 1) := by decide +kernel
theorem dX0_paint_14 : decode cX0_paint 14 = .ok (.aload_n 0, 1) := by decide +kernel
theorem dX0_paint_15 : decode cX0_paint 15 = .ok (.iload_n 2, 1) := by decide +kernel
theorem dX0_paint_16 : decode cX0_paint 16 = .ok (.invokevirtual 78, 3) := by decide +kernel
theorem dX0_paint_19 : decode cX0_paint 19 = .ok (.iconst 0, 1) := by decide +kernel
theorem dX0_paint_20 : decode cX0_paint 20 = .ok (.istore_n 3, 1) := by decide +kernel
theorem dX0_paint_21 : decode cX0_paint 21 = .ok (.iconst 0, 1) := by decide +kernel
theorem dX0_paint_22 : decode cX0_paint 22 = .ok (.istore 4, 2) := by decide +kernel
theorem dX0_paint_24 : decode cX0_paint 24 = .ok (.iload 4, 2) := by decide +kernel
theorem dX0_paint_26 : decode cX0_paint 26 = .ok (.sipush 256, 3) := by decide +kernel
theorem dX0_paint_29 : decode cX0_paint 29 = .ok (.if_icmp .ge 52, 3) := by decide +kernel
theorem dX0_paint_32 : decode cX0_paint 32 = .ok (.aload_n 0, 1) := by decide +kernel
theorem dX0_paint_33 : decode cX0_paint 33 = .ok (.getfield 31, 3) := by decide +kernel
theorem dX0_paint_36 : decode cX0_paint 36 = .ok (.iload 4, 2) := by decide +kernel
theorem dX0_paint_38 : decode cX0_paint 38 = .ok (.iaload, 1) := by decide +kernel
theorem dX0_paint_39 : decode cX0_paint 39 = .ok (.istore 5, 2) := by decide +kernel
theorem dX0_paint_41 : decode cX0_paint 41 = .ok (.aload_n 0, 1) := by decide +kernel
theorem dX0_paint_42 : decode cX0_paint 42 = .ok (.getfield 7, 3) := by decide +kernel
theorem dX0_paint_45 : decode cX0_paint 45 = .ok (.iload 4, 2) := by decide +kernel
theorem dX0_paint_47 : decode cX0_paint 47 = .ok (.aload_n 0, 1) := by decide +kernel
theorem dX0_paint_48 : decode cX0_paint 48 = .ok (.getfield 7, 3) := by decide +kernel
theorem dX0_paint_51 : decode cX0_paint 51 = .ok (.iload 4, 2) := by decide +kernel
theorem dX0_paint_53 : decode cX0_paint 53 = .ok (.iaload, 1) := by decide +kernel
theorem dX0_paint_54 : decode cX0_paint 54 = .ok (.iconst 4, 1) := by decide +kernel
theorem dX0_paint_55 : decode cX0_paint 55 = .ok (.iload 5, 2) := by decide +kernel
theorem dX0_paint_57 : decode cX0_paint 57 = .ok (.isub, 1) := by decide +kernel
theorem dX0_paint_58 : decode cX0_paint 58 = .ok (.imul, 1) := by decide +kernel
theorem dX0_paint_59 : decode cX0_paint 59 = .ok (.iload_n 1, 1) := by decide +kernel
theorem dX0_paint_60 : decode cX0_paint 60 = .ok (.iload 5, 2) := by decide +kernel
theorem dX0_paint_62 : decode cX0_paint 62 = .ok (.imul, 1) := by decide +kernel
theorem dX0_paint_63 : decode cX0_paint 63 = .ok (.iadd, 1) := by decide +kernel
theorem dX0_paint_64 : decode cX0_paint 64 = .ok (.iconst 4, 1) := by decide +kernel
theorem dX0_paint_65 : decode cX0_paint 65 = .ok (.idiv, 1) := by decide +kernel
theorem dX0_paint_66 : decode cX0_paint 66 = .ok (.iastore, 1) := by decide +kernel
theorem dX0_paint_67 : decode cX0_paint 67 = .ok (.iload 5, 2) := by decide +kernel
theorem dX0_paint_69 : decode cX0_paint 69 = .ok (.ifCond .le 6, 3) := by decide +kernel
theorem dX0_paint_72 : decode cX0_paint 72 = .ok (.iinc 3 1, 3) := by decide +kernel
theorem dX0_paint_75 : decode cX0_paint 75 = .ok (.iinc 4 1, 3) := by decide +kernel
theorem dX0_paint_78 : decode cX0_paint 78 = .ok (.goto (-54), 3) := by decide +kernel
theorem dX0_paint_81 : decode cX0_paint 81 = .ok (.iload_n 3, 1) := by decide +kernel
theorem dX0_paint_82 : decode cX0_paint 82 = .ok (.ireturn, 1) := by decide +kernel
abbrev cX0_coverAll : ByteArray := prog_1_method_17_code
def yX0_coverAll : MethodName := ⟨RX0, "coverAll", "(Z)V"⟩
theorem dX0_coverAll_0 : decode cX0_coverAll 0 = .ok (.iconst 0, 1) := by decide +kernel
theorem dX0_coverAll_1 : decode cX0_coverAll 1 = .ok (.istore_n 2, 1) := by decide +kernel
theorem dX0_coverAll_2 : decode cX0_coverAll 2 = .ok (.iload_n 2, 1) := by decide +kernel
theorem dX0_coverAll_3 : decode cX0_coverAll 3 = .ok (.sipush 256, 3) := by decide +kernel
theorem dX0_coverAll_6 : decode cX0_coverAll 6 = .ok (.if_icmp .ge 16, 3) := by decide +kernel
theorem dX0_coverAll_9 : decode cX0_coverAll 9 = .ok (.aload_n 0, 1) := by decide +kernel
theorem dX0_coverAll_10 : decode cX0_coverAll 10 = .ok (.getfield 31, 3) := by decide +kernel
theorem dX0_coverAll_13 : decode cX0_coverAll 13 = .ok (.iload_n 2, 1) := by decide +kernel
theorem dX0_coverAll_14 : decode cX0_coverAll 14 = .ok (.iconst 0, 1) := by decide +kernel
theorem dX0_coverAll_15 : decode cX0_coverAll 15 = .ok (.iastore, 1) := by decide +kernel
theorem dX0_coverAll_16 : decode cX0_coverAll 16 = .ok (.iinc 2 1, 3) := by decide +kernel
theorem dX0_coverAll_19 : decode cX0_coverAll 19 = .ok (.goto (-17), 3) := by decide +kernel
theorem dX0_coverAll_22 : decode cX0_coverAll 22 = .ok (.iconst 0, 1) := by decide +kernel
theorem dX0_coverAll_23 : decode cX0_coverAll 23 = .ok (.istore_n 2, 1) := by decide +kernel
theorem dX0_coverAll_24 : decode cX0_coverAll 24 = .ok (.iload_n 2, 1) := by decide +kernel
theorem dX0_coverAll_25 : decode cX0_coverAll 25 = .ok (.bipush 32, 2) := by decide +kernel
theorem dX0_coverAll_27 : decode cX0_coverAll 27 = .ok (.if_icmp .ge 15, 3) := by decide +kernel
theorem dX0_coverAll_30 : decode cX0_coverAll 30 = .ok (.aload_n 0, 1) := by decide +kernel
theorem dX0_coverAll_31 : decode cX0_coverAll 31 = .ok (.iload_n 2, 1) := by decide +kernel
theorem dX0_coverAll_32 : decode cX0_coverAll 32 = .ok (.iload_n 1, 1) := by decide +kernel
theorem dX0_coverAll_33 : decode cX0_coverAll 33 = .ok (.invokevirtual 74, 3) := by decide +kernel
theorem dX0_coverAll_36 : decode cX0_coverAll 36 = .ok (.iinc 2 1, 3) := by decide +kernel
theorem dX0_coverAll_39 : decode cX0_coverAll 39 = .ok (.goto (-15), 3) := by decide +kernel
theorem dX0_coverAll_42 : decode cX0_coverAll 42 = .ok (.return_, 1) := by decide +kernel
abbrev cX0_sweep : ByteArray := prog_1_method_16_code
def yX0_sweep : MethodName := ⟨RX0, "sweep", "(IZ)V"⟩
theorem dX0_sweep_0 : decode cX0_sweep 0 = .ok (.aload_n 0, 1) := by decide +kernel
theorem dX0_sweep_1 : decode cX0_sweep 1 = .ok (.iconst 2, 1) := by decide +kernel
theorem dX0_sweep_2 : decode cX0_sweep 2 = .ok (.iload_n 1, 1) := by decide +kernel
theorem dX0_sweep_3 : decode cX0_sweep 3 = .ok (.imul, 1) := by decide +kernel
theorem dX0_sweep_4 : decode cX0_sweep 4 = .ok (.iconst 1, 1) := by decide +kernel
theorem dX0_sweep_5 : decode cX0_sweep 5 = .ok (.iadd, 1) := by decide +kernel
theorem dX0_sweep_6 : decode cX0_sweep 6 = .ok (.invokevirtual 62, 3) := by decide +kernel
theorem dX0_sweep_9 : decode cX0_sweep 9 = .ok (.aload_n 0, 1) := by decide +kernel
theorem dX0_sweep_10 : decode cX0_sweep 10 = .ok (.invokevirtual 66, 3) := by decide +kernel
theorem dX0_sweep_13 : decode cX0_sweep 13 = .ok (.istore_n 3, 1) := by decide +kernel
theorem dX0_sweep_14 : decode cX0_sweep 14 = .ok (.iconst 0, 1) := by decide +kernel
theorem dX0_sweep_15 : decode cX0_sweep 15 = .ok (.istore 4, 2) := by decide +kernel
theorem dX0_sweep_17 : decode cX0_sweep 17 = .ok (.iconst 0, 1) := by decide +kernel
theorem dX0_sweep_18 : decode cX0_sweep 18 = .ok (.istore 5, 2) := by decide +kernel
theorem dX0_sweep_20 : decode cX0_sweep 20 = .ok (.iload 5, 2) := by decide +kernel
theorem dX0_sweep_22 : decode cX0_sweep 22 = .ok (.bipush 32, 2) := by decide +kernel
theorem dX0_sweep_24 : decode cX0_sweep 24 = .ok (.if_icmp .ge 94, 3) := by decide +kernel
theorem dX0_sweep_27 : decode cX0_sweep 27 = .ok (.iconst 2, 1) := by decide +kernel
theorem dX0_sweep_28 : decode cX0_sweep 28 = .ok (.iload 5, 2) := by decide +kernel
theorem dX0_sweep_30 : decode cX0_sweep 30 = .ok (.imul, 1) := by decide +kernel
theorem dX0_sweep_31 : decode cX0_sweep 31 = .ok (.iconst 1, 1) := by decide +kernel
theorem dX0_sweep_32 : decode cX0_sweep 32 = .ok (.iadd, 1) := by decide +kernel
theorem dX0_sweep_33 : decode cX0_sweep 33 = .ok (.istore 6, 2) := by decide +kernel
theorem dX0_sweep_35 : decode cX0_sweep 35 = .ok (.iload 4, 2) := by decide +kernel
theorem dX0_sweep_37 : decode cX0_sweep 37 = .ok (.aload_n 0, 1) := by decide +kernel
theorem dX0_sweep_38 : decode cX0_sweep 38 = .ok (.getfield 49, 3) := by decide +kernel
theorem dX0_sweep_41 : decode cX0_sweep 41 = .ok (.if_icmp .ge 39, 3) := by decide +kernel
theorem dX0_sweep_44 : decode cX0_sweep 44 = .ok (.aload_n 0, 1) := by decide +kernel
theorem dX0_sweep_45 : decode cX0_sweep 45 = .ok (.getfield 22, 3) := by decide +kernel
theorem dX0_sweep_48 : decode cX0_sweep 48 = .ok (.iload 4, 2) := by decide +kernel
theorem dX0_sweep_50 : decode cX0_sweep 50 = .ok (.iaload, 1) := by decide +kernel
theorem dX0_sweep_51 : decode cX0_sweep 51 = .ok (.iload 6, 2) := by decide +kernel
theorem dX0_sweep_53 : decode cX0_sweep 53 = .ok (.aload_n 0, 1) := by decide +kernel
theorem dX0_sweep_54 : decode cX0_sweep 54 = .ok (.getfield 25, 3) := by decide +kernel
theorem dX0_sweep_57 : decode cX0_sweep 57 = .ok (.iload 4, 2) := by decide +kernel
theorem dX0_sweep_59 : decode cX0_sweep 59 = .ok (.iaload, 1) := by decide +kernel
theorem dX0_sweep_60 : decode cX0_sweep 60 = .ok (.imul, 1) := by decide +kernel
theorem dX0_sweep_61 : decode cX0_sweep 61 = .ok (.if_icmp .gt 19, 3) := by decide +kernel
theorem dX0_sweep_64 : decode cX0_sweep 64 = .ok (.iload_n 3, 1) := by decide +kernel
theorem dX0_sweep_65 : decode cX0_sweep 65 = .ok (.aload_n 0, 1) := by decide +kernel
theorem dX0_sweep_66 : decode cX0_sweep 66 = .ok (.getfield 28, 3) := by decide +kernel
theorem dX0_sweep_69 : decode cX0_sweep 69 = .ok (.iload 4, 2) := by decide +kernel
theorem dX0_sweep_71 : decode cX0_sweep 71 = .ok (.iaload, 1) := by decide +kernel
theorem dX0_sweep_72 : decode cX0_sweep 72 = .ok (.isub, 1) := by decide +kernel
theorem dX0_sweep_73 : decode cX0_sweep 73 = .ok (.istore_n 3, 1) := by decide +kernel
theorem dX0_sweep_74 : decode cX0_sweep 74 = .ok (.iinc 4 1, 3) := by decide +kernel
theorem dX0_sweep_77 : decode cX0_sweep 77 = .ok (.goto (-42), 3) := by decide +kernel
theorem dX0_sweep_80 : decode cX0_sweep 80 = .ok (.iload_n 3, 1) := by decide +kernel
theorem dX0_sweep_81 : decode cX0_sweep 81 = .ok (.iload_n 2, 1) := by decide +kernel
theorem dX0_sweep_82 : decode cX0_sweep 82 = .ok (.invokestatic 70, 3) := by decide +kernel
theorem dX0_sweep_85 : decode cX0_sweep 85 = .ok (.istore 7, 2) := by decide +kernel
theorem dX0_sweep_87 : decode cX0_sweep 87 = .ok (.iload 7, 2) := by decide +kernel
theorem dX0_sweep_89 : decode cX0_sweep 89 = .ok (.ifCond .eq 23, 3) := by decide +kernel
theorem dX0_sweep_92 : decode cX0_sweep 92 = .ok (.aload_n 0, 1) := by decide +kernel
theorem dX0_sweep_93 : decode cX0_sweep 93 = .ok (.getfield 31, 3) := by decide +kernel
theorem dX0_sweep_96 : decode cX0_sweep 96 = .ok (.iload_n 1, 1) := by decide +kernel
theorem dX0_sweep_97 : decode cX0_sweep 97 = .ok (.iconst 2, 1) := by decide +kernel
theorem dX0_sweep_98 : decode cX0_sweep 98 = .ok (.idiv, 1) := by decide +kernel
theorem dX0_sweep_99 : decode cX0_sweep 99 = .ok (.bipush 16, 2) := by decide +kernel
theorem dX0_sweep_101 : decode cX0_sweep 101 = .ok (.imul, 1) := by decide +kernel
theorem dX0_sweep_102 : decode cX0_sweep 102 = .ok (.iload 5, 2) := by decide +kernel
theorem dX0_sweep_104 : decode cX0_sweep 104 = .ok (.iconst 2, 1) := by decide +kernel
theorem dX0_sweep_105 : decode cX0_sweep 105 = .ok (.idiv, 1) := by decide +kernel
theorem dX0_sweep_106 : decode cX0_sweep 106 = .ok (.iadd, 1) := by decide +kernel
theorem dX0_sweep_107 : decode cX0_sweep 107 = .ok (.dup2, 1) := by decide +kernel
theorem dX0_sweep_108 : decode cX0_sweep 108 = .ok (.iaload, 1) := by decide +kernel
theorem dX0_sweep_109 : decode cX0_sweep 109 = .ok (.iconst 1, 1) := by decide +kernel
theorem dX0_sweep_110 : decode cX0_sweep 110 = .ok (.iadd, 1) := by decide +kernel
theorem dX0_sweep_111 : decode cX0_sweep 111 = .ok (.iastore, 1) := by decide +kernel
theorem dX0_sweep_112 : decode cX0_sweep 112 = .ok (.iinc 5 1, 3) := by decide +kernel
theorem dX0_sweep_115 : decode cX0_sweep 115 = .ok (.goto (-95), 3) := by decide +kernel
theorem dX0_sweep_118 : decode cX0_sweep 118 = .ok (.return_, 1) := by decide +kernel
end
section
set_option maxRecDepth 100000
abbrev cX0_findCrossings : ByteArray := prog_1_method_13_code
def yX0_findCrossings : MethodName := ⟨RX0, "findCrossings", "(I)V"⟩
theorem dX0_findCrossings_0 : decode cX0_findCrossings 0 = .ok (.aload_n 0, 1) := by decide +kernel
theorem dX0_findCrossings_1 : decode cX0_findCrossings 1 = .ok (.iconst 0, 1) := by decide +kernel
theorem dX0_findCrossings_2 : decode cX0_findCrossings 2 = .ok (.putfield 49, 3) := by decide +kernel
theorem dX0_findCrossings_5 : decode cX0_findCrossings 5 = .ok (.iconst 0, 1) := by decide +kernel
theorem dX0_findCrossings_6 : decode cX0_findCrossings 6 = .ok (.istore_n 2, 1) := by decide +kernel
theorem dX0_findCrossings_7 : decode cX0_findCrossings 7 = .ok (.iload_n 2, 1) := by decide +kernel
theorem dX0_findCrossings_8 : decode cX0_findCrossings 8 = .ok (.aload_n 0, 1) := by decide +kernel
theorem dX0_findCrossings_9 : decode cX0_findCrossings 9 = .ok (.getfield 34, 3) := by decide +kernel
theorem dX0_findCrossings_12 : decode cX0_findCrossings 12 = .ok (.if_icmp .ge 93, 3) := by decide +kernel
theorem dX0_findCrossings_15 : decode cX0_findCrossings 15 = .ok (.aload_n 0, 1) := by decide +kernel
theorem dX0_findCrossings_16 : decode cX0_findCrossings 16 = .ok (.getfield 13, 3) := by decide +kernel
theorem dX0_findCrossings_19 : decode cX0_findCrossings 19 = .ok (.iload_n 2, 1) := by decide +kernel
theorem dX0_findCrossings_20 : decode cX0_findCrossings 20 = .ok (.iaload, 1) := by decide +kernel
theorem dX0_findCrossings_21 : decode cX0_findCrossings 21 = .ok (.istore_n 3, 1) := by decide +kernel
theorem dX0_findCrossings_22 : decode cX0_findCrossings 22 = .ok (.iload_n 3, 1) := by decide +kernel
theorem dX0_findCrossings_23 : decode cX0_findCrossings 23 = .ok (.aload_n 0, 1) := by decide +kernel
theorem dX0_findCrossings_24 : decode cX0_findCrossings 24 = .ok (.getfield 13, 3) := by decide +kernel
theorem dX0_findCrossings_27 : decode cX0_findCrossings 27 = .ok (.iload_n 2, 1) := by decide +kernel
theorem dX0_findCrossings_28 : decode cX0_findCrossings 28 = .ok (.iconst 1, 1) := by decide +kernel
theorem dX0_findCrossings_29 : decode cX0_findCrossings 29 = .ok (.iadd, 1) := by decide +kernel
theorem dX0_findCrossings_30 : decode cX0_findCrossings 30 = .ok (.iaload, 1) := by decide +kernel
theorem dX0_findCrossings_31 : decode cX0_findCrossings 31 = .ok (.if_icmp .ge 68, 3) := by decide +kernel
theorem dX0_findCrossings_34 : decode cX0_findCrossings 34 = .ok (.iload_n 3, 1) := by decide +kernel
theorem dX0_findCrossings_35 : decode cX0_findCrossings 35 = .ok (.iconst 1, 1) := by decide +kernel
theorem dX0_findCrossings_36 : decode cX0_findCrossings 36 = .ok (.iadd, 1) := by decide +kernel
theorem dX0_findCrossings_37 : decode cX0_findCrossings 37 = .ok (.aload_n 0, 1) := by decide +kernel
theorem dX0_findCrossings_38 : decode cX0_findCrossings 38 = .ok (.getfield 13, 3) := by decide +kernel
theorem dX0_findCrossings_41 : decode cX0_findCrossings 41 = .ok (.iload_n 2, 1) := by decide +kernel
theorem dX0_findCrossings_42 : decode cX0_findCrossings 42 = .ok (.iconst 1, 1) := by decide +kernel
theorem dX0_findCrossings_43 : decode cX0_findCrossings 43 = .ok (.iadd, 1) := by decide +kernel
theorem dX0_findCrossings_44 : decode cX0_findCrossings 44 = .ok (.iaload, 1) := by decide +kernel
theorem dX0_findCrossings_45 : decode cX0_findCrossings 45 = .ok (.if_icmp .ge 9, 3) := by decide +kernel
theorem dX0_findCrossings_48 : decode cX0_findCrossings 48 = .ok (.iload_n 3, 1) := by decide +kernel
theorem dX0_findCrossings_49 : decode cX0_findCrossings 49 = .ok (.iconst 1, 1) := by decide +kernel
theorem dX0_findCrossings_50 : decode cX0_findCrossings 50 = .ok (.iadd, 1) := by decide +kernel
theorem dX0_findCrossings_51 : decode cX0_findCrossings 51 = .ok (.goto 9, 3) := by decide +kernel
theorem dX0_findCrossings_54 : decode cX0_findCrossings 54 = .ok (.aload_n 0, 1) := by decide +kernel
theorem dX0_findCrossings_55 : decode cX0_findCrossings 55 = .ok (.getfield 13, 3) := by decide +kernel
theorem dX0_findCrossings_58 : decode cX0_findCrossings 58 = .ok (.iload_n 2, 1) := by decide +kernel
theorem dX0_findCrossings_59 : decode cX0_findCrossings 59 = .ok (.iaload, 1) := by decide +kernel
theorem dX0_findCrossings_60 : decode cX0_findCrossings 60 = .ok (.istore 4, 2) := by decide +kernel
theorem dX0_findCrossings_62 : decode cX0_findCrossings 62 = .ok (.aload_n 0, 1) := by decide +kernel
theorem dX0_findCrossings_63 : decode cX0_findCrossings 63 = .ok (.aload_n 0, 1) := by decide +kernel
theorem dX0_findCrossings_64 : decode cX0_findCrossings 64 = .ok (.getfield 16, 3) := by decide +kernel
theorem dX0_findCrossings_67 : decode cX0_findCrossings 67 = .ok (.iload_n 3, 1) := by decide +kernel
theorem dX0_findCrossings_68 : decode cX0_findCrossings 68 = .ok (.iaload, 1) := by decide +kernel
theorem dX0_findCrossings_69 : decode cX0_findCrossings 69 = .ok (.aload_n 0, 1) := by decide +kernel
theorem dX0_findCrossings_70 : decode cX0_findCrossings 70 = .ok (.getfield 19, 3) := by decide +kernel
theorem dX0_findCrossings_73 : decode cX0_findCrossings 73 = .ok (.iload_n 3, 1) := by decide +kernel
theorem dX0_findCrossings_74 : decode cX0_findCrossings 74 = .ok (.iaload, 1) := by decide +kernel
theorem dX0_findCrossings_75 : decode cX0_findCrossings 75 = .ok (.aload_n 0, 1) := by decide +kernel
theorem dX0_findCrossings_76 : decode cX0_findCrossings 76 = .ok (.getfield 16, 3) := by decide +kernel
theorem dX0_findCrossings_79 : decode cX0_findCrossings 79 = .ok (.iload 4, 2) := by decide +kernel
theorem dX0_findCrossings_81 : decode cX0_findCrossings 81 = .ok (.iaload, 1) := by decide +kernel
theorem dX0_findCrossings_82 : decode cX0_findCrossings 82 = .ok (.aload_n 0, 1) := by decide +kernel
theorem dX0_findCrossings_83 : decode cX0_findCrossings 83 = .ok (.getfield 19, 3) := by decide +kernel
theorem dX0_findCrossings_86 : decode cX0_findCrossings 86 = .ok (.iload 4, 2) := by decide +kernel
theorem dX0_findCrossings_88 : decode cX0_findCrossings 88 = .ok (.iaload, 1) := by decide +kernel
theorem dX0_findCrossings_89 : decode cX0_findCrossings 89 = .ok (.iload_n 1, 1) := by decide +kernel
theorem dX0_findCrossings_90 : decode cX0_findCrossings 90 = .ok (.invokevirtual 58, 3) := by decide +kernel
theorem dX0_findCrossings_93 : decode cX0_findCrossings 93 = .ok (.iinc 3 1, 3) := by decide +kernel
theorem dX0_findCrossings_96 : decode cX0_findCrossings 96 = .ok (.goto (-74), 3) := by decide +kernel
theorem dX0_findCrossings_99 : decode cX0_findCrossings 99 = .ok (.iinc 2 1, 3) := by decide +kernel
theorem dX0_findCrossings_102 : decode cX0_findCrossings 102 = .ok (.goto (-95), 3) := by decide +kernel
theorem dX0_findCrossings_105 : decode cX0_findCrossings 105 = .ok (.return_, 1) := by decide +kernel
abbrev cX0_addEdge : ByteArray := prog_1_method_11_code
def yX0_addEdge : MethodName := ⟨RX0, "addEdge", "(IIIII)V"⟩
theorem dX0_addEdge_0 : decode cX0_addEdge 0 = .ok (.iload_n 2, 1) := by decide +kernel
theorem dX0_addEdge_1 : decode cX0_addEdge 1 = .ok (.iload 5, 2) := by decide +kernel
theorem dX0_addEdge_3 : decode cX0_addEdge 3 = .ok (.if_icmp .gt 14, 3) := by decide +kernel
theorem dX0_addEdge_6 : decode cX0_addEdge 6 = .ok (.iload 5, 2) := by decide +kernel
theorem dX0_addEdge_8 : decode cX0_addEdge 8 = .ok (.iload 4, 2) := by decide +kernel
theorem dX0_addEdge_10 : decode cX0_addEdge 10 = .ok (.if_icmp .ge 7, 3) := by decide +kernel
theorem dX0_addEdge_13 : decode cX0_addEdge 13 = .ok (.iconst 1, 1) := by decide +kernel
theorem dX0_addEdge_14 : decode cX0_addEdge 14 = .ok (.goto 4, 3) := by decide +kernel
theorem dX0_addEdge_17 : decode cX0_addEdge 17 = .ok (.iconst 0, 1) := by decide +kernel
theorem dX0_addEdge_18 : decode cX0_addEdge 18 = .ok (.istore 6, 2) := by decide +kernel
theorem dX0_addEdge_20 : decode cX0_addEdge 20 = .ok (.iload 4, 2) := by decide +kernel
theorem dX0_addEdge_22 : decode cX0_addEdge 22 = .ok (.iload 5, 2) := by decide +kernel
theorem dX0_addEdge_24 : decode cX0_addEdge 24 = .ok (.if_icmp .gt 13, 3) := by decide +kernel
theorem dX0_addEdge_27 : decode cX0_addEdge 27 = .ok (.iload 5, 2) := by decide +kernel
theorem dX0_addEdge_29 : decode cX0_addEdge 29 = .ok (.iload_n 2, 1) := by decide +kernel
theorem dX0_addEdge_30 : decode cX0_addEdge 30 = .ok (.if_icmp .ge 7, 3) := by decide +kernel
theorem dX0_addEdge_33 : decode cX0_addEdge 33 = .ok (.iconst 1, 1) := by decide +kernel
theorem dX0_addEdge_34 : decode cX0_addEdge 34 = .ok (.goto 4, 3) := by decide +kernel
theorem dX0_addEdge_37 : decode cX0_addEdge 37 = .ok (.iconst 0, 1) := by decide +kernel
theorem dX0_addEdge_38 : decode cX0_addEdge 38 = .ok (.istore 7, 2) := by decide +kernel
theorem dX0_addEdge_40 : decode cX0_addEdge 40 = .ok (.iload 6, 2) := by decide +kernel
theorem dX0_addEdge_42 : decode cX0_addEdge 42 = .ok (.ifCond .ne 9, 3) := by decide +kernel
theorem dX0_addEdge_45 : decode cX0_addEdge 45 = .ok (.iload 7, 2) := by decide +kernel
theorem dX0_addEdge_47 : decode cX0_addEdge 47 = .ok (.ifCond .ne 4, 3) := by decide +kernel
theorem dX0_addEdge_50 : decode cX0_addEdge 50 = .ok (.return_, 1) := by decide +kernel
theorem dX0_addEdge_51 : decode cX0_addEdge 51 = .ok (.aload_n 0, 1) := by decide +kernel
theorem dX0_addEdge_52 : decode cX0_addEdge 52 = .ok (.getfield 49, 3) := by decide +kernel
theorem dX0_addEdge_55 : decode cX0_addEdge 55 = .ok (.istore 8, 2) := by decide +kernel
theorem dX0_addEdge_57 : decode cX0_addEdge 57 = .ok (.iload 6, 2) := by decide +kernel
theorem dX0_addEdge_59 : decode cX0_addEdge 59 = .ok (.ifCond .eq 10, 3) := by decide +kernel
theorem dX0_addEdge_62 : decode cX0_addEdge 62 = .ok (.iload 4, 2) := by decide +kernel
theorem dX0_addEdge_64 : decode cX0_addEdge 64 = .ok (.iload_n 2, 1) := by decide +kernel
theorem dX0_addEdge_65 : decode cX0_addEdge 65 = .ok (.isub, 1) := by decide +kernel
theorem dX0_addEdge_66 : decode cX0_addEdge 66 = .ok (.goto 7, 3) := by decide +kernel
theorem dX0_addEdge_69 : decode cX0_addEdge 69 = .ok (.iload_n 2, 1) := by decide +kernel
theorem dX0_addEdge_70 : decode cX0_addEdge 70 = .ok (.iload 4, 2) := by decide +kernel
theorem dX0_addEdge_72 : decode cX0_addEdge 72 = .ok (.isub, 1) := by decide +kernel
theorem dX0_addEdge_73 : decode cX0_addEdge 73 = .ok (.istore 9, 2) := by decide +kernel
theorem dX0_addEdge_75 : decode cX0_addEdge 75 = .ok (.iload 6, 2) := by decide +kernel
theorem dX0_addEdge_77 : decode cX0_addEdge 77 = .ok (.ifCond .eq 9, 3) := by decide +kernel
theorem dX0_addEdge_80 : decode cX0_addEdge 80 = .ok (.iload_n 3, 1) := by decide +kernel
theorem dX0_addEdge_81 : decode cX0_addEdge 81 = .ok (.iload_n 1, 1) := by decide +kernel
theorem dX0_addEdge_82 : decode cX0_addEdge 82 = .ok (.isub, 1) := by decide +kernel
theorem dX0_addEdge_83 : decode cX0_addEdge 83 = .ok (.goto 6, 3) := by decide +kernel
theorem dX0_addEdge_86 : decode cX0_addEdge 86 = .ok (.iload_n 1, 1) := by decide +kernel
theorem dX0_addEdge_87 : decode cX0_addEdge 87 = .ok (.iload_n 3, 1) := by decide +kernel
theorem dX0_addEdge_88 : decode cX0_addEdge 88 = .ok (.isub, 1) := by decide +kernel
theorem dX0_addEdge_89 : decode cX0_addEdge 89 = .ok (.istore 10, 2) := by decide +kernel
theorem dX0_addEdge_91 : decode cX0_addEdge 91 = .ok (.iload 6, 2) := by decide +kernel
theorem dX0_addEdge_93 : decode cX0_addEdge 93 = .ok (.ifCond .eq 7, 3) := by decide +kernel
theorem dX0_addEdge_96 : decode cX0_addEdge 96 = .ok (.iload_n 1, 1) := by decide +kernel
theorem dX0_addEdge_97 : decode cX0_addEdge 97 = .ok (.goto 4, 3) := by decide +kernel
theorem dX0_addEdge_100 : decode cX0_addEdge 100 = .ok (.iload_n 3, 1) := by decide +kernel
theorem dX0_addEdge_101 : decode cX0_addEdge 101 = .ok (.istore 11, 2) := by decide +kernel
theorem dX0_addEdge_103 : decode cX0_addEdge 103 = .ok (.iload 6, 2) := by decide +kernel
theorem dX0_addEdge_105 : decode cX0_addEdge 105 = .ok (.ifCond .eq 10, 3) := by decide +kernel
theorem dX0_addEdge_108 : decode cX0_addEdge 108 = .ok (.iload 5, 2) := by decide +kernel
theorem dX0_addEdge_110 : decode cX0_addEdge 110 = .ok (.iload_n 2, 1) := by decide +kernel
theorem dX0_addEdge_111 : decode cX0_addEdge 111 = .ok (.isub, 1) := by decide +kernel
theorem dX0_addEdge_112 : decode cX0_addEdge 112 = .ok (.goto 8, 3) := by decide +kernel
theorem dX0_addEdge_115 : decode cX0_addEdge 115 = .ok (.iload 5, 2) := by decide +kernel
theorem dX0_addEdge_117 : decode cX0_addEdge 117 = .ok (.iload 4, 2) := by decide +kernel
theorem dX0_addEdge_119 : decode cX0_addEdge 119 = .ok (.isub, 1) := by decide +kernel
theorem dX0_addEdge_120 : decode cX0_addEdge 120 = .ok (.istore 12, 2) := by decide +kernel
theorem dX0_addEdge_122 : decode cX0_addEdge 122 = .ok (.aload_n 0, 1) := by decide +kernel
theorem dX0_addEdge_123 : decode cX0_addEdge 123 = .ok (.getfield 22, 3) := by decide +kernel
theorem dX0_addEdge_126 : decode cX0_addEdge 126 = .ok (.iload 8, 2) := by decide +kernel
theorem dX0_addEdge_128 : decode cX0_addEdge 128 = .ok (.iload 11, 2) := by decide +kernel
theorem dX0_addEdge_130 : decode cX0_addEdge 130 = .ok (.iload 9, 2) := by decide +kernel
theorem dX0_addEdge_132 : decode cX0_addEdge 132 = .ok (.imul, 1) := by decide +kernel
theorem dX0_addEdge_133 : decode cX0_addEdge 133 = .ok (.iload 12, 2) := by decide +kernel
theorem dX0_addEdge_135 : decode cX0_addEdge 135 = .ok (.iload 10, 2) := by decide +kernel
theorem dX0_addEdge_137 : decode cX0_addEdge 137 = .ok (.imul, 1) := by decide +kernel
theorem dX0_addEdge_138 : decode cX0_addEdge 138 = .ok (.iadd, 1) := by decide +kernel
theorem dX0_addEdge_139 : decode cX0_addEdge 139 = .ok (.iastore, 1) := by decide +kernel
theorem dX0_addEdge_140 : decode cX0_addEdge 140 = .ok (.aload_n 0, 1) := by decide +kernel
theorem dX0_addEdge_141 : decode cX0_addEdge 141 = .ok (.getfield 25, 3) := by decide +kernel
theorem dX0_addEdge_144 : decode cX0_addEdge 144 = .ok (.iload 8, 2) := by decide +kernel
theorem dX0_addEdge_146 : decode cX0_addEdge 146 = .ok (.iload 9, 2) := by decide +kernel
theorem dX0_addEdge_148 : decode cX0_addEdge 148 = .ok (.iastore, 1) := by decide +kernel
theorem dX0_addEdge_149 : decode cX0_addEdge 149 = .ok (.aload_n 0, 1) := by decide +kernel
theorem dX0_addEdge_150 : decode cX0_addEdge 150 = .ok (.getfield 28, 3) := by decide +kernel
theorem dX0_addEdge_153 : decode cX0_addEdge 153 = .ok (.iload 8, 2) := by decide +kernel
theorem dX0_addEdge_155 : decode cX0_addEdge 155 = .ok (.iload 6, 2) := by decide +kernel
theorem dX0_addEdge_157 : decode cX0_addEdge 157 = .ok (.ifCond .eq 7, 3) := by decide +kernel
theorem dX0_addEdge_160 : decode cX0_addEdge 160 = .ok (.iconst 1, 1) := by decide +kernel
theorem dX0_addEdge_161 : decode cX0_addEdge 161 = .ok (.goto 4, 3) := by decide +kernel
theorem dX0_addEdge_164 : decode cX0_addEdge 164 = .ok (.iconst (-1), 1) := by decide +kernel
theorem dX0_addEdge_165 : decode cX0_addEdge 165 = .ok (.iastore, 1) := by decide +kernel
theorem dX0_addEdge_166 : decode cX0_addEdge 166 = .ok (.aload_n 0, 1) := by decide +kernel
theorem dX0_addEdge_167 : decode cX0_addEdge 167 = .ok (.dup, 1) := by decide +kernel
theorem dX0_addEdge_168 : decode cX0_addEdge 168 = .ok (.getfield 49, 3) := by decide +kernel
theorem dX0_addEdge_171 : decode cX0_addEdge 171 = .ok (.iconst 1, 1) := by decide +kernel
theorem dX0_addEdge_172 : decode cX0_addEdge 172 = .ok (.iadd, 1) := by decide +kernel
theorem dX0_addEdge_173 : decode cX0_addEdge 173 = .ok (.putfield 49, 3) := by decide +kernel
theorem dX0_addEdge_176 : decode cX0_addEdge 176 = .ok (.iload 8, 2) := by decide +kernel
theorem dX0_addEdge_178 : decode cX0_addEdge 178 = .ok (.ifCond .le 32, 3) := by decide +kernel
theorem dX0_addEdge_181 : decode cX0_addEdge 181 = .ok (.aload_n 0, 1) := by decide +kernel
theorem dX0_addEdge_182 : decode cX0_addEdge 182 = .ok (.iload 8, 2) := by decide +kernel
theorem dX0_addEdge_184 : decode cX0_addEdge 184 = .ok (.iload 8, 2) := by decide +kernel
theorem dX0_addEdge_186 : decode cX0_addEdge 186 = .ok (.iconst 1, 1) := by decide +kernel
theorem dX0_addEdge_187 : decode cX0_addEdge 187 = .ok (.isub, 1) := by decide +kernel
theorem dX0_addEdge_188 : decode cX0_addEdge 188 = .ok (.invokevirtual 52, 3) := by decide +kernel
theorem dX0_addEdge_191 : decode cX0_addEdge 191 = .ok (.ifCond .eq 19, 3) := by decide +kernel
theorem dX0_addEdge_194 : decode cX0_addEdge 194 = .ok (.aload_n 0, 1) := by decide +kernel
theorem dX0_addEdge_195 : decode cX0_addEdge 195 = .ok (.iload 8, 2) := by decide +kernel
theorem dX0_addEdge_197 : decode cX0_addEdge 197 = .ok (.iload 8, 2) := by decide +kernel
theorem dX0_addEdge_199 : decode cX0_addEdge 199 = .ok (.iconst 1, 1) := by decide +kernel
theorem dX0_addEdge_200 : decode cX0_addEdge 200 = .ok (.isub, 1) := by decide +kernel
theorem dX0_addEdge_201 : decode cX0_addEdge 201 = .ok (.invokevirtual 55, 3) := by decide +kernel
theorem dX0_addEdge_204 : decode cX0_addEdge 204 = .ok (.iinc 8 (-1), 3) := by decide +kernel
theorem dX0_addEdge_207 : decode cX0_addEdge 207 = .ok (.goto (-31), 3) := by decide +kernel
theorem dX0_addEdge_210 : decode cX0_addEdge 210 = .ok (.return_, 1) := by decide +kernel
abbrev cX0_leftOf : ByteArray := prog_1_method_10_code
def yX0_leftOf : MethodName := ⟨RX0, "leftOf", "(II)Z"⟩
theorem dX0_leftOf_0 : decode cX0_leftOf 0 = .ok (.aload_n 0, 1) := by decide +kernel
theorem dX0_leftOf_1 : decode cX0_leftOf 1 = .ok (.getfield 22, 3) := by decide +kernel
theorem dX0_leftOf_4 : decode cX0_leftOf 4 = .ok (.iload_n 1, 1) := by decide +kernel
theorem dX0_leftOf_5 : decode cX0_leftOf 5 = .ok (.iaload, 1) := by decide +kernel
theorem dX0_leftOf_6 : decode cX0_leftOf 6 = .ok (.aload_n 0, 1) := by decide +kernel
theorem dX0_leftOf_7 : decode cX0_leftOf 7 = .ok (.getfield 25, 3) := by decide +kernel
theorem dX0_leftOf_10 : decode cX0_leftOf 10 = .ok (.iload_n 2, 1) := by decide +kernel
theorem dX0_leftOf_11 : decode cX0_leftOf 11 = .ok (.iaload, 1) := by decide +kernel
theorem dX0_leftOf_12 : decode cX0_leftOf 12 = .ok (.imul, 1) := by decide +kernel
theorem dX0_leftOf_13 : decode cX0_leftOf 13 = .ok (.aload_n 0, 1) := by decide +kernel
theorem dX0_leftOf_14 : decode cX0_leftOf 14 = .ok (.getfield 22, 3) := by decide +kernel
theorem dX0_leftOf_17 : decode cX0_leftOf 17 = .ok (.iload_n 2, 1) := by decide +kernel
theorem dX0_leftOf_18 : decode cX0_leftOf 18 = .ok (.iaload, 1) := by decide +kernel
theorem dX0_leftOf_19 : decode cX0_leftOf 19 = .ok (.aload_n 0, 1) := by decide +kernel
theorem dX0_leftOf_20 : decode cX0_leftOf 20 = .ok (.getfield 25, 3) := by decide +kernel
theorem dX0_leftOf_23 : decode cX0_leftOf 23 = .ok (.iload_n 1, 1) := by decide +kernel
theorem dX0_leftOf_24 : decode cX0_leftOf 24 = .ok (.iaload, 1) := by decide +kernel
theorem dX0_leftOf_25 : decode cX0_leftOf 25 = .ok (.imul, 1) := by decide +kernel
theorem dX0_leftOf_26 : decode cX0_leftOf 26 = .ok (.if_icmp .ge 7, 3) := by decide +kernel
theorem dX0_leftOf_29 : decode cX0_leftOf 29 = .ok (.iconst 1, 1) := by decide +kernel
theorem dX0_leftOf_30 : decode cX0_leftOf 30 = .ok (.goto 4, 3) := by decide +kernel
theorem dX0_leftOf_33 : decode cX0_leftOf 33 = .ok (.iconst 0, 1) := by decide +kernel
theorem dX0_leftOf_34 : decode cX0_leftOf 34 = .ok (.ireturn, 1) := by decide +kernel
abbrev cX0_exchange : ByteArray := prog_1_method_12_code
def yX0_exchange : MethodName := ⟨RX0, "exchange", "(II)V"⟩
theorem dX0_exchange_0 : decode cX0_exchange 0 = .ok (.aload_n 0, 1) := by decide +kernel
theorem dX0_exchange_1 : decode cX0_exchange 1 = .ok (.getfield 22, 3) := by decide +kernel
theorem dX0_exchange_4 : decode cX0_exchange 4 = .ok (.iload_n 1, 1) := by decide +kernel
theorem dX0_exchange_5 : decode cX0_exchange 5 = .ok (.iaload, 1) := by decide +kernel
theorem dX0_exchange_6 : decode cX0_exchange 6 = .ok (.istore_n 3, 1) := by decide +kernel
theorem dX0_exchange_7 : decode cX0_exchange 7 = .ok (.aload_n 0, 1) := by decide +kernel
theorem dX0_exchange_8 : decode cX0_exchange 8 = .ok (.getfield 22, 3) := by decide +kernel
theorem dX0_exchange_11 : decode cX0_exchange 11 = .ok (.iload_n 1, 1) := by decide +kernel
theorem dX0_exchange_12 : decode cX0_exchange 12 = .ok (.aload_n 0, 1) := by decide +kernel
theorem dX0_exchange_13 : decode cX0_exchange 13 = .ok (.getfield 22, 3) := by decide +kernel
theorem dX0_exchange_16 : decode cX0_exchange 16 = .ok (.iload_n 2, 1) := by decide +kernel
theorem dX0_exchange_17 : decode cX0_exchange 17 = .ok (.iaload, 1) := by decide +kernel
theorem dX0_exchange_18 : decode cX0_exchange 18 = .ok (.iastore, 1) := by decide +kernel
theorem dX0_exchange_19 : decode cX0_exchange 19 = .ok (.aload_n 0, 1) := by decide +kernel
theorem dX0_exchange_20 : decode cX0_exchange 20 = .ok (.getfield 22, 3) := by decide +kernel
theorem dX0_exchange_23 : decode cX0_exchange 23 = .ok (.iload_n 2, 1) := by decide +kernel
theorem dX0_exchange_24 : decode cX0_exchange 24 = .ok (.iload_n 3, 1) := by decide +kernel
theorem dX0_exchange_25 : decode cX0_exchange 25 = .ok (.iastore, 1) := by decide +kernel
theorem dX0_exchange_26 : decode cX0_exchange 26 = .ok (.aload_n 0, 1) := by decide +kernel
theorem dX0_exchange_27 : decode cX0_exchange 27 = .ok (.getfield 25, 3) := by decide +kernel
theorem dX0_exchange_30 : decode cX0_exchange 30 = .ok (.iload_n 1, 1) := by decide +kernel
theorem dX0_exchange_31 : decode cX0_exchange 31 = .ok (.iaload, 1) := by decide +kernel
theorem dX0_exchange_32 : decode cX0_exchange 32 = .ok (.istore 4, 2) := by decide +kernel
theorem dX0_exchange_34 : decode cX0_exchange 34 = .ok (.aload_n 0, 1) := by decide +kernel
theorem dX0_exchange_35 : decode cX0_exchange 35 = .ok (.getfield 25, 3) := by decide +kernel
theorem dX0_exchange_38 : decode cX0_exchange 38 = .ok (.iload_n 1, 1) := by decide +kernel
theorem dX0_exchange_39 : decode cX0_exchange 39 = .ok (.aload_n 0, 1) := by decide +kernel
theorem dX0_exchange_40 : decode cX0_exchange 40 = .ok (.getfield 25, 3) := by decide +kernel
theorem dX0_exchange_43 : decode cX0_exchange 43 = .ok (.iload_n 2, 1) := by decide +kernel
theorem dX0_exchange_44 : decode cX0_exchange 44 = .ok (.iaload, 1) := by decide +kernel
theorem dX0_exchange_45 : decode cX0_exchange 45 = .ok (.iastore, 1) := by decide +kernel
theorem dX0_exchange_46 : decode cX0_exchange 46 = .ok (.aload_n 0, 1) := by decide +kernel
theorem dX0_exchange_47 : decode cX0_exchange 47 = .ok (.getfield 25, 3) := by decide +kernel
theorem dX0_exchange_50 : decode cX0_exchange 50 = .ok (.iload_n 2, 1) := by decide +kernel
theorem dX0_exchange_51 : decode cX0_exchange 51 = .ok (.iload 4, 2) := by decide +kernel
theorem dX0_exchange_53 : decode cX0_exchange 53 = .ok (.iastore, 1) := by decide +kernel
theorem dX0_exchange_54 : decode cX0_exchange 54 = .ok (.aload_n 0, 1) := by decide +kernel
theorem dX0_exchange_55 : decode cX0_exchange 55 = .ok (.getfield 28, 3) := by decide +kernel
theorem dX0_exchange_58 : decode cX0_exchange 58 = .ok (.iload_n 1, 1) := by decide +kernel
theorem dX0_exchange_59 : decode cX0_exchange 59 = .ok (.iaload, 1) := by decide +kernel
theorem dX0_exchange_60 : decode cX0_exchange 60 = .ok (.istore 5, 2) := by decide +kernel
theorem dX0_exchange_62 : decode cX0_exchange 62 = .ok (.aload_n 0, 1) := by decide +kernel
theorem dX0_exchange_63 : decode cX0_exchange 63 = .ok (.getfield 28, 3) := by decide +kernel
theorem dX0_exchange_66 : decode cX0_exchange 66 = .ok (.iload_n 1, 1) := by decide +kernel
theorem dX0_exchange_67 : decode cX0_exchange 67 = .ok (.aload_n 0, 1) := by decide +kernel
theorem dX0_exchange_68 : decode cX0_exchange 68 = .ok (.getfield 28, 3) := by decide +kernel
theorem dX0_exchange_71 : decode cX0_exchange 71 = .ok (.iload_n 2, 1) := by decide +kernel
theorem dX0_exchange_72 : decode cX0_exchange 72 = .ok (.iaload, 1) := by decide +kernel
theorem dX0_exchange_73 : decode cX0_exchange 73 = .ok (.iastore, 1) := by decide +kernel
theorem dX0_exchange_74 : decode cX0_exchange 74 = .ok (.aload_n 0, 1) := by decide +kernel
theorem dX0_exchange_75 : decode cX0_exchange 75 = .ok (.getfield 28, 3) := by decide +kernel
theorem dX0_exchange_78 : decode cX0_exchange 78 = .ok (.iload_n 2, 1) := by decide +kernel
theorem dX0_exchange_79 : decode cX0_exchange 79 = .ok (.iload 5, 2) := by decide +kernel
theorem dX0_exchange_81 : decode cX0_exchange 81 = .ok (.iastore, 1) := by decide +kernel
theorem dX0_exchange_82 : decode cX0_exchange 82 = .ok (.return_, 1) := by decide +kernel
abbrev cX0_allWays : ByteArray := prog_1_method_14_code
def yX0_allWays : MethodName := ⟨RX0, "allWays", "()I"⟩
theorem dX0_allWays_0 : decode cX0_allWays 0 = .ok (.iconst 0, 1) := by decide +kernel
theorem dX0_allWays_1 : decode cX0_allWays 1 = .ok (.istore_n 1, 1) := by decide +kernel
theorem dX0_allWays_2 : decode cX0_allWays 2 = .ok (.iconst 0, 1) := by decide +kernel
theorem dX0_allWays_3 : decode cX0_allWays 3 = .ok (.istore_n 2, 1) := by decide +kernel
theorem dX0_allWays_4 : decode cX0_allWays 4 = .ok (.iload_n 2, 1) := by decide +kernel
theorem dX0_allWays_5 : decode cX0_allWays 5 = .ok (.aload_n 0, 1) := by decide +kernel
theorem dX0_allWays_6 : decode cX0_allWays 6 = .ok (.getfield 49, 3) := by decide +kernel
theorem dX0_allWays_9 : decode cX0_allWays 9 = .ok (.if_icmp .ge 18, 3) := by decide +kernel
theorem dX0_allWays_12 : decode cX0_allWays 12 = .ok (.iload_n 1, 1) := by decide +kernel
theorem dX0_allWays_13 : decode cX0_allWays 13 = .ok (.aload_n 0, 1) := by decide +kernel
theorem dX0_allWays_14 : decode cX0_allWays 14 = .ok (.getfield 28, 3) := by decide +kernel
theorem dX0_allWays_17 : decode cX0_allWays 17 = .ok (.iload_n 2, 1) := by decide +kernel
theorem dX0_allWays_18 : decode cX0_allWays 18 = .ok (.iaload, 1) := by decide +kernel
theorem dX0_allWays_19 : decode cX0_allWays 19 = .ok (.iadd, 1) := by decide +kernel
theorem dX0_allWays_20 : decode cX0_allWays 20 = .ok (.istore_n 1, 1) := by decide +kernel
theorem dX0_allWays_21 : decode cX0_allWays 21 = .ok (.iinc 2 1, 3) := by decide +kernel
theorem dX0_allWays_24 : decode cX0_allWays 24 = .ok (.goto (-20), 3) := by decide +kernel
theorem dX0_allWays_27 : decode cX0_allWays 27 = .ok (.iload_n 1, 1) := by decide +kernel
theorem dX0_allWays_28 : decode cX0_allWays 28 = .ok (.ireturn, 1) := by decide +kernel
abbrev cX0_isInside : ByteArray := prog_1_method_15_code
def yX0_isInside : MethodName := ⟨RX0, "isInside", "(IZ)Z"⟩
theorem dX0_isInside_0 : decode cX0_isInside 0 = .ok (.iload_n 1, 1) := by decide +kernel
theorem dX0_isInside_1 : decode cX0_isInside 1 = .ok (.ifCond .eq 18, 3) := by decide +kernel
theorem dX0_isInside_4 : decode cX0_isInside 4 = .ok (.iload_n 0, 1) := by decide +kernel
theorem dX0_isInside_5 : decode cX0_isInside 5 = .ok (.iconst 1, 1) := by decide +kernel
theorem dX0_isInside_6 : decode cX0_isInside 6 = .ok (.iand, 1) := by decide +kernel
theorem dX0_isInside_7 : decode cX0_isInside 7 = .ok (.iconst 1, 1) := by decide +kernel
theorem dX0_isInside_8 : decode cX0_isInside 8 = .ok (.if_icmp .ne 7, 3) := by decide +kernel
theorem dX0_isInside_11 : decode cX0_isInside 11 = .ok (.iconst 1, 1) := by decide +kernel
theorem dX0_isInside_12 : decode cX0_isInside 12 = .ok (.goto 16, 3) := by decide +kernel
theorem dX0_isInside_15 : decode cX0_isInside 15 = .ok (.iconst 0, 1) := by decide +kernel
theorem dX0_isInside_16 : decode cX0_isInside 16 = .ok (.goto 12, 3) := by decide +kernel
theorem dX0_isInside_19 : decode cX0_isInside 19 = .ok (.iload_n 0, 1) := by decide +kernel
theorem dX0_isInside_20 : decode cX0_isInside 20 = .ok (.ifCond .eq 7, 3) := by decide +kernel
theorem dX0_isInside_23 : decode cX0_isInside 23 = .ok (.iconst 1, 1) := by decide +kernel
theorem dX0_isInside_24 : decode cX0_isInside 24 = .ok (.goto 4, 3) := by decide +kernel
theorem dX0_isInside_27 : decode cX0_isInside 27 = .ok (.iconst 0, 1) := by decide +kernel
theorem dX0_isInside_28 : decode cX0_isInside 28 = .ok (.ireturn, 1) := by decide +kernel
abbrev cX0_wipe : ByteArray := prog_1_method_19_code
def yX0_wipe : MethodName := ⟨RX0, "wipe", "(I)I"⟩
theorem dX0_wipe_0 : decode cX0_wipe 0 = .ok (.iload_n 1, 1) := by decide +kernel
theorem dX0_wipe_1 : decode cX0_wipe 1 = .ok (.ifCond .lt 10, 3) := by decide +kernel
theorem dX0_wipe_4 : decode cX0_wipe 4 = .ok (.iload_n 1, 1) := by decide +kernel
theorem dX0_wipe_5 : decode cX0_wipe 5 = .ok (.sipush 255, 3) := by decide +kernel
theorem dX0_wipe_8 : decode cX0_wipe 8 = .ok (.if_icmp .le 6, 3) := by decide +kernel
theorem dX0_wipe_11 : decode cX0_wipe 11 = .ok (.bipush (-3), 2) := by decide +kernel
theorem dX0_wipe_13 : decode cX0_wipe 13 = .ok (.ireturn, 1) := by decide +kernel
theorem dX0_wipe_14 : decode cX0_wipe 14 = .ok (.iconst 0, 1) := by decide +kernel
theorem dX0_wipe_15 : decode cX0_wipe 15 = .ok (.istore_n 2, 1) := by decide +kernel
theorem dX0_wipe_16 : decode cX0_wipe 16 = .ok (.iload_n 2, 1) := by decide +kernel
theorem dX0_wipe_17 : decode cX0_wipe 17 = .ok (.sipush 256, 3) := by decide +kernel
theorem dX0_wipe_20 : decode cX0_wipe 20 = .ok (.if_icmp .ge 16, 3) := by decide +kernel
theorem dX0_wipe_23 : decode cX0_wipe 23 = .ok (.aload_n 0, 1) := by decide +kernel
theorem dX0_wipe_24 : decode cX0_wipe 24 = .ok (.getfield 7, 3) := by decide +kernel
theorem dX0_wipe_27 : decode cX0_wipe 27 = .ok (.iload_n 2, 1) := by decide +kernel
theorem dX0_wipe_28 : decode cX0_wipe 28 = .ok (.iload_n 1, 1) := by decide +kernel
theorem dX0_wipe_29 : decode cX0_wipe 29 = .ok (.iastore, 1) := by decide +kernel
theorem dX0_wipe_30 : decode cX0_wipe 30 = .ok (.iinc 2 1, 3) := by decide +kernel
theorem dX0_wipe_33 : decode cX0_wipe 33 = .ok (.goto (-17), 3) := by decide +kernel
theorem dX0_wipe_36 : decode cX0_wipe 36 = .ok (.iconst 0, 1) := by decide +kernel
theorem dX0_wipe_37 : decode cX0_wipe 37 = .ok (.ireturn, 1) := by decide +kernel
abbrev cX0_pixel : ByteArray := prog_1_method_20_code
def yX0_pixel : MethodName := ⟨RX0, "pixel", "(II)I"⟩
theorem dX0_pixel_0 : decode cX0_pixel 0 = .ok (.iload_n 1, 1) := by decide +kernel
theorem dX0_pixel_1 : decode cX0_pixel 1 = .ok (.iload_n 2, 1) := by decide +kernel
theorem dX0_pixel_2 : decode cX0_pixel 2 = .ok (.invokestatic 82, 3) := by decide +kernel
theorem dX0_pixel_5 : decode cX0_pixel 5 = .ok (.ifCond .eq 8, 3) := by decide +kernel
theorem dX0_pixel_8 : decode cX0_pixel 8 = .ok (.bipush (-4), 2) := by decide +kernel
theorem dX0_pixel_10 : decode cX0_pixel 10 = .ok (.goto 14, 3) := by decide +kernel
theorem dX0_pixel_13 : decode cX0_pixel 13 = .ok (.aload_n 0, 1) := by decide +kernel
theorem dX0_pixel_14 : decode cX0_pixel 14 = .ok (.getfield 7, 3) := by decide +kernel
theorem dX0_pixel_17 : decode cX0_pixel 17 = .ok (.iload_n 1, 1) := by decide +kernel
theorem dX0_pixel_18 : decode cX0_pixel 18 = .ok (.bipush 16, 2) := by decide +kernel
theorem dX0_pixel_20 : decode cX0_pixel 20 = .ok (.imul, 1) := by decide +kernel
theorem dX0_pixel_21 : decode cX0_pixel 21 = .ok (.iload_n 2, 1) := by decide +kernel
theorem dX0_pixel_22 : decode cX0_pixel 22 = .ok (.iadd, 1) := by decide +kernel
theorem dX0_pixel_23 : decode cX0_pixel 23 = .ok (.iaload, 1) := by decide +kernel
theorem dX0_pixel_24 : decode cX0_pixel 24 = .ok (.ireturn, 1) := by decide +kernel
abbrev cX0_badPixel : ByteArray := prog_1_method_3_code
def yX0_badPixel : MethodName := ⟨RX0, "badPixel", "(II)Z"⟩
theorem dX0_badPixel_0 : decode cX0_badPixel 0 = .ok (.iload_n 0, 1) := by decide +kernel
theorem dX0_badPixel_1 : decode cX0_badPixel 1 = .ok (.ifCond .lt 19, 3) := by decide +kernel
theorem dX0_badPixel_4 : decode cX0_badPixel 4 = .ok (.iload_n 0, 1) := by decide +kernel
theorem dX0_badPixel_5 : decode cX0_badPixel 5 = .ok (.bipush 16, 2) := by decide +kernel
theorem dX0_badPixel_7 : decode cX0_badPixel 7 = .ok (.if_icmp .ge 13, 3) := by decide +kernel
theorem dX0_badPixel_10 : decode cX0_badPixel 10 = .ok (.iload_n 1, 1) := by decide +kernel
theorem dX0_badPixel_11 : decode cX0_badPixel 11 = .ok (.ifCond .lt 9, 3) := by decide +kernel
theorem dX0_badPixel_14 : decode cX0_badPixel 14 = .ok (.iload_n 1, 1) := by decide +kernel
theorem dX0_badPixel_15 : decode cX0_badPixel 15 = .ok (.bipush 16, 2) := by decide +kernel
theorem dX0_badPixel_17 : decode cX0_badPixel 17 = .ok (.if_icmp .lt 7, 3) := by decide +kernel
theorem dX0_badPixel_20 : decode cX0_badPixel 20 = .ok (.iconst 1, 1) := by decide +kernel
theorem dX0_badPixel_21 : decode cX0_badPixel 21 = .ok (.goto 4, 3) := by decide +kernel
theorem dX0_badPixel_24 : decode cX0_badPixel 24 = .ok (.iconst 0, 1) := by decide +kernel
theorem dX0_badPixel_25 : decode cX0_badPixel 25 = .ok (.ireturn, 1) := by decide +kernel
abbrev cX0_coverage : ByteArray := prog_1_method_21_code
def yX0_coverage : MethodName := ⟨RX0, "coverage", "(IIZ)I"⟩
theorem dX0_coverage_0 : decode cX0_coverage 0 = .ok (.iload_n 1, 1) := by decide +kernel
theorem dX0_coverage_1 : decode cX0_coverage 1 = .ok (.iload_n 2, 1) := by decide +kernel
theorem dX0_coverage_2 : decode cX0_coverage 2 = .ok (.invokestatic 82, 3) := by decide +kernel
theorem dX0_coverage_5 : decode cX0_coverage 5 = .ok (.ifCond .eq 6, 3) := by decide +kernel
theorem dX0_coverage_8 : decode cX0_coverage 8 = .ok (.bipush (-4), 2) := by decide +kernel
theorem dX0_coverage_10 : decode cX0_coverage 10 = .ok (.ireturn, 1) := by decide +kernel
theorem dX0_coverage_11 : decode cX0_coverage 11 = .ok (.iload_n 1, 1) := by decide +kernel
theorem dX0_coverage_12 : decode cX0_coverage 12 = .ok (.bipush 16, 2) := by decide +kernel
theorem dX0_coverage_14 : decode cX0_coverage 14 = .ok (.imul, 1) := by decide +kernel
theorem dX0_coverage_15 : decode cX0_coverage 15 = .ok (.iload_n 2, 1) := by decide +kernel
theorem dX0_coverage_16 : decode cX0_coverage 16 = .ok (.iadd, 1) := by decide +kernel
theorem dX0_coverage_17 : decode cX0_coverage 17 = .ok (.istore 4, 2) := by decide +kernel
theorem dX0_coverage_19 : decode cX0_coverage 19 = .ok (.iconst 0, 1) := by decide +kernel
theorem dX0_coverage_20 : decode cX0_coverage 20 = .ok (.istore 5, 2) := by decide +kernel
theorem dX0_coverage_22 : decode cX0_coverage 22 = .ok (.iload 5, 2) := by decide +kernel
theorem dX0_coverage_24 : decode cX0_coverage 24 = .ok (.bipush 16, 2) := by decide +kernel
theorem dX0_coverage_26 : decode cX0_coverage 26 = .ok (.if_icmp .ge 22, 3) := by decide +kernel
theorem dX0_coverage_29 : decode cX0_coverage 29 = .ok (.aload_n 0, 1) := by decide +kernel
theorem dX0_coverage_30 : decode cX0_coverage 30 = .ok (.getfield 31, 3) := by decide +kernel
theorem dX0_coverage_33 : decode cX0_coverage 33 = .ok (.iload_n 1, 1) := by decide +kernel
theorem dX0_coverage_34 : decode cX0_coverage 34 = .ok (.bipush 16, 2) := by decide +kernel
theorem dX0_coverage_36 : decode cX0_coverage 36 = .ok (.imul, 1) := by decide +kernel
theorem dX0_coverage_37 : decode cX0_coverage 37 = .ok (.iload 5, 2) := by decide +kernel
theorem dX0_coverage_39 : decode cX0_coverage 39 = .ok (.iadd, 1) := by decide +kernel
theorem dX0_coverage_40 : decode cX0_coverage 40 = .ok (.iconst 0, 1) := by decide +kernel
theorem dX0_coverage_41 : decode cX0_coverage 41 = .ok (.iastore, 1) := by decide +kernel
theorem dX0_coverage_42 : decode cX0_coverage 42 = .ok (.iinc 5 1, 3) := by decide +kernel
theorem dX0_coverage_45 : decode cX0_coverage 45 = .ok (.goto (-23), 3) := by decide +kernel
theorem dX0_coverage_48 : decode cX0_coverage 48 = .ok (.aload_n 0, 1) := by decide +kernel
theorem dX0_coverage_49 : decode cX0_coverage 49 = .ok (.iconst 2, 1) := by decide +kernel
theorem dX0_coverage_50 : decode cX0_coverage 50 = .ok (.iload_n 1, 1) := by decide +kernel
theorem dX0_coverage_51 : decode cX0_coverage 51 = .ok (.imul, 1) := by decide +kernel
theorem dX0_coverage_52 : decode cX0_coverage 52 = .ok (.iload_n 3, 1) := by decide +kernel
theorem dX0_coverage_53 : decode cX0_coverage 53 = .ok (.invokevirtual 74, 3) := by decide +kernel
theorem dX0_coverage_56 : decode cX0_coverage 56 = .ok (.aload_n 0, 1) := by decide +kernel
theorem dX0_coverage_57 : decode cX0_coverage 57 = .ok (.iconst 2, 1) := by decide +kernel
theorem dX0_coverage_58 : decode cX0_coverage 58 = .ok (.iload_n 1, 1) := by decide +kernel
theorem dX0_coverage_59 : decode cX0_coverage 59 = .ok (.imul, 1) := by decide +kernel
theorem dX0_coverage_60 : decode cX0_coverage 60 = .ok (.iconst 1, 1) := by decide +kernel
theorem dX0_coverage_61 : decode cX0_coverage 61 = .ok (.iadd, 1) := by decide +kernel
theorem dX0_coverage_62 : decode cX0_coverage 62 = .ok (.iload_n 3, 1) := by decide +kernel
theorem dX0_coverage_63 : decode cX0_coverage 63 = .ok (.invokevirtual 74, 3) := by decide +kernel
theorem dX0_coverage_66 : decode cX0_coverage 66 = .ok (.aload_n 0, 1) := by decide +kernel
theorem dX0_coverage_67 : decode cX0_coverage 67 = .ok (.getfield 31, 3) := by decide +kernel
theorem dX0_coverage_70 : decode cX0_coverage 70 = .ok (.iload 4, 2) := by decide +kernel
theorem dX0_coverage_72 : decode cX0_coverage 72 = .ok (.iaload, 1) := by decide +kernel
theorem dX0_coverage_73 : decode cX0_coverage 73 = .ok (.ireturn, 1) := by decide +kernel
abbrev cX0_area : ByteArray := prog_1_method_22_code
def yX0_area : MethodName := ⟨RX0, "area", "(Z)I"⟩
theorem dX0_area_0 : decode cX0_area 0 = .ok (.aload_n 0, 1) := by decide +kernel
theorem dX0_area_1 : decode cX0_area 1 = .ok (.iload_n 1, 1) := by decide +kernel
theorem dX0_area_2 : decode cX0_area 2 = .ok (.invokevirtual 78, 3) := by decide +kernel
theorem dX0_area_5 : decode cX0_area 5 = .ok (.iconst 0, 1) := by decide +kernel
theorem dX0_area_6 : decode cX0_area 6 = .ok (.istore_n 2, 1) := by decide +kernel
theorem dX0_area_7 : decode cX0_area 7 = .ok (.iconst 0, 1) := by decide +kernel
theorem dX0_area_8 : decode cX0_area 8 = .ok (.istore_n 3, 1) := by decide +kernel
theorem dX0_area_9 : decode cX0_area 9 = .ok (.iload_n 3, 1) := by decide +kernel
theorem dX0_area_10 : decode cX0_area 10 = .ok (.sipush 256, 3) := by decide +kernel
theorem dX0_area_13 : decode cX0_area 13 = .ok (.if_icmp .ge 18, 3) := by decide +kernel
theorem dX0_area_16 : decode cX0_area 16 = .ok (.iload_n 2, 1) := by decide +kernel
theorem dX0_area_17 : decode cX0_area 17 = .ok (.aload_n 0, 1) := by decide +kernel
theorem dX0_area_18 : decode cX0_area 18 = .ok (.getfield 31, 3) := by decide +kernel
theorem dX0_area_21 : decode cX0_area 21 = .ok (.iload_n 3, 1) := by decide +kernel
theorem dX0_area_22 : decode cX0_area 22 = .ok (.iaload, 1) := by decide +kernel
theorem dX0_area_23 : decode cX0_area 23 = .ok (.iadd, 1) := by decide +kernel
theorem dX0_area_24 : decode cX0_area 24 = .ok (.istore_n 2, 1) := by decide +kernel
theorem dX0_area_25 : decode cX0_area 25 = .ok (.iinc 3 1, 3) := by decide +kernel
theorem dX0_area_28 : decode cX0_area 28 = .ok (.goto (-19), 3) := by decide +kernel
theorem dX0_area_31 : decode cX0_area 31 = .ok (.iload_n 2, 1) := by decide +kernel
theorem dX0_area_32 : decode cX0_area 32 = .ok (.ireturn, 1) := by decide +kernel
abbrev cX0_winding : ByteArray := prog_1_method_23_code
def yX0_winding : MethodName := ⟨RX0, "winding", "(II)I"⟩
theorem dX0_winding_0 : decode cX0_winding 0 = .ok (.iload_n 1, 1) := by decide +kernel
theorem dX0_winding_1 : decode cX0_winding 1 = .ok (.iload_n 2, 1) := by decide +kernel
theorem dX0_winding_2 : decode cX0_winding 2 = .ok (.invokestatic 41, 3) := by decide +kernel
theorem dX0_winding_5 : decode cX0_winding 5 = .ok (.ifCond .eq 5, 3) := by decide +kernel
theorem dX0_winding_8 : decode cX0_winding 8 = .ok (.iconst 0, 1) := by decide +kernel
theorem dX0_winding_9 : decode cX0_winding 9 = .ok (.ireturn, 1) := by decide +kernel
theorem dX0_winding_10 : decode cX0_winding 10 = .ok (.aload_n 0, 1) := by decide +kernel
theorem dX0_winding_11 : decode cX0_winding 11 = .ok (.iload_n 2, 1) := by decide +kernel
theorem dX0_winding_12 : decode cX0_winding 12 = .ok (.invokevirtual 62, 3) := by decide +kernel
theorem dX0_winding_15 : decode cX0_winding 15 = .ok (.iconst 0, 1) := by decide +kernel
theorem dX0_winding_16 : decode cX0_winding 16 = .ok (.istore_n 3, 1) := by decide +kernel
theorem dX0_winding_17 : decode cX0_winding 17 = .ok (.aload_n 0, 1) := by decide +kernel
theorem dX0_winding_18 : decode cX0_winding 18 = .ok (.getfield 49, 3) := by decide +kernel
theorem dX0_winding_21 : decode cX0_winding 21 = .ok (.iconst 1, 1) := by decide +kernel
theorem dX0_winding_22 : decode cX0_winding 22 = .ok (.isub, 1) := by decide +kernel
theorem dX0_winding_23 : decode cX0_winding 23 = .ok (.istore 4, 2) := by decide +kernel
theorem dX0_winding_25 : decode cX0_winding 25 = .ok (.iload 4, 2) := by decide +kernel
theorem dX0_winding_27 : decode cX0_winding 27 = .ok (.ifCond .lt 38, 3) := by decide +kernel
theorem dX0_winding_30 : decode cX0_winding 30 = .ok (.aload_n 0, 1) := by decide +kernel
theorem dX0_winding_31 : decode cX0_winding 31 = .ok (.getfield 22, 3) := by decide +kernel
theorem dX0_winding_34 : decode cX0_winding 34 = .ok (.iload 4, 2) := by decide +kernel
theorem dX0_winding_36 : decode cX0_winding 36 = .ok (.iaload, 1) := by decide +kernel
theorem dX0_winding_37 : decode cX0_winding 37 = .ok (.iload_n 1, 1) := by decide +kernel
theorem dX0_winding_38 : decode cX0_winding 38 = .ok (.aload_n 0, 1) := by decide +kernel
theorem dX0_winding_39 : decode cX0_winding 39 = .ok (.getfield 25, 3) := by decide +kernel
theorem dX0_winding_42 : decode cX0_winding 42 = .ok (.iload 4, 2) := by decide +kernel
theorem dX0_winding_44 : decode cX0_winding 44 = .ok (.iaload, 1) := by decide +kernel
theorem dX0_winding_45 : decode cX0_winding 45 = .ok (.imul, 1) := by decide +kernel
theorem dX0_winding_46 : decode cX0_winding 46 = .ok (.if_icmp .le 19, 3) := by decide +kernel
theorem dX0_winding_49 : decode cX0_winding 49 = .ok (.iload_n 3, 1) := by decide +kernel
theorem dX0_winding_50 : decode cX0_winding 50 = .ok (.aload_n 0, 1) := by decide +kernel
theorem dX0_winding_51 : decode cX0_winding 51 = .ok (.getfield 28, 3) := by decide +kernel
theorem dX0_winding_54 : decode cX0_winding 54 = .ok (.iload 4, 2) := by decide +kernel
theorem dX0_winding_56 : decode cX0_winding 56 = .ok (.iaload, 1) := by decide +kernel
theorem dX0_winding_57 : decode cX0_winding 57 = .ok (.iadd, 1) := by decide +kernel
theorem dX0_winding_58 : decode cX0_winding 58 = .ok (.istore_n 3, 1) := by decide +kernel
theorem dX0_winding_59 : decode cX0_winding 59 = .ok (.iinc 4 (-1), 3) := by decide +kernel
theorem dX0_winding_62 : decode cX0_winding 62 = .ok (.goto (-37), 3) := by decide +kernel
theorem dX0_winding_65 : decode cX0_winding 65 = .ok (.iload_n 3, 1) := by decide +kernel
theorem dX0_winding_66 : decode cX0_winding 66 = .ok (.ireturn, 1) := by decide +kernel
abbrev cX0_rowSum : ByteArray := prog_1_method_24_code
def yX0_rowSum : MethodName := ⟨RX0, "rowSum", "(I)I"⟩
theorem dX0_rowSum_0 : decode cX0_rowSum 0 = .ok (.iload_n 1, 1) := by decide +kernel
theorem dX0_rowSum_1 : decode cX0_rowSum 1 = .ok (.ifCond .lt 9, 3) := by decide +kernel
theorem dX0_rowSum_4 : decode cX0_rowSum 4 = .ok (.iload_n 1, 1) := by decide +kernel
theorem dX0_rowSum_5 : decode cX0_rowSum 5 = .ok (.bipush 16, 2) := by decide +kernel
theorem dX0_rowSum_7 : decode cX0_rowSum 7 = .ok (.if_icmp .lt 6, 3) := by decide +kernel
theorem dX0_rowSum_10 : decode cX0_rowSum 10 = .ok (.bipush (-4), 2) := by decide +kernel
theorem dX0_rowSum_12 : decode cX0_rowSum 12 = .ok (.ireturn, 1) := by decide +kernel
theorem dX0_rowSum_13 : decode cX0_rowSum 13 = .ok (.iconst 0, 1) := by decide +kernel
theorem dX0_rowSum_14 : decode cX0_rowSum 14 = .ok (.istore_n 2, 1) := by decide +kernel
theorem dX0_rowSum_15 : decode cX0_rowSum 15 = .ok (.iconst 0, 1) := by decide +kernel
theorem dX0_rowSum_16 : decode cX0_rowSum 16 = .ok (.istore_n 3, 1) := by decide +kernel
theorem dX0_rowSum_17 : decode cX0_rowSum 17 = .ok (.iload_n 3, 1) := by decide +kernel
theorem dX0_rowSum_18 : decode cX0_rowSum 18 = .ok (.bipush 16, 2) := by decide +kernel
theorem dX0_rowSum_20 : decode cX0_rowSum 20 = .ok (.if_icmp .ge 23, 3) := by decide +kernel
theorem dX0_rowSum_23 : decode cX0_rowSum 23 = .ok (.iload_n 2, 1) := by decide +kernel
theorem dX0_rowSum_24 : decode cX0_rowSum 24 = .ok (.aload_n 0, 1) := by decide +kernel
theorem dX0_rowSum_25 : decode cX0_rowSum 25 = .ok (.getfield 7, 3) := by decide +kernel
theorem dX0_rowSum_28 : decode cX0_rowSum 28 = .ok (.iload_n 1, 1) := by decide +kernel
theorem dX0_rowSum_29 : decode cX0_rowSum 29 = .ok (.bipush 16, 2) := by decide +kernel
theorem dX0_rowSum_31 : decode cX0_rowSum 31 = .ok (.imul, 1) := by decide +kernel
theorem dX0_rowSum_32 : decode cX0_rowSum 32 = .ok (.iload_n 3, 1) := by decide +kernel
theorem dX0_rowSum_33 : decode cX0_rowSum 33 = .ok (.iadd, 1) := by decide +kernel
theorem dX0_rowSum_34 : decode cX0_rowSum 34 = .ok (.iaload, 1) := by decide +kernel
theorem dX0_rowSum_35 : decode cX0_rowSum 35 = .ok (.iadd, 1) := by decide +kernel
theorem dX0_rowSum_36 : decode cX0_rowSum 36 = .ok (.istore_n 2, 1) := by decide +kernel
theorem dX0_rowSum_37 : decode cX0_rowSum 37 = .ok (.iinc 3 1, 3) := by decide +kernel
theorem dX0_rowSum_40 : decode cX0_rowSum 40 = .ok (.goto (-23), 3) := by decide +kernel
theorem dX0_rowSum_43 : decode cX0_rowSum 43 = .ok (.iload_n 2, 1) := by decide +kernel
theorem dX0_rowSum_44 : decode cX0_rowSum 44 = .ok (.ireturn, 1) := by decide +kernel
theorem q14 : (Jvm.Cond.initialized "PolygonFill") ∈ lw_all := lw_g (lw_at lw_m0 1 rfl) rfl
theorem q17 : (Jvm.Cond.instantiable "PolygonFill" (11 : Nat)) ∈ lw_all := lw_g (lw_at lw_m0 4 rfl) rfl
theorem q19 : (Jvm.Cond.instanceMethod ({ cls := "PolygonFill", name := "<init>", desc := "()V" } : Jvm.MethodName)) ∈ lw_all := lw_g (lw_at lw_m0 6 rfl) rfl
theorem q20 : (Jvm.Cond.code ({ cls := "PolygonFill", name := "<init>", desc := "()V" } : Jvm.MethodName) prog_1_method_1_code (1 : Nat) (Option.none : Option Jvm.ClassFile.FieldType)) ∈ lw_all := lw_g (lw_at lw_m0 7 rfl) rfl
theorem q21 : (Jvm.Cond.methodLink "PolygonFill" (1 : Nat) ({ cls := "java/lang/Object", name := "<init>", desc := "()V" } : Jvm.MethodName)) ∈ lw_all := lw_g (lw_at lw_m0 8 rfl) rfl
theorem q24 : (Jvm.Cond.fieldLink "PolygonFill" (7 : Nat) "PolygonFill" "colours" "[I") ∈ lw_all := lw_g (lw_at lw_m0 11 rfl) rfl
theorem q25 : (Jvm.Cond.fieldLink "PolygonFill" (34 : Nat) "PolygonFill" "contours" "I") ∈ lw_all := lw_g (lw_at lw_m0 12 rfl) rfl
theorem q26 : (Jvm.Cond.fieldLink "PolygonFill" (38 : Nat) "PolygonFill" "corners" "I") ∈ lw_all := lw_g (lw_at lw_m0 13 rfl) rfl
theorem q27 : (Jvm.Cond.fieldLink "PolygonFill" (13 : Nat) "PolygonFill" "first" "[I") ∈ lw_all := lw_g (lw_at lw_m0 14 rfl) rfl
theorem q28 : (Jvm.Cond.fieldLink "PolygonFill" (16 : Nat) "PolygonFill" "xs" "[I") ∈ lw_all := lw_g (lw_at lw_m0 15 rfl) rfl
theorem q29 : (Jvm.Cond.fieldLink "PolygonFill" (19 : Nat) "PolygonFill" "ys" "[I") ∈ lw_all := lw_g (lw_at lw_m0 16 rfl) rfl
theorem q30 : (Jvm.Cond.fieldLink "PolygonFill" (49 : Nat) "PolygonFill" "crossings" "I") ∈ lw_all := lw_g (lw_at lw_m0 17 rfl) rfl
theorem q31 : (Jvm.Cond.fieldLink "PolygonFill" (22 : Nat) "PolygonFill" "top" "[I") ∈ lw_all := lw_g (lw_at lw_m0 18 rfl) rfl
theorem q32 : (Jvm.Cond.fieldLink "PolygonFill" (25 : Nat) "PolygonFill" "bottom" "[I") ∈ lw_all := lw_g (lw_at lw_m0 19 rfl) rfl
theorem q33 : (Jvm.Cond.fieldLink "PolygonFill" (28 : Nat) "PolygonFill" "way" "[I") ∈ lw_all := lw_g (lw_at lw_m0 20 rfl) rfl
theorem q34 : (Jvm.Cond.fieldLink "PolygonFill" (31 : Nat) "PolygonFill" "covered" "[I") ∈ lw_all := lw_g (lw_at lw_m0 21 rfl) rfl
theorem q35 : (Jvm.Cond.laysFinal "PolygonFill" "PolygonFill" "colours" "[I") ∈ lw_all := lw_g (lw_at lw_m0 22 rfl) rfl
theorem q36 : (Jvm.Cond.soleField "PolygonFill" "colours") ∈ lw_all := lw_g (lw_at lw_m0 23 rfl) rfl
theorem q37 : (Jvm.Cond.lays "PolygonFill" "PolygonFill" "contours" "I") ∈ lw_all := lw_g (lw_at lw_m0 24 rfl) rfl
theorem q38 : (Jvm.Cond.soleField "PolygonFill" "contours") ∈ lw_all := lw_g (lw_at lw_m0 25 rfl) rfl
theorem q39 : (Jvm.Cond.lays "PolygonFill" "PolygonFill" "corners" "I") ∈ lw_all := lw_g (lw_at lw_m0 26 rfl) rfl
theorem q40 : (Jvm.Cond.soleField "PolygonFill" "corners") ∈ lw_all := lw_g (lw_at lw_m0 27 rfl) rfl
theorem q41 : (Jvm.Cond.laysFinal "PolygonFill" "PolygonFill" "first" "[I") ∈ lw_all := lw_g (lw_at lw_m0 28 rfl) rfl
theorem q42 : (Jvm.Cond.soleField "PolygonFill" "first") ∈ lw_all := lw_g (lw_at lw_m0 29 rfl) rfl
theorem q43 : (Jvm.Cond.laysFinal "PolygonFill" "PolygonFill" "xs" "[I") ∈ lw_all := lw_g (lw_at lw_m0 30 rfl) rfl
theorem q44 : (Jvm.Cond.soleField "PolygonFill" "xs") ∈ lw_all := lw_g (lw_at lw_m0 31 rfl) rfl
theorem q45 : (Jvm.Cond.laysFinal "PolygonFill" "PolygonFill" "ys" "[I") ∈ lw_all := lw_g (lw_at lw_m0 32 rfl) rfl
theorem q46 : (Jvm.Cond.soleField "PolygonFill" "ys") ∈ lw_all := lw_g (lw_at lw_m0 33 rfl) rfl
theorem q47 : (Jvm.Cond.lays "PolygonFill" "PolygonFill" "crossings" "I") ∈ lw_all := lw_g (lw_at lw_m0 34 rfl) rfl
theorem q48 : (Jvm.Cond.soleField "PolygonFill" "crossings") ∈ lw_all := lw_g (lw_at lw_m0 35 rfl) rfl
theorem q49 : (Jvm.Cond.laysFinal "PolygonFill" "PolygonFill" "top" "[I") ∈ lw_all := lw_g (lw_at lw_m0 36 rfl) rfl
theorem q50 : (Jvm.Cond.soleField "PolygonFill" "top") ∈ lw_all := lw_g (lw_at lw_m0 37 rfl) rfl
theorem q51 : (Jvm.Cond.laysFinal "PolygonFill" "PolygonFill" "bottom" "[I") ∈ lw_all := lw_g (lw_at lw_m0 38 rfl) rfl
theorem q52 : (Jvm.Cond.soleField "PolygonFill" "bottom") ∈ lw_all := lw_g (lw_at lw_m0 39 rfl) rfl
theorem q53 : (Jvm.Cond.laysFinal "PolygonFill" "PolygonFill" "way" "[I") ∈ lw_all := lw_g (lw_at lw_m0 40 rfl) rfl
theorem q54 : (Jvm.Cond.soleField "PolygonFill" "way") ∈ lw_all := lw_g (lw_at lw_m0 41 rfl) rfl
theorem q55 : (Jvm.Cond.laysFinal "PolygonFill" "PolygonFill" "covered" "[I") ∈ lw_all := lw_g (lw_at lw_m0 42 rfl) rfl
theorem q56 : (Jvm.Cond.soleField "PolygonFill" "covered") ∈ lw_all := lw_g (lw_at lw_m0 43 rfl) rfl
theorem q57 : (Jvm.Cond.superclass "PolygonFill" "java/lang/Object") ∈ lw_all := lw_g (lw_at lw_m0 44 rfl) rfl
theorem q60 : (Jvm.Cond.instanceMethod ({ cls := "PolygonFill", name := "begin", desc := "(II)I" } : Jvm.MethodName)) ∈ lw_all := lw_g (lw_at lw_m0 47 rfl) rfl
theorem q61 : (Jvm.Cond.selects "PolygonFill" ({ cls := "PolygonFill", name := "begin", desc := "(II)I" } : Jvm.MethodName) ({ cls := "PolygonFill", name := "begin", desc := "(II)I" } : Jvm.MethodName)) ∈ lw_all := lw_g (lw_at lw_m0 48 rfl) rfl
theorem q62 : (Jvm.Cond.code ({ cls := "PolygonFill", name := "begin", desc := "(II)I" } : Jvm.MethodName) prog_1_method_5_code (3 : Nat) (Option.some Jvm.ClassFile.FieldType.int)) ∈ lw_all := lw_g (lw_at lw_m0 49 rfl) rfl
theorem q63 : (Jvm.Cond.methodLink "PolygonFill" (41 : Nat) ({ cls := "PolygonFill", name := "badPoint", desc := "(II)Z" } : Jvm.MethodName)) ∈ lw_all := lw_g (lw_at lw_m0 50 rfl) rfl
theorem q64 : (Jvm.Cond.static ({ cls := "PolygonFill", name := "badPoint", desc := "(II)Z" } : Jvm.MethodName)) ∈ lw_all := lw_g (lw_at lw_m0 51 rfl) rfl
theorem q65 : (Jvm.Cond.code ({ cls := "PolygonFill", name := "badPoint", desc := "(II)Z" } : Jvm.MethodName) prog_1_method_2_code (2 : Nat) (Option.some Jvm.ClassFile.FieldType.boolean)) ∈ lw_all := lw_g (lw_at lw_m0 52 rfl) rfl
theorem q66 : (Jvm.Cond.methodLink "PolygonFill" (45 : Nat) ({ cls := "PolygonFill", name := "addCorner", desc := "(II)V" } : Jvm.MethodName)) ∈ lw_all := lw_g (lw_at lw_m0 53 rfl) rfl
theorem q67 : (Jvm.Cond.privateMethod ({ cls := "PolygonFill", name := "addCorner", desc := "(II)V" } : Jvm.MethodName)) ∈ lw_tbl := lw_at lw_m0 54 rfl
theorem q68 : (Jvm.Cond.instanceMethod ({ cls := "PolygonFill", name := "addCorner", desc := "(II)V" } : Jvm.MethodName)) ∈ lw_all := lw_g (lw_at lw_m0 55 rfl) rfl
theorem q69 : (Jvm.Cond.code ({ cls := "PolygonFill", name := "addCorner", desc := "(II)V" } : Jvm.MethodName) prog_1_method_4_code (3 : Nat) (Option.none : Option Jvm.ClassFile.FieldType)) ∈ lw_all := lw_g (lw_at lw_m0 56 rfl) rfl
theorem q71 : (Jvm.Cond.instanceMethod ({ cls := "PolygonFill", name := "corner", desc := "(II)I" } : Jvm.MethodName)) ∈ lw_all := lw_g (lw_at lw_m0 58 rfl) rfl
theorem q72 : (Jvm.Cond.selects "PolygonFill" ({ cls := "PolygonFill", name := "corner", desc := "(II)I" } : Jvm.MethodName) ({ cls := "PolygonFill", name := "corner", desc := "(II)I" } : Jvm.MethodName)) ∈ lw_all := lw_g (lw_at lw_m0 59 rfl) rfl
theorem q73 : (Jvm.Cond.code ({ cls := "PolygonFill", name := "corner", desc := "(II)I" } : Jvm.MethodName) prog_1_method_6_code (3 : Nat) (Option.some Jvm.ClassFile.FieldType.int)) ∈ lw_all := lw_g (lw_at lw_m0 60 rfl) rfl
theorem q75 : (Jvm.Cond.instanceMethod ({ cls := "PolygonFill", name := "move", desc := "(II)I" } : Jvm.MethodName)) ∈ lw_all := lw_g (lw_at lw_m0 62 rfl) rfl
theorem q76 : (Jvm.Cond.selects "PolygonFill" ({ cls := "PolygonFill", name := "move", desc := "(II)I" } : Jvm.MethodName) ({ cls := "PolygonFill", name := "move", desc := "(II)I" } : Jvm.MethodName)) ∈ lw_all := lw_g (lw_at lw_m0 63 rfl) rfl
theorem q77 : (Jvm.Cond.code ({ cls := "PolygonFill", name := "move", desc := "(II)I" } : Jvm.MethodName) prog_1_method_7_code (4 : Nat) (Option.some Jvm.ClassFile.FieldType.int)) ∈ lw_all := lw_g (lw_at lw_m0 64 rfl) rfl
theorem q79 : (Jvm.Cond.instanceMethod ({ cls := "PolygonFill", name := "mirror", desc := "()V" } : Jvm.MethodName)) ∈ lw_all := lw_g (lw_at lw_m0 66 rfl) rfl
theorem q80 : (Jvm.Cond.selects "PolygonFill" ({ cls := "PolygonFill", name := "mirror", desc := "()V" } : Jvm.MethodName) ({ cls := "PolygonFill", name := "mirror", desc := "()V" } : Jvm.MethodName)) ∈ lw_all := lw_g (lw_at lw_m0 67 rfl) rfl
theorem q81 : (Jvm.Cond.code ({ cls := "PolygonFill", name := "mirror", desc := "()V" } : Jvm.MethodName) prog_1_method_8_code (3 : Nat) (Option.none : Option Jvm.ClassFile.FieldType)) ∈ lw_all := lw_g (lw_at lw_m0 68 rfl) rfl
theorem q83 : (Jvm.Cond.instanceMethod ({ cls := "PolygonFill", name := "clear", desc := "()V" } : Jvm.MethodName)) ∈ lw_all := lw_g (lw_at lw_m0 70 rfl) rfl
theorem q84 : (Jvm.Cond.selects "PolygonFill" ({ cls := "PolygonFill", name := "clear", desc := "()V" } : Jvm.MethodName) ({ cls := "PolygonFill", name := "clear", desc := "()V" } : Jvm.MethodName)) ∈ lw_all := lw_g (lw_at lw_m0 71 rfl) rfl
theorem q85 : (Jvm.Cond.code ({ cls := "PolygonFill", name := "clear", desc := "()V" } : Jvm.MethodName) prog_1_method_9_code (1 : Nat) (Option.none : Option Jvm.ClassFile.FieldType)) ∈ lw_all := lw_g (lw_at lw_m0 72 rfl) rfl
theorem q87 : (Jvm.Cond.instanceMethod ({ cls := "PolygonFill", name := "paint", desc := "(IZ)I" } : Jvm.MethodName)) ∈ lw_all := lw_g (lw_at lw_m0 74 rfl) rfl
theorem q88 : (Jvm.Cond.selects "PolygonFill" ({ cls := "PolygonFill", name := "paint", desc := "(IZ)I" } : Jvm.MethodName) ({ cls := "PolygonFill", name := "paint", desc := "(IZ)I" } : Jvm.MethodName)) ∈ lw_all := lw_g (lw_at lw_m0 75 rfl) rfl
theorem q89 : (Jvm.Cond.code ({ cls := "PolygonFill", name := "paint", desc := "(IZ)I" } : Jvm.MethodName) prog_1_method_18_code (6 : Nat) (Option.some Jvm.ClassFile.FieldType.int)) ∈ lw_all := lw_g (lw_at lw_m0 76 rfl) rfl
theorem q90 : (Jvm.Cond.methodLink "PolygonFill" (78 : Nat) ({ cls := "PolygonFill", name := "coverAll", desc := "(Z)V" } : Jvm.MethodName)) ∈ lw_all := lw_g (lw_at lw_m0 77 rfl) rfl
theorem q91 : (Jvm.Cond.privateMethod ({ cls := "PolygonFill", name := "coverAll", desc := "(Z)V" } : Jvm.MethodName)) ∈ lw_tbl := lw_at lw_m0 78 rfl
theorem q92 : (Jvm.Cond.instanceMethod ({ cls := "PolygonFill", name := "coverAll", desc := "(Z)V" } : Jvm.MethodName)) ∈ lw_all := lw_g (lw_at lw_m0 79 rfl) rfl
theorem q93 : (Jvm.Cond.code ({ cls := "PolygonFill", name := "coverAll", desc := "(Z)V" } : Jvm.MethodName) prog_1_method_17_code (3 : Nat) (Option.none : Option Jvm.ClassFile.FieldType)) ∈ lw_all := lw_g (lw_at lw_m0 80 rfl) rfl
theorem q94 : (Jvm.Cond.methodLink "PolygonFill" (74 : Nat) ({ cls := "PolygonFill", name := "sweep", desc := "(IZ)V" } : Jvm.MethodName)) ∈ lw_all := lw_g (lw_at lw_m0 81 rfl) rfl
theorem q95 : (Jvm.Cond.privateMethod ({ cls := "PolygonFill", name := "sweep", desc := "(IZ)V" } : Jvm.MethodName)) ∈ lw_tbl := lw_at lw_m0 82 rfl
theorem q96 : (Jvm.Cond.instanceMethod ({ cls := "PolygonFill", name := "sweep", desc := "(IZ)V" } : Jvm.MethodName)) ∈ lw_all := lw_g (lw_at lw_m0 83 rfl) rfl
theorem q97 : (Jvm.Cond.code ({ cls := "PolygonFill", name := "sweep", desc := "(IZ)V" } : Jvm.MethodName) prog_1_method_16_code (8 : Nat) (Option.none : Option Jvm.ClassFile.FieldType)) ∈ lw_all := lw_g (lw_at lw_m0 84 rfl) rfl
theorem q98 : (Jvm.Cond.methodLink "PolygonFill" (62 : Nat) ({ cls := "PolygonFill", name := "findCrossings", desc := "(I)V" } : Jvm.MethodName)) ∈ lw_all := lw_g (lw_at lw_m0 85 rfl) rfl
theorem q99 : (Jvm.Cond.privateMethod ({ cls := "PolygonFill", name := "findCrossings", desc := "(I)V" } : Jvm.MethodName)) ∈ lw_tbl := lw_at lw_m0 86 rfl
theorem q100 : (Jvm.Cond.instanceMethod ({ cls := "PolygonFill", name := "findCrossings", desc := "(I)V" } : Jvm.MethodName)) ∈ lw_all := lw_g (lw_at lw_m0 87 rfl) rfl
theorem q101 : (Jvm.Cond.code ({ cls := "PolygonFill", name := "findCrossings", desc := "(I)V" } : Jvm.MethodName) prog_1_method_13_code (5 : Nat) (Option.none : Option Jvm.ClassFile.FieldType)) ∈ lw_all := lw_g (lw_at lw_m0 88 rfl) rfl
theorem q102 : (Jvm.Cond.methodLink "PolygonFill" (58 : Nat) ({ cls := "PolygonFill", name := "addEdge", desc := "(IIIII)V" } : Jvm.MethodName)) ∈ lw_all := lw_g (lw_at lw_m0 89 rfl) rfl
theorem q103 : (Jvm.Cond.privateMethod ({ cls := "PolygonFill", name := "addEdge", desc := "(IIIII)V" } : Jvm.MethodName)) ∈ lw_tbl := lw_at lw_m0 90 rfl
theorem q104 : (Jvm.Cond.instanceMethod ({ cls := "PolygonFill", name := "addEdge", desc := "(IIIII)V" } : Jvm.MethodName)) ∈ lw_all := lw_g (lw_at lw_m0 91 rfl) rfl
theorem q105 : (Jvm.Cond.code ({ cls := "PolygonFill", name := "addEdge", desc := "(IIIII)V" } : Jvm.MethodName) prog_1_method_11_code (13 : Nat) (Option.none : Option Jvm.ClassFile.FieldType)) ∈ lw_all := lw_g (lw_at lw_m0 92 rfl) rfl
theorem q106 : (Jvm.Cond.methodLink "PolygonFill" (52 : Nat) ({ cls := "PolygonFill", name := "leftOf", desc := "(II)Z" } : Jvm.MethodName)) ∈ lw_all := lw_g (lw_at lw_m0 93 rfl) rfl
theorem q107 : (Jvm.Cond.privateMethod ({ cls := "PolygonFill", name := "leftOf", desc := "(II)Z" } : Jvm.MethodName)) ∈ lw_tbl := lw_at lw_m0 94 rfl
theorem q108 : (Jvm.Cond.instanceMethod ({ cls := "PolygonFill", name := "leftOf", desc := "(II)Z" } : Jvm.MethodName)) ∈ lw_all := lw_g (lw_at lw_m0 95 rfl) rfl
theorem q109 : (Jvm.Cond.code ({ cls := "PolygonFill", name := "leftOf", desc := "(II)Z" } : Jvm.MethodName) prog_1_method_10_code (3 : Nat) (Option.some Jvm.ClassFile.FieldType.boolean)) ∈ lw_all := lw_g (lw_at lw_m0 96 rfl) rfl
theorem q110 : (Jvm.Cond.methodLink "PolygonFill" (55 : Nat) ({ cls := "PolygonFill", name := "exchange", desc := "(II)V" } : Jvm.MethodName)) ∈ lw_all := lw_g (lw_at lw_m0 97 rfl) rfl
theorem q111 : (Jvm.Cond.privateMethod ({ cls := "PolygonFill", name := "exchange", desc := "(II)V" } : Jvm.MethodName)) ∈ lw_tbl := lw_at lw_m0 98 rfl
theorem q112 : (Jvm.Cond.instanceMethod ({ cls := "PolygonFill", name := "exchange", desc := "(II)V" } : Jvm.MethodName)) ∈ lw_all := lw_g (lw_at lw_m0 99 rfl) rfl
theorem q113 : (Jvm.Cond.code ({ cls := "PolygonFill", name := "exchange", desc := "(II)V" } : Jvm.MethodName) prog_1_method_12_code (6 : Nat) (Option.none : Option Jvm.ClassFile.FieldType)) ∈ lw_all := lw_g (lw_at lw_m0 100 rfl) rfl
theorem q114 : (Jvm.Cond.methodLink "PolygonFill" (66 : Nat) ({ cls := "PolygonFill", name := "allWays", desc := "()I" } : Jvm.MethodName)) ∈ lw_all := lw_g (lw_at lw_m0 101 rfl) rfl
theorem q115 : (Jvm.Cond.privateMethod ({ cls := "PolygonFill", name := "allWays", desc := "()I" } : Jvm.MethodName)) ∈ lw_tbl := lw_at lw_m0 102 rfl
theorem q116 : (Jvm.Cond.instanceMethod ({ cls := "PolygonFill", name := "allWays", desc := "()I" } : Jvm.MethodName)) ∈ lw_all := lw_g (lw_at lw_m0 103 rfl) rfl
theorem q117 : (Jvm.Cond.code ({ cls := "PolygonFill", name := "allWays", desc := "()I" } : Jvm.MethodName) prog_1_method_14_code (3 : Nat) (Option.some Jvm.ClassFile.FieldType.int)) ∈ lw_all := lw_g (lw_at lw_m0 104 rfl) rfl
theorem q118 : (Jvm.Cond.methodLink "PolygonFill" (70 : Nat) ({ cls := "PolygonFill", name := "isInside", desc := "(IZ)Z" } : Jvm.MethodName)) ∈ lw_all := lw_g (lw_at lw_m0 105 rfl) rfl
theorem q119 : (Jvm.Cond.static ({ cls := "PolygonFill", name := "isInside", desc := "(IZ)Z" } : Jvm.MethodName)) ∈ lw_all := lw_g (lw_at lw_m0 106 rfl) rfl
theorem q120 : (Jvm.Cond.code ({ cls := "PolygonFill", name := "isInside", desc := "(IZ)Z" } : Jvm.MethodName) prog_1_method_15_code (2 : Nat) (Option.some Jvm.ClassFile.FieldType.boolean)) ∈ lw_all := lw_g (lw_at lw_m0 107 rfl) rfl
theorem q122 : (Jvm.Cond.instanceMethod ({ cls := "PolygonFill", name := "wipe", desc := "(I)I" } : Jvm.MethodName)) ∈ lw_all := lw_g (lw_at lw_m0 109 rfl) rfl
theorem q123 : (Jvm.Cond.selects "PolygonFill" ({ cls := "PolygonFill", name := "wipe", desc := "(I)I" } : Jvm.MethodName) ({ cls := "PolygonFill", name := "wipe", desc := "(I)I" } : Jvm.MethodName)) ∈ lw_all := lw_g (lw_at lw_m0 110 rfl) rfl
theorem q124 : (Jvm.Cond.code ({ cls := "PolygonFill", name := "wipe", desc := "(I)I" } : Jvm.MethodName) prog_1_method_19_code (3 : Nat) (Option.some Jvm.ClassFile.FieldType.int)) ∈ lw_all := lw_g (lw_at lw_m0 111 rfl) rfl
theorem q126 : (Jvm.Cond.instanceMethod ({ cls := "PolygonFill", name := "pixel", desc := "(II)I" } : Jvm.MethodName)) ∈ lw_all := lw_g (lw_at lw_m0 113 rfl) rfl
theorem q127 : (Jvm.Cond.selects "PolygonFill" ({ cls := "PolygonFill", name := "pixel", desc := "(II)I" } : Jvm.MethodName) ({ cls := "PolygonFill", name := "pixel", desc := "(II)I" } : Jvm.MethodName)) ∈ lw_all := lw_g (lw_at lw_m0 114 rfl) rfl
theorem q128 : (Jvm.Cond.code ({ cls := "PolygonFill", name := "pixel", desc := "(II)I" } : Jvm.MethodName) prog_1_method_20_code (3 : Nat) (Option.some Jvm.ClassFile.FieldType.int)) ∈ lw_all := lw_g (lw_at lw_m0 115 rfl) rfl
theorem q129 : (Jvm.Cond.methodLink "PolygonFill" (82 : Nat) ({ cls := "PolygonFill", name := "badPixel", desc := "(II)Z" } : Jvm.MethodName)) ∈ lw_all := lw_g (lw_at lw_m0 116 rfl) rfl
theorem q130 : (Jvm.Cond.static ({ cls := "PolygonFill", name := "badPixel", desc := "(II)Z" } : Jvm.MethodName)) ∈ lw_all := lw_g (lw_at lw_m0 117 rfl) rfl
theorem q131 : (Jvm.Cond.code ({ cls := "PolygonFill", name := "badPixel", desc := "(II)Z" } : Jvm.MethodName) prog_1_method_3_code (2 : Nat) (Option.some Jvm.ClassFile.FieldType.boolean)) ∈ lw_all := lw_g (lw_at lw_m0 118 rfl) rfl
theorem q133 : (Jvm.Cond.instanceMethod ({ cls := "PolygonFill", name := "coverage", desc := "(IIZ)I" } : Jvm.MethodName)) ∈ lw_all := lw_g (lw_at lw_m0 120 rfl) rfl
theorem q134 : (Jvm.Cond.selects "PolygonFill" ({ cls := "PolygonFill", name := "coverage", desc := "(IIZ)I" } : Jvm.MethodName) ({ cls := "PolygonFill", name := "coverage", desc := "(IIZ)I" } : Jvm.MethodName)) ∈ lw_all := lw_g (lw_at lw_m0 121 rfl) rfl
theorem q135 : (Jvm.Cond.code ({ cls := "PolygonFill", name := "coverage", desc := "(IIZ)I" } : Jvm.MethodName) prog_1_method_21_code (6 : Nat) (Option.some Jvm.ClassFile.FieldType.int)) ∈ lw_all := lw_g (lw_at lw_m0 122 rfl) rfl
theorem q137 : (Jvm.Cond.instanceMethod ({ cls := "PolygonFill", name := "area", desc := "(Z)I" } : Jvm.MethodName)) ∈ lw_all := lw_g (lw_at lw_m0 124 rfl) rfl
theorem q138 : (Jvm.Cond.selects "PolygonFill" ({ cls := "PolygonFill", name := "area", desc := "(Z)I" } : Jvm.MethodName) ({ cls := "PolygonFill", name := "area", desc := "(Z)I" } : Jvm.MethodName)) ∈ lw_all := lw_g (lw_at lw_m0 125 rfl) rfl
theorem q139 : (Jvm.Cond.code ({ cls := "PolygonFill", name := "area", desc := "(Z)I" } : Jvm.MethodName) prog_1_method_22_code (4 : Nat) (Option.some Jvm.ClassFile.FieldType.int)) ∈ lw_all := lw_g (lw_at lw_m0 126 rfl) rfl
theorem q141 : (Jvm.Cond.instanceMethod ({ cls := "PolygonFill", name := "winding", desc := "(II)I" } : Jvm.MethodName)) ∈ lw_all := lw_g (lw_at lw_m0 128 rfl) rfl
theorem q142 : (Jvm.Cond.selects "PolygonFill" ({ cls := "PolygonFill", name := "winding", desc := "(II)I" } : Jvm.MethodName) ({ cls := "PolygonFill", name := "winding", desc := "(II)I" } : Jvm.MethodName)) ∈ lw_all := lw_g (lw_at lw_m0 129 rfl) rfl
theorem q143 : (Jvm.Cond.code ({ cls := "PolygonFill", name := "winding", desc := "(II)I" } : Jvm.MethodName) prog_1_method_23_code (5 : Nat) (Option.some Jvm.ClassFile.FieldType.int)) ∈ lw_all := lw_g (lw_at lw_m0 130 rfl) rfl
theorem q145 : (Jvm.Cond.instanceMethod ({ cls := "PolygonFill", name := "rowSum", desc := "(I)I" } : Jvm.MethodName)) ∈ lw_all := lw_g (lw_at lw_m0 132 rfl) rfl
theorem q146 : (Jvm.Cond.selects "PolygonFill" ({ cls := "PolygonFill", name := "rowSum", desc := "(I)I" } : Jvm.MethodName) ({ cls := "PolygonFill", name := "rowSum", desc := "(I)I" } : Jvm.MethodName)) ∈ lw_all := lw_g (lw_at lw_m0 133 rfl) rfl
theorem q147 : (Jvm.Cond.code ({ cls := "PolygonFill", name := "rowSum", desc := "(I)I" } : Jvm.MethodName) prog_1_method_24_code (4 : Nat) (Option.some Jvm.ClassFile.FieldType.int)) ∈ lw_all := lw_g (lw_at lw_m0 134 rfl) rfl
theorem in_X0 : ∀ w ∈ wsX00, w ∈ lw_all := lw_in wsX00 [35, 37, 39, 41, 43, 45, 47, 49, 51, 53, 55] (by decide +kernel) (by decide +kernel)
end
section
/-! PolygonFillModel -/
set_option maxRecDepth 100000
def RX1 : String := "PolygonFillModel"
def TX1 : u_T := fun k => match k with
  | 0 => ("PolygonFillModel", "corners", "I", false)
  | 1 => ("PolygonFillModel", "contours", "I", false)
  | 2 => ("PolygonFillModel", "xs", "[I", true)
  | 3 => ("PolygonFillModel", "ys", "[I", true)
  | 4 => ("PolygonFillModel", "firsts", "[I", true)
  | _ => ("PolygonFillModel", "colours", "[I", true)
def tyX1 : Nat → FieldType := fun k => match k with
  | 0 => .int
  | 1 => .int
  | 2 => .array .int
  | 3 => .array .int
  | 4 => .array .int
  | _ => .array .int
abbrev wsX10 : List Cond := u_ws RX1 TX1 6
theorem nmX1 : ∀ a, a < 6 → ∀ b, b < 6 → a ≠ b → (TX1 a).2.1 ≠ (TX1 b).2.1 := by decide +kernel
theorem tyX1_ok : ∀ k, k < 6 → parseFieldDescriptor (TX1 k).2.2.1 = some (tyX1 k) := by decide +kernel
abbrev cX1_init : ByteArray := prog_3_method_1_code
def yX1_init : MethodName := ⟨RX1, "<init>", "()V"⟩
theorem dX1_init_0 : decode cX1_init 0 = .ok (.aload_n 0, 1) := by decide +kernel
theorem dX1_init_1 : decode cX1_init 1 = .ok (.invokespecial 1, 3) := by decide +kernel
theorem dX1_init_4 : decode cX1_init 4 = .ok (.aload_n 0, 1) := by decide +kernel
theorem dX1_init_5 : decode cX1_init 5 = .ok (.bipush 12, 2) := by decide +kernel
theorem dX1_init_7 : decode cX1_init 7 = .ok (.newarray .int, 2) := by decide +kernel
theorem dX1_init_9 : decode cX1_init 9 = .ok (.putfield 7, 3) := by decide +kernel
theorem dX1_init_12 : decode cX1_init 12 = .ok (.aload_n 0, 1) := by decide +kernel
theorem dX1_init_13 : decode cX1_init 13 = .ok (.bipush 12, 2) := by decide +kernel
theorem dX1_init_15 : decode cX1_init 15 = .ok (.newarray .int, 2) := by decide +kernel
theorem dX1_init_17 : decode cX1_init 17 = .ok (.putfield 13, 3) := by decide +kernel
theorem dX1_init_20 : decode cX1_init 20 = .ok (.aload_n 0, 1) := by decide +kernel
theorem dX1_init_21 : decode cX1_init 21 = .ok (.iconst 5, 1) := by decide +kernel
theorem dX1_init_22 : decode cX1_init 22 = .ok (.newarray .int, 2) := by decide +kernel
theorem dX1_init_24 : decode cX1_init 24 = .ok (.putfield 16, 3) := by decide +kernel
theorem dX1_init_27 : decode cX1_init 27 = .ok (.aload_n 0, 1) := by decide +kernel
theorem dX1_init_28 : decode cX1_init 28 = .ok (.sipush 256, 3) := by decide +kernel
theorem dX1_init_31 : decode cX1_init 31 = .ok (.newarray .int, 2) := by decide +kernel
theorem dX1_init_33 : decode cX1_init 33 = .ok (.putfield 19, 3) := by decide +kernel
theorem dX1_init_36 : decode cX1_init 36 = .ok (.return_, 1) := by decide +kernel
abbrev cX1_begin : ByteArray := prog_3_method_4_code
def yX1_begin : MethodName := ⟨RX1, "begin", "(II)I"⟩
theorem dX1_begin_0 : decode cX1_begin 0 = .ok (.aload_n 0, 1) := by decide +kernel
theorem dX1_begin_1 : decode cX1_begin 1 = .ok (.iload_n 1, 1) := by decide +kernel
theorem dX1_begin_2 : decode cX1_begin 2 = .ok (.invokevirtual 29, 3) := by decide +kernel
theorem dX1_begin_5 : decode cX1_begin 5 = .ok (.ifCond .ne 11, 3) := by decide +kernel
theorem dX1_begin_8 : decode cX1_begin 8 = .ok (.aload_n 0, 1) := by decide +kernel
theorem dX1_begin_9 : decode cX1_begin 9 = .ok (.iload_n 2, 1) := by decide +kernel
theorem dX1_begin_10 : decode cX1_begin 10 = .ok (.invokevirtual 29, 3) := by decide +kernel
theorem dX1_begin_13 : decode cX1_begin 13 = .ok (.ifCond .eq 5, 3) := by decide +kernel
theorem dX1_begin_16 : decode cX1_begin 16 = .ok (.iconst (-1), 1) := by decide +kernel
theorem dX1_begin_17 : decode cX1_begin 17 = .ok (.ireturn, 1) := by decide +kernel
theorem dX1_begin_18 : decode cX1_begin 18 = .ok (.aload_n 0, 1) := by decide +kernel
theorem dX1_begin_19 : decode cX1_begin 19 = .ok (.getfield 26, 3) := by decide +kernel
theorem dX1_begin_22 : decode cX1_begin 22 = .ok (.iconst 4, 1) := by decide +kernel
theorem dX1_begin_23 : decode cX1_begin 23 = .ok (.if_icmp .eq 12, 3) := by decide +kernel
theorem dX1_begin_26 : decode cX1_begin 26 = .ok (.aload_n 0, 1) := by decide +kernel
theorem dX1_begin_27 : decode cX1_begin 27 = .ok (.getfield 22, 3) := by decide +kernel
theorem dX1_begin_30 : decode cX1_begin 30 = .ok (.bipush 12, 2) := by decide +kernel
theorem dX1_begin_32 : decode cX1_begin 32 = .ok (.if_icmp .ne 6, 3) := by decide +kernel
theorem dX1_begin_35 : decode cX1_begin 35 = .ok (.bipush (-2), 2) := by decide +kernel
theorem dX1_begin_37 : decode cX1_begin 37 = .ok (.ireturn, 1) := by decide +kernel
theorem dX1_begin_38 : decode cX1_begin 38 = .ok (.aload_n 0, 1) := by decide +kernel
theorem dX1_begin_39 : decode cX1_begin 39 = .ok (.getfield 16, 3) := by decide +kernel
theorem dX1_begin_42 : decode cX1_begin 42 = .ok (.aload_n 0, 1) := by decide +kernel
theorem dX1_begin_43 : decode cX1_begin 43 = .ok (.getfield 26, 3) := by decide +kernel
theorem dX1_begin_46 : decode cX1_begin 46 = .ok (.aload_n 0, 1) := by decide +kernel
theorem dX1_begin_47 : decode cX1_begin 47 = .ok (.getfield 22, 3) := by decide +kernel
theorem dX1_begin_50 : decode cX1_begin 50 = .ok (.iastore, 1) := by decide +kernel
theorem dX1_begin_51 : decode cX1_begin 51 = .ok (.aload_n 0, 1) := by decide +kernel
theorem dX1_begin_52 : decode cX1_begin 52 = .ok (.aload_n 0, 1) := by decide +kernel
theorem dX1_begin_53 : decode cX1_begin 53 = .ok (.getfield 26, 3) := by decide +kernel
theorem dX1_begin_56 : decode cX1_begin 56 = .ok (.iconst 1, 1) := by decide +kernel
theorem dX1_begin_57 : decode cX1_begin 57 = .ok (.iadd, 1) := by decide +kernel
theorem dX1_begin_58 : decode cX1_begin 58 = .ok (.putfield 26, 3) := by decide +kernel
theorem dX1_begin_61 : decode cX1_begin 61 = .ok (.aload_n 0, 1) := by decide +kernel
theorem dX1_begin_62 : decode cX1_begin 62 = .ok (.iload_n 1, 1) := by decide +kernel
theorem dX1_begin_63 : decode cX1_begin 63 = .ok (.iload_n 2, 1) := by decide +kernel
theorem dX1_begin_64 : decode cX1_begin 64 = .ok (.invokevirtual 33, 3) := by decide +kernel
theorem dX1_begin_67 : decode cX1_begin 67 = .ok (.aload_n 0, 1) := by decide +kernel
theorem dX1_begin_68 : decode cX1_begin 68 = .ok (.getfield 26, 3) := by decide +kernel
theorem dX1_begin_71 : decode cX1_begin 71 = .ok (.ireturn, 1) := by decide +kernel
abbrev cX1_out : ByteArray := prog_3_method_2_code
def yX1_out : MethodName := ⟨RX1, "out", "(I)Z"⟩
theorem dX1_out_0 : decode cX1_out 0 = .ok (.iload_n 1, 1) := by decide +kernel
theorem dX1_out_1 : decode cX1_out 1 = .ok (.ifCond .lt 9, 3) := by decide +kernel
theorem dX1_out_4 : decode cX1_out 4 = .ok (.iload_n 1, 1) := by decide +kernel
theorem dX1_out_5 : decode cX1_out 5 = .ok (.bipush 64, 2) := by decide +kernel
theorem dX1_out_7 : decode cX1_out 7 = .ok (.if_icmp .le 7, 3) := by decide +kernel
theorem dX1_out_10 : decode cX1_out 10 = .ok (.iconst 1, 1) := by decide +kernel
theorem dX1_out_11 : decode cX1_out 11 = .ok (.goto 4, 3) := by decide +kernel
theorem dX1_out_14 : decode cX1_out 14 = .ok (.iconst 0, 1) := by decide +kernel
theorem dX1_out_15 : decode cX1_out 15 = .ok (.ireturn, 1) := by decide +kernel
abbrev cX1_put : ByteArray := prog_3_method_3_code
def yX1_put : MethodName := ⟨RX1, "put", "(II)V"⟩
theorem dX1_put_0 : decode cX1_put 0 = .ok (.aload_n 0, 1) := by decide +kernel
theorem dX1_put_1 : decode cX1_put 1 = .ok (.getfield 7, 3) := by decide +kernel
theorem dX1_put_4 : decode cX1_put 4 = .ok (.aload_n 0, 1) := by decide +kernel
theorem dX1_put_5 : decode cX1_put 5 = .ok (.getfield 22, 3) := by decide +kernel
theorem dX1_put_8 : decode cX1_put 8 = .ok (.iload_n 1, 1) := by decide +kernel
theorem dX1_put_9 : decode cX1_put 9 = .ok (.iastore, 1) := by decide +kernel
theorem dX1_put_10 : decode cX1_put 10 = .ok (.aload_n 0, 1) := by decide +kernel
theorem dX1_put_11 : decode cX1_put 11 = .ok (.getfield 13, 3) := by decide +kernel
theorem dX1_put_14 : decode cX1_put 14 = .ok (.aload_n 0, 1) := by decide +kernel
theorem dX1_put_15 : decode cX1_put 15 = .ok (.getfield 22, 3) := by decide +kernel
theorem dX1_put_18 : decode cX1_put 18 = .ok (.iload_n 2, 1) := by decide +kernel
theorem dX1_put_19 : decode cX1_put 19 = .ok (.iastore, 1) := by decide +kernel
theorem dX1_put_20 : decode cX1_put 20 = .ok (.aload_n 0, 1) := by decide +kernel
theorem dX1_put_21 : decode cX1_put 21 = .ok (.aload_n 0, 1) := by decide +kernel
theorem dX1_put_22 : decode cX1_put 22 = .ok (.getfield 22, 3) := by decide +kernel
theorem dX1_put_25 : decode cX1_put 25 = .ok (.iconst 1, 1) := by decide +kernel
theorem dX1_put_26 : decode cX1_put 26 = .ok (.iadd, 1) := by decide +kernel
theorem dX1_put_27 : decode cX1_put 27 = .ok (.putfield 22, 3) := by decide +kernel
theorem dX1_put_30 : decode cX1_put 30 = .ok (.aload_n 0, 1) := by decide +kernel
theorem dX1_put_31 : decode cX1_put 31 = .ok (.getfield 16, 3) := by decide +kernel
theorem dX1_put_34 : decode cX1_put 34 = .ok (.aload_n 0, 1) := by decide +kernel
theorem dX1_put_35 : decode cX1_put 35 = .ok (.getfield 26, 3) := by decide +kernel
theorem dX1_put_38 : decode cX1_put 38 = .ok (.aload_n 0, 1) := by decide +kernel
theorem dX1_put_39 : decode cX1_put 39 = .ok (.getfield 22, 3) := by decide +kernel
theorem dX1_put_42 : decode cX1_put 42 = .ok (.iastore, 1) := by decide +kernel
theorem dX1_put_43 : decode cX1_put 43 = .ok (.return_, 1) := by decide +kernel
abbrev cX1_corner : ByteArray := prog_3_method_5_code
def yX1_corner : MethodName := ⟨RX1, "corner", "(II)I"⟩
theorem dX1_corner_0 : decode cX1_corner 0 = .ok (.aload_n 0, 1) := by decide +kernel
theorem dX1_corner_1 : decode cX1_corner 1 = .ok (.iload_n 1, 1) := by decide +kernel
theorem dX1_corner_2 : decode cX1_corner 2 = .ok (.invokevirtual 29, 3) := by decide +kernel
theorem dX1_corner_5 : decode cX1_corner 5 = .ok (.ifCond .ne 11, 3) := by decide +kernel
theorem dX1_corner_8 : decode cX1_corner 8 = .ok (.aload_n 0, 1) := by decide +kernel
theorem dX1_corner_9 : decode cX1_corner 9 = .ok (.iload_n 2, 1) := by decide +kernel
theorem dX1_corner_10 : decode cX1_corner 10 = .ok (.invokevirtual 29, 3) := by decide +kernel
theorem dX1_corner_13 : decode cX1_corner 13 = .ok (.ifCond .eq 5, 3) := by decide +kernel
theorem dX1_corner_16 : decode cX1_corner 16 = .ok (.iconst (-1), 1) := by decide +kernel
theorem dX1_corner_17 : decode cX1_corner 17 = .ok (.ireturn, 1) := by decide +kernel
theorem dX1_corner_18 : decode cX1_corner 18 = .ok (.aload_n 0, 1) := by decide +kernel
theorem dX1_corner_19 : decode cX1_corner 19 = .ok (.getfield 26, 3) := by decide +kernel
theorem dX1_corner_22 : decode cX1_corner 22 = .ok (.ifCond .eq 12, 3) := by decide +kernel
theorem dX1_corner_25 : decode cX1_corner 25 = .ok (.aload_n 0, 1) := by decide +kernel
theorem dX1_corner_26 : decode cX1_corner 26 = .ok (.getfield 22, 3) := by decide +kernel
theorem dX1_corner_29 : decode cX1_corner 29 = .ok (.bipush 12, 2) := by decide +kernel
theorem dX1_corner_31 : decode cX1_corner 31 = .ok (.if_icmp .ne 6, 3) := by decide +kernel
theorem dX1_corner_34 : decode cX1_corner 34 = .ok (.bipush (-2), 2) := by decide +kernel
theorem dX1_corner_36 : decode cX1_corner 36 = .ok (.ireturn, 1) := by decide +kernel
theorem dX1_corner_37 : decode cX1_corner 37 = .ok (.aload_n 0, 1) := by decide +kernel
theorem dX1_corner_38 : decode cX1_corner 38 = .ok (.iload_n 1, 1) := by decide +kernel
theorem dX1_corner_39 : decode cX1_corner 39 = .ok (.iload_n 2, 1) := by decide +kernel
theorem dX1_corner_40 : decode cX1_corner 40 = .ok (.invokevirtual 33, 3) := by decide +kernel
theorem dX1_corner_43 : decode cX1_corner 43 = .ok (.aload_n 0, 1) := by decide +kernel
theorem dX1_corner_44 : decode cX1_corner 44 = .ok (.getfield 22, 3) := by decide +kernel
theorem dX1_corner_47 : decode cX1_corner 47 = .ok (.ireturn, 1) := by decide +kernel
abbrev cX1_move : ByteArray := prog_3_method_6_code
def yX1_move : MethodName := ⟨RX1, "move", "(II)I"⟩
theorem dX1_move_0 : decode cX1_move 0 = .ok (.iconst 0, 1) := by decide +kernel
theorem dX1_move_1 : decode cX1_move 1 = .ok (.istore_n 3, 1) := by decide +kernel
theorem dX1_move_2 : decode cX1_move 2 = .ok (.iload_n 3, 1) := by decide +kernel
theorem dX1_move_3 : decode cX1_move 3 = .ok (.aload_n 0, 1) := by decide +kernel
theorem dX1_move_4 : decode cX1_move 4 = .ok (.getfield 22, 3) := by decide +kernel
theorem dX1_move_7 : decode cX1_move 7 = .ok (.if_icmp .ge 65, 3) := by decide +kernel
theorem dX1_move_10 : decode cX1_move 10 = .ok (.iload_n 1, 1) := by decide +kernel
theorem dX1_move_11 : decode cX1_move 11 = .ok (.bipush (-64), 2) := by decide +kernel
theorem dX1_move_13 : decode cX1_move 13 = .ok (.if_icmp .lt 51, 3) := by decide +kernel
theorem dX1_move_16 : decode cX1_move 16 = .ok (.iload_n 1, 1) := by decide +kernel
theorem dX1_move_17 : decode cX1_move 17 = .ok (.bipush 64, 2) := by decide +kernel
theorem dX1_move_19 : decode cX1_move 19 = .ok (.if_icmp .gt 45, 3) := by decide +kernel
theorem dX1_move_22 : decode cX1_move 22 = .ok (.iload_n 2, 1) := by decide +kernel
theorem dX1_move_23 : decode cX1_move 23 = .ok (.bipush (-64), 2) := by decide +kernel
theorem dX1_move_25 : decode cX1_move 25 = .ok (.if_icmp .lt 39, 3) := by decide +kernel
theorem dX1_move_28 : decode cX1_move 28 = .ok (.iload_n 2, 1) := by decide +kernel
theorem dX1_move_29 : decode cX1_move 29 = .ok (.bipush 64, 2) := by decide +kernel
theorem dX1_move_31 : decode cX1_move 31 = .ok (.if_icmp .gt 33, 3) := by decide +kernel
theorem dX1_move_34 : decode cX1_move 34 = .ok (.aload_n 0, 1) := by decide +kernel
theorem dX1_move_35 : decode cX1_move 35 = .ok (.aload_n 0, 1) := by decide +kernel
theorem dX1_move_36 : decode cX1_move 36 = .ok (.getfield 7, 3) := by decide +kernel
theorem dX1_move_39 : decode cX1_move 39 = .ok (.iload_n 3, 1) := by decide +kernel
theorem dX1_move_40 : decode cX1_move 40 = .ok (.iaload, 1) := by decide +kernel
theorem dX1_move_41 : decode cX1_move 41 = .ok (.iload_n 1, 1) := by decide +kernel
theorem dX1_move_42 : decode cX1_move 42 = .ok (.iadd, 1) := by decide +kernel
theorem dX1_move_43 : decode cX1_move 43 = .ok (.invokevirtual 29, 3) := by decide +kernel
theorem dX1_move_46 : decode cX1_move 46 = .ok (.ifCond .ne 18, 3) := by decide +kernel
theorem dX1_move_49 : decode cX1_move 49 = .ok (.aload_n 0, 1) := by decide +kernel
theorem dX1_move_50 : decode cX1_move 50 = .ok (.aload_n 0, 1) := by decide +kernel
theorem dX1_move_51 : decode cX1_move 51 = .ok (.getfield 13, 3) := by decide +kernel
theorem dX1_move_54 : decode cX1_move 54 = .ok (.iload_n 3, 1) := by decide +kernel
theorem dX1_move_55 : decode cX1_move 55 = .ok (.iaload, 1) := by decide +kernel
theorem dX1_move_56 : decode cX1_move 56 = .ok (.iload_n 2, 1) := by decide +kernel
theorem dX1_move_57 : decode cX1_move 57 = .ok (.iadd, 1) := by decide +kernel
theorem dX1_move_58 : decode cX1_move 58 = .ok (.invokevirtual 29, 3) := by decide +kernel
theorem dX1_move_61 : decode cX1_move 61 = .ok (.ifCond .eq 5, 3) := by decide +kernel
theorem dX1_move_64 : decode cX1_move 64 = .ok (.iconst (-1), 1) := by decide +kernel
theorem dX1_move_65 : decode cX1_move 65 = .ok (.ireturn, 1) := by decide +kernel
theorem dX1_move_66 : decode cX1_move 66 = .ok (.iinc 3 1, 3) := by decide +kernel
theorem dX1_move_69 : decode cX1_move 69 = .ok (.goto (-67), 3) := by decide +kernel
theorem dX1_move_72 : decode cX1_move 72 = .ok (.iconst 0, 1) := by decide +kernel
theorem dX1_move_73 : decode cX1_move 73 = .ok (.istore_n 3, 1) := by decide +kernel
theorem dX1_move_74 : decode cX1_move 74 = .ok (.iload_n 3, 1) := by decide +kernel
theorem dX1_move_75 : decode cX1_move 75 = .ok (.aload_n 0, 1) := by decide +kernel
theorem dX1_move_76 : decode cX1_move 76 = .ok (.getfield 22, 3) := by decide +kernel
theorem dX1_move_79 : decode cX1_move 79 = .ok (.if_icmp .ge 37, 3) := by decide +kernel
theorem dX1_move_82 : decode cX1_move 82 = .ok (.aload_n 0, 1) := by decide +kernel
theorem dX1_move_83 : decode cX1_move 83 = .ok (.getfield 7, 3) := by decide +kernel
theorem dX1_move_86 : decode cX1_move 86 = .ok (.iload_n 3, 1) := by decide +kernel
theorem dX1_move_87 : decode cX1_move 87 = .ok (.aload_n 0, 1) := by decide +kernel
theorem dX1_move_88 : decode cX1_move 88 = .ok (.getfield 7, 3) := by decide +kernel
theorem dX1_move_91 : decode cX1_move 91 = .ok (.iload_n 3, 1) := by decide +kernel
theorem dX1_move_92 : decode cX1_move 92 = .ok (.iaload, 1) := by decide +kernel
theorem dX1_move_93 : decode cX1_move 93 = .ok (.iload_n 1, 1) := by decide +kernel
theorem dX1_move_94 : decode cX1_move 94 = .ok (.iadd, 1) := by decide +kernel
theorem dX1_move_95 : decode cX1_move 95 = .ok (.iastore, 1) := by decide +kernel
theorem dX1_move_96 : decode cX1_move 96 = .ok (.aload_n 0, 1) := by decide +kernel
theorem dX1_move_97 : decode cX1_move 97 = .ok (.getfield 13, 3) := by decide +kernel
theorem dX1_move_100 : decode cX1_move 100 = .ok (.iload_n 3, 1) := by decide +kernel
theorem dX1_move_101 : decode cX1_move 101 = .ok (.aload_n 0, 1) := by decide +kernel
theorem dX1_move_102 : decode cX1_move 102 = .ok (.getfield 13, 3) := by decide +kernel
theorem dX1_move_105 : decode cX1_move 105 = .ok (.iload_n 3, 1) := by decide +kernel
theorem dX1_move_106 : decode cX1_move 106 = .ok (.iaload, 1) := by decide +kernel
theorem dX1_move_107 : decode cX1_move 107 = .ok (.iload_n 2, 1) := by decide +kernel
theorem dX1_move_108 : decode cX1_move 108 = .ok (.iadd, 1) := by decide +kernel
theorem dX1_move_109 : decode cX1_move 109 = .ok (.iastore, 1) := by decide +kernel
theorem dX1_move_110 : decode cX1_move 110 = .ok (.iinc 3 1, 3) := by decide +kernel
theorem dX1_move_113 : decode cX1_move 113 = .ok (.goto (-39), 3) := by decide +kernel
theorem dX1_move_116 : decode cX1_move 116 = .ok (.aload_n 0, 1) := by decide +kernel
theorem dX1_move_117 : decode cX1_move 117 = .ok (.getfield 22, 3) := by decide +kernel
theorem dX1_move_120 : decode cX1_move 120 = .ok (.ireturn, 1) := by decide +kernel
abbrev cX1_mirror : ByteArray := prog_3_method_7_code
def yX1_mirror : MethodName := ⟨RX1, "mirror", "()V"⟩
theorem dX1_mirror_0 : decode cX1_mirror 0 = .ok (.iconst 0, 1) := by decide +kernel
theorem dX1_mirror_1 : decode cX1_mirror 1 = .ok (.istore_n 1, 1) := by decide +kernel
theorem dX1_mirror_2 : decode cX1_mirror 2 = .ok (.iload_n 1, 1) := by decide +kernel
theorem dX1_mirror_3 : decode cX1_mirror 3 = .ok (.aload_n 0, 1) := by decide +kernel
theorem dX1_mirror_4 : decode cX1_mirror 4 = .ok (.getfield 22, 3) := by decide +kernel
theorem dX1_mirror_7 : decode cX1_mirror 7 = .ok (.if_icmp .ge 35, 3) := by decide +kernel
theorem dX1_mirror_10 : decode cX1_mirror 10 = .ok (.aload_n 0, 1) := by decide +kernel
theorem dX1_mirror_11 : decode cX1_mirror 11 = .ok (.getfield 7, 3) := by decide +kernel
theorem dX1_mirror_14 : decode cX1_mirror 14 = .ok (.iload_n 1, 1) := by decide +kernel
theorem dX1_mirror_15 : decode cX1_mirror 15 = .ok (.iaload, 1) := by decide +kernel
theorem dX1_mirror_16 : decode cX1_mirror 16 = .ok (.istore_n 2, 1) := by decide +kernel
theorem dX1_mirror_17 : decode cX1_mirror 17 = .ok (.aload_n 0, 1) := by decide +kernel
theorem dX1_mirror_18 : decode cX1_mirror 18 = .ok (.getfield 7, 3) := by decide +kernel
theorem dX1_mirror_21 : decode cX1_mirror 21 = .ok (.iload_n 1, 1) := by decide +kernel
theorem dX1_mirror_22 : decode cX1_mirror 22 = .ok (.aload_n 0, 1) := by decide +kernel
theorem dX1_mirror_23 : decode cX1_mirror 23 = .ok (.getfield 13, 3) := by decide +kernel
theorem dX1_mirror_26 : decode cX1_mirror 26 = .ok (.iload_n 1, 1) := by decide +kernel
theorem dX1_mirror_27 : decode cX1_mirror 27 = .ok (.iaload, 1) := by decide +kernel
theorem dX1_mirror_28 : decode cX1_mirror 28 = .ok (.iastore, 1) := by decide +kernel
theorem dX1_mirror_29 : decode cX1_mirror 29 = .ok (.aload_n 0, 1) := by decide +kernel
theorem dX1_mirror_30 : decode cX1_mirror 30 = .ok (.getfield 13, 3) := by decide +kernel
theorem dX1_mirror_33 : decode cX1_mirror 33 = .ok (.iload_n 1, 1) := by decide +kernel
theorem dX1_mirror_34 : decode cX1_mirror 34 = .ok (.iload_n 2, 1) := by decide +kernel
theorem dX1_mirror_35 : decode cX1_mirror 35 = .ok (.iastore, 1) := by decide +kernel
theorem dX1_mirror_36 : decode cX1_mirror 36 = .ok (.iinc 1 1, 3) := by decide +kernel
theorem dX1_mirror_39 : decode cX1_mirror 39 = .ok (.goto (-37), 3) := by decide +kernel
theorem dX1_mirror_42 : decode cX1_mirror 42 = .ok (.return_, 1) := by decide +kernel
abbrev cX1_clear : ByteArray := prog_3_method_8_code
def yX1_clear : MethodName := ⟨RX1, "clear", "()V"⟩
theorem dX1_clear_0 : decode cX1_clear 0 = .ok (.aload_n 0, 1) := by decide +kernel
theorem dX1_clear_1 : decode cX1_clear 1 = .ok (.iconst 0, 1) := by decide +kernel
theorem dX1_clear_2 : decode cX1_clear 2 = .ok (.putfield 22, 3) := by decide +kernel
theorem dX1_clear_5 : decode cX1_clear 5 = .ok (.aload_n 0, 1) := by decide +kernel
theorem dX1_clear_6 : decode cX1_clear 6 = .ok (.iconst 0, 1) := by decide +kernel
theorem dX1_clear_7 : decode cX1_clear 7 = .ok (.putfield 26, 3) := by decide +kernel
theorem dX1_clear_10 : decode cX1_clear 10 = .ok (.return_, 1) := by decide +kernel
abbrev cX1_paint : ByteArray := prog_3_method_12_code
def yX1_paint : MethodName := ⟨RX1, "paint", "(IZ)I"⟩
theorem dX1_paint_0 : decode cX1_paint 0 = .ok (.iload_n 1, 1) := by decide +kernel
theorem dX1_paint_1 : decode cX1_paint 1 = .ok (.ifCond .lt 10, 3) := by decide +kernel
theorem dX1_paint_4 : decode cX1_paint 4 = .ok (.iload_n 1, 1) := by decide +kernel
theorem dX1_paint_5 : decode cX1_paint 5 = .ok (.sipush 255, 3) := by decide +kernel
theorem dX1_paint_8 : decode cX1_paint 8 = .ok (.if_icmp .le 6, 3) := by decide +kernel
theorem dX1_paint_11 : decode cX1_paint 11 = .ok (.bipush (-3), 2) := by decide +kernel
theorem dX1_paint_13 : decode cX1_paint 13 = .ok (.ireturn, 1) := by decide +kernel
theorem dX1_paint_14 : decode cX1_paint 14 = .ok (.iconst 0, 1) := by decide +kernel
theorem dX1_paint_15 : decode cX1_paint 15 = .ok (.istore_n 3, 1) := by decide +kernel
theorem dX1_paint_16 : decode cX1_paint 16 = .ok (.iconst 0, 1) := by decide +kernel
theorem dX1_paint_17 : decode cX1_paint 17 = .ok (.istore 4, 2) := by decide +kernel
theorem dX1_paint_19 : decode cX1_paint 19 = .ok (.iload 4, 2) := by decide +kernel
theorem dX1_paint_21 : decode cX1_paint 21 = .ok (.sipush 256, 3) := by decide +kernel
theorem dX1_paint_24 : decode cX1_paint 24 = .ok (.if_icmp .ge 60, 3) := by decide +kernel
theorem dX1_paint_27 : decode cX1_paint 27 = .ok (.aload_n 0, 1) := by decide +kernel
theorem dX1_paint_28 : decode cX1_paint 28 = .ok (.iload 4, 2) := by decide +kernel
theorem dX1_paint_30 : decode cX1_paint 30 = .ok (.bipush 16, 2) := by decide +kernel
theorem dX1_paint_32 : decode cX1_paint 32 = .ok (.idiv, 1) := by decide +kernel
theorem dX1_paint_33 : decode cX1_paint 33 = .ok (.iload 4, 2) := by decide +kernel
theorem dX1_paint_35 : decode cX1_paint 35 = .ok (.bipush 16, 2) := by decide +kernel
theorem dX1_paint_37 : decode cX1_paint 37 = .ok (.irem, 1) := by decide +kernel
theorem dX1_paint_38 : decode cX1_paint 38 = .ok (.iload_n 2, 1) := by decide +kernel
theorem dX1_paint_39 : decode cX1_paint 39 = .ok (.invokevirtual 41, 3) := by decide +kernel
theorem dX1_paint_42 : decode cX1_paint 42 = .ok (.istore 5, 2) := by decide +kernel
theorem dX1_paint_44 : decode cX1_paint 44 = .ok (.iload 5, 2) := by decide +kernel
theorem dX1_paint_46 : decode cX1_paint 46 = .ok (.ifCond .le 6, 3) := by decide +kernel
theorem dX1_paint_49 : decode cX1_paint 49 = .ok (.iinc 3 1, 3) := by decide +kernel
theorem dX1_paint_52 : decode cX1_paint 52 = .ok (.aload_n 0, 1) := by decide +kernel
theorem dX1_paint_53 : decode cX1_paint 53 = .ok (.getfield 19, 3) := by decide +kernel
theorem dX1_paint_56 : decode cX1_paint 56 = .ok (.iload 4, 2) := by decide +kernel
theorem dX1_paint_58 : decode cX1_paint 58 = .ok (.aload_n 0, 1) := by decide +kernel
theorem dX1_paint_59 : decode cX1_paint 59 = .ok (.getfield 19, 3) := by decide +kernel
theorem dX1_paint_62 : decode cX1_paint 62 = .ok (.iload 4, 2) := by decide +kernel
theorem dX1_paint_64 : decode cX1_paint 64 = .ok (.iaload, 1) := by decide +kernel
theorem dX1_paint_65 : decode cX1_paint 65 = .ok (.iconst 4, 1) := by decide +kernel
theorem dX1_paint_66 : decode cX1_paint 66 = .ok (.iload 5, 2) := by decide +kernel
theorem dX1_paint_68 : decode cX1_paint 68 = .ok (.isub, 1) := by decide +kernel
theorem dX1_paint_69 : decode cX1_paint 69 = .ok (.imul, 1) := by decide +kernel
theorem dX1_paint_70 : decode cX1_paint 70 = .ok (.iload_n 1, 1) := by decide +kernel
theorem dX1_paint_71 : decode cX1_paint 71 = .ok (.iload 5, 2) := by decide +kernel
theorem dX1_paint_73 : decode cX1_paint 73 = .ok (.imul, 1) := by decide +kernel
theorem dX1_paint_74 : decode cX1_paint 74 = .ok (.iadd, 1) := by decide +kernel
theorem dX1_paint_75 : decode cX1_paint 75 = .ok (.iconst 4, 1) := by decide +kernel
theorem dX1_paint_76 : decode cX1_paint 76 = .ok (.idiv, 1) := by decide +kernel
theorem dX1_paint_77 : decode cX1_paint 77 = .ok (.iastore, 1) := by decide +kernel
theorem dX1_paint_78 : decode cX1_paint 78 = .ok (.iinc 4 1, 3) := by decide +kernel
theorem dX1_paint_81 : decode cX1_paint 81 = .ok (.goto (-62), 3) := by decide +kernel
theorem dX1_paint_84 : decode cX1_paint 84 = .ok (.iload_n 3, 1) := by decide +kernel
theorem dX1_paint_85 : decode cX1_paint 85 = .ok (.ireturn, 1) := by decide +kernel
abbrev cX1_coverage : ByteArray := prog_3_method_15_code
def yX1_coverage : MethodName := ⟨RX1, "coverage", "(IIZ)I"⟩
theorem dX1_coverage_0 : decode cX1_coverage 0 = .ok (.aload_n 0, 1) := by decide +kernel
theorem dX1_coverage_1 : decode cX1_coverage 1 = .ok (.iload_n 1, 1) := by decide +kernel
theorem dX1_coverage_2 : decode cX1_coverage 2 = .ok (.iload_n 2, 1) := by decide +kernel
theorem dX1_coverage_3 : decode cX1_coverage 3 = .ok (.invokevirtual 45, 3) := by decide +kernel
theorem dX1_coverage_6 : decode cX1_coverage 6 = .ok (.ifCond .eq 6, 3) := by decide +kernel
theorem dX1_coverage_9 : decode cX1_coverage 9 = .ok (.bipush (-4), 2) := by decide +kernel
theorem dX1_coverage_11 : decode cX1_coverage 11 = .ok (.ireturn, 1) := by decide +kernel
theorem dX1_coverage_12 : decode cX1_coverage 12 = .ok (.iconst 0, 1) := by decide +kernel
theorem dX1_coverage_13 : decode cX1_coverage 13 = .ok (.istore 4, 2) := by decide +kernel
theorem dX1_coverage_15 : decode cX1_coverage 15 = .ok (.iconst 0, 1) := by decide +kernel
theorem dX1_coverage_16 : decode cX1_coverage 16 = .ok (.istore 5, 2) := by decide +kernel
theorem dX1_coverage_18 : decode cX1_coverage 18 = .ok (.iload 5, 2) := by decide +kernel
theorem dX1_coverage_20 : decode cX1_coverage 20 = .ok (.iconst 4, 1) := by decide +kernel
theorem dX1_coverage_21 : decode cX1_coverage 21 = .ok (.if_icmp .ge 44, 3) := by decide +kernel
theorem dX1_coverage_24 : decode cX1_coverage 24 = .ok (.aload_n 0, 1) := by decide +kernel
theorem dX1_coverage_25 : decode cX1_coverage 25 = .ok (.iconst 4, 1) := by decide +kernel
theorem dX1_coverage_26 : decode cX1_coverage 26 = .ok (.iload_n 2, 1) := by decide +kernel
theorem dX1_coverage_27 : decode cX1_coverage 27 = .ok (.imul, 1) := by decide +kernel
theorem dX1_coverage_28 : decode cX1_coverage 28 = .ok (.iconst 1, 1) := by decide +kernel
theorem dX1_coverage_29 : decode cX1_coverage 29 = .ok (.iadd, 1) := by decide +kernel
theorem dX1_coverage_30 : decode cX1_coverage 30 = .ok (.iconst 2, 1) := by decide +kernel
theorem dX1_coverage_31 : decode cX1_coverage 31 = .ok (.iload 5, 2) := by decide +kernel
theorem dX1_coverage_33 : decode cX1_coverage 33 = .ok (.iconst 2, 1) := by decide +kernel
theorem dX1_coverage_34 : decode cX1_coverage 34 = .ok (.irem, 1) := by decide +kernel
theorem dX1_coverage_35 : decode cX1_coverage 35 = .ok (.imul, 1) := by decide +kernel
theorem dX1_coverage_36 : decode cX1_coverage 36 = .ok (.iadd, 1) := by decide +kernel
theorem dX1_coverage_37 : decode cX1_coverage 37 = .ok (.iconst 4, 1) := by decide +kernel
theorem dX1_coverage_38 : decode cX1_coverage 38 = .ok (.iload_n 1, 1) := by decide +kernel
theorem dX1_coverage_39 : decode cX1_coverage 39 = .ok (.imul, 1) := by decide +kernel
theorem dX1_coverage_40 : decode cX1_coverage 40 = .ok (.iconst 1, 1) := by decide +kernel
theorem dX1_coverage_41 : decode cX1_coverage 41 = .ok (.iadd, 1) := by decide +kernel
theorem dX1_coverage_42 : decode cX1_coverage 42 = .ok (.iconst 2, 1) := by decide +kernel
theorem dX1_coverage_43 : decode cX1_coverage 43 = .ok (.iload 5, 2) := by decide +kernel
theorem dX1_coverage_45 : decode cX1_coverage 45 = .ok (.iconst 2, 1) := by decide +kernel
theorem dX1_coverage_46 : decode cX1_coverage 46 = .ok (.idiv, 1) := by decide +kernel
theorem dX1_coverage_47 : decode cX1_coverage 47 = .ok (.imul, 1) := by decide +kernel
theorem dX1_coverage_48 : decode cX1_coverage 48 = .ok (.iadd, 1) := by decide +kernel
theorem dX1_coverage_49 : decode cX1_coverage 49 = .ok (.iload_n 3, 1) := by decide +kernel
theorem dX1_coverage_50 : decode cX1_coverage 50 = .ok (.invokevirtual 49, 3) := by decide +kernel
theorem dX1_coverage_53 : decode cX1_coverage 53 = .ok (.ifCond .eq 6, 3) := by decide +kernel
theorem dX1_coverage_56 : decode cX1_coverage 56 = .ok (.iinc 4 1, 3) := by decide +kernel
theorem dX1_coverage_59 : decode cX1_coverage 59 = .ok (.iinc 5 1, 3) := by decide +kernel
theorem dX1_coverage_62 : decode cX1_coverage 62 = .ok (.goto (-44), 3) := by decide +kernel
theorem dX1_coverage_65 : decode cX1_coverage 65 = .ok (.iload 4, 2) := by decide +kernel
theorem dX1_coverage_67 : decode cX1_coverage 67 = .ok (.ireturn, 1) := by decide +kernel
abbrev cX1_badPixel : ByteArray := prog_3_method_11_code
def yX1_badPixel : MethodName := ⟨RX1, "badPixel", "(II)Z"⟩
theorem dX1_badPixel_0 : decode cX1_badPixel 0 = .ok (.iload_n 1, 1) := by decide +kernel
theorem dX1_badPixel_1 : decode cX1_badPixel 1 = .ok (.ifCond .lt 19, 3) := by decide +kernel
theorem dX1_badPixel_4 : decode cX1_badPixel 4 = .ok (.iload_n 1, 1) := by decide +kernel
theorem dX1_badPixel_5 : decode cX1_badPixel 5 = .ok (.bipush 15, 2) := by decide +kernel
theorem dX1_badPixel_7 : decode cX1_badPixel 7 = .ok (.if_icmp .gt 13, 3) := by decide +kernel
theorem dX1_badPixel_10 : decode cX1_badPixel 10 = .ok (.iload_n 2, 1) := by decide +kernel
theorem dX1_badPixel_11 : decode cX1_badPixel 11 = .ok (.ifCond .lt 9, 3) := by decide +kernel
theorem dX1_badPixel_14 : decode cX1_badPixel 14 = .ok (.iload_n 2, 1) := by decide +kernel
theorem dX1_badPixel_15 : decode cX1_badPixel 15 = .ok (.bipush 15, 2) := by decide +kernel
theorem dX1_badPixel_17 : decode cX1_badPixel 17 = .ok (.if_icmp .le 7, 3) := by decide +kernel
theorem dX1_badPixel_20 : decode cX1_badPixel 20 = .ok (.iconst 1, 1) := by decide +kernel
theorem dX1_badPixel_21 : decode cX1_badPixel 21 = .ok (.goto 4, 3) := by decide +kernel
theorem dX1_badPixel_24 : decode cX1_badPixel 24 = .ok (.iconst 0, 1) := by decide +kernel
theorem dX1_badPixel_25 : decode cX1_badPixel 25 = .ok (.ireturn, 1) := by decide +kernel
abbrev cX1_inside : ByteArray := prog_3_method_10_code
def yX1_inside : MethodName := ⟨RX1, "inside", "(IIZ)Z"⟩
theorem dX1_inside_0 : decode cX1_inside 0 = .ok (.aload_n 0, 1) := by decide +kernel
theorem dX1_inside_1 : decode cX1_inside 1 = .ok (.iload_n 1, 1) := by decide +kernel
theorem dX1_inside_2 : decode cX1_inside 2 = .ok (.iload_n 2, 1) := by decide +kernel
theorem dX1_inside_3 : decode cX1_inside 3 = .ok (.invokevirtual 37, 3) := by decide +kernel
theorem dX1_inside_6 : decode cX1_inside 6 = .ok (.istore 4, 2) := by decide +kernel
theorem dX1_inside_8 : decode cX1_inside 8 = .ok (.iload_n 3, 1) := by decide +kernel
theorem dX1_inside_9 : decode cX1_inside 9 = .ok (.ifCond .eq 19, 3) := by decide +kernel
theorem dX1_inside_12 : decode cX1_inside 12 = .ok (.iload 4, 2) := by decide +kernel
theorem dX1_inside_14 : decode cX1_inside 14 = .ok (.iconst 1, 1) := by decide +kernel
theorem dX1_inside_15 : decode cX1_inside 15 = .ok (.iand, 1) := by decide +kernel
theorem dX1_inside_16 : decode cX1_inside 16 = .ok (.iconst 1, 1) := by decide +kernel
theorem dX1_inside_17 : decode cX1_inside 17 = .ok (.if_icmp .ne 7, 3) := by decide +kernel
theorem dX1_inside_20 : decode cX1_inside 20 = .ok (.iconst 1, 1) := by decide +kernel
theorem dX1_inside_21 : decode cX1_inside 21 = .ok (.goto 17, 3) := by decide +kernel
theorem dX1_inside_24 : decode cX1_inside 24 = .ok (.iconst 0, 1) := by decide +kernel
theorem dX1_inside_25 : decode cX1_inside 25 = .ok (.goto 13, 3) := by decide +kernel
theorem dX1_inside_28 : decode cX1_inside 28 = .ok (.iload 4, 2) := by decide +kernel
theorem dX1_inside_30 : decode cX1_inside 30 = .ok (.ifCond .eq 7, 3) := by decide +kernel
theorem dX1_inside_33 : decode cX1_inside 33 = .ok (.iconst 1, 1) := by decide +kernel
theorem dX1_inside_34 : decode cX1_inside 34 = .ok (.goto 4, 3) := by decide +kernel
theorem dX1_inside_37 : decode cX1_inside 37 = .ok (.iconst 0, 1) := by decide +kernel
theorem dX1_inside_38 : decode cX1_inside 38 = .ok (.ireturn, 1) := by decide +kernel
abbrev cX1_winding : ByteArray := prog_3_method_17_code
def yX1_winding : MethodName := ⟨RX1, "winding", "(II)I"⟩
theorem dX1_winding_0 : decode cX1_winding 0 = .ok (.aload_n 0, 1) := by decide +kernel
theorem dX1_winding_1 : decode cX1_winding 1 = .ok (.iload_n 1, 1) := by decide +kernel
theorem dX1_winding_2 : decode cX1_winding 2 = .ok (.invokevirtual 29, 3) := by decide +kernel
theorem dX1_winding_5 : decode cX1_winding 5 = .ok (.ifCond .ne 11, 3) := by decide +kernel
theorem dX1_winding_8 : decode cX1_winding 8 = .ok (.aload_n 0, 1) := by decide +kernel
theorem dX1_winding_9 : decode cX1_winding 9 = .ok (.iload_n 2, 1) := by decide +kernel
theorem dX1_winding_10 : decode cX1_winding 10 = .ok (.invokevirtual 29, 3) := by decide +kernel
theorem dX1_winding_13 : decode cX1_winding 13 = .ok (.ifCond .eq 5, 3) := by decide +kernel
theorem dX1_winding_16 : decode cX1_winding 16 = .ok (.iconst 0, 1) := by decide +kernel
theorem dX1_winding_17 : decode cX1_winding 17 = .ok (.ireturn, 1) := by decide +kernel
theorem dX1_winding_18 : decode cX1_winding 18 = .ok (.iconst 0, 1) := by decide +kernel
theorem dX1_winding_19 : decode cX1_winding 19 = .ok (.istore_n 3, 1) := by decide +kernel
theorem dX1_winding_20 : decode cX1_winding 20 = .ok (.iconst 0, 1) := by decide +kernel
theorem dX1_winding_21 : decode cX1_winding 21 = .ok (.istore 4, 2) := by decide +kernel
theorem dX1_winding_23 : decode cX1_winding 23 = .ok (.iload 4, 2) := by decide +kernel
theorem dX1_winding_25 : decode cX1_winding 25 = .ok (.aload_n 0, 1) := by decide +kernel
theorem dX1_winding_26 : decode cX1_winding 26 = .ok (.getfield 26, 3) := by decide +kernel
theorem dX1_winding_29 : decode cX1_winding 29 = .ok (.if_icmp .ge 87, 3) := by decide +kernel
theorem dX1_winding_32 : decode cX1_winding 32 = .ok (.aload_n 0, 1) := by decide +kernel
theorem dX1_winding_33 : decode cX1_winding 33 = .ok (.getfield 16, 3) := by decide +kernel
theorem dX1_winding_36 : decode cX1_winding 36 = .ok (.iload 4, 2) := by decide +kernel
theorem dX1_winding_38 : decode cX1_winding 38 = .ok (.iaload, 1) := by decide +kernel
theorem dX1_winding_39 : decode cX1_winding 39 = .ok (.istore 5, 2) := by decide +kernel
theorem dX1_winding_41 : decode cX1_winding 41 = .ok (.iload 5, 2) := by decide +kernel
theorem dX1_winding_43 : decode cX1_winding 43 = .ok (.aload_n 0, 1) := by decide +kernel
theorem dX1_winding_44 : decode cX1_winding 44 = .ok (.getfield 16, 3) := by decide +kernel
theorem dX1_winding_47 : decode cX1_winding 47 = .ok (.iload 4, 2) := by decide +kernel
theorem dX1_winding_49 : decode cX1_winding 49 = .ok (.iconst 1, 1) := by decide +kernel
theorem dX1_winding_50 : decode cX1_winding 50 = .ok (.iadd, 1) := by decide +kernel
theorem dX1_winding_51 : decode cX1_winding 51 = .ok (.iaload, 1) := by decide +kernel
theorem dX1_winding_52 : decode cX1_winding 52 = .ok (.if_icmp .ge 58, 3) := by decide +kernel
theorem dX1_winding_55 : decode cX1_winding 55 = .ok (.iload 5, 2) := by decide +kernel
theorem dX1_winding_57 : decode cX1_winding 57 = .ok (.iconst 1, 1) := by decide +kernel
theorem dX1_winding_58 : decode cX1_winding 58 = .ok (.iadd, 1) := by decide +kernel
theorem dX1_winding_59 : decode cX1_winding 59 = .ok (.aload_n 0, 1) := by decide +kernel
theorem dX1_winding_60 : decode cX1_winding 60 = .ok (.getfield 16, 3) := by decide +kernel
theorem dX1_winding_63 : decode cX1_winding 63 = .ok (.iload 4, 2) := by decide +kernel
theorem dX1_winding_65 : decode cX1_winding 65 = .ok (.iconst 1, 1) := by decide +kernel
theorem dX1_winding_66 : decode cX1_winding 66 = .ok (.iadd, 1) := by decide +kernel
theorem dX1_winding_67 : decode cX1_winding 67 = .ok (.iaload, 1) := by decide +kernel
theorem dX1_winding_68 : decode cX1_winding 68 = .ok (.if_icmp .ge 10, 3) := by decide +kernel
theorem dX1_winding_71 : decode cX1_winding 71 = .ok (.iload 5, 2) := by decide +kernel
theorem dX1_winding_73 : decode cX1_winding 73 = .ok (.iconst 1, 1) := by decide +kernel
theorem dX1_winding_74 : decode cX1_winding 74 = .ok (.iadd, 1) := by decide +kernel
theorem dX1_winding_75 : decode cX1_winding 75 = .ok (.goto 10, 3) := by decide +kernel
theorem dX1_winding_78 : decode cX1_winding 78 = .ok (.aload_n 0, 1) := by decide +kernel
theorem dX1_winding_79 : decode cX1_winding 79 = .ok (.getfield 16, 3) := by decide +kernel
theorem dX1_winding_82 : decode cX1_winding 82 = .ok (.iload 4, 2) := by decide +kernel
theorem dX1_winding_84 : decode cX1_winding 84 = .ok (.iaload, 1) := by decide +kernel
theorem dX1_winding_85 : decode cX1_winding 85 = .ok (.istore 6, 2) := by decide +kernel
theorem dX1_winding_87 : decode cX1_winding 87 = .ok (.aload_n 0, 1) := by decide +kernel
theorem dX1_winding_88 : decode cX1_winding 88 = .ok (.iload 5, 2) := by decide +kernel
theorem dX1_winding_90 : decode cX1_winding 90 = .ok (.iload 6, 2) := by decide +kernel
theorem dX1_winding_92 : decode cX1_winding 92 = .ok (.iload_n 1, 1) := by decide +kernel
theorem dX1_winding_93 : decode cX1_winding 93 = .ok (.iload_n 2, 1) := by decide +kernel
theorem dX1_winding_94 : decode cX1_winding 94 = .ok (.invokevirtual 53, 3) := by decide +kernel
theorem dX1_winding_97 : decode cX1_winding 97 = .ok (.istore 7, 2) := by decide +kernel
theorem dX1_winding_99 : decode cX1_winding 99 = .ok (.iload_n 3, 1) := by decide +kernel
theorem dX1_winding_100 : decode cX1_winding 100 = .ok (.iload 7, 2) := by decide +kernel
theorem dX1_winding_102 : decode cX1_winding 102 = .ok (.iadd, 1) := by decide +kernel
theorem dX1_winding_103 : decode cX1_winding 103 = .ok (.istore_n 3, 1) := by decide +kernel
theorem dX1_winding_104 : decode cX1_winding 104 = .ok (.iinc 5 1, 3) := by decide +kernel
theorem dX1_winding_107 : decode cX1_winding 107 = .ok (.goto (-66), 3) := by decide +kernel
theorem dX1_winding_110 : decode cX1_winding 110 = .ok (.iinc 4 1, 3) := by decide +kernel
theorem dX1_winding_113 : decode cX1_winding 113 = .ok (.goto (-90), 3) := by decide +kernel
theorem dX1_winding_116 : decode cX1_winding 116 = .ok (.iload_n 3, 1) := by decide +kernel
theorem dX1_winding_117 : decode cX1_winding 117 = .ok (.ireturn, 1) := by decide +kernel
abbrev cX1_edge : ByteArray := prog_3_method_9_code
def yX1_edge : MethodName := ⟨RX1, "edge", "(IIII)I"⟩
theorem dX1_edge_0 : decode cX1_edge 0 = .ok (.aload_n 0, 1) := by decide +kernel
theorem dX1_edge_1 : decode cX1_edge 1 = .ok (.getfield 13, 3) := by decide +kernel
theorem dX1_edge_4 : decode cX1_edge 4 = .ok (.iload_n 1, 1) := by decide +kernel
theorem dX1_edge_5 : decode cX1_edge 5 = .ok (.iaload, 1) := by decide +kernel
theorem dX1_edge_6 : decode cX1_edge 6 = .ok (.iload 4, 2) := by decide +kernel
theorem dX1_edge_8 : decode cX1_edge 8 = .ok (.if_icmp .gt 68, 3) := by decide +kernel
theorem dX1_edge_11 : decode cX1_edge 11 = .ok (.iload 4, 2) := by decide +kernel
theorem dX1_edge_13 : decode cX1_edge 13 = .ok (.aload_n 0, 1) := by decide +kernel
theorem dX1_edge_14 : decode cX1_edge 14 = .ok (.getfield 13, 3) := by decide +kernel
theorem dX1_edge_17 : decode cX1_edge 17 = .ok (.iload_n 2, 1) := by decide +kernel
theorem dX1_edge_18 : decode cX1_edge 18 = .ok (.iaload, 1) := by decide +kernel
theorem dX1_edge_19 : decode cX1_edge 19 = .ok (.if_icmp .ge 57, 3) := by decide +kernel
theorem dX1_edge_22 : decode cX1_edge 22 = .ok (.aload_n 0, 1) := by decide +kernel
theorem dX1_edge_23 : decode cX1_edge 23 = .ok (.getfield 7, 3) := by decide +kernel
theorem dX1_edge_26 : decode cX1_edge 26 = .ok (.iload_n 2, 1) := by decide +kernel
theorem dX1_edge_27 : decode cX1_edge 27 = .ok (.iaload, 1) := by decide +kernel
theorem dX1_edge_28 : decode cX1_edge 28 = .ok (.aload_n 0, 1) := by decide +kernel
theorem dX1_edge_29 : decode cX1_edge 29 = .ok (.getfield 7, 3) := by decide +kernel
theorem dX1_edge_32 : decode cX1_edge 32 = .ok (.iload_n 1, 1) := by decide +kernel
theorem dX1_edge_33 : decode cX1_edge 33 = .ok (.iaload, 1) := by decide +kernel
theorem dX1_edge_34 : decode cX1_edge 34 = .ok (.isub, 1) := by decide +kernel
theorem dX1_edge_35 : decode cX1_edge 35 = .ok (.iload 4, 2) := by decide +kernel
theorem dX1_edge_37 : decode cX1_edge 37 = .ok (.aload_n 0, 1) := by decide +kernel
theorem dX1_edge_38 : decode cX1_edge 38 = .ok (.getfield 13, 3) := by decide +kernel
theorem dX1_edge_41 : decode cX1_edge 41 = .ok (.iload_n 1, 1) := by decide +kernel
theorem dX1_edge_42 : decode cX1_edge 42 = .ok (.iaload, 1) := by decide +kernel
theorem dX1_edge_43 : decode cX1_edge 43 = .ok (.isub, 1) := by decide +kernel
theorem dX1_edge_44 : decode cX1_edge 44 = .ok (.imul, 1) := by decide +kernel
theorem dX1_edge_45 : decode cX1_edge 45 = .ok (.iload_n 3, 1) := by decide +kernel
theorem dX1_edge_46 : decode cX1_edge 46 = .ok (.aload_n 0, 1) := by decide +kernel
theorem dX1_edge_47 : decode cX1_edge 47 = .ok (.getfield 7, 3) := by decide +kernel
theorem dX1_edge_50 : decode cX1_edge 50 = .ok (.iload_n 1, 1) := by decide +kernel
theorem dX1_edge_51 : decode cX1_edge 51 = .ok (.iaload, 1) := by decide +kernel
theorem dX1_edge_52 : decode cX1_edge 52 = .ok (.isub, 1) := by decide +kernel
theorem dX1_edge_53 : decode cX1_edge 53 = .ok (.aload_n 0, 1) := by decide +kernel
theorem dX1_edge_54 : decode cX1_edge 54 = .ok (.getfield 13, 3) := by decide +kernel
theorem dX1_edge_57 : decode cX1_edge 57 = .ok (.iload_n 2, 1) := by decide +kernel
theorem dX1_edge_58 : decode cX1_edge 58 = .ok (.iaload, 1) := by decide +kernel
theorem dX1_edge_59 : decode cX1_edge 59 = .ok (.aload_n 0, 1) := by decide +kernel
theorem dX1_edge_60 : decode cX1_edge 60 = .ok (.getfield 13, 3) := by decide +kernel
theorem dX1_edge_63 : decode cX1_edge 63 = .ok (.iload_n 1, 1) := by decide +kernel
theorem dX1_edge_64 : decode cX1_edge 64 = .ok (.iaload, 1) := by decide +kernel
theorem dX1_edge_65 : decode cX1_edge 65 = .ok (.isub, 1) := by decide +kernel
theorem dX1_edge_66 : decode cX1_edge 66 = .ok (.imul, 1) := by decide +kernel
theorem dX1_edge_67 : decode cX1_edge 67 = .ok (.if_icmp .le 7, 3) := by decide +kernel
theorem dX1_edge_70 : decode cX1_edge 70 = .ok (.iconst 1, 1) := by decide +kernel
theorem dX1_edge_71 : decode cX1_edge 71 = .ok (.goto 4, 3) := by decide +kernel
theorem dX1_edge_74 : decode cX1_edge 74 = .ok (.iconst 0, 1) := by decide +kernel
theorem dX1_edge_75 : decode cX1_edge 75 = .ok (.ireturn, 1) := by decide +kernel
theorem dX1_edge_76 : decode cX1_edge 76 = .ok (.aload_n 0, 1) := by decide +kernel
theorem dX1_edge_77 : decode cX1_edge 77 = .ok (.getfield 13, 3) := by decide +kernel
theorem dX1_edge_80 : decode cX1_edge 80 = .ok (.iload_n 2, 1) := by decide +kernel
theorem dX1_edge_81 : decode cX1_edge 81 = .ok (.iaload, 1) := by decide +kernel
theorem dX1_edge_82 : decode cX1_edge 82 = .ok (.iload 4, 2) := by decide +kernel
theorem dX1_edge_84 : decode cX1_edge 84 = .ok (.if_icmp .gt 68, 3) := by decide +kernel
theorem dX1_edge_87 : decode cX1_edge 87 = .ok (.iload 4, 2) := by decide +kernel
theorem dX1_edge_89 : decode cX1_edge 89 = .ok (.aload_n 0, 1) := by decide +kernel
theorem dX1_edge_90 : decode cX1_edge 90 = .ok (.getfield 13, 3) := by decide +kernel
theorem dX1_edge_93 : decode cX1_edge 93 = .ok (.iload_n 1, 1) := by decide +kernel
theorem dX1_edge_94 : decode cX1_edge 94 = .ok (.iaload, 1) := by decide +kernel
theorem dX1_edge_95 : decode cX1_edge 95 = .ok (.if_icmp .ge 57, 3) := by decide +kernel
theorem dX1_edge_98 : decode cX1_edge 98 = .ok (.aload_n 0, 1) := by decide +kernel
theorem dX1_edge_99 : decode cX1_edge 99 = .ok (.getfield 7, 3) := by decide +kernel
theorem dX1_edge_102 : decode cX1_edge 102 = .ok (.iload_n 1, 1) := by decide +kernel
theorem dX1_edge_103 : decode cX1_edge 103 = .ok (.iaload, 1) := by decide +kernel
theorem dX1_edge_104 : decode cX1_edge 104 = .ok (.aload_n 0, 1) := by decide +kernel
theorem dX1_edge_105 : decode cX1_edge 105 = .ok (.getfield 7, 3) := by decide +kernel
theorem dX1_edge_108 : decode cX1_edge 108 = .ok (.iload_n 2, 1) := by decide +kernel
theorem dX1_edge_109 : decode cX1_edge 109 = .ok (.iaload, 1) := by decide +kernel
theorem dX1_edge_110 : decode cX1_edge 110 = .ok (.isub, 1) := by decide +kernel
theorem dX1_edge_111 : decode cX1_edge 111 = .ok (.iload 4, 2) := by decide +kernel
theorem dX1_edge_113 : decode cX1_edge 113 = .ok (.aload_n 0, 1) := by decide +kernel
theorem dX1_edge_114 : decode cX1_edge 114 = .ok (.getfield 13, 3) := by decide +kernel
theorem dX1_edge_117 : decode cX1_edge 117 = .ok (.iload_n 2, 1) := by decide +kernel
theorem dX1_edge_118 : decode cX1_edge 118 = .ok (.iaload, 1) := by decide +kernel
theorem dX1_edge_119 : decode cX1_edge 119 = .ok (.isub, 1) := by decide +kernel
theorem dX1_edge_120 : decode cX1_edge 120 = .ok (.imul, 1) := by decide +kernel
theorem dX1_edge_121 : decode cX1_edge 121 = .ok (.iload_n 3, 1) := by decide +kernel
theorem dX1_edge_122 : decode cX1_edge 122 = .ok (.aload_n 0, 1) := by decide +kernel
theorem dX1_edge_123 : decode cX1_edge 123 = .ok (.getfield 7, 3) := by decide +kernel
theorem dX1_edge_126 : decode cX1_edge 126 = .ok (.iload_n 2, 1) := by decide +kernel
theorem dX1_edge_127 : decode cX1_edge 127 = .ok (.iaload, 1) := by decide +kernel
theorem dX1_edge_128 : decode cX1_edge 128 = .ok (.isub, 1) := by decide +kernel
theorem dX1_edge_129 : decode cX1_edge 129 = .ok (.aload_n 0, 1) := by decide +kernel
theorem dX1_edge_130 : decode cX1_edge 130 = .ok (.getfield 13, 3) := by decide +kernel
theorem dX1_edge_133 : decode cX1_edge 133 = .ok (.iload_n 1, 1) := by decide +kernel
theorem dX1_edge_134 : decode cX1_edge 134 = .ok (.iaload, 1) := by decide +kernel
theorem dX1_edge_135 : decode cX1_edge 135 = .ok (.aload_n 0, 1) := by decide +kernel
theorem dX1_edge_136 : decode cX1_edge 136 = .ok (.getfield 13, 3) := by decide +kernel
theorem dX1_edge_139 : decode cX1_edge 139 = .ok (.iload_n 2, 1) := by decide +kernel
theorem dX1_edge_140 : decode cX1_edge 140 = .ok (.iaload, 1) := by decide +kernel
theorem dX1_edge_141 : decode cX1_edge 141 = .ok (.isub, 1) := by decide +kernel
theorem dX1_edge_142 : decode cX1_edge 142 = .ok (.imul, 1) := by decide +kernel
theorem dX1_edge_143 : decode cX1_edge 143 = .ok (.if_icmp .le 7, 3) := by decide +kernel
theorem dX1_edge_146 : decode cX1_edge 146 = .ok (.iconst (-1), 1) := by decide +kernel
theorem dX1_edge_147 : decode cX1_edge 147 = .ok (.goto 4, 3) := by decide +kernel
theorem dX1_edge_150 : decode cX1_edge 150 = .ok (.iconst 0, 1) := by decide +kernel
theorem dX1_edge_151 : decode cX1_edge 151 = .ok (.ireturn, 1) := by decide +kernel
theorem dX1_edge_152 : decode cX1_edge 152 = .ok (.iconst 0, 1) := by decide +kernel
theorem dX1_edge_153 : decode cX1_edge 153 = .ok (.ireturn, 1) := by decide +kernel
abbrev cX1_wipe : ByteArray := prog_3_method_13_code
def yX1_wipe : MethodName := ⟨RX1, "wipe", "(I)I"⟩
theorem dX1_wipe_0 : decode cX1_wipe 0 = .ok (.iload_n 1, 1) := by decide +kernel
theorem dX1_wipe_1 : decode cX1_wipe 1 = .ok (.ifCond .lt 10, 3) := by decide +kernel
theorem dX1_wipe_4 : decode cX1_wipe 4 = .ok (.iload_n 1, 1) := by decide +kernel
theorem dX1_wipe_5 : decode cX1_wipe 5 = .ok (.sipush 255, 3) := by decide +kernel
theorem dX1_wipe_8 : decode cX1_wipe 8 = .ok (.if_icmp .le 6, 3) := by decide +kernel
theorem dX1_wipe_11 : decode cX1_wipe 11 = .ok (.bipush (-3), 2) := by decide +kernel
theorem dX1_wipe_13 : decode cX1_wipe 13 = .ok (.ireturn, 1) := by decide +kernel
theorem dX1_wipe_14 : decode cX1_wipe 14 = .ok (.iconst 0, 1) := by decide +kernel
theorem dX1_wipe_15 : decode cX1_wipe 15 = .ok (.istore_n 2, 1) := by decide +kernel
theorem dX1_wipe_16 : decode cX1_wipe 16 = .ok (.iload_n 2, 1) := by decide +kernel
theorem dX1_wipe_17 : decode cX1_wipe 17 = .ok (.sipush 256, 3) := by decide +kernel
theorem dX1_wipe_20 : decode cX1_wipe 20 = .ok (.if_icmp .ge 16, 3) := by decide +kernel
theorem dX1_wipe_23 : decode cX1_wipe 23 = .ok (.aload_n 0, 1) := by decide +kernel
theorem dX1_wipe_24 : decode cX1_wipe 24 = .ok (.getfield 19, 3) := by decide +kernel
theorem dX1_wipe_27 : decode cX1_wipe 27 = .ok (.iload_n 2, 1) := by decide +kernel
theorem dX1_wipe_28 : decode cX1_wipe 28 = .ok (.iload_n 1, 1) := by decide +kernel
theorem dX1_wipe_29 : decode cX1_wipe 29 = .ok (.iastore, 1) := by decide +kernel
theorem dX1_wipe_30 : decode cX1_wipe 30 = .ok (.iinc 2 1, 3) := by decide +kernel
theorem dX1_wipe_33 : decode cX1_wipe 33 = .ok (.goto (-17), 3) := by decide +kernel
theorem dX1_wipe_36 : decode cX1_wipe 36 = .ok (.iconst 0, 1) := by decide +kernel
theorem dX1_wipe_37 : decode cX1_wipe 37 = .ok (.ireturn, 1) := by decide +kernel
abbrev cX1_pixel : ByteArray := prog_3_method_14_code
def yX1_pixel : MethodName := ⟨RX1, "pixel", "(II)I"⟩
theorem dX1_pixel_0 : decode cX1_pixel 0 = .ok (.aload_n 0, 1) := by decide +kernel
theorem dX1_pixel_1 : decode cX1_pixel 1 = .ok (.iload_n 1, 1) := by decide +kernel
theorem dX1_pixel_2 : decode cX1_pixel 2 = .ok (.iload_n 2, 1) := by decide +kernel
theorem dX1_pixel_3 : decode cX1_pixel 3 = .ok (.invokevirtual 45, 3) := by decide +kernel
theorem dX1_pixel_6 : decode cX1_pixel 6 = .ok (.ifCond .eq 8, 3) := by decide +kernel
theorem dX1_pixel_9 : decode cX1_pixel 9 = .ok (.bipush (-4), 2) := by decide +kernel
theorem dX1_pixel_11 : decode cX1_pixel 11 = .ok (.goto 14, 3) := by decide +kernel
theorem dX1_pixel_14 : decode cX1_pixel 14 = .ok (.aload_n 0, 1) := by decide +kernel
theorem dX1_pixel_15 : decode cX1_pixel 15 = .ok (.getfield 19, 3) := by decide +kernel
theorem dX1_pixel_18 : decode cX1_pixel 18 = .ok (.iload_n 1, 1) := by decide +kernel
theorem dX1_pixel_19 : decode cX1_pixel 19 = .ok (.bipush 16, 2) := by decide +kernel
theorem dX1_pixel_21 : decode cX1_pixel 21 = .ok (.imul, 1) := by decide +kernel
theorem dX1_pixel_22 : decode cX1_pixel 22 = .ok (.iload_n 2, 1) := by decide +kernel
theorem dX1_pixel_23 : decode cX1_pixel 23 = .ok (.iadd, 1) := by decide +kernel
theorem dX1_pixel_24 : decode cX1_pixel 24 = .ok (.iaload, 1) := by decide +kernel
theorem dX1_pixel_25 : decode cX1_pixel 25 = .ok (.ireturn, 1) := by decide +kernel
abbrev cX1_area : ByteArray := prog_3_method_16_code
def yX1_area : MethodName := ⟨RX1, "area", "(Z)I"⟩
theorem dX1_area_0 : decode cX1_area 0 = .ok (.iconst 0, 1) := by decide +kernel
theorem dX1_area_1 : decode cX1_area 1 = .ok (.istore_n 2, 1) := by decide +kernel
theorem dX1_area_2 : decode cX1_area 2 = .ok (.iconst 0, 1) := by decide +kernel
theorem dX1_area_3 : decode cX1_area 3 = .ok (.istore_n 3, 1) := by decide +kernel
theorem dX1_area_4 : decode cX1_area 4 = .ok (.iload_n 3, 1) := by decide +kernel
theorem dX1_area_5 : decode cX1_area 5 = .ok (.sipush 256, 3) := by decide +kernel
theorem dX1_area_8 : decode cX1_area 8 = .ok (.if_icmp .ge 29, 3) := by decide +kernel
theorem dX1_area_11 : decode cX1_area 11 = .ok (.aload_n 0, 1) := by decide +kernel
theorem dX1_area_12 : decode cX1_area 12 = .ok (.iload_n 3, 1) := by decide +kernel
theorem dX1_area_13 : decode cX1_area 13 = .ok (.bipush 16, 2) := by decide +kernel
theorem dX1_area_15 : decode cX1_area 15 = .ok (.idiv, 1) := by decide +kernel
theorem dX1_area_16 : decode cX1_area 16 = .ok (.iload_n 3, 1) := by decide +kernel
theorem dX1_area_17 : decode cX1_area 17 = .ok (.bipush 16, 2) := by decide +kernel
theorem dX1_area_19 : decode cX1_area 19 = .ok (.irem, 1) := by decide +kernel
theorem dX1_area_20 : decode cX1_area 20 = .ok (.iload_n 1, 1) := by decide +kernel
theorem dX1_area_21 : decode cX1_area 21 = .ok (.invokevirtual 41, 3) := by decide +kernel
theorem dX1_area_24 : decode cX1_area 24 = .ok (.istore 4, 2) := by decide +kernel
theorem dX1_area_26 : decode cX1_area 26 = .ok (.iload_n 2, 1) := by decide +kernel
theorem dX1_area_27 : decode cX1_area 27 = .ok (.iload 4, 2) := by decide +kernel
theorem dX1_area_29 : decode cX1_area 29 = .ok (.iadd, 1) := by decide +kernel
theorem dX1_area_30 : decode cX1_area 30 = .ok (.istore_n 2, 1) := by decide +kernel
theorem dX1_area_31 : decode cX1_area 31 = .ok (.iinc 3 1, 3) := by decide +kernel
theorem dX1_area_34 : decode cX1_area 34 = .ok (.goto (-30), 3) := by decide +kernel
theorem dX1_area_37 : decode cX1_area 37 = .ok (.iload_n 2, 1) := by decide +kernel
theorem dX1_area_38 : decode cX1_area 38 = .ok (.ireturn, 1) := by decide +kernel
abbrev cX1_rowSum : ByteArray := prog_3_method_18_code
def yX1_rowSum : MethodName := ⟨RX1, "rowSum", "(I)I"⟩
theorem dX1_rowSum_0 : decode cX1_rowSum 0 = .ok (.iload_n 1, 1) := by decide +kernel
theorem dX1_rowSum_1 : decode cX1_rowSum 1 = .ok (.ifCond .lt 9, 3) := by decide +kernel
theorem dX1_rowSum_4 : decode cX1_rowSum 4 = .ok (.iload_n 1, 1) := by decide +kernel
theorem dX1_rowSum_5 : decode cX1_rowSum 5 = .ok (.bipush 15, 2) := by decide +kernel
theorem dX1_rowSum_7 : decode cX1_rowSum 7 = .ok (.if_icmp .le 6, 3) := by decide +kernel
theorem dX1_rowSum_10 : decode cX1_rowSum 10 = .ok (.bipush (-4), 2) := by decide +kernel
theorem dX1_rowSum_12 : decode cX1_rowSum 12 = .ok (.ireturn, 1) := by decide +kernel
theorem dX1_rowSum_13 : decode cX1_rowSum 13 = .ok (.iconst 0, 1) := by decide +kernel
theorem dX1_rowSum_14 : decode cX1_rowSum 14 = .ok (.istore_n 2, 1) := by decide +kernel
theorem dX1_rowSum_15 : decode cX1_rowSum 15 = .ok (.iconst 0, 1) := by decide +kernel
theorem dX1_rowSum_16 : decode cX1_rowSum 16 = .ok (.istore_n 3, 1) := by decide +kernel
theorem dX1_rowSum_17 : decode cX1_rowSum 17 = .ok (.iload_n 3, 1) := by decide +kernel
theorem dX1_rowSum_18 : decode cX1_rowSum 18 = .ok (.bipush 16, 2) := by decide +kernel
theorem dX1_rowSum_20 : decode cX1_rowSum 20 = .ok (.if_icmp .ge 23, 3) := by decide +kernel
theorem dX1_rowSum_23 : decode cX1_rowSum 23 = .ok (.iload_n 2, 1) := by decide +kernel
theorem dX1_rowSum_24 : decode cX1_rowSum 24 = .ok (.aload_n 0, 1) := by decide +kernel
theorem dX1_rowSum_25 : decode cX1_rowSum 25 = .ok (.getfield 19, 3) := by decide +kernel
theorem dX1_rowSum_28 : decode cX1_rowSum 28 = .ok (.iload_n 1, 1) := by decide +kernel
theorem dX1_rowSum_29 : decode cX1_rowSum 29 = .ok (.bipush 16, 2) := by decide +kernel
theorem dX1_rowSum_31 : decode cX1_rowSum 31 = .ok (.imul, 1) := by decide +kernel
theorem dX1_rowSum_32 : decode cX1_rowSum 32 = .ok (.iload_n 3, 1) := by decide +kernel
theorem dX1_rowSum_33 : decode cX1_rowSum 33 = .ok (.iadd, 1) := by decide +kernel
theorem dX1_rowSum_34 : decode cX1_rowSum 34 = .ok (.iaload, 1) := by decide +kernel
theorem dX1_rowSum_35 : decode cX1_rowSum 35 = .ok (.iadd, 1) := by decide +kernel
theorem dX1_rowSum_36 : decode cX1_rowSum 36 = .ok (.istore_n 2, 1) := by decide +kernel
theorem dX1_rowSum_37 : decode cX1_rowSum 37 = .ok (.iinc 3 1, 3) := by decide +kernel
theorem dX1_rowSum_40 : decode cX1_rowSum 40 = .ok (.goto (-23), 3) := by decide +kernel
theorem dX1_rowSum_43 : decode cX1_rowSum 43 = .ok (.iload_n 2, 1) := by decide +kernel
theorem dX1_rowSum_44 : decode cX1_rowSum 44 = .ok (.ireturn, 1) := by decide +kernel
theorem q15 : (Jvm.Cond.initialized "PolygonFillModel") ∈ lw_all := lw_g (lw_at lw_m0 2 rfl) rfl
theorem q149 : (Jvm.Cond.instantiable "PolygonFillModel" (6 : Nat)) ∈ lw_all := lw_g (lw_at lw_m0 136 rfl) rfl
theorem q151 : (Jvm.Cond.instanceMethod ({ cls := "PolygonFillModel", name := "<init>", desc := "()V" } : Jvm.MethodName)) ∈ lw_all := lw_g (lw_at lw_m0 138 rfl) rfl
theorem q152 : (Jvm.Cond.code ({ cls := "PolygonFillModel", name := "<init>", desc := "()V" } : Jvm.MethodName) prog_3_method_1_code (1 : Nat) (Option.none : Option Jvm.ClassFile.FieldType)) ∈ lw_all := lw_g (lw_at lw_m0 139 rfl) rfl
theorem q153 : (Jvm.Cond.methodLink "PolygonFillModel" (1 : Nat) ({ cls := "java/lang/Object", name := "<init>", desc := "()V" } : Jvm.MethodName)) ∈ lw_all := lw_g (lw_at lw_m0 140 rfl) rfl
theorem q154 : (Jvm.Cond.fieldLink "PolygonFillModel" (22 : Nat) "PolygonFillModel" "corners" "I") ∈ lw_all := lw_g (lw_at lw_m0 141 rfl) rfl
theorem q155 : (Jvm.Cond.fieldLink "PolygonFillModel" (26 : Nat) "PolygonFillModel" "contours" "I") ∈ lw_all := lw_g (lw_at lw_m0 142 rfl) rfl
theorem q156 : (Jvm.Cond.fieldLink "PolygonFillModel" (7 : Nat) "PolygonFillModel" "xs" "[I") ∈ lw_all := lw_g (lw_at lw_m0 143 rfl) rfl
theorem q157 : (Jvm.Cond.fieldLink "PolygonFillModel" (13 : Nat) "PolygonFillModel" "ys" "[I") ∈ lw_all := lw_g (lw_at lw_m0 144 rfl) rfl
theorem q158 : (Jvm.Cond.fieldLink "PolygonFillModel" (16 : Nat) "PolygonFillModel" "firsts" "[I") ∈ lw_all := lw_g (lw_at lw_m0 145 rfl) rfl
theorem q159 : (Jvm.Cond.fieldLink "PolygonFillModel" (19 : Nat) "PolygonFillModel" "colours" "[I") ∈ lw_all := lw_g (lw_at lw_m0 146 rfl) rfl
theorem q160 : (Jvm.Cond.lays "PolygonFillModel" "PolygonFillModel" "corners" "I") ∈ lw_all := lw_g (lw_at lw_m0 147 rfl) rfl
theorem q161 : (Jvm.Cond.soleField "PolygonFillModel" "corners") ∈ lw_all := lw_g (lw_at lw_m0 148 rfl) rfl
theorem q162 : (Jvm.Cond.lays "PolygonFillModel" "PolygonFillModel" "contours" "I") ∈ lw_all := lw_g (lw_at lw_m0 149 rfl) rfl
theorem q163 : (Jvm.Cond.soleField "PolygonFillModel" "contours") ∈ lw_all := lw_g (lw_at lw_m0 150 rfl) rfl
theorem q164 : (Jvm.Cond.laysFinal "PolygonFillModel" "PolygonFillModel" "xs" "[I") ∈ lw_all := lw_g (lw_at lw_m0 151 rfl) rfl
theorem q165 : (Jvm.Cond.soleField "PolygonFillModel" "xs") ∈ lw_all := lw_g (lw_at lw_m0 152 rfl) rfl
theorem q166 : (Jvm.Cond.laysFinal "PolygonFillModel" "PolygonFillModel" "ys" "[I") ∈ lw_all := lw_g (lw_at lw_m0 153 rfl) rfl
theorem q167 : (Jvm.Cond.soleField "PolygonFillModel" "ys") ∈ lw_all := lw_g (lw_at lw_m0 154 rfl) rfl
theorem q168 : (Jvm.Cond.laysFinal "PolygonFillModel" "PolygonFillModel" "firsts" "[I") ∈ lw_all := lw_g (lw_at lw_m0 155 rfl) rfl
theorem q169 : (Jvm.Cond.soleField "PolygonFillModel" "firsts") ∈ lw_all := lw_g (lw_at lw_m0 156 rfl) rfl
theorem q170 : (Jvm.Cond.laysFinal "PolygonFillModel" "PolygonFillModel" "colours" "[I") ∈ lw_all := lw_g (lw_at lw_m0 157 rfl) rfl
theorem q171 : (Jvm.Cond.soleField "PolygonFillModel" "colours") ∈ lw_all := lw_g (lw_at lw_m0 158 rfl) rfl
theorem q172 : (Jvm.Cond.superclass "PolygonFillModel" "java/lang/Object") ∈ lw_all := lw_g (lw_at lw_m0 159 rfl) rfl
theorem q174 : (Jvm.Cond.instanceMethod ({ cls := "PolygonFillModel", name := "begin", desc := "(II)I" } : Jvm.MethodName)) ∈ lw_all := lw_g (lw_at lw_m0 161 rfl) rfl
theorem q175 : (Jvm.Cond.selects "PolygonFillModel" ({ cls := "PolygonFillModel", name := "begin", desc := "(II)I" } : Jvm.MethodName) ({ cls := "PolygonFillModel", name := "begin", desc := "(II)I" } : Jvm.MethodName)) ∈ lw_all := lw_g (lw_at lw_m0 162 rfl) rfl
theorem q176 : (Jvm.Cond.code ({ cls := "PolygonFillModel", name := "begin", desc := "(II)I" } : Jvm.MethodName) prog_3_method_4_code (3 : Nat) (Option.some Jvm.ClassFile.FieldType.int)) ∈ lw_all := lw_g (lw_at lw_m0 163 rfl) rfl
theorem q177 : (Jvm.Cond.methodLink "PolygonFillModel" (29 : Nat) ({ cls := "PolygonFillModel", name := "out", desc := "(I)Z" } : Jvm.MethodName)) ∈ lw_all := lw_g (lw_at lw_m0 164 rfl) rfl
theorem q178 : (Jvm.Cond.privateMethod ({ cls := "PolygonFillModel", name := "out", desc := "(I)Z" } : Jvm.MethodName)) ∈ lw_tbl := lw_at lw_m0 165 rfl
theorem q179 : (Jvm.Cond.instanceMethod ({ cls := "PolygonFillModel", name := "out", desc := "(I)Z" } : Jvm.MethodName)) ∈ lw_all := lw_g (lw_at lw_m0 166 rfl) rfl
theorem q180 : (Jvm.Cond.code ({ cls := "PolygonFillModel", name := "out", desc := "(I)Z" } : Jvm.MethodName) prog_3_method_2_code (2 : Nat) (Option.some Jvm.ClassFile.FieldType.boolean)) ∈ lw_all := lw_g (lw_at lw_m0 167 rfl) rfl
theorem q181 : (Jvm.Cond.methodLink "PolygonFillModel" (33 : Nat) ({ cls := "PolygonFillModel", name := "put", desc := "(II)V" } : Jvm.MethodName)) ∈ lw_all := lw_g (lw_at lw_m0 168 rfl) rfl
theorem q182 : (Jvm.Cond.privateMethod ({ cls := "PolygonFillModel", name := "put", desc := "(II)V" } : Jvm.MethodName)) ∈ lw_tbl := lw_at lw_m0 169 rfl
theorem q183 : (Jvm.Cond.instanceMethod ({ cls := "PolygonFillModel", name := "put", desc := "(II)V" } : Jvm.MethodName)) ∈ lw_all := lw_g (lw_at lw_m0 170 rfl) rfl
theorem q184 : (Jvm.Cond.code ({ cls := "PolygonFillModel", name := "put", desc := "(II)V" } : Jvm.MethodName) prog_3_method_3_code (3 : Nat) (Option.none : Option Jvm.ClassFile.FieldType)) ∈ lw_all := lw_g (lw_at lw_m0 171 rfl) rfl
theorem q186 : (Jvm.Cond.instanceMethod ({ cls := "PolygonFillModel", name := "corner", desc := "(II)I" } : Jvm.MethodName)) ∈ lw_all := lw_g (lw_at lw_m0 173 rfl) rfl
theorem q187 : (Jvm.Cond.selects "PolygonFillModel" ({ cls := "PolygonFillModel", name := "corner", desc := "(II)I" } : Jvm.MethodName) ({ cls := "PolygonFillModel", name := "corner", desc := "(II)I" } : Jvm.MethodName)) ∈ lw_all := lw_g (lw_at lw_m0 174 rfl) rfl
theorem q188 : (Jvm.Cond.code ({ cls := "PolygonFillModel", name := "corner", desc := "(II)I" } : Jvm.MethodName) prog_3_method_5_code (3 : Nat) (Option.some Jvm.ClassFile.FieldType.int)) ∈ lw_all := lw_g (lw_at lw_m0 175 rfl) rfl
theorem q190 : (Jvm.Cond.instanceMethod ({ cls := "PolygonFillModel", name := "move", desc := "(II)I" } : Jvm.MethodName)) ∈ lw_all := lw_g (lw_at lw_m0 177 rfl) rfl
theorem q191 : (Jvm.Cond.selects "PolygonFillModel" ({ cls := "PolygonFillModel", name := "move", desc := "(II)I" } : Jvm.MethodName) ({ cls := "PolygonFillModel", name := "move", desc := "(II)I" } : Jvm.MethodName)) ∈ lw_all := lw_g (lw_at lw_m0 178 rfl) rfl
theorem q192 : (Jvm.Cond.code ({ cls := "PolygonFillModel", name := "move", desc := "(II)I" } : Jvm.MethodName) prog_3_method_6_code (4 : Nat) (Option.some Jvm.ClassFile.FieldType.int)) ∈ lw_all := lw_g (lw_at lw_m0 179 rfl) rfl
theorem q194 : (Jvm.Cond.instanceMethod ({ cls := "PolygonFillModel", name := "mirror", desc := "()V" } : Jvm.MethodName)) ∈ lw_all := lw_g (lw_at lw_m0 181 rfl) rfl
theorem q195 : (Jvm.Cond.selects "PolygonFillModel" ({ cls := "PolygonFillModel", name := "mirror", desc := "()V" } : Jvm.MethodName) ({ cls := "PolygonFillModel", name := "mirror", desc := "()V" } : Jvm.MethodName)) ∈ lw_all := lw_g (lw_at lw_m0 182 rfl) rfl
theorem q196 : (Jvm.Cond.code ({ cls := "PolygonFillModel", name := "mirror", desc := "()V" } : Jvm.MethodName) prog_3_method_7_code (3 : Nat) (Option.none : Option Jvm.ClassFile.FieldType)) ∈ lw_all := lw_g (lw_at lw_m0 183 rfl) rfl
theorem q198 : (Jvm.Cond.instanceMethod ({ cls := "PolygonFillModel", name := "clear", desc := "()V" } : Jvm.MethodName)) ∈ lw_all := lw_g (lw_at lw_m0 185 rfl) rfl
theorem q199 : (Jvm.Cond.selects "PolygonFillModel" ({ cls := "PolygonFillModel", name := "clear", desc := "()V" } : Jvm.MethodName) ({ cls := "PolygonFillModel", name := "clear", desc := "()V" } : Jvm.MethodName)) ∈ lw_all := lw_g (lw_at lw_m0 186 rfl) rfl
theorem q200 : (Jvm.Cond.code ({ cls := "PolygonFillModel", name := "clear", desc := "()V" } : Jvm.MethodName) prog_3_method_8_code (1 : Nat) (Option.none : Option Jvm.ClassFile.FieldType)) ∈ lw_all := lw_g (lw_at lw_m0 187 rfl) rfl
theorem q202 : (Jvm.Cond.instanceMethod ({ cls := "PolygonFillModel", name := "paint", desc := "(IZ)I" } : Jvm.MethodName)) ∈ lw_all := lw_g (lw_at lw_m0 189 rfl) rfl
theorem q203 : (Jvm.Cond.selects "PolygonFillModel" ({ cls := "PolygonFillModel", name := "paint", desc := "(IZ)I" } : Jvm.MethodName) ({ cls := "PolygonFillModel", name := "paint", desc := "(IZ)I" } : Jvm.MethodName)) ∈ lw_all := lw_g (lw_at lw_m0 190 rfl) rfl
theorem q204 : (Jvm.Cond.code ({ cls := "PolygonFillModel", name := "paint", desc := "(IZ)I" } : Jvm.MethodName) prog_3_method_12_code (6 : Nat) (Option.some Jvm.ClassFile.FieldType.int)) ∈ lw_all := lw_g (lw_at lw_m0 191 rfl) rfl
theorem q205 : (Jvm.Cond.methodLink "PolygonFillModel" (41 : Nat) ({ cls := "PolygonFillModel", name := "coverage", desc := "(IIZ)I" } : Jvm.MethodName)) ∈ lw_all := lw_g (lw_at lw_m0 192 rfl) rfl
theorem q206 : (Jvm.Cond.instanceMethod ({ cls := "PolygonFillModel", name := "coverage", desc := "(IIZ)I" } : Jvm.MethodName)) ∈ lw_all := lw_g (lw_at lw_m0 193 rfl) rfl
theorem q207 : (Jvm.Cond.selects "PolygonFillModel" ({ cls := "PolygonFillModel", name := "coverage", desc := "(IIZ)I" } : Jvm.MethodName) ({ cls := "PolygonFillModel", name := "coverage", desc := "(IIZ)I" } : Jvm.MethodName)) ∈ lw_all := lw_g (lw_at lw_m0 194 rfl) rfl
theorem q208 : (Jvm.Cond.code ({ cls := "PolygonFillModel", name := "coverage", desc := "(IIZ)I" } : Jvm.MethodName) prog_3_method_15_code (6 : Nat) (Option.some Jvm.ClassFile.FieldType.int)) ∈ lw_all := lw_g (lw_at lw_m0 195 rfl) rfl
theorem q209 : (Jvm.Cond.methodLink "PolygonFillModel" (45 : Nat) ({ cls := "PolygonFillModel", name := "badPixel", desc := "(II)Z" } : Jvm.MethodName)) ∈ lw_all := lw_g (lw_at lw_m0 196 rfl) rfl
theorem q210 : (Jvm.Cond.privateMethod ({ cls := "PolygonFillModel", name := "badPixel", desc := "(II)Z" } : Jvm.MethodName)) ∈ lw_tbl := lw_at lw_m0 197 rfl
theorem q211 : (Jvm.Cond.instanceMethod ({ cls := "PolygonFillModel", name := "badPixel", desc := "(II)Z" } : Jvm.MethodName)) ∈ lw_all := lw_g (lw_at lw_m0 198 rfl) rfl
theorem q212 : (Jvm.Cond.code ({ cls := "PolygonFillModel", name := "badPixel", desc := "(II)Z" } : Jvm.MethodName) prog_3_method_11_code (3 : Nat) (Option.some Jvm.ClassFile.FieldType.boolean)) ∈ lw_all := lw_g (lw_at lw_m0 199 rfl) rfl
theorem q213 : (Jvm.Cond.methodLink "PolygonFillModel" (49 : Nat) ({ cls := "PolygonFillModel", name := "inside", desc := "(IIZ)Z" } : Jvm.MethodName)) ∈ lw_all := lw_g (lw_at lw_m0 200 rfl) rfl
theorem q214 : (Jvm.Cond.privateMethod ({ cls := "PolygonFillModel", name := "inside", desc := "(IIZ)Z" } : Jvm.MethodName)) ∈ lw_tbl := lw_at lw_m0 201 rfl
theorem q215 : (Jvm.Cond.instanceMethod ({ cls := "PolygonFillModel", name := "inside", desc := "(IIZ)Z" } : Jvm.MethodName)) ∈ lw_all := lw_g (lw_at lw_m0 202 rfl) rfl
theorem q216 : (Jvm.Cond.code ({ cls := "PolygonFillModel", name := "inside", desc := "(IIZ)Z" } : Jvm.MethodName) prog_3_method_10_code (5 : Nat) (Option.some Jvm.ClassFile.FieldType.boolean)) ∈ lw_all := lw_g (lw_at lw_m0 203 rfl) rfl
theorem q217 : (Jvm.Cond.methodLink "PolygonFillModel" (37 : Nat) ({ cls := "PolygonFillModel", name := "winding", desc := "(II)I" } : Jvm.MethodName)) ∈ lw_all := lw_g (lw_at lw_m0 204 rfl) rfl
theorem q218 : (Jvm.Cond.instanceMethod ({ cls := "PolygonFillModel", name := "winding", desc := "(II)I" } : Jvm.MethodName)) ∈ lw_all := lw_g (lw_at lw_m0 205 rfl) rfl
theorem q219 : (Jvm.Cond.selects "PolygonFillModel" ({ cls := "PolygonFillModel", name := "winding", desc := "(II)I" } : Jvm.MethodName) ({ cls := "PolygonFillModel", name := "winding", desc := "(II)I" } : Jvm.MethodName)) ∈ lw_all := lw_g (lw_at lw_m0 206 rfl) rfl
theorem q220 : (Jvm.Cond.code ({ cls := "PolygonFillModel", name := "winding", desc := "(II)I" } : Jvm.MethodName) prog_3_method_17_code (8 : Nat) (Option.some Jvm.ClassFile.FieldType.int)) ∈ lw_all := lw_g (lw_at lw_m0 207 rfl) rfl
theorem q221 : (Jvm.Cond.methodLink "PolygonFillModel" (53 : Nat) ({ cls := "PolygonFillModel", name := "edge", desc := "(IIII)I" } : Jvm.MethodName)) ∈ lw_all := lw_g (lw_at lw_m0 208 rfl) rfl
theorem q222 : (Jvm.Cond.privateMethod ({ cls := "PolygonFillModel", name := "edge", desc := "(IIII)I" } : Jvm.MethodName)) ∈ lw_tbl := lw_at lw_m0 209 rfl
theorem q223 : (Jvm.Cond.instanceMethod ({ cls := "PolygonFillModel", name := "edge", desc := "(IIII)I" } : Jvm.MethodName)) ∈ lw_all := lw_g (lw_at lw_m0 210 rfl) rfl
theorem q224 : (Jvm.Cond.code ({ cls := "PolygonFillModel", name := "edge", desc := "(IIII)I" } : Jvm.MethodName) prog_3_method_9_code (5 : Nat) (Option.some Jvm.ClassFile.FieldType.int)) ∈ lw_all := lw_g (lw_at lw_m0 211 rfl) rfl
theorem q226 : (Jvm.Cond.instanceMethod ({ cls := "PolygonFillModel", name := "wipe", desc := "(I)I" } : Jvm.MethodName)) ∈ lw_all := lw_g (lw_at lw_m0 213 rfl) rfl
theorem q227 : (Jvm.Cond.selects "PolygonFillModel" ({ cls := "PolygonFillModel", name := "wipe", desc := "(I)I" } : Jvm.MethodName) ({ cls := "PolygonFillModel", name := "wipe", desc := "(I)I" } : Jvm.MethodName)) ∈ lw_all := lw_g (lw_at lw_m0 214 rfl) rfl
theorem q228 : (Jvm.Cond.code ({ cls := "PolygonFillModel", name := "wipe", desc := "(I)I" } : Jvm.MethodName) prog_3_method_13_code (3 : Nat) (Option.some Jvm.ClassFile.FieldType.int)) ∈ lw_all := lw_g (lw_at lw_m0 215 rfl) rfl
theorem q230 : (Jvm.Cond.instanceMethod ({ cls := "PolygonFillModel", name := "pixel", desc := "(II)I" } : Jvm.MethodName)) ∈ lw_all := lw_g (lw_at lw_m0 217 rfl) rfl
theorem q231 : (Jvm.Cond.selects "PolygonFillModel" ({ cls := "PolygonFillModel", name := "pixel", desc := "(II)I" } : Jvm.MethodName) ({ cls := "PolygonFillModel", name := "pixel", desc := "(II)I" } : Jvm.MethodName)) ∈ lw_all := lw_g (lw_at lw_m0 218 rfl) rfl
theorem q232 : (Jvm.Cond.code ({ cls := "PolygonFillModel", name := "pixel", desc := "(II)I" } : Jvm.MethodName) prog_3_method_14_code (3 : Nat) (Option.some Jvm.ClassFile.FieldType.int)) ∈ lw_all := lw_g (lw_at lw_m0 219 rfl) rfl
theorem q235 : (Jvm.Cond.instanceMethod ({ cls := "PolygonFillModel", name := "area", desc := "(Z)I" } : Jvm.MethodName)) ∈ lw_all := lw_g (lw_at lw_m0 222 rfl) rfl
theorem q236 : (Jvm.Cond.selects "PolygonFillModel" ({ cls := "PolygonFillModel", name := "area", desc := "(Z)I" } : Jvm.MethodName) ({ cls := "PolygonFillModel", name := "area", desc := "(Z)I" } : Jvm.MethodName)) ∈ lw_all := lw_g (lw_at lw_m0 223 rfl) rfl
theorem q237 : (Jvm.Cond.code ({ cls := "PolygonFillModel", name := "area", desc := "(Z)I" } : Jvm.MethodName) prog_3_method_16_code (5 : Nat) (Option.some Jvm.ClassFile.FieldType.int)) ∈ lw_all := lw_g (lw_at lw_m0 224 rfl) rfl
theorem q240 : (Jvm.Cond.instanceMethod ({ cls := "PolygonFillModel", name := "rowSum", desc := "(I)I" } : Jvm.MethodName)) ∈ lw_all := lw_g (lw_at lw_m0 227 rfl) rfl
theorem q241 : (Jvm.Cond.selects "PolygonFillModel" ({ cls := "PolygonFillModel", name := "rowSum", desc := "(I)I" } : Jvm.MethodName) ({ cls := "PolygonFillModel", name := "rowSum", desc := "(I)I" } : Jvm.MethodName)) ∈ lw_all := lw_g (lw_at lw_m0 228 rfl) rfl
theorem q242 : (Jvm.Cond.code ({ cls := "PolygonFillModel", name := "rowSum", desc := "(I)I" } : Jvm.MethodName) prog_3_method_18_code (4 : Nat) (Option.some Jvm.ClassFile.FieldType.int)) ∈ lw_all := lw_g (lw_at lw_m0 229 rfl) rfl
theorem in_X1 : ∀ w ∈ wsX10, w ∈ lw_all := lw_in wsX10 [160, 162, 164, 166, 168, 170] (by decide +kernel) (by decide +kernel)
end
section
set_option maxRecDepth 100000
theorem q58 : (Jvm.Cond.arrayClass Jvm.ClassFile.FieldType.int) ∈ lw_all := lw_g (lw_at lw_m0 45 rfl) rfl
theorem q13 : (Jvm.Cond.initialized "PolygonFillLaw") ∈ lw_all := lw_g (lw_at lw_m0 0 rfl) rfl
theorem q16 : (Jvm.Cond.classLink "PolygonFillLaw" (7 : Nat) "PolygonFill") ∈ lw_all := lw_g (lw_at lw_m0 3 rfl) rfl
theorem q18 : (Jvm.Cond.methodLink "PolygonFillLaw" (9 : Nat) ({ cls := "PolygonFill", name := "<init>", desc := "()V" } : Jvm.MethodName)) ∈ lw_all := lw_g (lw_at lw_m0 5 rfl) rfl
theorem q59 : (Jvm.Cond.methodLink "PolygonFillLaw" (13 : Nat) ({ cls := "PolygonFill", name := "begin", desc := "(II)I" } : Jvm.MethodName)) ∈ lw_all := lw_g (lw_at lw_m0 46 rfl) rfl
theorem q70 : (Jvm.Cond.methodLink "PolygonFillLaw" (18 : Nat) ({ cls := "PolygonFill", name := "corner", desc := "(II)I" } : Jvm.MethodName)) ∈ lw_all := lw_g (lw_at lw_m0 57 rfl) rfl
theorem q74 : (Jvm.Cond.methodLink "PolygonFillLaw" (22 : Nat) ({ cls := "PolygonFill", name := "move", desc := "(II)I" } : Jvm.MethodName)) ∈ lw_all := lw_g (lw_at lw_m0 61 rfl) rfl
theorem q78 : (Jvm.Cond.methodLink "PolygonFillLaw" (26 : Nat) ({ cls := "PolygonFill", name := "mirror", desc := "()V" } : Jvm.MethodName)) ∈ lw_all := lw_g (lw_at lw_m0 65 rfl) rfl
theorem q82 : (Jvm.Cond.methodLink "PolygonFillLaw" (30 : Nat) ({ cls := "PolygonFill", name := "clear", desc := "()V" } : Jvm.MethodName)) ∈ lw_all := lw_g (lw_at lw_m0 69 rfl) rfl
theorem q86 : (Jvm.Cond.methodLink "PolygonFillLaw" (34 : Nat) ({ cls := "PolygonFill", name := "paint", desc := "(IZ)I" } : Jvm.MethodName)) ∈ lw_all := lw_g (lw_at lw_m0 73 rfl) rfl
theorem q121 : (Jvm.Cond.methodLink "PolygonFillLaw" (39 : Nat) ({ cls := "PolygonFill", name := "wipe", desc := "(I)I" } : Jvm.MethodName)) ∈ lw_all := lw_g (lw_at lw_m0 108 rfl) rfl
theorem q125 : (Jvm.Cond.methodLink "PolygonFillLaw" (44 : Nat) ({ cls := "PolygonFill", name := "pixel", desc := "(II)I" } : Jvm.MethodName)) ∈ lw_all := lw_g (lw_at lw_m0 112 rfl) rfl
theorem q132 : (Jvm.Cond.methodLink "PolygonFillLaw" (48 : Nat) ({ cls := "PolygonFill", name := "coverage", desc := "(IIZ)I" } : Jvm.MethodName)) ∈ lw_all := lw_g (lw_at lw_m0 119 rfl) rfl
theorem q136 : (Jvm.Cond.methodLink "PolygonFillLaw" (53 : Nat) ({ cls := "PolygonFill", name := "area", desc := "(Z)I" } : Jvm.MethodName)) ∈ lw_all := lw_g (lw_at lw_m0 123 rfl) rfl
theorem q140 : (Jvm.Cond.methodLink "PolygonFillLaw" (58 : Nat) ({ cls := "PolygonFill", name := "winding", desc := "(II)I" } : Jvm.MethodName)) ∈ lw_all := lw_g (lw_at lw_m0 127 rfl) rfl
theorem q144 : (Jvm.Cond.methodLink "PolygonFillLaw" (62 : Nat) ({ cls := "PolygonFill", name := "rowSum", desc := "(I)I" } : Jvm.MethodName)) ∈ lw_all := lw_g (lw_at lw_m0 131 rfl) rfl
theorem q148 : (Jvm.Cond.classLink "PolygonFillLaw" (10 : Nat) "PolygonFillModel") ∈ lw_all := lw_g (lw_at lw_m0 135 rfl) rfl
theorem q150 : (Jvm.Cond.methodLink "PolygonFillLaw" (12 : Nat) ({ cls := "PolygonFillModel", name := "<init>", desc := "()V" } : Jvm.MethodName)) ∈ lw_all := lw_g (lw_at lw_m0 137 rfl) rfl
theorem q173 : (Jvm.Cond.methodLink "PolygonFillLaw" (17 : Nat) ({ cls := "PolygonFillModel", name := "begin", desc := "(II)I" } : Jvm.MethodName)) ∈ lw_all := lw_g (lw_at lw_m0 160 rfl) rfl
theorem q185 : (Jvm.Cond.methodLink "PolygonFillLaw" (21 : Nat) ({ cls := "PolygonFillModel", name := "corner", desc := "(II)I" } : Jvm.MethodName)) ∈ lw_all := lw_g (lw_at lw_m0 172 rfl) rfl
theorem q189 : (Jvm.Cond.methodLink "PolygonFillLaw" (25 : Nat) ({ cls := "PolygonFillModel", name := "move", desc := "(II)I" } : Jvm.MethodName)) ∈ lw_all := lw_g (lw_at lw_m0 176 rfl) rfl
theorem q193 : (Jvm.Cond.methodLink "PolygonFillLaw" (29 : Nat) ({ cls := "PolygonFillModel", name := "mirror", desc := "()V" } : Jvm.MethodName)) ∈ lw_all := lw_g (lw_at lw_m0 180 rfl) rfl
theorem q197 : (Jvm.Cond.methodLink "PolygonFillLaw" (33 : Nat) ({ cls := "PolygonFillModel", name := "clear", desc := "()V" } : Jvm.MethodName)) ∈ lw_all := lw_g (lw_at lw_m0 184 rfl) rfl
theorem q201 : (Jvm.Cond.methodLink "PolygonFillLaw" (38 : Nat) ({ cls := "PolygonFillModel", name := "paint", desc := "(IZ)I" } : Jvm.MethodName)) ∈ lw_all := lw_g (lw_at lw_m0 188 rfl) rfl
theorem q225 : (Jvm.Cond.methodLink "PolygonFillLaw" (43 : Nat) ({ cls := "PolygonFillModel", name := "wipe", desc := "(I)I" } : Jvm.MethodName)) ∈ lw_all := lw_g (lw_at lw_m0 212 rfl) rfl
theorem q229 : (Jvm.Cond.methodLink "PolygonFillLaw" (47 : Nat) ({ cls := "PolygonFillModel", name := "pixel", desc := "(II)I" } : Jvm.MethodName)) ∈ lw_all := lw_g (lw_at lw_m0 216 rfl) rfl
theorem q233 : (Jvm.Cond.methodLink "PolygonFillLaw" (52 : Nat) ({ cls := "PolygonFillModel", name := "coverage", desc := "(IIZ)I" } : Jvm.MethodName)) ∈ lw_all := lw_g (lw_at lw_m0 220 rfl) rfl
theorem q234 : (Jvm.Cond.methodLink "PolygonFillLaw" (57 : Nat) ({ cls := "PolygonFillModel", name := "area", desc := "(Z)I" } : Jvm.MethodName)) ∈ lw_all := lw_g (lw_at lw_m0 221 rfl) rfl
theorem q238 : (Jvm.Cond.methodLink "PolygonFillLaw" (61 : Nat) ({ cls := "PolygonFillModel", name := "winding", desc := "(II)I" } : Jvm.MethodName)) ∈ lw_all := lw_g (lw_at lw_m0 225 rfl) rfl
theorem q239 : (Jvm.Cond.methodLink "PolygonFillLaw" (65 : Nat) ({ cls := "PolygonFillModel", name := "rowSum", desc := "(I)I" } : Jvm.MethodName)) ∈ lw_all := lw_g (lw_at lw_m0 226 rfl) rfl
/-! java/lang/Object -/
def RJ0 : String := "java/lang/Object"
abbrev cJ0_init : ByteArray := object_method_1_code
def yJ0_init : MethodName := ⟨RJ0, "<init>", "()V"⟩
theorem dJ0_init_0 : decode cJ0_init 0 = .ok (.return_, 1) := by decide +kernel
theorem q22 : (Jvm.Cond.instanceMethod ({ cls := "java/lang/Object", name := "<init>", desc := "()V" } : Jvm.MethodName)) ∈ lw_all := lw_g (lw_at lw_m0 9 rfl) rfl
theorem q23 : (Jvm.Cond.code ({ cls := "java/lang/Object", name := "<init>", desc := "()V" } : Jvm.MethodName) object_method_1_code (1 : Nat) (Option.none : Option Jvm.ClassFile.FieldType)) ∈ lw_all := lw_g (lw_at lw_m0 10 rfl) rfl
end
section
set_option maxRecDepth 100000
/-! the law's own entry -/
abbrev cL_law : ByteArray := code
theorem dL_law_0 : decode cL_law 0 = .ok (.new 7, 3) := by decide +kernel
theorem dL_law_3 : decode cL_law 3 = .ok (.dup, 1) := by decide +kernel
theorem dL_law_4 : decode cL_law 4 = .ok (.invokespecial 9, 3) := by decide +kernel
theorem dL_law_7 : decode cL_law 7 = .ok (.astore_n 1, 1) := by decide +kernel
theorem dL_law_8 : decode cL_law 8 = .ok (.new 10, 3) := by decide +kernel
theorem dL_law_11 : decode cL_law 11 = .ok (.dup, 1) := by decide +kernel
theorem dL_law_12 : decode cL_law 12 = .ok (.invokespecial 12, 3) := by decide +kernel
theorem dL_law_15 : decode cL_law 15 = .ok (.astore_n 2, 1) := by decide +kernel
theorem dL_law_16 : decode cL_law 16 = .ok (.iconst 0, 1) := by decide +kernel
theorem dL_law_17 : decode cL_law 17 = .ok (.istore_n 3, 1) := by decide +kernel
theorem dL_law_18 : decode cL_law 18 = .ok (.iload_n 3, 1) := by decide +kernel
theorem dL_law_19 : decode cL_law 19 = .ok (.aload_n 0, 1) := by decide +kernel
theorem dL_law_20 : decode cL_law 20 = .ok (.arraylength, 1) := by decide +kernel
theorem dL_law_21 : decode cL_law 21 = .ok (.iconst 4, 1) := by decide +kernel
theorem dL_law_22 : decode cL_law 22 = .ok (.isub, 1) := by decide +kernel
theorem dL_law_23 : decode cL_law 23 = .ok (.if_icmp .gt 459, 3) := by decide +kernel
theorem dL_law_26 : decode cL_law 26 = .ok (.aload_n 0, 1) := by decide +kernel
theorem dL_law_27 : decode cL_law 27 = .ok (.iload_n 3, 1) := by decide +kernel
theorem dL_law_28 : decode cL_law 28 = .ok (.iaload, 1) := by decide +kernel
theorem dL_law_29 : decode cL_law 29 = .ok (.bipush 15, 2) := by decide +kernel
theorem dL_law_31 : decode cL_law 31 = .ok (.iand, 1) := by decide +kernel
theorem dL_law_32 : decode cL_law 32 = .ok (.tableswitch 444 0 11 #[64, 97, 130, 163, 174, 185, 234, 257, 290, 349, 388, 421], 64) := by decide +kernel
theorem dL_law_96 : decode cL_law 96 = .ok (.aload_n 1, 1) := by decide +kernel
theorem dL_law_97 : decode cL_law 97 = .ok (.aload_n 0, 1) := by decide +kernel
theorem dL_law_98 : decode cL_law 98 = .ok (.iload_n 3, 1) := by decide +kernel
theorem dL_law_99 : decode cL_law 99 = .ok (.iconst 1, 1) := by decide +kernel
theorem dL_law_100 : decode cL_law 100 = .ok (.iadd, 1) := by decide +kernel
theorem dL_law_101 : decode cL_law 101 = .ok (.iaload, 1) := by decide +kernel
theorem dL_law_102 : decode cL_law 102 = .ok (.aload_n 0, 1) := by decide +kernel
theorem dL_law_103 : decode cL_law 103 = .ok (.iload_n 3, 1) := by decide +kernel
theorem dL_law_104 : decode cL_law 104 = .ok (.iconst 2, 1) := by decide +kernel
theorem dL_law_105 : decode cL_law 105 = .ok (.iadd, 1) := by decide +kernel
theorem dL_law_106 : decode cL_law 106 = .ok (.iaload, 1) := by decide +kernel
theorem dL_law_107 : decode cL_law 107 = .ok (.invokevirtual 13, 3) := by decide +kernel
theorem dL_law_110 : decode cL_law 110 = .ok (.aload_n 2, 1) := by decide +kernel
theorem dL_law_111 : decode cL_law 111 = .ok (.aload_n 0, 1) := by decide +kernel
theorem dL_law_112 : decode cL_law 112 = .ok (.iload_n 3, 1) := by decide +kernel
theorem dL_law_113 : decode cL_law 113 = .ok (.iconst 1, 1) := by decide +kernel
theorem dL_law_114 : decode cL_law 114 = .ok (.iadd, 1) := by decide +kernel
theorem dL_law_115 : decode cL_law 115 = .ok (.iaload, 1) := by decide +kernel
theorem dL_law_116 : decode cL_law 116 = .ok (.aload_n 0, 1) := by decide +kernel
theorem dL_law_117 : decode cL_law 117 = .ok (.iload_n 3, 1) := by decide +kernel
theorem dL_law_118 : decode cL_law 118 = .ok (.iconst 2, 1) := by decide +kernel
theorem dL_law_119 : decode cL_law 119 = .ok (.iadd, 1) := by decide +kernel
theorem dL_law_120 : decode cL_law 120 = .ok (.iaload, 1) := by decide +kernel
theorem dL_law_121 : decode cL_law 121 = .ok (.invokevirtual 17, 3) := by decide +kernel
theorem dL_law_124 : decode cL_law 124 = .ok (.if_icmp .eq 352, 3) := by decide +kernel
theorem dL_law_127 : decode cL_law 127 = .ok (.iconst 0, 1) := by decide +kernel
theorem dL_law_128 : decode cL_law 128 = .ok (.ireturn, 1) := by decide +kernel
theorem dL_law_129 : decode cL_law 129 = .ok (.aload_n 1, 1) := by decide +kernel
theorem dL_law_130 : decode cL_law 130 = .ok (.aload_n 0, 1) := by decide +kernel
theorem dL_law_131 : decode cL_law 131 = .ok (.iload_n 3, 1) := by decide +kernel
theorem dL_law_132 : decode cL_law 132 = .ok (.iconst 1, 1) := by decide +kernel
theorem dL_law_133 : decode cL_law 133 = .ok (.iadd, 1) := by decide +kernel
theorem dL_law_134 : decode cL_law 134 = .ok (.iaload, 1) := by decide +kernel
theorem dL_law_135 : decode cL_law 135 = .ok (.aload_n 0, 1) := by decide +kernel
theorem dL_law_136 : decode cL_law 136 = .ok (.iload_n 3, 1) := by decide +kernel
theorem dL_law_137 : decode cL_law 137 = .ok (.iconst 2, 1) := by decide +kernel
theorem dL_law_138 : decode cL_law 138 = .ok (.iadd, 1) := by decide +kernel
theorem dL_law_139 : decode cL_law 139 = .ok (.iaload, 1) := by decide +kernel
theorem dL_law_140 : decode cL_law 140 = .ok (.invokevirtual 18, 3) := by decide +kernel
theorem dL_law_143 : decode cL_law 143 = .ok (.aload_n 2, 1) := by decide +kernel
theorem dL_law_144 : decode cL_law 144 = .ok (.aload_n 0, 1) := by decide +kernel
theorem dL_law_145 : decode cL_law 145 = .ok (.iload_n 3, 1) := by decide +kernel
theorem dL_law_146 : decode cL_law 146 = .ok (.iconst 1, 1) := by decide +kernel
theorem dL_law_147 : decode cL_law 147 = .ok (.iadd, 1) := by decide +kernel
theorem dL_law_148 : decode cL_law 148 = .ok (.iaload, 1) := by decide +kernel
theorem dL_law_149 : decode cL_law 149 = .ok (.aload_n 0, 1) := by decide +kernel
theorem dL_law_150 : decode cL_law 150 = .ok (.iload_n 3, 1) := by decide +kernel
theorem dL_law_151 : decode cL_law 151 = .ok (.iconst 2, 1) := by decide +kernel
theorem dL_law_152 : decode cL_law 152 = .ok (.iadd, 1) := by decide +kernel
theorem dL_law_153 : decode cL_law 153 = .ok (.iaload, 1) := by decide +kernel
theorem dL_law_154 : decode cL_law 154 = .ok (.invokevirtual 21, 3) := by decide +kernel
theorem dL_law_157 : decode cL_law 157 = .ok (.if_icmp .eq 319, 3) := by decide +kernel
theorem dL_law_160 : decode cL_law 160 = .ok (.iconst 0, 1) := by decide +kernel
theorem dL_law_161 : decode cL_law 161 = .ok (.ireturn, 1) := by decide +kernel
theorem dL_law_162 : decode cL_law 162 = .ok (.aload_n 1, 1) := by decide +kernel
theorem dL_law_163 : decode cL_law 163 = .ok (.aload_n 0, 1) := by decide +kernel
theorem dL_law_164 : decode cL_law 164 = .ok (.iload_n 3, 1) := by decide +kernel
theorem dL_law_165 : decode cL_law 165 = .ok (.iconst 1, 1) := by decide +kernel
theorem dL_law_166 : decode cL_law 166 = .ok (.iadd, 1) := by decide +kernel
theorem dL_law_167 : decode cL_law 167 = .ok (.iaload, 1) := by decide +kernel
theorem dL_law_168 : decode cL_law 168 = .ok (.aload_n 0, 1) := by decide +kernel
theorem dL_law_169 : decode cL_law 169 = .ok (.iload_n 3, 1) := by decide +kernel
theorem dL_law_170 : decode cL_law 170 = .ok (.iconst 2, 1) := by decide +kernel
theorem dL_law_171 : decode cL_law 171 = .ok (.iadd, 1) := by decide +kernel
theorem dL_law_172 : decode cL_law 172 = .ok (.iaload, 1) := by decide +kernel
theorem dL_law_173 : decode cL_law 173 = .ok (.invokevirtual 22, 3) := by decide +kernel
theorem dL_law_176 : decode cL_law 176 = .ok (.aload_n 2, 1) := by decide +kernel
theorem dL_law_177 : decode cL_law 177 = .ok (.aload_n 0, 1) := by decide +kernel
theorem dL_law_178 : decode cL_law 178 = .ok (.iload_n 3, 1) := by decide +kernel
theorem dL_law_179 : decode cL_law 179 = .ok (.iconst 1, 1) := by decide +kernel
theorem dL_law_180 : decode cL_law 180 = .ok (.iadd, 1) := by decide +kernel
theorem dL_law_181 : decode cL_law 181 = .ok (.iaload, 1) := by decide +kernel
theorem dL_law_182 : decode cL_law 182 = .ok (.aload_n 0, 1) := by decide +kernel
theorem dL_law_183 : decode cL_law 183 = .ok (.iload_n 3, 1) := by decide +kernel
theorem dL_law_184 : decode cL_law 184 = .ok (.iconst 2, 1) := by decide +kernel
theorem dL_law_185 : decode cL_law 185 = .ok (.iadd, 1) := by decide +kernel
theorem dL_law_186 : decode cL_law 186 = .ok (.iaload, 1) := by decide +kernel
theorem dL_law_187 : decode cL_law 187 = .ok (.invokevirtual 25, 3) := by decide +kernel
theorem dL_law_190 : decode cL_law 190 = .ok (.if_icmp .eq 286, 3) := by decide +kernel
theorem dL_law_193 : decode cL_law 193 = .ok (.iconst 0, 1) := by decide +kernel
theorem dL_law_194 : decode cL_law 194 = .ok (.ireturn, 1) := by decide +kernel
theorem dL_law_195 : decode cL_law 195 = .ok (.aload_n 1, 1) := by decide +kernel
end
section
set_option maxRecDepth 100000
theorem dL_law_196 : decode cL_law 196 = .ok (.invokevirtual 26, 3) := by decide +kernel
theorem dL_law_199 : decode cL_law 199 = .ok (.aload_n 2, 1) := by decide +kernel
theorem dL_law_200 : decode cL_law 200 = .ok (.invokevirtual 29, 3) := by decide +kernel
theorem dL_law_203 : decode cL_law 203 = .ok (.goto 273, 3) := by decide +kernel
theorem dL_law_206 : decode cL_law 206 = .ok (.aload_n 1, 1) := by decide +kernel
theorem dL_law_207 : decode cL_law 207 = .ok (.invokevirtual 30, 3) := by decide +kernel
theorem dL_law_210 : decode cL_law 210 = .ok (.aload_n 2, 1) := by decide +kernel
theorem dL_law_211 : decode cL_law 211 = .ok (.invokevirtual 33, 3) := by decide +kernel
theorem dL_law_214 : decode cL_law 214 = .ok (.goto 262, 3) := by decide +kernel
theorem dL_law_217 : decode cL_law 217 = .ok (.aload_n 1, 1) := by decide +kernel
theorem dL_law_218 : decode cL_law 218 = .ok (.aload_n 0, 1) := by decide +kernel
theorem dL_law_219 : decode cL_law 219 = .ok (.iload_n 3, 1) := by decide +kernel
theorem dL_law_220 : decode cL_law 220 = .ok (.iconst 1, 1) := by decide +kernel
theorem dL_law_221 : decode cL_law 221 = .ok (.iadd, 1) := by decide +kernel
theorem dL_law_222 : decode cL_law 222 = .ok (.iaload, 1) := by decide +kernel
theorem dL_law_223 : decode cL_law 223 = .ok (.aload_n 0, 1) := by decide +kernel
theorem dL_law_224 : decode cL_law 224 = .ok (.iload_n 3, 1) := by decide +kernel
theorem dL_law_225 : decode cL_law 225 = .ok (.iconst 2, 1) := by decide +kernel
theorem dL_law_226 : decode cL_law 226 = .ok (.iadd, 1) := by decide +kernel
theorem dL_law_227 : decode cL_law 227 = .ok (.iaload, 1) := by decide +kernel
theorem dL_law_228 : decode cL_law 228 = .ok (.ifCond .eq 7, 3) := by decide +kernel
theorem dL_law_231 : decode cL_law 231 = .ok (.iconst 1, 1) := by decide +kernel
theorem dL_law_232 : decode cL_law 232 = .ok (.goto 4, 3) := by decide +kernel
theorem dL_law_235 : decode cL_law 235 = .ok (.iconst 0, 1) := by decide +kernel
theorem dL_law_236 : decode cL_law 236 = .ok (.invokevirtual 34, 3) := by decide +kernel
theorem dL_law_239 : decode cL_law 239 = .ok (.aload_n 2, 1) := by decide +kernel
theorem dL_law_240 : decode cL_law 240 = .ok (.aload_n 0, 1) := by decide +kernel
theorem dL_law_241 : decode cL_law 241 = .ok (.iload_n 3, 1) := by decide +kernel
theorem dL_law_242 : decode cL_law 242 = .ok (.iconst 1, 1) := by decide +kernel
theorem dL_law_243 : decode cL_law 243 = .ok (.iadd, 1) := by decide +kernel
theorem dL_law_244 : decode cL_law 244 = .ok (.iaload, 1) := by decide +kernel
theorem dL_law_245 : decode cL_law 245 = .ok (.aload_n 0, 1) := by decide +kernel
theorem dL_law_246 : decode cL_law 246 = .ok (.iload_n 3, 1) := by decide +kernel
theorem dL_law_247 : decode cL_law 247 = .ok (.iconst 2, 1) := by decide +kernel
theorem dL_law_248 : decode cL_law 248 = .ok (.iadd, 1) := by decide +kernel
theorem dL_law_249 : decode cL_law 249 = .ok (.iaload, 1) := by decide +kernel
theorem dL_law_250 : decode cL_law 250 = .ok (.ifCond .eq 7, 3) := by decide +kernel
theorem dL_law_253 : decode cL_law 253 = .ok (.iconst 1, 1) := by decide +kernel
theorem dL_law_254 : decode cL_law 254 = .ok (.goto 4, 3) := by decide +kernel
theorem dL_law_257 : decode cL_law 257 = .ok (.iconst 0, 1) := by decide +kernel
theorem dL_law_258 : decode cL_law 258 = .ok (.invokevirtual 38, 3) := by decide +kernel
theorem dL_law_261 : decode cL_law 261 = .ok (.if_icmp .eq 215, 3) := by decide +kernel
theorem dL_law_264 : decode cL_law 264 = .ok (.iconst 0, 1) := by decide +kernel
theorem dL_law_265 : decode cL_law 265 = .ok (.ireturn, 1) := by decide +kernel
theorem dL_law_266 : decode cL_law 266 = .ok (.aload_n 1, 1) := by decide +kernel
theorem dL_law_267 : decode cL_law 267 = .ok (.aload_n 0, 1) := by decide +kernel
theorem dL_law_268 : decode cL_law 268 = .ok (.iload_n 3, 1) := by decide +kernel
theorem dL_law_269 : decode cL_law 269 = .ok (.iconst 1, 1) := by decide +kernel
theorem dL_law_270 : decode cL_law 270 = .ok (.iadd, 1) := by decide +kernel
theorem dL_law_271 : decode cL_law 271 = .ok (.iaload, 1) := by decide +kernel
theorem dL_law_272 : decode cL_law 272 = .ok (.invokevirtual 39, 3) := by decide +kernel
theorem dL_law_275 : decode cL_law 275 = .ok (.aload_n 2, 1) := by decide +kernel
theorem dL_law_276 : decode cL_law 276 = .ok (.aload_n 0, 1) := by decide +kernel
theorem dL_law_277 : decode cL_law 277 = .ok (.iload_n 3, 1) := by decide +kernel
theorem dL_law_278 : decode cL_law 278 = .ok (.iconst 1, 1) := by decide +kernel
theorem dL_law_279 : decode cL_law 279 = .ok (.iadd, 1) := by decide +kernel
theorem dL_law_280 : decode cL_law 280 = .ok (.iaload, 1) := by decide +kernel
theorem dL_law_281 : decode cL_law 281 = .ok (.invokevirtual 43, 3) := by decide +kernel
theorem dL_law_284 : decode cL_law 284 = .ok (.if_icmp .eq 192, 3) := by decide +kernel
theorem dL_law_287 : decode cL_law 287 = .ok (.iconst 0, 1) := by decide +kernel
theorem dL_law_288 : decode cL_law 288 = .ok (.ireturn, 1) := by decide +kernel
theorem dL_law_289 : decode cL_law 289 = .ok (.aload_n 1, 1) := by decide +kernel
theorem dL_law_290 : decode cL_law 290 = .ok (.aload_n 0, 1) := by decide +kernel
theorem dL_law_291 : decode cL_law 291 = .ok (.iload_n 3, 1) := by decide +kernel
theorem dL_law_292 : decode cL_law 292 = .ok (.iconst 1, 1) := by decide +kernel
theorem dL_law_293 : decode cL_law 293 = .ok (.iadd, 1) := by decide +kernel
theorem dL_law_294 : decode cL_law 294 = .ok (.iaload, 1) := by decide +kernel
theorem dL_law_295 : decode cL_law 295 = .ok (.aload_n 0, 1) := by decide +kernel
theorem dL_law_296 : decode cL_law 296 = .ok (.iload_n 3, 1) := by decide +kernel
theorem dL_law_297 : decode cL_law 297 = .ok (.iconst 2, 1) := by decide +kernel
theorem dL_law_298 : decode cL_law 298 = .ok (.iadd, 1) := by decide +kernel
theorem dL_law_299 : decode cL_law 299 = .ok (.iaload, 1) := by decide +kernel
theorem dL_law_300 : decode cL_law 300 = .ok (.invokevirtual 44, 3) := by decide +kernel
theorem dL_law_303 : decode cL_law 303 = .ok (.aload_n 2, 1) := by decide +kernel
theorem dL_law_304 : decode cL_law 304 = .ok (.aload_n 0, 1) := by decide +kernel
theorem dL_law_305 : decode cL_law 305 = .ok (.iload_n 3, 1) := by decide +kernel
theorem dL_law_306 : decode cL_law 306 = .ok (.iconst 1, 1) := by decide +kernel
theorem dL_law_307 : decode cL_law 307 = .ok (.iadd, 1) := by decide +kernel
theorem dL_law_308 : decode cL_law 308 = .ok (.iaload, 1) := by decide +kernel
theorem dL_law_309 : decode cL_law 309 = .ok (.aload_n 0, 1) := by decide +kernel
theorem dL_law_310 : decode cL_law 310 = .ok (.iload_n 3, 1) := by decide +kernel
theorem dL_law_311 : decode cL_law 311 = .ok (.iconst 2, 1) := by decide +kernel
theorem dL_law_312 : decode cL_law 312 = .ok (.iadd, 1) := by decide +kernel
theorem dL_law_313 : decode cL_law 313 = .ok (.iaload, 1) := by decide +kernel
theorem dL_law_314 : decode cL_law 314 = .ok (.invokevirtual 47, 3) := by decide +kernel
theorem dL_law_317 : decode cL_law 317 = .ok (.if_icmp .eq 159, 3) := by decide +kernel
theorem dL_law_320 : decode cL_law 320 = .ok (.iconst 0, 1) := by decide +kernel
theorem dL_law_321 : decode cL_law 321 = .ok (.ireturn, 1) := by decide +kernel
theorem dL_law_322 : decode cL_law 322 = .ok (.aload_n 1, 1) := by decide +kernel
theorem dL_law_323 : decode cL_law 323 = .ok (.aload_n 0, 1) := by decide +kernel
theorem dL_law_324 : decode cL_law 324 = .ok (.iload_n 3, 1) := by decide +kernel
theorem dL_law_325 : decode cL_law 325 = .ok (.iconst 1, 1) := by decide +kernel
theorem dL_law_326 : decode cL_law 326 = .ok (.iadd, 1) := by decide +kernel
theorem dL_law_327 : decode cL_law 327 = .ok (.iaload, 1) := by decide +kernel
theorem dL_law_328 : decode cL_law 328 = .ok (.aload_n 0, 1) := by decide +kernel
theorem dL_law_329 : decode cL_law 329 = .ok (.iload_n 3, 1) := by decide +kernel
theorem dL_law_330 : decode cL_law 330 = .ok (.iconst 2, 1) := by decide +kernel
theorem dL_law_331 : decode cL_law 331 = .ok (.iadd, 1) := by decide +kernel
theorem dL_law_332 : decode cL_law 332 = .ok (.iaload, 1) := by decide +kernel
theorem dL_law_333 : decode cL_law 333 = .ok (.aload_n 0, 1) := by decide +kernel
theorem dL_law_334 : decode cL_law 334 = .ok (.iload_n 3, 1) := by decide +kernel
theorem dL_law_335 : decode cL_law 335 = .ok (.iconst 3, 1) := by decide +kernel
theorem dL_law_336 : decode cL_law 336 = .ok (.iadd, 1) := by decide +kernel
theorem dL_law_337 : decode cL_law 337 = .ok (.iaload, 1) := by decide +kernel
end
section
set_option maxRecDepth 100000
theorem dL_law_338 : decode cL_law 338 = .ok (.ifCond .eq 7, 3) := by decide +kernel
theorem dL_law_341 : decode cL_law 341 = .ok (.iconst 1, 1) := by decide +kernel
theorem dL_law_342 : decode cL_law 342 = .ok (.goto 4, 3) := by decide +kernel
theorem dL_law_345 : decode cL_law 345 = .ok (.iconst 0, 1) := by decide +kernel
theorem dL_law_346 : decode cL_law 346 = .ok (.invokevirtual 48, 3) := by decide +kernel
theorem dL_law_349 : decode cL_law 349 = .ok (.aload_n 2, 1) := by decide +kernel
theorem dL_law_350 : decode cL_law 350 = .ok (.aload_n 0, 1) := by decide +kernel
theorem dL_law_351 : decode cL_law 351 = .ok (.iload_n 3, 1) := by decide +kernel
theorem dL_law_352 : decode cL_law 352 = .ok (.iconst 1, 1) := by decide +kernel
theorem dL_law_353 : decode cL_law 353 = .ok (.iadd, 1) := by decide +kernel
theorem dL_law_354 : decode cL_law 354 = .ok (.iaload, 1) := by decide +kernel
theorem dL_law_355 : decode cL_law 355 = .ok (.aload_n 0, 1) := by decide +kernel
theorem dL_law_356 : decode cL_law 356 = .ok (.iload_n 3, 1) := by decide +kernel
theorem dL_law_357 : decode cL_law 357 = .ok (.iconst 2, 1) := by decide +kernel
theorem dL_law_358 : decode cL_law 358 = .ok (.iadd, 1) := by decide +kernel
theorem dL_law_359 : decode cL_law 359 = .ok (.iaload, 1) := by decide +kernel
theorem dL_law_360 : decode cL_law 360 = .ok (.aload_n 0, 1) := by decide +kernel
theorem dL_law_361 : decode cL_law 361 = .ok (.iload_n 3, 1) := by decide +kernel
theorem dL_law_362 : decode cL_law 362 = .ok (.iconst 3, 1) := by decide +kernel
theorem dL_law_363 : decode cL_law 363 = .ok (.iadd, 1) := by decide +kernel
theorem dL_law_364 : decode cL_law 364 = .ok (.iaload, 1) := by decide +kernel
theorem dL_law_365 : decode cL_law 365 = .ok (.ifCond .eq 7, 3) := by decide +kernel
theorem dL_law_368 : decode cL_law 368 = .ok (.iconst 1, 1) := by decide +kernel
theorem dL_law_369 : decode cL_law 369 = .ok (.goto 4, 3) := by decide +kernel
theorem dL_law_372 : decode cL_law 372 = .ok (.iconst 0, 1) := by decide +kernel
theorem dL_law_373 : decode cL_law 373 = .ok (.invokevirtual 52, 3) := by decide +kernel
theorem dL_law_376 : decode cL_law 376 = .ok (.if_icmp .eq 100, 3) := by decide +kernel
theorem dL_law_379 : decode cL_law 379 = .ok (.iconst 0, 1) := by decide +kernel
theorem dL_law_380 : decode cL_law 380 = .ok (.ireturn, 1) := by decide +kernel
theorem dL_law_381 : decode cL_law 381 = .ok (.aload_n 1, 1) := by decide +kernel
theorem dL_law_382 : decode cL_law 382 = .ok (.aload_n 0, 1) := by decide +kernel
theorem dL_law_383 : decode cL_law 383 = .ok (.iload_n 3, 1) := by decide +kernel
theorem dL_law_384 : decode cL_law 384 = .ok (.iconst 1, 1) := by decide +kernel
theorem dL_law_385 : decode cL_law 385 = .ok (.iadd, 1) := by decide +kernel
theorem dL_law_386 : decode cL_law 386 = .ok (.iaload, 1) := by decide +kernel
theorem dL_law_387 : decode cL_law 387 = .ok (.ifCond .eq 7, 3) := by decide +kernel
theorem dL_law_390 : decode cL_law 390 = .ok (.iconst 1, 1) := by decide +kernel
theorem dL_law_391 : decode cL_law 391 = .ok (.goto 4, 3) := by decide +kernel
theorem dL_law_394 : decode cL_law 394 = .ok (.iconst 0, 1) := by decide +kernel
theorem dL_law_395 : decode cL_law 395 = .ok (.invokevirtual 53, 3) := by decide +kernel
theorem dL_law_398 : decode cL_law 398 = .ok (.aload_n 2, 1) := by decide +kernel
theorem dL_law_399 : decode cL_law 399 = .ok (.aload_n 0, 1) := by decide +kernel
theorem dL_law_400 : decode cL_law 400 = .ok (.iload_n 3, 1) := by decide +kernel
theorem dL_law_401 : decode cL_law 401 = .ok (.iconst 1, 1) := by decide +kernel
theorem dL_law_402 : decode cL_law 402 = .ok (.iadd, 1) := by decide +kernel
theorem dL_law_403 : decode cL_law 403 = .ok (.iaload, 1) := by decide +kernel
theorem dL_law_404 : decode cL_law 404 = .ok (.ifCond .eq 7, 3) := by decide +kernel
theorem dL_law_407 : decode cL_law 407 = .ok (.iconst 1, 1) := by decide +kernel
theorem dL_law_408 : decode cL_law 408 = .ok (.goto 4, 3) := by decide +kernel
theorem dL_law_411 : decode cL_law 411 = .ok (.iconst 0, 1) := by decide +kernel
theorem dL_law_412 : decode cL_law 412 = .ok (.invokevirtual 57, 3) := by decide +kernel
theorem dL_law_415 : decode cL_law 415 = .ok (.if_icmp .eq 61, 3) := by decide +kernel
theorem dL_law_418 : decode cL_law 418 = .ok (.iconst 0, 1) := by decide +kernel
theorem dL_law_419 : decode cL_law 419 = .ok (.ireturn, 1) := by decide +kernel
theorem dL_law_420 : decode cL_law 420 = .ok (.aload_n 1, 1) := by decide +kernel
theorem dL_law_421 : decode cL_law 421 = .ok (.aload_n 0, 1) := by decide +kernel
theorem dL_law_422 : decode cL_law 422 = .ok (.iload_n 3, 1) := by decide +kernel
theorem dL_law_423 : decode cL_law 423 = .ok (.iconst 1, 1) := by decide +kernel
theorem dL_law_424 : decode cL_law 424 = .ok (.iadd, 1) := by decide +kernel
theorem dL_law_425 : decode cL_law 425 = .ok (.iaload, 1) := by decide +kernel
theorem dL_law_426 : decode cL_law 426 = .ok (.aload_n 0, 1) := by decide +kernel
theorem dL_law_427 : decode cL_law 427 = .ok (.iload_n 3, 1) := by decide +kernel
theorem dL_law_428 : decode cL_law 428 = .ok (.iconst 2, 1) := by decide +kernel
theorem dL_law_429 : decode cL_law 429 = .ok (.iadd, 1) := by decide +kernel
theorem dL_law_430 : decode cL_law 430 = .ok (.iaload, 1) := by decide +kernel
theorem dL_law_431 : decode cL_law 431 = .ok (.invokevirtual 58, 3) := by decide +kernel
theorem dL_law_434 : decode cL_law 434 = .ok (.aload_n 2, 1) := by decide +kernel
theorem dL_law_435 : decode cL_law 435 = .ok (.aload_n 0, 1) := by decide +kernel
theorem dL_law_436 : decode cL_law 436 = .ok (.iload_n 3, 1) := by decide +kernel
theorem dL_law_437 : decode cL_law 437 = .ok (.iconst 1, 1) := by decide +kernel
theorem dL_law_438 : decode cL_law 438 = .ok (.iadd, 1) := by decide +kernel
theorem dL_law_439 : decode cL_law 439 = .ok (.iaload, 1) := by decide +kernel
theorem dL_law_440 : decode cL_law 440 = .ok (.aload_n 0, 1) := by decide +kernel
theorem dL_law_441 : decode cL_law 441 = .ok (.iload_n 3, 1) := by decide +kernel
theorem dL_law_442 : decode cL_law 442 = .ok (.iconst 2, 1) := by decide +kernel
theorem dL_law_443 : decode cL_law 443 = .ok (.iadd, 1) := by decide +kernel
theorem dL_law_444 : decode cL_law 444 = .ok (.iaload, 1) := by decide +kernel
theorem dL_law_445 : decode cL_law 445 = .ok (.invokevirtual 61, 3) := by decide +kernel
theorem dL_law_448 : decode cL_law 448 = .ok (.if_icmp .eq 28, 3) := by decide +kernel
theorem dL_law_451 : decode cL_law 451 = .ok (.iconst 0, 1) := by decide +kernel
theorem dL_law_452 : decode cL_law 452 = .ok (.ireturn, 1) := by decide +kernel
theorem dL_law_453 : decode cL_law 453 = .ok (.aload_n 1, 1) := by decide +kernel
theorem dL_law_454 : decode cL_law 454 = .ok (.aload_n 0, 1) := by decide +kernel
theorem dL_law_455 : decode cL_law 455 = .ok (.iload_n 3, 1) := by decide +kernel
theorem dL_law_456 : decode cL_law 456 = .ok (.iconst 1, 1) := by decide +kernel
theorem dL_law_457 : decode cL_law 457 = .ok (.iadd, 1) := by decide +kernel
theorem dL_law_458 : decode cL_law 458 = .ok (.iaload, 1) := by decide +kernel
theorem dL_law_459 : decode cL_law 459 = .ok (.invokevirtual 62, 3) := by decide +kernel
theorem dL_law_462 : decode cL_law 462 = .ok (.aload_n 2, 1) := by decide +kernel
theorem dL_law_463 : decode cL_law 463 = .ok (.aload_n 0, 1) := by decide +kernel
theorem dL_law_464 : decode cL_law 464 = .ok (.iload_n 3, 1) := by decide +kernel
theorem dL_law_465 : decode cL_law 465 = .ok (.iconst 1, 1) := by decide +kernel
theorem dL_law_466 : decode cL_law 466 = .ok (.iadd, 1) := by decide +kernel
theorem dL_law_467 : decode cL_law 467 = .ok (.iaload, 1) := by decide +kernel
theorem dL_law_468 : decode cL_law 468 = .ok (.invokevirtual 65, 3) := by decide +kernel
theorem dL_law_471 : decode cL_law 471 = .ok (.if_icmp .eq 5, 3) := by decide +kernel
theorem dL_law_474 : decode cL_law 474 = .ok (.iconst 0, 1) := by decide +kernel
theorem dL_law_475 : decode cL_law 475 = .ok (.ireturn, 1) := by decide +kernel
theorem dL_law_476 : decode cL_law 476 = .ok (.iinc 3 4, 3) := by decide +kernel
theorem dL_law_479 : decode cL_law 479 = .ok (.goto (-461), 3) := by decide +kernel
theorem dL_law_482 : decode cL_law 482 = .ok (.iconst 1, 1) := by decide +kernel
theorem dL_law_483 : decode cL_law 483 = .ok (.ireturn, 1) := by decide +kernel
end
section
/-! the world of the two objects, contracts over it, and rows for calls, returns, arrays, fields -/
set_option maxRecDepth 100000
abbrev vwCl : List vw_C := [(RX0, TX0, 11), (RX1, TX1, 6)]
abbrev zR (f q : Nat) : Room := { frames := f, cells := 0, slots := 0, locals := q }
/-- PolygonFill's cells: the object at h, its arrays at a 0 .. a 7 -/
def wX (h : Nat) (a : Nat → Nat) (d : ClassId) (n c k : Nat) (fi xs ys col tp bt wy cv : Nat → Int32) : va_W :=
  [(h, .inr (0, [.ref (a 0), .int (nI n), .int (nI c), .ref (a 1), .ref (a 2), .ref (a 3), .int (nI k), .ref (a 4), .ref (a 5), .ref (a 6), .ref (a 7)])),
   (a 0, .inl (d, 256, .inl col)), (a 1, .inl (d, 5, .inl fi)), (a 2, .inl (d, 12, .inl xs)), (a 3, .inl (d, 12, .inl ys)),
   (a 4, .inl (d, 12, .inl tp)), (a 5, .inl (d, 12, .inl bt)), (a 6, .inl (d, 12, .inl wy)), (a 7, .inl (d, 256, .inl cv))]
/-- PolygonFillModel's cells: the object at h, its arrays at a 0 .. a 3 -/
def wM (h : Nat) (a : Nat → Nat) (d : ClassId) (n c : Nat) (fi xs ys col : Nat → Int32) : va_W :=
  [(h, .inr (1, [.int (nI c), .int (nI n), .ref (a 0), .ref (a 1), .ref (a 2), .ref (a 3)])),
   (a 0, .inl (d, 12, .inl xs)), (a 1, .inl (d, 12, .inl ys)), (a 2, .inl (d, 5, .inl fi)), (a 3, .inl (d, 256, .inl col))]
def zP (D : va_G) (d : ClassId) (sz : Nat) (w : va_W) (U : State) : Prop := U.heap.size = sz ∧ va_P D vwCl w U.heap ∧ va_K D vwCl [(d, .int)] U ∧ va_D (fun _ => True) w
def zB (D : va_G) (d : ClassId) (A : Nat → Prop) (w : va_W) (t : State) : Prop := va_P D vwCl w t.heap ∧ va_K D vwCl [(d, .int)] t ∧ va_D A w
/-- a void method's contract: world w before, w' u behind, with post u -/
def zV (l : Launch) (D : va_G) (d : ClassId) (y : MethodName) (cc : ByteArray) (L : Nat) (rm : Room) (av : List Value) (sz : Nat) (w : va_W) {S : Type} (post : S → Prop) (w' : S → va_W) : Prop :=
  Met l y (ws_ y cc L none) rm (va_Pc av (zP D d sz w)) (va_Qv post (fun u => zB D d (va_A w sz) (w' u)) (va_A w sz)) 0 0 (va_A w sz)
/-- the contract of a method that answers an int or a boolean -/
def zI (l : Launch) (D : va_G) (d : ClassId) (y : MethodName) (cc : ByteArray) (L : Nat) (ret : FieldType) (rm : Room) (av : List Value) (sz : Nat) (w : va_W) {S : Type} (post : Int32 → S → Prop) (w' : S → va_W) : Prop :=
  Met l y (ws_ y cc L (some ret)) rm (va_Pc av (zP D d sz w)) (va_Qi post (fun u => zB D d (va_A w sz) (w' u)) (va_A w sz)) 0 0 (va_A w sz)
theorem z_blind (av : List Value) (D : va_G) (d : ClassId) (sz : Nat) (w : va_W) : FrameBlind (va_Pc av (zP D d sz w)) := fun a U g mk q => by
  obtain ⟨q0, q1, qP, qK, qD⟩ := q
  exact ⟨q0, q1, qP, va_K.moved (u := U) (U := U.calling g mk a) (Vm.Alike.refl U.vm) qK, qD⟩
theorem z_startV {l : Launch} {D : va_G} {d : ClassId} {y : MethodName} {cc : ByteArray} {L : Nat} {rm : Room} {av : List Value} {sz : Nat} {w : va_W} {S : Type} {post : S → Prop} {w' : S → va_W} (hy : plainName y.cls = true) (hL : (lg_sl av).length ≤ L)
    (body : ∀ (p : Program) (e : Env) (s : State) (m : MethodId) (args : Array Value) (below : List Frame) (meth : Method) (c : Code) (A : Nat → Prop) (Q : State → Prop) (ls : Array Slot), p.tables.exec = Jvm.exec → c.code = cc → c.maxLocals = L → s.vm.findClass y.cls = some m.cls → (∀ w ∈ lw_all, w.before args s = true) → (∀ q : Nat, s.heap.size ≤ q → A q) → va_K D vwCl [(d, .int)] s → va_P D vwCl w s.heap → va_D A w → va_S A s.heap s.heap [] →
      (∀ (u : S) (H : Heap) (locs : List Loc) (pc : Nat) (ls : Array Slot), va_P D vwCl (w' u) H → va_D A (w' u) → va_S A s.heap H locs → post u → decode cc pc = .ok (.return_, 1) → W p l e rm s m args below meth c H locs 0 0 Q (F0 m pc ls [])) →
      lv_has ls L (lv_args 0 av) → W p l e rm s m args below meth c s.heap [] 0 0 Q (F0 m 0 ls [])) : zV l D d y cc L rm av sz w post w' := by
  refine Met.ofW (cc := cc) (maxL := L) (ret := none) hy rfl ?_
  intro p e s m args below meth c s₁ B hml hv
  obtain ⟨rfl, hsz, hP, hK, hD0⟩ := hv
  have hx := B.exec
  have hb := B.bytes
  have hr := B.returns
  have hlocks := B.notSynchronized
  have hts := atoms_spec (ws := ws_ y cc L none) B.pre
  have hts : ∀ w ∈ lw_all, w.before _ s = true := fun w h => hts w (List.mem_cons_of_mem _ h)
  have hown : s.vm.findClass y.cls = some m.cls := findClass_of_methodNamed B.named
  subst hsz
  have hl := lv_entry av (n := L) hL
  rw [lg_entry_eq]
  refine body p e s m _ below meth c (va_A w s.heap.size) _ _ hx hb hml hown hts (fun q h => Or.inr h) hK hP (hD0.self) va_S.rf ?_ hl
  intro u H locs pc ls hP hD hS hu hdg
  exact W.vret hx hb hr (fun t ht hW => ⟨⟨u, rfl, hu, by rw [ht]; exact hP, va_K.moved hW.alike hK, hD⟩, hS.F ht⟩) hS.2.2 hdg hlocks
theorem z_startI {l : Launch} {D : va_G} {d : ClassId} {y : MethodName} {cc : ByteArray} {L : Nat} {rm : Room} {av : List Value} {sz : Nat} {w : va_W} {S : Type} {post : Int32 → S → Prop} {w' : S → va_W} (hy : plainName y.cls = true) (hL : (lg_sl av).length ≤ L)
    (body : ∀ (p : Program) (e : Env) (s : State) (m : MethodId) (args : Array Value) (below : List Frame) (meth : Method) (c : Code) (A : Nat → Prop) (Q : State → Prop) (ls : Array Slot), p.tables.exec = Jvm.exec → c.code = cc → c.maxLocals = L → s.vm.findClass y.cls = some m.cls → (∀ w ∈ lw_all, w.before args s = true) → (∀ q : Nat, s.heap.size ≤ q → A q) → va_K D vwCl [(d, .int)] s → va_P D vwCl w s.heap → va_D A w → va_S A s.heap s.heap [] →
      (∀ (v : Int32) (u : S) (H : Heap) (locs : List Loc) (pc : Nat) (ls : Array Slot), va_P D vwCl (w' u) H → va_D A (w' u) → va_S A s.heap H locs → post v u → decode cc pc = .ok (.ireturn, 1) → W p l e rm s m args below meth c H locs 0 0 Q (F0 m pc ls [.int v])) →
      lv_has ls L (lv_args 0 av) → W p l e rm s m args below meth c s.heap [] 0 0 Q (F0 m 0 ls [])) : zI l D d y cc L .int rm av sz w post w' := by
  refine Met.ofW (cc := cc) (maxL := L) (ret := some .int) hy rfl ?_
  intro p e s m args below meth c s₁ B hml hv
  obtain ⟨rfl, hsz, hP, hK, hD0⟩ := hv
  have hx := B.exec
  have hb := B.bytes
  have hr := B.returns
  have hlocks := B.notSynchronized
  have hts := atoms_spec (ws := ws_ y cc L (some .int)) B.pre
  have hts : ∀ w ∈ lw_all, w.before _ s = true := fun w h => hts w (List.mem_cons_of_mem _ h)
  have hown : s.vm.findClass y.cls = some m.cls := findClass_of_methodNamed B.named
  subst hsz
  have hl := lv_entry av (n := L) hL
  rw [lg_entry_eq]
  refine body p e s m _ below meth c (va_A w s.heap.size) _ _ hx hb hml hown hts (fun q h => Or.inr h) hK hP (hD0.self) va_S.rf ?_ hl
  intro v u H locs pc ls hP hD hS hu hdg
  exact W.iret hx hb hr (fun t ht hW => ⟨⟨v, u, rfl, hu, by rw [ht]; exact hP, va_K.moved hW.alike hK, hD⟩, hS.F ht⟩) hS.2.2 hdg hlocks
/-- a method that answers a boolean: each answer is 0 or 1 -/
theorem z_startZ {l : Launch} {D : va_G} {d : ClassId} {y : MethodName} {cc : ByteArray} {L : Nat} {rm : Room} {av : List Value} {sz : Nat} {w : va_W} {S : Type} {post : Int32 → S → Prop} {w' : S → va_W} (hy : plainName y.cls = true) (hL : (lg_sl av).length ≤ L)
    (body : ∀ (p : Program) (e : Env) (s : State) (m : MethodId) (args : Array Value) (below : List Frame) (meth : Method) (c : Code) (A : Nat → Prop) (Q : State → Prop) (ls : Array Slot), p.tables.exec = Jvm.exec → c.code = cc → c.maxLocals = L → s.vm.findClass y.cls = some m.cls → (∀ w ∈ lw_all, w.before args s = true) → (∀ q : Nat, s.heap.size ≤ q → A q) → va_K D vwCl [(d, .int)] s → va_P D vwCl w s.heap → va_D A w → va_S A s.heap s.heap [] →
      (∀ (v : Int32) (u : S) (H : Heap) (locs : List Loc) (pc : Nat) (ls : Array Slot), va_P D vwCl (w' u) H → va_D A (w' u) → va_S A s.heap H locs → post v u → decode cc pc = .ok (.ireturn, 1) → v = 0 ∨ v = 1 → W p l e rm s m args below meth c H locs 0 0 Q (F0 m pc ls [.int v])) →
      lv_has ls L (lv_args 0 av) → W p l e rm s m args below meth c s.heap [] 0 0 Q (F0 m 0 ls [])) : zI l D d y cc L .boolean rm av sz w post w' := by
  refine Met.ofW (cc := cc) (maxL := L) (ret := some .boolean) hy rfl ?_
  intro p e s m args below meth c s₁ B hml hv
  obtain ⟨rfl, hsz, hP, hK, hD0⟩ := hv
  have hx := B.exec
  have hb := B.bytes
  have hr := B.returns
  have hlocks := B.notSynchronized
  have hts := atoms_spec (ws := ws_ y cc L (some .boolean)) B.pre
  have hts : ∀ w ∈ lw_all, w.before _ s = true := fun w h => hts w (List.mem_cons_of_mem _ h)
  have hown : s.vm.findClass y.cls = some m.cls := findClass_of_methodNamed B.named
  subst hsz
  have hl := lv_entry av (n := L) hL
  rw [lg_entry_eq]
  refine body p e s m _ below meth c (va_A w s.heap.size) _ _ hx hb hml hown hts (fun q h => Or.inr h) hK hP (hD0.self) va_S.rf ?_ hl
  intro v u H locs pc ls hP hD hS hu hdg h01
  exact W.zret hx hb hr (by rcases h01 with rfl | rfl <;> rfl) (fun t ht hW => ⟨⟨v, u, rfl, hu, by rw [ht]; exact hP, va_K.moved hW.alike hK, hD⟩, hS.F ht⟩) hS.2.2 hdg hlocks
section ZC
variable {p : Program} {l : Launch} {e : Env} {R : Room} {s : State} {m : MethodId} {args : Array Value} {below : List Frame} {meth : Method} {c : Code} {H : Heap} {locs : List Loc} {cells slots : Nat} {Q : State → Prop}
variable {cc : ByteArray} {pc : Nat} {ls : Array Slot} {rest st0 : List Value} {D : va_G} {d : ClassId} {A : Nat → Prop} {w : va_W} {S : Type} {y : MethodName} {bytes : ByteArray} {maxL nL n index : Nat} {rm : Room} {own C : String} {b : Addr} {As : List Value}
theorem z_F (hA : ∀ q : Nat, s.heap.size ≤ q → A q) (hD : va_D A w) (hS : va_S A s.heap H locs) : ∀ q, va_A w H.size q → A q := by
  intro q h
  rcases h with ⟨k, e, h⟩ | h
  · exact hD.2 k (q, e) h
  · exact hA q (Nat.le_trans hS.1 h)
/-- a void call on the whole world -/
theorem z_callV {post : S → Prop} {w' : S → va_W} (hx : p.tables.exec = Jvm.exec) (hb : c.code = cc) (hml : c.maxLocals = nL) (hown : s.vm.findClass own = some m.cls) (hts : ∀ w ∈ lw_all, w.before args s = true) (hA : ∀ q : Nat, s.heap.size ≤ q → A q) (hK : va_K D vwCl [(d, .int)] s) (hP : va_P D vwCl w H) (hD : va_D A w) (hS : va_S A s.heap H locs)
    (hM : zV l D d y bytes maxL rm (.ref b :: As) H.size w post w') (cw : CallW R s args own C index y bytes maxL none (ws_ y bytes maxL none) rm 0 0 n) (hrecv : ∃ cell : Cell, H[b]? = some cell ∧ cell.vm.isStatics = false ∧ s.vm.findClass C = some cell.cls) (hn : As.length = n) (hsize : ls.size = nL) (hst : st0 = As.reverse ++ .ref b :: rest) (hroom : (rest.map fun v => v.category).sum ≤ 8) (hdg : decode cc pc = .ok (.invokevirtual index, 3)) (hcl : cells ≤ R.cells) (hsl : slots ≤ R.slots)
    (kk : ∀ (u : S) (H1 : Heap) (locs1 : List Loc), post u → va_P D vwCl (w' u) H1 → va_D A (w' u) → va_S A s.heap H1 locs1 → W p l e R s m args below meth c H1 locs1 cells slots Q (F0 m (pc + 3) ls rest)) : W p l e R s m args below meth c H locs cells slots Q (F0 m pc ls st0) := by
  have hF := z_F hA hD hS
  refine va_callv (va_runV (As := As) (rest := rest) ⟨hx, hb, hml, hown, hts⟩ hM cw ⟨z_blind _ _ _ _ _, hrecv, fun U hU hW => ⟨rfl, by rw [hU], by rw [hU]; exact hP, va_K.moved hW.alike hK, hD.weaken (fun _ _ _ _ => trivial)⟩⟩ rfl hn hsize hst (lv_room hroom) hdg ⟨hcl, hsl⟩) hS (fun q _ h => hF q h) hF (fun u t H1 locs1 ht hvm hpost hB hz hk hS1 => ?_)
  obtain ⟨hP1, hK1, hD1⟩ := hB
  rw [ht] at hP1
  exact kk u H1 locs1 hpost hP1 (hD1.weaken (fun k q _ h => hF q.1 h)) hS1
/-- a call on the whole world that answers an int -/
theorem z_callI {ret : FieldType} {post : Int32 → S → Prop} {w' : S → va_W} (hx : p.tables.exec = Jvm.exec) (hb : c.code = cc) (hml : c.maxLocals = nL) (hown : s.vm.findClass own = some m.cls) (hts : ∀ w ∈ lw_all, w.before args s = true) (hA : ∀ q : Nat, s.heap.size ≤ q → A q) (hK : va_K D vwCl [(d, .int)] s) (hP : va_P D vwCl w H) (hD : va_D A w) (hS : va_S A s.heap H locs)
    (hM : zI l D d y bytes maxL ret rm (.ref b :: As) H.size w post w') (cw : CallW R s args own C index y bytes maxL (some ret) (ws_ y bytes maxL (some ret)) rm 0 0 n) (hrecv : ∃ cell : Cell, H[b]? = some cell ∧ cell.vm.isStatics = false ∧ s.vm.findClass C = some cell.cls) (hn : As.length = n) (hsize : ls.size = nL) (hst : st0 = As.reverse ++ .ref b :: rest) (hroom : (rest.map fun v => v.category).sum ≤ 8) (hdg : decode cc pc = .ok (.invokevirtual index, 3)) (hcl : cells ≤ R.cells) (hsl : slots ≤ R.slots)
    (kk : ∀ (r : Int32) (u : S) (H1 : Heap) (locs1 : List Loc), post r u → va_P D vwCl (w' u) H1 → va_D A (w' u) → va_S A s.heap H1 locs1 → W p l e R s m args below meth c H1 locs1 cells slots Q (F0 m (pc + 3) ls (.int r :: rest))) : W p l e R s m args below meth c H locs cells slots Q (F0 m pc ls st0) := by
  have hF := z_F hA hD hS
  refine va_calli (va_runV (As := As) (rest := rest) ⟨hx, hb, hml, hown, hts⟩ hM cw ⟨z_blind _ _ _ _ _, hrecv, fun U hU hW => ⟨rfl, by rw [hU], by rw [hU]; exact hP, va_K.moved hW.alike hK, hD.weaken (fun _ _ _ _ => trivial)⟩⟩ rfl hn hsize hst (lv_room hroom) hdg ⟨hcl, hsl⟩) hS (fun q _ h => hF q h) hF (fun r u t H1 locs1 ht hvm hpost hB hz hk hS1 => ?_)
  obtain ⟨hP1, hK1, hD1⟩ := hB
  rw [ht] at hP1
  exact kk r u H1 locs1 hpost hP1 (hD1.weaken (fun k q _ h => hF q.1 h)) hS1
/-- what a call that touches none of the old cells leaves of a world -/
theorem z_keep {H1 : Heap} {w2 : va_W} (hP : va_P D vwCl w2 H) (hX : ∀ (j : Nat) (q : Nat × va_E), w2[j]? = some q → ∀ (i : Nat) (r : Nat × va_E), w[i]? = some r → r.1 ≠ q.1) (hk : ∀ q : Nat, q < H.size → ¬ va_A w H.size q → H1[q]? = H[q]?) : va_P D vwCl w2 H1 := by
  refine hP.kept (fun k q hq => hk q.1 ((hP k q hq).lt) (fun h => ?_))
  rcases h with ⟨i, e, h⟩ | h
  · exact hX k q hq i (q.1, e) h rfl
  · exact absurd ((hP k q hq).lt) (Nat.not_lt.mpr h)
/-- a static call that needs no cells and answers an int -/
theorem z_callS {ret : FieldType} {post : Int32 → S → Prop} (hx : p.tables.exec = Jvm.exec) (hb : c.code = cc) (hml : c.maxLocals = nL) (hown : s.vm.findClass own = some m.cls) (hts : ∀ w ∈ lw_all, w.before args s = true) (hA : ∀ q : Nat, s.heap.size ≤ q → A q) (hK : va_K D vwCl [(d, .int)] s) (hP : va_P D vwCl w H) (hS : va_S A s.heap H locs)
    (hM : zI l D d y bytes maxL ret rm As H.size [] post (fun _ => [])) (cw : CallB R s args own index y bytes maxL (some ret) (ws_ y bytes maxL (some ret)) rm 0 0 n ∧ (Cond.static y).before args s = true) (hn : As.length = n) (hsize : ls.size = nL) (hst : st0 = As.reverse ++ rest) (hroom : (rest.map fun v => v.category).sum ≤ 8) (hdg : decode cc pc = .ok (.invokestatic index, 3)) (hcl : cells ≤ R.cells) (hsl : slots ≤ R.slots)
    (kk : ∀ (r : Int32) (u : S) (H1 : Heap) (locs1 : List Loc), post r u → va_P D vwCl w H1 → va_S A s.heap H1 locs1 → W p l e R s m args below meth c H1 locs1 cells slots Q (F0 m (pc + 3) ls (.int r :: rest))) : W p l e R s m args below meth c H locs cells slots Q (F0 m pc ls st0) := by
  have hP0 : va_P D vwCl [] H := fun k q h => by simp at h
  have hD0 : ∀ A : Nat → Prop, va_D A [] := fun A => ⟨fun i j p q h => by simp at h, fun k q h => by simp at h⟩
  have hF : ∀ q, va_A [] H.size q → A q := z_F hA (hD0 A) hS
  refine va_calli (va_runS (As := As) (rest := rest) ⟨hx, hb, hml, hown, hts⟩ hM cw ⟨z_blind _ _ _ _ _, fun U hU hW => ⟨rfl, by rw [hU], by rw [hU]; exact hP0, va_K.moved hW.alike hK, hD0 _⟩⟩ rfl hn hsize hst (lv_room hroom) hdg ⟨hcl, hsl⟩) hS (fun q _ h => hF q h) hF (fun r u t H1 locs1 ht hvm hpost hB hz hk hS1 => ?_)
  exact kk r u H1 locs1 hpost (z_keep hP (fun j q _ i r h => by simp at h) hk) hS1
/-- two worlds apart -/
def zX (w w2 : va_W) : Prop := ∀ (i j : Nat) (p q : Nat × va_E), w[i]? = some p → w2[j]? = some q → p.1 ≠ q.1
theorem zX.symm {w w2 : va_W} (h : zX w w2) : zX w2 w := fun i j p q hp hq e => h j i q p hq hp e.symm
theorem zX.of {w w2 w1 : va_W} {H : Heap} (h : zX w w2) (hP : va_P D vwCl w2 H) (hD : va_D (va_A w H.size) w1) : zX w1 w2 := by
  intro i j p q hp hq e
  rcases hD.2 i p hp with ⟨k, x, hk⟩ | hk
  · exact h k j (p.1, x) q hk hq e
  · exact absurd ((hP j q hq).lt) (by omega)
/-- a call on one of two worlds: the other stays -/
theorem z_callVF {w2 : va_W} {post : S → Prop} {w' : S → va_W} (hx : p.tables.exec = Jvm.exec) (hb : c.code = cc) (hml : c.maxLocals = nL) (hown : s.vm.findClass own = some m.cls) (hts : ∀ w ∈ lw_all, w.before args s = true) (hA : ∀ q : Nat, s.heap.size ≤ q → A q) (hK : va_K D vwCl [(d, .int)] s) (hP : va_P D vwCl w H) (hD : va_D A w) (hS : va_S A s.heap H locs) (hP2 : va_P D vwCl w2 H) (hX : zX w w2)
    (hM : zV l D d y bytes maxL rm (.ref b :: As) H.size w post w') (cw : CallW R s args own C index y bytes maxL none (ws_ y bytes maxL none) rm 0 0 n) (hrecv : ∃ cell : Cell, H[b]? = some cell ∧ cell.vm.isStatics = false ∧ s.vm.findClass C = some cell.cls) (hn : As.length = n) (hsize : ls.size = nL) (hst : st0 = As.reverse ++ .ref b :: rest) (hroom : (rest.map fun v => v.category).sum ≤ 8) (hdg : decode cc pc = .ok (.invokevirtual index, 3)) (hcl : cells ≤ R.cells) (hsl : slots ≤ R.slots)
    (kk : ∀ (u : S) (H1 : Heap) (locs1 : List Loc), post u → va_P D vwCl (w' u) H1 → va_D A (w' u) → va_P D vwCl w2 H1 → zX (w' u) w2 → va_S A s.heap H1 locs1 → W p l e R s m args below meth c H1 locs1 cells slots Q (F0 m (pc + 3) ls rest)) : W p l e R s m args below meth c H locs cells slots Q (F0 m pc ls st0) := by
  have hF := z_F hA hD hS
  refine va_callv (va_runV (As := As) (rest := rest) ⟨hx, hb, hml, hown, hts⟩ hM cw ⟨z_blind _ _ _ _ _, hrecv, fun U hU hW => ⟨rfl, by rw [hU], by rw [hU]; exact hP, va_K.moved hW.alike hK, hD.weaken (fun _ _ _ _ => trivial)⟩⟩ rfl hn hsize hst (lv_room hroom) hdg ⟨hcl, hsl⟩) hS (fun q _ h => hF q h) hF (fun u t H1 locs1 ht hvm hpost hB hz hk hS1 => ?_)
  obtain ⟨hP1, hK1, hD1⟩ := hB
  rw [ht] at hP1
  exact kk u H1 locs1 hpost hP1 (hD1.weaken (fun k q _ h => hF q.1 h)) (z_keep hP2 (fun j q hq i r hr => hX i j r q hr hq) hk) (hX.of hP2 hD1) hS1
theorem z_callIF {w2 : va_W} {ret : FieldType} {post : Int32 → S → Prop} {w' : S → va_W} (hx : p.tables.exec = Jvm.exec) (hb : c.code = cc) (hml : c.maxLocals = nL) (hown : s.vm.findClass own = some m.cls) (hts : ∀ w ∈ lw_all, w.before args s = true) (hA : ∀ q : Nat, s.heap.size ≤ q → A q) (hK : va_K D vwCl [(d, .int)] s) (hP : va_P D vwCl w H) (hD : va_D A w) (hS : va_S A s.heap H locs) (hP2 : va_P D vwCl w2 H) (hX : zX w w2)
    (hM : zI l D d y bytes maxL ret rm (.ref b :: As) H.size w post w') (cw : CallW R s args own C index y bytes maxL (some ret) (ws_ y bytes maxL (some ret)) rm 0 0 n) (hrecv : ∃ cell : Cell, H[b]? = some cell ∧ cell.vm.isStatics = false ∧ s.vm.findClass C = some cell.cls) (hn : As.length = n) (hsize : ls.size = nL) (hst : st0 = As.reverse ++ .ref b :: rest) (hroom : (rest.map fun v => v.category).sum ≤ 8) (hdg : decode cc pc = .ok (.invokevirtual index, 3)) (hcl : cells ≤ R.cells) (hsl : slots ≤ R.slots)
    (kk : ∀ (r : Int32) (u : S) (H1 : Heap) (locs1 : List Loc), post r u → va_P D vwCl (w' u) H1 → va_D A (w' u) → va_P D vwCl w2 H1 → zX (w' u) w2 → va_S A s.heap H1 locs1 → W p l e R s m args below meth c H1 locs1 cells slots Q (F0 m (pc + 3) ls (.int r :: rest))) : W p l e R s m args below meth c H locs cells slots Q (F0 m pc ls st0) := by
  have hF := z_F hA hD hS
  refine va_calli (va_runV (As := As) (rest := rest) ⟨hx, hb, hml, hown, hts⟩ hM cw ⟨z_blind _ _ _ _ _, hrecv, fun U hU hW => ⟨rfl, by rw [hU], by rw [hU]; exact hP, va_K.moved hW.alike hK, hD.weaken (fun _ _ _ _ => trivial)⟩⟩ rfl hn hsize hst (lv_room hroom) hdg ⟨hcl, hsl⟩) hS (fun q _ h => hF q h) hF (fun r u t H1 locs1 ht hvm hpost hB hz hk hS1 => ?_)
  obtain ⟨hP1, hK1, hD1⟩ := hB
  rw [ht] at hP1
  exact kk r u H1 locs1 hpost hP1 (hD1.weaken (fun k q _ h => hF q.1 h)) (z_keep hP2 (fun j q hq i r hr => hX i j r q hr hq) hk) (hX.of hP2 hD1) hS1
/-- the number on top, told otherwise -/
theorem z_eq {x y : Int32} (h : x = y) (k : W p l e R s m args below meth c H locs cells slots Q (F0 m pc ls (.int y :: rest))) : W p l e R s m args below meth c H locs cells slots Q (F0 m pc ls (.int x :: rest)) := by
  rw [h]; exact k
/-- an array's element at the place j -/
theorem z_ild {a : Nat} {ws : va_W} (hx : p.tables.exec = Jvm.exec) (hb : c.code = cc) (hK : va_K D vwCl [(d, .int)] s) (hP : va_P D vwCl ws H) (q0 : Nat) {n : Nat} {f : Nat → Int32} (ha : ws[q0]? = some (a, .inl (d, n, .inl f))) {i : Int32} (j : Nat) (hi : i = nI j) (hj : j < n) (hn : n < 2147483648) (hdg : decode cc pc = .ok (.iaload, 1))
    (kk : W p l e R s m args below meth c H locs cells slots Q (F0 m (pc + 1) ls (.int (f j) :: rest))) : W p l e R s m args below meth c H locs cells slots Q (F0 m pc ls (.int i :: .ref a :: rest)) := by
  subst hi
  refine va_iald hx hb hK hP q0 0 ha rfl (vp_in_nI hj hn) hdg ?_
  rw [nI_clamp (Nat.lt_trans hj hn)]
  exact kk
/-- a store at the place j -/
theorem z_ist {a : Nat} {ws ws' : va_W} (hx : p.tables.exec = Jvm.exec) (hb : c.code = cc) (hK : va_K D vwCl [(d, .int)] s) (hP : va_P D vwCl ws H) (hD : va_D A ws) (hS : va_S A s.heap H locs) (q0 : Nat) {n : Nat} {f : Nat → Int32} (ha : ws[q0]? = some (a, .inl (d, n, .inl f))) {i x : Int32} (j : Nat) (hi : i = nI j) (hj : j < n) (hn : n < 2147483648) (hws : ws.set q0 (a, .inl (d, n, .inl (upd f j x))) = ws') (hdg : decode cc pc = .ok (.iastore, 1))
    (kk : ∀ (H1 : Heap) (locs1 : List Loc), va_P D vwCl ws' H1 → va_D A ws' → va_S A s.heap H1 locs1 → W p l e R s m args below meth c H1 locs1 cells slots Q (F0 m (pc + 1) ls rest)) : W p l e R s m args below meth c H locs cells slots Q (F0 m pc ls (.int x :: .int i :: .ref a :: rest)) := by
  subst hi
  refine va_iast hx hb hK hP hD hS q0 0 ha rfl (vp_in_nI hj hn) hdg ?_
  rw [nI_clamp (Nat.lt_trans hj hn), hws]
  exact kk
/-- PolygonFill's fields -/
theorem x_get {a : Nat} {ws : va_W} {fs : List Value} (hx : p.tables.exec = Jvm.exec) (hb : c.code = cc) (hts : ∀ w ∈ lw_all, w.before args s = true) (hown : s.vm.findClass RX0 = some m.cls) (hK : va_K D vwCl [(d, .int)] s) (hP : va_P D vwCl ws H) (he : ws[0]? = some (a, .inr (0, fs))) (k : Nat) (hk : k < 11) {idx : Nat} (hq : Cond.fieldLink RX0 idx (TX0 k).1 (TX0 k).2.1 (TX0 k).2.2.1 ∈ lw_all) {v : Value} (hv : fs[k]? = some v) (hdg : decode cc pc = .ok (.getfield idx, 3))
    (kk : W p l e R s m args below meth c H locs cells slots Q (F0 m (pc + 3) ls (v :: rest))) : W p l e R s m args below meth c H locs cells slots Q (F0 m pc ls (.ref a :: rest)) :=
  va_get (ci := 0) (C := RX0) (T := TX0) (N := 11) hx hb hts in_X0 hown hK hP 0 he rfl k hk (hts _ hq) (fun _ h9 => h9) hv hdg kk
theorem x_put {a : Nat} {ws ws' : va_W} {fs : List Value} (hx : p.tables.exec = Jvm.exec) (hb : c.code = cc) (hts : ∀ w ∈ lw_all, w.before args s = true) (hown : s.vm.findClass RX0 = some m.cls) (hK : va_K D vwCl [(d, .int)] s) (hP : va_P D vwCl ws H) (hD : va_D A ws) (hS : va_S A s.heap H locs) (he : ws[0]? = some (a, .inr (0, fs))) (k : Nat) (hk : k < 11) {idx : Nat} (hq : Cond.fieldLink RX0 idx (TX0 k).1 (TX0 k).2.1 (TX0 k).2.2.1 ∈ lw_all) (hfin : (TX0 k).2.2.2 = false) (hd : parseFieldDescriptor (TX0 k).2.2.1 = some .int) {v : Int32} (hl : k < fs.length) (hws : ws.set 0 (a, .inr (0, fs.set k (.int v))) = ws') (hdg : decode cc pc = .ok (.putfield idx, 3))
    (kk : ∀ (H1 : Heap) (locs1 : List Loc), va_P D vwCl ws' H1 → va_D A ws' → va_S A s.heap H1 locs1 → W p l e R s m args below meth c H1 locs1 cells slots Q (F0 m (pc + 3) ls rest)) : W p l e R s m args below meth c H locs cells slots Q (F0 m pc ls (.int v :: .ref a :: rest)) := by
  refine va_put (ci := 0) (C := RX0) (T := TX0) (N := 11) (ty := .int) hx hb hts in_X0 tyX0 tyX0_ok nmX0 hown hK hP hD hS 0 he rfl k hk (hts _ hq) (fun _ h9 => h9) hfin hd rfl rfl hl hdg ?_
  rw [hws]
  exact kk
/-- PolygonFillModel's fields -/
theorem m_get {a : Nat} {ws : va_W} {fs : List Value} (hx : p.tables.exec = Jvm.exec) (hb : c.code = cc) (hts : ∀ w ∈ lw_all, w.before args s = true) (hown : s.vm.findClass RX1 = some m.cls) (hK : va_K D vwCl [(d, .int)] s) (hP : va_P D vwCl ws H) (he : ws[0]? = some (a, .inr (1, fs))) (k : Nat) (hk : k < 6) {idx : Nat} (hq : Cond.fieldLink RX1 idx (TX1 k).1 (TX1 k).2.1 (TX1 k).2.2.1 ∈ lw_all) {v : Value} (hv : fs[k]? = some v) (hdg : decode cc pc = .ok (.getfield idx, 3))
    (kk : W p l e R s m args below meth c H locs cells slots Q (F0 m (pc + 3) ls (v :: rest))) : W p l e R s m args below meth c H locs cells slots Q (F0 m pc ls (.ref a :: rest)) :=
  va_get (ci := 1) (C := RX1) (T := TX1) (N := 6) hx hb hts in_X1 hown hK hP 0 he rfl k hk (hts _ hq) (fun _ h9 => h9) hv hdg kk
theorem m_put {a : Nat} {ws ws' : va_W} {fs : List Value} (hx : p.tables.exec = Jvm.exec) (hb : c.code = cc) (hts : ∀ w ∈ lw_all, w.before args s = true) (hown : s.vm.findClass RX1 = some m.cls) (hK : va_K D vwCl [(d, .int)] s) (hP : va_P D vwCl ws H) (hD : va_D A ws) (hS : va_S A s.heap H locs) (he : ws[0]? = some (a, .inr (1, fs))) (k : Nat) (hk : k < 6) {idx : Nat} (hq : Cond.fieldLink RX1 idx (TX1 k).1 (TX1 k).2.1 (TX1 k).2.2.1 ∈ lw_all) (hfin : (TX1 k).2.2.2 = false) (hd : parseFieldDescriptor (TX1 k).2.2.1 = some .int) {v : Int32} (hl : k < fs.length) (hws : ws.set 0 (a, .inr (1, fs.set k (.int v))) = ws') (hdg : decode cc pc = .ok (.putfield idx, 3))
    (kk : ∀ (H1 : Heap) (locs1 : List Loc), va_P D vwCl ws' H1 → va_D A ws' → va_S A s.heap H1 locs1 → W p l e R s m args below meth c H1 locs1 cells slots Q (F0 m (pc + 3) ls rest)) : W p l e R s m args below meth c H locs cells slots Q (F0 m pc ls (.int v :: .ref a :: rest)) := by
  refine va_put (ci := 1) (C := RX1) (T := TX1) (N := 6) (ty := .int) hx hb hts in_X1 tyX1 tyX1_ok nmX1 hown hK hP hD hS 0 he rfl k hk (hts _ hq) (fun _ h9 => h9) hfin hd rfl rfl hl hdg ?_
  rw [hws]
  exact kk
end ZC
end
section
/-! plain facts: numbers, the winding as a sum, sorted crossings, coverage -/
set_option maxRecDepth 100000
theorem p_lt (a b : Int32) : a < b ↔ a.toInt < b.toInt := Int32.lt_iff_toInt_lt
theorem p_le (a b : Int32) : a ≤ b ↔ a.toInt ≤ b.toInt := Int32.le_iff_toInt_le
theorem p_add {a b : Int32} (h1 : -2147483648 ≤ a.toInt + b.toInt) (h2 : a.toInt + b.toInt < 2147483648) : (a + b).toInt = a.toInt + b.toInt := by
  rw [Int32.toInt_add]
  exact Int.bmod_eq_of_le_mul_two (by omega) (by omega)
theorem p_sub {a b : Int32} (h1 : -2147483648 ≤ a.toInt - b.toInt) (h2 : a.toInt - b.toInt < 2147483648) : (a - b).toInt = a.toInt - b.toInt := by
  rw [Int32.toInt_sub]
  exact Int.bmod_eq_of_le_mul_two (by omega) (by omega)
theorem p_mul {a b : Int32} (h1 : -2147483648 ≤ a.toInt * b.toInt) (h2 : a.toInt * b.toInt < 2147483648) : (a * b).toInt = a.toInt * b.toInt := by
  rw [Int32.toInt_mul]
  exact Int.bmod_eq_of_le_mul_two (by omega) (by omega)
theorem p_box {a b A B : Int} (h1 : -A ≤ a) (h2 : a ≤ A) (h3 : -B ≤ b) (h4 : b ≤ B) : -(A * B) ≤ a * b ∧ a * b ≤ A * B := by
  have k1 : 0 ≤ (A - a) * (B + b) := Int.mul_nonneg (by omega) (by omega)
  have k2 : 0 ≤ (A + a) * (B - b) := Int.mul_nonneg (by omega) (by omega)
  have k3 : 0 ≤ (A - a) * (B - b) := Int.mul_nonneg (by omega) (by omega)
  have k4 : 0 ≤ (A + a) * (B + b) := Int.mul_nonneg (by omega) (by omega)
  simp only [Int.sub_mul, Int.add_mul, Int.mul_add, Int.mul_sub] at k1 k2 k3 k4
  omega
/-- a product of two small numbers -/
theorem p_mulB {a b : Int32} (A B : Int) (h1 : -A ≤ a.toInt) (h2 : a.toInt ≤ A) (h3 : -B ≤ b.toInt) (h4 : b.toInt ≤ B) (hAB : A * B < 2147483648) : (a * b).toInt = a.toInt * b.toInt ∧ -(A * B) ≤ a.toInt * b.toInt ∧ a.toInt * b.toInt ≤ A * B := by
  have h := p_box h1 h2 h3 h4
  exact ⟨p_mul (by omega) (by omega), h.1, h.2⟩
def okC (x : Int32) : Prop := 0 ≤ x.toInt ∧ x.toInt ≤ 64
abbrev badP (x y : Int32) : Prop := x < 0 ∨ 64 < x ∨ y < 0 ∨ 64 < y
abbrev badR (r c : Int32) : Prop := r < 0 ∨ 16 ≤ r ∨ c < 0 ∨ 16 ≤ c
theorem badP_ok {x y : Int32} (h : ¬ badP x y) : okC x ∧ okC y := by
  simp only [badP, not_or, p_lt] at h
  have e0 : (0 : Int32).toInt = 0 := rfl
  have e64 : (64 : Int32).toInt = 64 := rfl
  rw [e0, e64] at h
  exact ⟨⟨by omega, by omega⟩, ⟨by omega, by omega⟩⟩
/-- what the edge from (x1, y1) to (x2, y2) counts for the sample (x, y) -/
def eI (x1 y1 x2 y2 x y : Int32) : Int32 :=
  if y1 ≤ y ∧ y < y2 then (if (x - x1) * (y2 - y1) < (x2 - x1) * (y - y1) then 1 else 0)
  else if y2 ≤ y ∧ y < y1 then (if (x - x2) * (y1 - y2) < (x1 - x2) * (y - y2) then -1 else 0) else 0
/-- what a crossing counts for a sample at x -/
def cX (t b w x : Int32) : Int32 := if x * b < t then w else 0
def sS (tp bt wy : Nat → Int32) (x : Int32) : Nat → Int32
  | 0 => 0
  | j + 1 => sS tp bt wy x j + cX (tp j) (bt j) (wy j) x
theorem sS_cong {tp bt wy tp' bt' wy' : Nat → Int32} (x : Int32) : ∀ m, (∀ j, j < m → tp' j = tp j ∧ bt' j = bt j ∧ wy' j = wy j) → sS tp' bt' wy' x m = sS tp bt wy x m
  | 0, _ => rfl
  | m + 1, h => by
    obtain ⟨h1, h2, h3⟩ := h m (Nat.lt_succ_self m)
    rw [sS, sS, sS_cong x m (fun j hj => h j (Nat.lt_succ_of_lt hj)), h1, h2, h3]
def bnd (m : Nat) (tp bt : Nat → Int32) : Prop := ∀ j, j < m → 0 ≤ (tp j).toInt ∧ (tp j).toInt ≤ 4096 ∧ 1 ≤ (bt j).toInt ∧ (bt j).toInt ≤ 64
def leC (tp bt : Nat → Int32) (i j : Nat) : Prop := (tp i).toInt * (bt j).toInt ≤ (tp j).toInt * (bt i).toInt
/-- the crossings 0 .. k-1 are fractions in order -/
def Gd (k : Nat) (tp bt : Nat → Int32) : Prop := bnd k tp bt ∧ ∀ i j, i < j → j < k → leC tp bt i j
/-- in order but for the one at i, which isn't right of those behind it -/
def Ins (m i : Nat) (tp bt : Nat → Int32) : Prop := bnd m tp bt ∧ (∀ a b, a < b → b < m → a ≠ i → b ≠ i → leC tp bt a b) ∧ ∀ b, i < b → b < m → leC tp bt i b
theorem leC_trans {m : Nat} {tp bt : Nat → Int32} (hb : bnd m tp bt) {i j k : Nat} (hi : i < m) (hj : j < m) (hk : k < m) (h1 : leC tp bt i j) (h2 : leC tp bt j k) : leC tp bt i k := by
  obtain ⟨-, -, bi, -⟩ := hb i hi
  obtain ⟨-, -, bj, -⟩ := hb j hj
  obtain ⟨-, -, bk, -⟩ := hb k hk
  unfold leC at *
  generalize (tp i).toInt = ti at *
  generalize (tp j).toInt = tj at *
  generalize (tp k).toInt = tk at *
  generalize (bt i).toInt = ci at *
  generalize (bt j).toInt = cj at *
  generalize (bt k).toInt = ck at *
  have e1 : ti * cj * ck ≤ tj * ci * ck := Int.mul_le_mul_of_nonneg_right h1 (by omega)
  have e2 : tj * ck * ci ≤ tk * cj * ci := Int.mul_le_mul_of_nonneg_right h2 (by omega)
  refine Int.le_of_mul_le_mul_right (a := cj) ?_ (by omega)
  have a1 : ti * ck * cj = ti * cj * ck := by rw [Int.mul_assoc, Int.mul_comm ck cj, ← Int.mul_assoc]
  have a2 : tj * ci * ck = tj * ck * ci := by rw [Int.mul_assoc, Int.mul_comm ci ck, ← Int.mul_assoc]
  have a3 : tk * cj * ci = tk * ci * cj := by rw [Int.mul_assoc, Int.mul_comm cj ci, ← Int.mul_assoc]
  omega
/-- 'left of' as leftOf asks it -/
theorem left_iff {m : Nat} {tp bt : Nat → Int32} (hb : bnd m tp bt) {i j : Nat} (hi : i < m) (hj : j < m) : (tp i * bt j < tp j * bt i) ↔ ¬ leC tp bt j i := by
  obtain ⟨a1, a2, a3, a4⟩ := hb i hi
  obtain ⟨b1, b2, b3, b4⟩ := hb j hj
  have e1 := p_mulB (a := tp i) (b := bt j) 4096 64 (by omega) (by omega) (by omega) (by omega) (by decide)
  have e2 := p_mulB (a := tp j) (b := bt i) 4096 64 (by omega) (by omega) (by omega) (by omega) (by decide)
  rw [p_lt, e1.1, e2.1]
  unfold leC
  omega
/-- a sample at x isn't left of the crossing j -/
theorem cross_iff {m : Nat} {tp bt : Nat → Int32} (hb : bnd m tp bt) {j : Nat} (hj : j < m) {x : Int32} (hx : okC x) : (x * bt j < tp j) ↔ x.toInt * (bt j).toInt < (tp j).toInt := by
  obtain ⟨b1, b2, b3, b4⟩ := hb j hj
  have e1 := p_mulB (a := x) (b := bt j) 64 64 (by have := hx.1; omega) hx.2 (by omega) (by omega) (by decide)
  rw [p_lt, e1.1]
/-- what is right of x stays so behind -/
theorem cross_up {m : Nat} {tp bt : Nat → Int32} (hG : Gd m tp bt) {i j : Nat} (hij : i ≤ j) (hj : j < m) {x : Int32} (hx : okC x) (h : x * bt i < tp i) : x * bt j < tp j := by
  rcases Nat.eq_or_lt_of_le hij with e | e
  · subst e; exact h
  · have hi : i < m := by omega
    have hle := hG.2 i j e hj
    rw [cross_iff hG.1 hi hx] at h
    rw [cross_iff hG.1 hj hx]
    obtain ⟨a1, a2, a3, a4⟩ := hG.1 i hi
    obtain ⟨b1, b2, b3, b4⟩ := hG.1 j hj
    unfold leC at hle
    generalize (tp i).toInt = ti at *
    generalize (tp j).toInt = tj at *
    generalize (bt i).toInt = ci at *
    generalize (bt j).toInt = cj at *
    generalize x.toInt = z at *
    have e1 : z * ci * cj < ti * cj := Int.mul_lt_mul_of_pos_right h (by omega)
    have e2 : z * ci * cj = z * cj * ci := by rw [Int.mul_assoc, Int.mul_comm ci cj, ← Int.mul_assoc]
    refine Int.lt_of_mul_lt_mul_right (a := ci) ?_ (by omega)
    omega
theorem cross_down {m : Nat} {tp bt : Nat → Int32} (hG : Gd m tp bt) {i j : Nat} (hij : i ≤ j) (hj : j < m) {x : Int32} (hx : okC x) (h : ¬ x * bt j < tp j) : ¬ x * bt i < tp i := fun q => h (cross_up hG hij hj hx q)
/-- further right: what didn't count doesn't -/
theorem cross_right {m : Nat} {tp bt : Nat → Int32} (hb : bnd m tp bt) {j : Nat} (hj : j < m) {x z : Int32} (hx : okC x) (hz : okC z) (hxz : x.toInt ≤ z.toInt) (h : ¬ x * bt j < tp j) : ¬ z * bt j < tp j := by
  rw [cross_iff hb hj hx] at h
  rw [cross_iff hb hj hz]
  obtain ⟨b1, b2, b3, b4⟩ := hb j hj
  have : x.toInt * (bt j).toInt ≤ z.toInt * (bt j).toInt := Int.mul_le_mul_of_nonneg_right hxz (by omega)
  omega
theorem sS_zero {tp bt wy : Nat → Int32} {x : Int32} : ∀ i, (∀ j, j < i → ¬ x * bt j < tp j) → sS tp bt wy x i = 0
  | 0, _ => rfl
  | i + 1, h => by
    rw [sS, sS_zero i (fun j hj => h j (Nat.lt_succ_of_lt hj)), cX, if_neg (h i (Nat.lt_succ_self i))]
    rfl
/-- the ways behind the t-th are the sum, when just those count -/
theorem sS_split {tp bt wy : Nat → Int32} {x : Int32} {t : Nat} (h0 : ∀ j, j < t → ¬ x * bt j < tp j) : ∀ k, t ≤ k → (∀ j, t ≤ j → j < k → x * bt j < tp j) → sS tp bt wy x k + bx_sum wy t = bx_sum wy k
  | 0, ht, _ => by
    have : t = 0 := by omega
    subst this
    rfl
  | k + 1, ht, h1 => by
    rcases Nat.eq_or_lt_of_le ht with e | e
    · subst e
      rw [sS_zero _ h0]
      grind
    · have ih := sS_split (wy := wy) h0 k (by omega) (fun j a b => h1 j a (by omega))
      rw [sS, cX, if_pos (h1 k (by omega) (Nat.lt_succ_self k)), bx_sum]
      grind
/-! insertion -/
def sw (f : Nat → Int32) (i : Nat) : Nat → Int32 := upd (upd f (i + 1) (f i)) i (f (i + 1))
theorem sw_lo (f : Nat → Int32) (i : Nat) : sw f i i = f (i + 1) := by simp [sw, upd]
theorem sw_hi (f : Nat → Int32) (i : Nat) : sw f i (i + 1) = f i := by simp [sw, upd]
theorem sw_out (f : Nat → Int32) {i j : Nat} (h1 : j ≠ i) (h2 : j ≠ i + 1) : sw f i j = f j := by simp [sw, upd, h1, h2]
theorem sS_sw {tp bt wy : Nat → Int32} (x : Int32) (i : Nat) : ∀ m, i + 1 < m → sS (sw tp i) (sw bt i) (sw wy i) x m = sS tp bt wy x m
  | 0, h => by omega
  | m + 1, h => by
    rcases Nat.eq_or_lt_of_le h with e | e
    · have : m = i + 1 := by omega
      subst this
      rw [sS, sS, sS, sS, sw_lo, sw_lo, sw_lo, sw_hi, sw_hi, sw_hi]
      rw [sS_cong (tp := tp) (bt := bt) (wy := wy) x i (fun j hj => ⟨sw_out _ (by omega) (by omega), sw_out _ (by omega) (by omega), sw_out _ (by omega) (by omega)⟩)]
      grind
    · rw [sS, sS, sS_sw x i m (by omega), sw_out _ (by omega) (by omega), sw_out _ (by omega) (by omega), sw_out _ (by omega) (by omega)]
theorem bnd_sw {m : Nat} {tp bt : Nat → Int32} (h : bnd m tp bt) {i : Nat} (hi : i + 1 < m) : bnd m (sw tp i) (sw bt i) := by
  intro j hj
  by_cases e1 : j = i
  · subst e1; rw [sw_lo, sw_lo]; exact h _ hi
  · by_cases e2 : j = i + 1
    · subst e2; rw [sw_hi, sw_hi]; exact h _ (by omega)
    · rw [sw_out _ e1 e2, sw_out _ e1 e2]; exact h _ hj
theorem leC_sw {tp bt : Nat → Int32} {i a b a' b' : Nat} (h1 : sw tp i a = tp a') (h2 : sw tp i b = tp b') (h3 : sw bt i a = bt a') (h4 : sw bt i b = bt b') (h : leC tp bt a' b') : leC (sw tp i) (sw bt i) a b := by
  unfold leC at *
  rw [h1, h2, h3, h4]
  exact h
theorem Ins_step {m i : Nat} {tp bt : Nat → Int32} (h : Ins m (i + 1) tp bt) (hi : i + 1 < m) (hl : ¬ leC tp bt i (i + 1)) : Ins m i (sw tp i) (sw bt i) := by
  obtain ⟨hb, h1, h2⟩ := h
  have hle : leC tp bt (i + 1) i := by
    unfold leC at *
    omega
  refine ⟨bnd_sw hb hi, fun a b hab hbm na nb => ?_, fun b hib hbm => ?_⟩
  · by_cases ea : a = i + 1
    · subst ea
      exact leC_sw (a' := i) (b' := b) (sw_hi _ _) (sw_out _ (by omega) (by omega)) (sw_hi _ _) (sw_out _ (by omega) (by omega)) (h1 i b (by omega) hbm (by omega) (by omega))
    · by_cases eb : b = i + 1
      · subst eb
        exact leC_sw (a' := a) (b' := i) (sw_out _ (by omega) (by omega)) (sw_hi _ _) (sw_out _ (by omega) (by omega)) (sw_hi _ _) (h1 a i (by omega) (by omega) (by omega) (by omega))
      · exact leC_sw (a' := a) (b' := b) (sw_out _ na ea) (sw_out _ nb eb) (sw_out _ na ea) (sw_out _ nb eb) (h1 a b hab hbm ea eb)
  · by_cases eb : b = i + 1
    · subst eb
      exact leC_sw (a' := i + 1) (b' := i) (sw_lo _ _) (sw_hi _ _) (sw_lo _ _) (sw_hi _ _) hle
    · exact leC_sw (a' := i + 1) (b' := b) (sw_lo _ _) (sw_out _ (by omega) eb) (sw_lo _ _) (sw_out _ (by omega) eb) (h2 b (by omega) hbm)
theorem Ins_start {k : Nat} {tp bt : Nat → Int32} (h : Gd k tp bt) {t b : Int32} (h1 : 0 ≤ t.toInt) (h2 : t.toInt ≤ 4096) (h3 : 1 ≤ b.toInt) (h4 : b.toInt ≤ 64) : Ins (k + 1) k (upd tp k t) (upd bt k b) := by
  have hs : ∀ (f : Nat → Int32) (v : Int32) (j : Nat), j ≠ k → upd f k v j = f j := fun f v j hj => by simp [upd, hj]
  refine ⟨fun j hj => ?_, fun a c hac hc na nc => ?_, fun c h1 h2 => by omega⟩
  · by_cases e : j = k
    · subst e
      simp only [upd, if_true]
      exact ⟨h1, h2, h3, h4⟩
    · rw [hs _ _ _ e, hs _ _ _ e]
      exact h.1 j (by omega)
  · unfold leC
    rw [hs _ _ _ na, hs _ _ _ nc, hs _ _ _ na, hs _ _ _ nc]
    exact h.2 a c hac (by omega)
theorem Ins_end0 {m : Nat} {tp bt : Nat → Int32} (h : Ins m 0 tp bt) : Gd m tp bt := by
  refine ⟨h.1, fun i j hij hj => ?_⟩
  by_cases e : i = 0
  · subst e; exact h.2.2 j hij hj
  · exact h.2.1 i j hij hj e (by omega)
theorem Ins_end {m i : Nat} {tp bt : Nat → Int32} (h : Ins m (i + 1) tp bt) (hi : i + 1 < m) (hl : leC tp bt i (i + 1)) : Gd m tp bt := by
  refine ⟨h.1, fun a b hab hb => ?_⟩
  by_cases ea : a = i + 1
  · subst ea; exact h.2.2 b hab hb
  · by_cases eb : b = i + 1
    · subst eb
      by_cases e : a = i
      · subst e; exact hl
      · exact leC_trans h.1 (by omega) (by omega) hi (h.2.1 a i (by omega) (by omega) ea (by omega)) hl
    · exact h.2.1 a b hab hb ea eb
/-! the edge's fraction -/
theorem edge_num {a b c e f : Int} (h0 : 0 ≤ a) (h1 : a ≤ 64) (h2 : 0 ≤ b) (h3 : b ≤ 64) (h4 : 0 ≤ e) (h5 : e < f) (h6 : f ≤ 64) (hc : c = b - a) : 0 ≤ a * f + e * c ∧ a * f + e * c ≤ 4096 := by
  subst hc
  have k1 : 0 ≤ a * (f - e) := Int.mul_nonneg h0 (by omega)
  have k2 : 0 ≤ e * b := Int.mul_nonneg h4 h2
  have k3 : 0 ≤ (64 - a) * (f - e) := Int.mul_nonneg (by omega) (by omega)
  have k4 : 0 ≤ e * (64 - b) := Int.mul_nonneg h4 (by omega)
  have k5 : e * (b - a) = e * b - a * e := by rw [Int.mul_sub, Int.mul_comm e a]
  simp only [Int.mul_sub, Int.sub_mul] at k1 k3 k4
  rw [k5]
  omega
/-- an edge down from (x1, y1) to (x2, y2): its fraction, and what it counts -/
theorem edge_dn {x1 y1 x2 y2 y : Int32} (hx1 : okC x1) (hy1 : okC y1) (hx2 : okC x2) (hy2 : okC y2) (hy : okC y) (h1 : y1 ≤ y) (h2 : y < y2) :
    (y2 - y1).toInt = y2.toInt - y1.toInt ∧ 1 ≤ (y2 - y1).toInt ∧ (y2 - y1).toInt ≤ 64 ∧ 0 ≤ (x1 * (y2 - y1) + (y - y1) * (x2 - x1)).toInt ∧ (x1 * (y2 - y1) + (y - y1) * (x2 - x1)).toInt ≤ 4096 ∧
      ∀ x, okC x → ((x * (y2 - y1) < x1 * (y2 - y1) + (y - y1) * (x2 - x1)) ↔ (x - x1) * (y2 - y1) < (x2 - x1) * (y - y1)) := by
  obtain ⟨a1, a2⟩ := hx1
  obtain ⟨b1, b2⟩ := hy1
  obtain ⟨c1, c2⟩ := hx2
  obtain ⟨d1, d2⟩ := hy2
  obtain ⟨e1, e2⟩ := hy
  rw [p_le] at h1
  rw [p_lt] at h2
  have s1 : (y2 - y1).toInt = y2.toInt - y1.toInt := p_sub (by omega) (by omega)
  have s2 : (y - y1).toInt = y.toInt - y1.toInt := p_sub (by omega) (by omega)
  have s3 : (x2 - x1).toInt = x2.toInt - x1.toInt := p_sub (by omega) (by omega)
  have m1 := p_mulB (a := x1) (b := y2 - y1) 64 64 (by omega) (by omega) (by omega) (by omega) (by decide)
  have m2 := p_mulB (a := y - y1) (b := x2 - x1) 64 64 (by omega) (by omega) (by omega) (by omega) (by decide)
  have m4 := p_mulB (a := x2 - x1) (b := y - y1) 64 64 (by omega) (by omega) (by omega) (by omega) (by decide)
  have t1 : (x1 * (y2 - y1) + (y - y1) * (x2 - x1)).toInt = x1.toInt * (y2 - y1).toInt + (y - y1).toInt * (x2 - x1).toInt := by
    rw [p_add (by omega) (by omega), m1.1, m2.1]
  have en := edge_num (a := x1.toInt) (b := x2.toInt) (c := (x2 - x1).toInt) (e := (y - y1).toInt) (f := (y2 - y1).toInt) a1 a2 c1 c2 (by omega) (by omega) (by omega) s3
  refine ⟨s1, by omega, by omega, by omega, by omega, fun x hx => ?_⟩
  have m3 := p_mulB (a := x) (b := y2 - y1) 64 64 (by have := hx.1; omega) hx.2 (by omega) (by omega) (by decide)
  have s4 : (x - x1).toInt = x.toInt - x1.toInt := p_sub (by have := hx.1; omega) (by have := hx.2; omega)
  have m5 := p_mulB (a := x - x1) (b := y2 - y1) 64 64 (by have := hx.1; omega) (by have := hx.2; omega) (by omega) (by omega) (by decide)
  rw [p_lt, p_lt, t1, m3.1, m5.1, m4.1, s4, Int.sub_mul, Int.mul_comm (x2 - x1).toInt]
  omega
theorem eI_dn {x1 y1 x2 y2 y : Int32} (hx1 : okC x1) (hy1 : okC y1) (hx2 : okC x2) (hy2 : okC y2) (hy : okC y) (h1 : y1 ≤ y) (h2 : y < y2) (x : Int32) (hx : okC x) :
    cX (x1 * (y2 - y1) + (y - y1) * (x2 - x1)) (y2 - y1) 1 x = eI x1 y1 x2 y2 x y := by
  have h := (edge_dn hx1 hy1 hx2 hy2 hy h1 h2).2.2.2.2.2 x hx
  rw [eI, if_pos ⟨h1, h2⟩, cX]
  by_cases q : (x - x1) * (y2 - y1) < (x2 - x1) * (y - y1)
  · rw [if_pos q, if_pos (h.mpr q)]
  · rw [if_neg q, if_neg (fun z => q (h.mp z))]
theorem eI_up {x1 y1 x2 y2 y : Int32} (hx1 : okC x1) (hy1 : okC y1) (hx2 : okC x2) (hy2 : okC y2) (hy : okC y) (h1 : y2 ≤ y) (h2 : y < y1) (x : Int32) (hx : okC x) :
    cX (x2 * (y1 - y2) + (y - y2) * (x1 - x2)) (y1 - y2) (-1) x = eI x1 y1 x2 y2 x y := by
  have h := (edge_dn hx2 hy2 hx1 hy1 hy h1 h2).2.2.2.2.2 x hx
  have hn : ¬ (y1 ≤ y ∧ y < y2) := by
    rw [p_le, p_lt]
    rw [p_le] at h1
    rw [p_lt] at h2
    omega
  rw [eI, if_neg hn, if_pos ⟨h1, h2⟩, cX]
  by_cases q : (x - x2) * (y1 - y2) < (x1 - x2) * (y - y2)
  · rw [if_pos q, if_pos (h.mpr q)]
  · rw [if_neg q, if_neg (fun z => q (h.mp z))]
theorem eI_no {x1 y1 x2 y2 y : Int32} (h1 : ¬ (y1 ≤ y ∧ y < y2)) (h2 : ¬ (y2 ≤ y ∧ y < y1)) (x : Int32) : eI x1 y1 x2 y2 x y = 0 := by
  rw [eI, if_neg h1, if_neg h2]
/-! the winding -/
def F_ (fi : Nat → Int32) (j : Nat) : Nat := (fi j).toNatClampNeg
def nxt (fi : Nat → Int32) (c i : Nat) : Nat := if i + 1 < F_ fi (c + 1) then i + 1 else F_ fi c
def eAt (fi xs ys : Nat → Int32) (x y : Int32) (c i : Nat) : Int32 := eI (xs i) (ys i) (xs (nxt fi c i)) (ys (nxt fi c i)) x y
def wIn (fi xs ys : Nat → Int32) (x y : Int32) (c : Nat) : Nat → Int32
  | 0 => 0
  | m + 1 => wIn fi xs ys x y c m + eAt fi xs ys x y c (F_ fi c + m)
def wOut (fi xs ys : Nat → Int32) (x y : Int32) : Nat → Int32
  | 0 => 0
  | c + 1 => wOut fi xs ys x y c + wIn fi xs ys x y c (F_ fi (c + 1) - F_ fi c)
/-- the shape: n contours, c corners, contour j from first j on; all corners on the board -/
def shp (n c : Nat) (fi xs ys : Nat → Int32) : Prop :=
  n ≤ 4 ∧ c ≤ 12 ∧ (∀ j, j ≤ n → fi j = nI (F_ fi j) ∧ F_ fi j ≤ c) ∧ F_ fi 0 = 0 ∧ F_ fi n = c ∧ (∀ j, j < n → F_ fi j ≤ F_ fi (j + 1)) ∧ ∀ j, j < c → okC (xs j) ∧ okC (ys j)
theorem wIn_step {fi xs ys : Nat → Int32} {x y : Int32} {c i : Nat} (h : F_ fi c ≤ i) (v : Int32) : v + wIn fi xs ys x y c (i - F_ fi c) + eAt fi xs ys x y c i = v + wIn fi xs ys x y c (i + 1 - F_ fi c) := by
  have e : i + 1 - F_ fi c = (i - F_ fi c) + 1 := by omega
  rw [e, wIn, show F_ fi c + (i - F_ fi c) = i by omega]
  grind
def insI (w o : Int32) : Int32 := if o = 0 then (if w = 0 then 0 else 1) else (if w &&& 1 = 1 then 1 else 0)
theorem insI_01 (w o : Int32) : insI w o = 0 ∨ insI w o = 1 := by
  unfold insI
  split <;> split <;> simp
/-- whether the sample s of the line L is inside -/
def smp (n : Nat) (fi xs ys : Nat → Int32) (o : Int32) (L s : Nat) : Int32 := insI (wOut fi xs ys (nI (2 * s + 1)) (nI (2 * L + 1)) n) o
/-! coverage -/
def gC (I : Nat → Int32) (s q : Nat) : Int32 := (if 2 * q < s then I (2 * q) else 0) + (if 2 * q + 1 < s then I (2 * q + 1) else 0)
def covS (cv : Nat → Int32) (L : Nat) (I : Nat → Int32) (s : Nat) : Nat → Int32 := fun p => if p / 16 = L / 2 then cv p + gC I s (p % 16) else cv p
theorem covS_0 (cv : Nat → Int32) (L : Nat) (I : Nat → Int32) : covS cv L I 0 = cv := by
  funext p
  simp only [covS, gC, Nat.not_lt_zero, if_false]
  split <;> grind
theorem covS_step (cv : Nat → Int32) (L : Nat) (I : Nat → Int32) {s : Nat} (hs : s < 32) : upd (covS cv L I s) (L / 2 * 16 + s / 2) (covS cv L I s (L / 2 * 16 + s / 2) + I s) = covS cv L I (s + 1) := by
  funext p
  by_cases e : p = L / 2 * 16 + s / 2
  · subst e
    have e1 : (L / 2 * 16 + s / 2) / 16 = L / 2 := by omega
    have e2 : (L / 2 * 16 + s / 2) % 16 = s / 2 := by omega
    simp only [upd, if_true, covS, e1, e2, gC]
    rcases Nat.mod_two_eq_zero_or_one s with h | h
    · have a1 : 2 * (s / 2) = s := by omega
      rw [a1]
      simp only [Nat.lt_irrefl, if_false, Nat.lt_succ_self, if_true, show ¬ (s + 1 < s) by omega, show ¬ (s + 1 < s + 1) by omega]
      grind
    · have a1 : 2 * (s / 2) + 1 = s := by omega
      have a2 : 2 * (s / 2) < s := by omega
      have a3 : 2 * (s / 2) < s + 1 := by omega
      rw [a1]
      simp only [Nat.lt_irrefl, if_false, Nat.lt_succ_self, if_true, a2, a3]
      grind
  · simp only [upd, if_neg e, covS]
    by_cases h : p / 16 = L / 2
    · rw [if_pos h, if_pos h]
      have hq : p % 16 ≠ s / 2 := fun q => e (by omega)
      have e1 : (2 * (p % 16) < s) ↔ (2 * (p % 16) < s + 1) := by omega
      have e2 : (2 * (p % 16) + 1 < s) ↔ (2 * (p % 16) + 1 < s + 1) := by omega
      simp only [gC, e1, e2]
    · rw [if_neg h, if_neg h]
theorem covS_skip (cv : Nat → Int32) (L : Nat) (I : Nat → Int32) {s : Nat} (hs : s < 32) (h : I s = 0) : covS cv L I s = covS cv L I (s + 1) := by
  rw [← covS_step cv L I hs, h]
  funext p
  by_cases e : p = L / 2 * 16 + s / 2
  · subst e
    simp only [upd, if_true]
    grind
  · simp only [upd, if_neg e]
/-- how much of the pixel (r, q) is covered -/
def kap (I : Nat → Nat → Int32) (r q : Nat) : Nat → Int32
  | 0 => 0
  | s + 1 => kap I r q s + I (2 * r + s / 2) (2 * q + s % 2)
theorem kap_4 (I : Nat → Nat → Int32) (r q : Nat) : kap I r q 4 = gC (I (2 * r)) 32 q + gC (I (2 * r + 1)) 32 q ∨ 16 ≤ q := by
  by_cases h : q < 16
  · left
    simp only [kap, gC, show 2 * q < 32 by omega, show 2 * q + 1 < 32 by omega, if_true]
    simp only [Nat.reduceDiv, Nat.reduceMod, Nat.add_zero]
    grind
  · right; omega
/-- the whole coverage behind the lines below k, over zeros -/
def covA (cv : Nat → Int32) (I : Nat → Nat → Int32) (k : Nat) : Nat → Int32 := fun p => if p < 256 then (if 2 * (p / 16) < k then gC (I (2 * (p / 16))) 32 (p % 16) else 0) + (if 2 * (p / 16) + 1 < k then gC (I (2 * (p / 16) + 1)) 32 (p % 16) else 0) else cv p
theorem covA_0 (cv : Nat → Int32) (I : Nat → Nat → Int32) : covA cv I 0 = fun p => if p < 256 then 0 else cv p := by
  funext p
  simp only [covA, Nat.not_lt_zero, if_false]
  split <;> grind
theorem covA_step (cv : Nat → Int32) (I : Nat → Nat → Int32) {k : Nat} (hk : k < 32) : covS (covA cv I k) k (I k) 32 = covA cv I (k + 1) := by
  funext p
  by_cases h : p / 16 = k / 2
  · have hp : p < 256 := by omega
    simp only [covS, if_pos h, covA, if_pos hp, h]
    rcases Nat.mod_two_eq_zero_or_one k with e | e
    · have a1 : 2 * (k / 2) = k := by omega
      rw [a1]
      simp only [Nat.lt_irrefl, if_false, Nat.lt_succ_self, if_true, show ¬ (k + 1 < k) by omega, show ¬ (k + 1 < k + 1) by omega]
      grind
    · have a1 : 2 * (k / 2) + 1 = k := by omega
      have a2 : 2 * (k / 2) < k := by omega
      have a3 : 2 * (k / 2) < k + 1 := by omega
      rw [a1]
      simp only [Nat.lt_irrefl, if_false, Nat.lt_succ_self, if_true, a2, a3]
      grind
  · simp only [covS, if_neg h, covA]
    by_cases hp : p < 256
    · have e1 : (2 * (p / 16) < k) ↔ (2 * (p / 16) < k + 1) := by omega
      have e2 : (2 * (p / 16) + 1 < k) ↔ (2 * (p / 16) + 1 < k + 1) := by omega
      simp only [e1, e2]
    · rw [if_neg hp, if_neg hp]
theorem covA_32 (cv : Nat → Int32) (I : Nat → Nat → Int32) {p : Nat} (hp : p < 256) : covA cv I 32 p = kap I (p / 16) (p % 16) 4 := by
  rcases kap_4 I (p / 16) (p % 16) with h | h
  · rw [h]
    simp only [covA, if_pos hp, show 2 * (p / 16) < 32 by omega, show 2 * (p / 16) + 1 < 32 by omega, if_true]
  · omega
/-- two sweeps of a row over zeros -/
theorem covS_two (cv : Nat → Int32) (I : Nat → Nat → Int32) {r q : Nat} (hq : q < 16) (h0 : cv (r * 16 + q) = 0) : covS (covS cv (2 * r) (I (2 * r)) 32) (2 * r + 1) (I (2 * r + 1)) 32 (r * 16 + q) = kap I r q 4 := by
  have e1 : (r * 16 + q) / 16 = 2 * r / 2 := by omega
  have e2 : (r * 16 + q) / 16 = (2 * r + 1) / 2 := by omega
  have e3 : (r * 16 + q) % 16 = q := by omega
  rcases kap_4 I r q with h | h
  · rw [h]
    simp only [covS, if_pos e1, if_pos e2, e3, h0]
    grind
  · omega
/-- how many pixels are painted -/
def cntK (K : Nat → Int32) : Nat → Int32
  | 0 => 0
  | m + 1 => if 0 < K m then cntK K m + 1 else cntK K m
def pnt (colour : Int32) (K col : Nat → Int32) : Nat → Int32 := fun p => (col p * (4 - K p) + colour * K p) / 4

/-! pasted from kit/laws NUMBERS: an array behind i stores -/
def fa_fill {α : Type} (f g : Nat → α) (i : Nat) : Nat → α := fun k => if k < i then f k else g k
theorem fa_fill_0 {α : Type} (f g : Nat → α) : fa_fill f g 0 = g := funext fun k => if_neg (Nat.not_lt_zero k)
theorem fa_fill_in {α : Type} {f g : Nat → α} {i k : Nat} (h : k < i) : fa_fill f g i k = f k := if_pos h
theorem fa_fill_out {α : Type} {f g : Nat → α} {i k : Nat} (h : i ≤ k) : fa_fill f g i k = g k := if_neg (Nat.not_lt.mpr h)
theorem fa_fill_succ (f g : Nat → Int32) (i : Nat) : upd (fa_fill f g i) i (f i) = fa_fill f g (i + 1) := by
  funext k
  by_cases e : k = i
  · subst e
    rw [pk_us]
    exact (if_pos (Nat.lt_succ_self k)).symm
  · rw [pk_un e]
    by_cases h : k < i
    · rw [fa_fill_in h, fa_fill_in (Nat.lt_succ_of_lt h)]
    · rw [fa_fill_out (Nat.le_of_not_lt h), fa_fill_out (by omega)]
end
section
/-! PolygonFill: the methods that call none -/
set_option maxRecDepth 100000
theorem L0 : (0 : Int32).toInt = 0 := rfl
theorem L1 : (1 : Int32).toInt = 1 := rfl
theorem L4 : (4 : Int32).toInt = 4 := rfl
theorem L12 : (12 : Int32).toInt = 12 := rfl
theorem L15 : (15 : Int32).toInt = 15 := rfl
theorem L16 : (16 : Int32).toInt = 16 := rfl
theorem L64 : (64 : Int32).toInt = 64 := rfl
theorem Lm64 : (-64 : Int32).toInt = -64 := rfl
theorem L255 : (255 : Int32).toInt = 255 := rfl
set_option maxHeartbeats 4000000 in
/-- badPoint: 1 where a coordinate is out -/
theorem tX_badPoint (l : Launch) (D : va_G) (d : ClassId) (sz : Nat) (x y : Int32) : zI l D d yX0_badPoint cX0_badPoint 2 .boolean (zR 0 0) [.int x, .int y] sz [] (fun r (_ : Unit) => r = if badP x y then 1 else 0) (fun _ => []) := by
  refine z_startZ (by decide) (Nat.le_of_ble_eq_true rfl) ?_
  intro p e s m args below meth cd A Q ls hx hb hml hown hts hA hK hP hD hS ret hl
  have hl : lv_has ls 2 [(0, .int x), (1, .int y)] := hl
  refine lv_iload_n (pc := 0) hx hb dX0_badPoint_0 rfl (lv_at hl 0 rfl) ?_
  refine lv_if_lt (pc := 1) (tgt := 20) hx hb dX0_badPoint_1 (by decide) (fun c1 => ?_) (fun c1 => ?_)
  · refine lv_iconst (pc := 20) (v := 1) hx hb dX0_badPoint_20 (by decide) ?_
    refine lv_goto (pc := 21) (tgt := 25) hx hb dX0_badPoint_21 (by decide) ?_
    exact ret 1 () _ _ 25 _ hP hD hS (if_pos (by simp only [badP, p_lt, p_le, L0, L16, L64] at *; omega)).symm dX0_badPoint_25 (Or.inr rfl)
  · refine lv_iload_n (pc := 4) hx hb dX0_badPoint_4 rfl (lv_at hl 0 rfl) ?_
    refine lv_bipush (pc := 5) (v := 64) hx hb dX0_badPoint_5 (by decide) ?_
    refine lv_icmp_gt (pc := 7) (tgt := 20) hx hb dX0_badPoint_7 (by decide) (fun c7 => ?_) (fun c7 => ?_)
    · refine lv_iconst (pc := 20) (v := 1) hx hb dX0_badPoint_20 (by decide) ?_
      refine lv_goto (pc := 21) (tgt := 25) hx hb dX0_badPoint_21 (by decide) ?_
      exact ret 1 () _ _ 25 _ hP hD hS (if_pos (by simp only [badP, p_lt, p_le, L0, L16, L64] at *; omega)).symm dX0_badPoint_25 (Or.inr rfl)
    · refine lv_iload_n (pc := 10) hx hb dX0_badPoint_10 rfl (lv_at hl 1 rfl) ?_
      refine lv_if_lt (pc := 11) (tgt := 20) hx hb dX0_badPoint_11 (by decide) (fun c11 => ?_) (fun c11 => ?_)
      · refine lv_iconst (pc := 20) (v := 1) hx hb dX0_badPoint_20 (by decide) ?_
        refine lv_goto (pc := 21) (tgt := 25) hx hb dX0_badPoint_21 (by decide) ?_
        exact ret 1 () _ _ 25 _ hP hD hS (if_pos (by simp only [badP, p_lt, p_le, L0, L16, L64] at *; omega)).symm dX0_badPoint_25 (Or.inr rfl)
      · refine lv_iload_n (pc := 14) hx hb dX0_badPoint_14 rfl (lv_at hl 1 rfl) ?_
        refine lv_bipush (pc := 15) (v := 64) hx hb dX0_badPoint_15 (by decide) ?_
        refine lv_icmp_le (pc := 17) (tgt := 24) hx hb dX0_badPoint_17 (by decide) (fun c17 => ?_) (fun c17 => ?_)
        · refine lv_iconst (pc := 24) (v := 0) hx hb dX0_badPoint_24 (by decide) ?_
          exact ret 0 () _ _ 25 _ hP hD hS (if_neg (by simp only [badP, p_lt, p_le, L0, L16, L64] at *; omega)).symm dX0_badPoint_25 (Or.inl rfl)
        · refine lv_iconst (pc := 20) (v := 1) hx hb dX0_badPoint_20 (by decide) ?_
          refine lv_goto (pc := 21) (tgt := 25) hx hb dX0_badPoint_21 (by decide) ?_
          exact ret 1 () _ _ 25 _ hP hD hS (if_pos (by simp only [badP, p_lt, p_le, L0, L16, L64] at *; omega)).symm dX0_badPoint_25 (Or.inr rfl)

set_option maxHeartbeats 4000000 in
/-- badPixel: 1 where a coordinate is out -/
theorem tX_badPixel (l : Launch) (D : va_G) (d : ClassId) (sz : Nat) (x y : Int32) : zI l D d yX0_badPixel cX0_badPixel 2 .boolean (zR 0 0) [.int x, .int y] sz [] (fun r (_ : Unit) => r = if badR x y then 1 else 0) (fun _ => []) := by
  refine z_startZ (by decide) (Nat.le_of_ble_eq_true rfl) ?_
  intro p e s m args below meth cd A Q ls hx hb hml hown hts hA hK hP hD hS ret hl
  have hl : lv_has ls 2 [(0, .int x), (1, .int y)] := hl
  refine lv_iload_n (pc := 0) hx hb dX0_badPixel_0 rfl (lv_at hl 0 rfl) ?_
  refine lv_if_lt (pc := 1) (tgt := 20) hx hb dX0_badPixel_1 (by decide) (fun c1 => ?_) (fun c1 => ?_)
  · refine lv_iconst (pc := 20) (v := 1) hx hb dX0_badPixel_20 (by decide) ?_
    refine lv_goto (pc := 21) (tgt := 25) hx hb dX0_badPixel_21 (by decide) ?_
    exact ret 1 () _ _ 25 _ hP hD hS (if_pos (by simp only [badR, p_lt, p_le, L0, L16, L64] at *; omega)).symm dX0_badPixel_25 (Or.inr rfl)
  · refine lv_iload_n (pc := 4) hx hb dX0_badPixel_4 rfl (lv_at hl 0 rfl) ?_
    refine lv_bipush (pc := 5) (v := 16) hx hb dX0_badPixel_5 (by decide) ?_
    refine lv_icmp_ge (pc := 7) (tgt := 20) hx hb dX0_badPixel_7 (by decide) (fun c7 => ?_) (fun c7 => ?_)
    · refine lv_iconst (pc := 20) (v := 1) hx hb dX0_badPixel_20 (by decide) ?_
      refine lv_goto (pc := 21) (tgt := 25) hx hb dX0_badPixel_21 (by decide) ?_
      exact ret 1 () _ _ 25 _ hP hD hS (if_pos (by simp only [badR, p_lt, p_le, L0, L16, L64] at *; omega)).symm dX0_badPixel_25 (Or.inr rfl)
    · refine lv_iload_n (pc := 10) hx hb dX0_badPixel_10 rfl (lv_at hl 1 rfl) ?_
      refine lv_if_lt (pc := 11) (tgt := 20) hx hb dX0_badPixel_11 (by decide) (fun c11 => ?_) (fun c11 => ?_)
      · refine lv_iconst (pc := 20) (v := 1) hx hb dX0_badPixel_20 (by decide) ?_
        refine lv_goto (pc := 21) (tgt := 25) hx hb dX0_badPixel_21 (by decide) ?_
        exact ret 1 () _ _ 25 _ hP hD hS (if_pos (by simp only [badR, p_lt, p_le, L0, L16, L64] at *; omega)).symm dX0_badPixel_25 (Or.inr rfl)
      · refine lv_iload_n (pc := 14) hx hb dX0_badPixel_14 rfl (lv_at hl 1 rfl) ?_
        refine lv_bipush (pc := 15) (v := 16) hx hb dX0_badPixel_15 (by decide) ?_
        refine lv_icmp_lt (pc := 17) (tgt := 24) hx hb dX0_badPixel_17 (by decide) (fun c17 => ?_) (fun c17 => ?_)
        · refine lv_iconst (pc := 24) (v := 0) hx hb dX0_badPixel_24 (by decide) ?_
          exact ret 0 () _ _ 25 _ hP hD hS (if_neg (by simp only [badR, p_lt, p_le, L0, L16, L64] at *; omega)).symm dX0_badPixel_25 (Or.inl rfl)
        · refine lv_iconst (pc := 20) (v := 1) hx hb dX0_badPixel_20 (by decide) ?_
          refine lv_goto (pc := 21) (tgt := 25) hx hb dX0_badPixel_21 (by decide) ?_
          exact ret 1 () _ _ 25 _ hP hD hS (if_pos (by simp only [badR, p_lt, p_le, L0, L16, L64] at *; omega)).symm dX0_badPixel_25 (Or.inr rfl)

set_option maxHeartbeats 4000000 in
/-- leftOf: is the fraction i less than the fraction j -/
theorem tX_leftOf (l : Launch) (D : va_G) (d : ClassId) (h : Nat) (a : Nat → Nat) (sz n c k : Nat) (fi xs ys col tp bt wy cv : Nat → Int32) (i j : Nat) (hi : i < 12) (hj : j < 12) : zI l D d yX0_leftOf cX0_leftOf 3 .boolean (zR 0 0) [.ref h, .int (nI i), .int (nI j)] sz (wX h a d n c k fi xs ys col tp bt wy cv) (fun r (_ : Unit) => r = if tp i * bt j < tp j * bt i then 1 else 0) (fun _ => (wX h a d n c k fi xs ys col tp bt wy cv)) := by
  refine z_startZ (by decide) (Nat.le_of_ble_eq_true rfl) ?_
  intro p e s m args below meth cd A Q ls hx hb hml hown hts hA hK hP hD hS ret hl
  have hown : s.vm.findClass RX0 = some m.cls := hown
  have hl : lv_has ls 3 [(0, .ref h), (1, .int (nI i)), (2, .int (nI j))] := hl
  refine lv_aload_n (pc := 0) hx hb dX0_leftOf_0 rfl (lv_at hl 0 rfl) ?_
  refine x_get (pc := 1) hx hb hts hown hK hP rfl 7 (by decide) q31 (v := .ref (a 4)) rfl dX0_leftOf_1 ?_
  refine lv_iload_n (pc := 4) hx hb dX0_leftOf_4 rfl (lv_at hl 1 rfl) ?_
  refine z_ild (pc := 5) hx hb hK hP 5 rfl i rfl (by omega) (by decide) dX0_leftOf_5 ?_
  refine lv_aload_n (pc := 6) hx hb dX0_leftOf_6 rfl (lv_at hl 0 rfl) ?_
  refine x_get (pc := 7) hx hb hts hown hK hP rfl 8 (by decide) q32 (v := .ref (a 5)) rfl dX0_leftOf_7 ?_
  refine lv_iload_n (pc := 10) hx hb dX0_leftOf_10 rfl (lv_at hl 2 rfl) ?_
  refine z_ild (pc := 11) hx hb hK hP 6 rfl j rfl (by omega) (by decide) dX0_leftOf_11 ?_
  refine lv_imul (pc := 12) hx hb dX0_leftOf_12 ?_
  refine lv_aload_n (pc := 13) hx hb dX0_leftOf_13 rfl (lv_at hl 0 rfl) ?_
  refine x_get (pc := 14) hx hb hts hown hK hP rfl 7 (by decide) q31 (v := .ref (a 4)) rfl dX0_leftOf_14 ?_
  refine lv_iload_n (pc := 17) hx hb dX0_leftOf_17 rfl (lv_at hl 2 rfl) ?_
  refine z_ild (pc := 18) hx hb hK hP 5 rfl j rfl (by omega) (by decide) dX0_leftOf_18 ?_
  refine lv_aload_n (pc := 19) hx hb dX0_leftOf_19 rfl (lv_at hl 0 rfl) ?_
  refine x_get (pc := 20) hx hb hts hown hK hP rfl 8 (by decide) q32 (v := .ref (a 5)) rfl dX0_leftOf_20 ?_
  refine lv_iload_n (pc := 23) hx hb dX0_leftOf_23 rfl (lv_at hl 1 rfl) ?_
  refine z_ild (pc := 24) hx hb hK hP 6 rfl i rfl (by omega) (by decide) dX0_leftOf_24 ?_
  refine lv_imul (pc := 25) hx hb dX0_leftOf_25 ?_
  refine lv_icmp_ge (pc := 26) (tgt := 33) hx hb dX0_leftOf_26 (by decide) (fun c26 => ?_) (fun c26 => ?_)
  · refine lv_iconst (pc := 33) (v := 0) hx hb dX0_leftOf_33 (by decide) ?_
    exact ret 0 () _ _ 34 _ hP hD hS (if_neg (by simp only [p_lt, p_le] at *; omega)).symm dX0_leftOf_34 (Or.inl rfl)
  · refine lv_iconst (pc := 29) (v := 1) hx hb dX0_leftOf_29 (by decide) ?_
    refine lv_goto (pc := 30) (tgt := 34) hx hb dX0_leftOf_30 (by decide) ?_
    exact ret 1 () _ _ 34 _ hP hD hS (if_pos (by simp only [p_lt, p_le] at *; omega)).symm dX0_leftOf_34 (Or.inr rfl)

set_option maxHeartbeats 4000000 in
/-- exchange: the two crossings change places -/
theorem tX_exchange (l : Launch) (D : va_G) (d : ClassId) (h : Nat) (a : Nat → Nat) (sz n c k : Nat) (fi xs ys col tp bt wy cv : Nat → Int32) (i j : Nat) (hi : i < 12) (hj : j < 12) : zV l D d yX0_exchange cX0_exchange 6 (zR 0 0) [.ref h, .int (nI i), .int (nI j)] sz (wX h a d n c k fi xs ys col tp bt wy cv) (fun (_ : Unit) => True) (fun _ => (wX h a d n c k fi xs ys col (upd (upd tp i (tp j)) j (tp i)) (upd (upd bt i (bt j)) j (bt i)) (upd (upd wy i (wy j)) j (wy i)) cv)) := by
  refine z_startV (by decide) (Nat.le_of_ble_eq_true rfl) ?_
  intro p e s m args below meth cd A Q ls hx hb hml hown hts hA hK hP hD hS ret hl
  have hown : s.vm.findClass RX0 = some m.cls := hown
  have hl : lv_has ls 6 [(0, .ref h), (1, .int (nI i)), (2, .int (nI j))] := hl
  refine lv_aload_n (pc := 0) hx hb dX0_exchange_0 rfl (lv_at hl 0 rfl) ?_
  refine x_get (pc := 1) hx hb hts hown hK hP rfl 7 (by decide) q31 (v := .ref (a 4)) rfl dX0_exchange_1 ?_
  refine lv_iload_n (pc := 4) hx hb dX0_exchange_4 rfl (lv_at hl 1 rfl) ?_
  refine z_ild (pc := 5) hx hb hK hP 5 rfl i rfl (by omega) (by decide) dX0_exchange_5 ?_
  refine lv_istore_n (pc := 6) (lv' := [(3, .int (tp i)), (0, .ref h), (1, .int (nI i)), (2, .int (nI j))]) hx hb dX0_exchange_6 rfl hl (by decide) rfl (fun ls hl => ?_)
  refine lv_aload_n (pc := 7) hx hb dX0_exchange_7 rfl (lv_at hl 1 rfl) ?_
  refine x_get (pc := 8) hx hb hts hown hK hP rfl 7 (by decide) q31 (v := .ref (a 4)) rfl dX0_exchange_8 ?_
  refine lv_iload_n (pc := 11) hx hb dX0_exchange_11 rfl (lv_at hl 2 rfl) ?_
  refine lv_aload_n (pc := 12) hx hb dX0_exchange_12 rfl (lv_at hl 1 rfl) ?_
  refine x_get (pc := 13) hx hb hts hown hK hP rfl 7 (by decide) q31 (v := .ref (a 4)) rfl dX0_exchange_13 ?_
  refine lv_iload_n (pc := 16) hx hb dX0_exchange_16 rfl (lv_at hl 3 rfl) ?_
  refine z_ild (pc := 17) hx hb hK hP 5 rfl j rfl (by omega) (by decide) dX0_exchange_17 ?_
  refine z_ist (pc := 18) (ws' := wX h a d n c k fi xs ys col (upd tp i (tp j)) bt wy cv) hx hb hK hP hD hS 5 rfl i rfl (by omega) (by decide) rfl dX0_exchange_18 (fun H locs hP hD hS => ?_)
  refine lv_aload_n (pc := 19) hx hb dX0_exchange_19 rfl (lv_at hl 1 rfl) ?_
  refine x_get (pc := 20) hx hb hts hown hK hP rfl 7 (by decide) q31 (v := .ref (a 4)) rfl dX0_exchange_20 ?_
  refine lv_iload_n (pc := 23) hx hb dX0_exchange_23 rfl (lv_at hl 3 rfl) ?_
  refine lv_iload_n (pc := 24) hx hb dX0_exchange_24 rfl (lv_at hl 0 rfl) ?_
  refine z_ist (pc := 25) (ws' := wX h a d n c k fi xs ys col (upd (upd tp i (tp j)) j (tp i)) bt wy cv) hx hb hK hP hD hS 5 rfl j rfl (by omega) (by decide) rfl dX0_exchange_25 (fun H locs hP hD hS => ?_)
  refine lv_aload_n (pc := 26) hx hb dX0_exchange_26 rfl (lv_at hl 1 rfl) ?_
  refine x_get (pc := 27) hx hb hts hown hK hP rfl 8 (by decide) q32 (v := .ref (a 5)) rfl dX0_exchange_27 ?_
  refine lv_iload_n (pc := 30) hx hb dX0_exchange_30 rfl (lv_at hl 2 rfl) ?_
  refine z_ild (pc := 31) hx hb hK hP 6 rfl i rfl (by omega) (by decide) dX0_exchange_31 ?_
  refine lv_istore (pc := 32) (lv' := [(4, .int (bt i)), (3, .int (tp i)), (0, .ref h), (1, .int (nI i)), (2, .int (nI j))]) hx hb dX0_exchange_32 hl (by decide) rfl (fun ls hl => ?_)
  refine lv_aload_n (pc := 34) hx hb dX0_exchange_34 rfl (lv_at hl 2 rfl) ?_
  refine x_get (pc := 35) hx hb hts hown hK hP rfl 8 (by decide) q32 (v := .ref (a 5)) rfl dX0_exchange_35 ?_
  refine lv_iload_n (pc := 38) hx hb dX0_exchange_38 rfl (lv_at hl 3 rfl) ?_
  refine lv_aload_n (pc := 39) hx hb dX0_exchange_39 rfl (lv_at hl 2 rfl) ?_
  refine x_get (pc := 40) hx hb hts hown hK hP rfl 8 (by decide) q32 (v := .ref (a 5)) rfl dX0_exchange_40 ?_
  refine lv_iload_n (pc := 43) hx hb dX0_exchange_43 rfl (lv_at hl 4 rfl) ?_
  refine z_ild (pc := 44) hx hb hK hP 6 rfl j rfl (by omega) (by decide) dX0_exchange_44 ?_
  refine z_ist (pc := 45) (ws' := wX h a d n c k fi xs ys col (upd (upd tp i (tp j)) j (tp i)) (upd bt i (bt j)) wy cv) hx hb hK hP hD hS 6 rfl i rfl (by omega) (by decide) rfl dX0_exchange_45 (fun H locs hP hD hS => ?_)
  refine lv_aload_n (pc := 46) hx hb dX0_exchange_46 rfl (lv_at hl 2 rfl) ?_
  refine x_get (pc := 47) hx hb hts hown hK hP rfl 8 (by decide) q32 (v := .ref (a 5)) rfl dX0_exchange_47 ?_
  refine lv_iload_n (pc := 50) hx hb dX0_exchange_50 rfl (lv_at hl 4 rfl) ?_
  refine lv_iload (pc := 51) hx hb dX0_exchange_51 (lv_at hl 0 rfl) ?_
  refine z_ist (pc := 53) (ws' := wX h a d n c k fi xs ys col (upd (upd tp i (tp j)) j (tp i)) (upd (upd bt i (bt j)) j (bt i)) wy cv) hx hb hK hP hD hS 6 rfl j rfl (by omega) (by decide) rfl dX0_exchange_53 (fun H locs hP hD hS => ?_)
  refine lv_aload_n (pc := 54) hx hb dX0_exchange_54 rfl (lv_at hl 2 rfl) ?_
  refine x_get (pc := 55) hx hb hts hown hK hP rfl 9 (by decide) q33 (v := .ref (a 6)) rfl dX0_exchange_55 ?_
  refine lv_iload_n (pc := 58) hx hb dX0_exchange_58 rfl (lv_at hl 3 rfl) ?_
  refine z_ild (pc := 59) hx hb hK hP 7 rfl i rfl (by omega) (by decide) dX0_exchange_59 ?_
  refine lv_istore (pc := 60) (lv' := [(5, .int (wy i)), (4, .int (bt i)), (3, .int (tp i)), (0, .ref h), (1, .int (nI i)), (2, .int (nI j))]) hx hb dX0_exchange_60 hl (by decide) rfl (fun ls hl => ?_)
  refine lv_aload_n (pc := 62) hx hb dX0_exchange_62 rfl (lv_at hl 3 rfl) ?_
  refine x_get (pc := 63) hx hb hts hown hK hP rfl 9 (by decide) q33 (v := .ref (a 6)) rfl dX0_exchange_63 ?_
  refine lv_iload_n (pc := 66) hx hb dX0_exchange_66 rfl (lv_at hl 4 rfl) ?_
  refine lv_aload_n (pc := 67) hx hb dX0_exchange_67 rfl (lv_at hl 3 rfl) ?_
  refine x_get (pc := 68) hx hb hts hown hK hP rfl 9 (by decide) q33 (v := .ref (a 6)) rfl dX0_exchange_68 ?_
  refine lv_iload_n (pc := 71) hx hb dX0_exchange_71 rfl (lv_at hl 5 rfl) ?_
  refine z_ild (pc := 72) hx hb hK hP 7 rfl j rfl (by omega) (by decide) dX0_exchange_72 ?_
  refine z_ist (pc := 73) (ws' := wX h a d n c k fi xs ys col (upd (upd tp i (tp j)) j (tp i)) (upd (upd bt i (bt j)) j (bt i)) (upd wy i (wy j)) cv) hx hb hK hP hD hS 7 rfl i rfl (by omega) (by decide) rfl dX0_exchange_73 (fun H locs hP hD hS => ?_)
  refine lv_aload_n (pc := 74) hx hb dX0_exchange_74 rfl (lv_at hl 3 rfl) ?_
  refine x_get (pc := 75) hx hb hts hown hK hP rfl 9 (by decide) q33 (v := .ref (a 6)) rfl dX0_exchange_75 ?_
  refine lv_iload_n (pc := 78) hx hb dX0_exchange_78 rfl (lv_at hl 5 rfl) ?_
  refine lv_iload (pc := 79) hx hb dX0_exchange_79 (lv_at hl 0 rfl) ?_
  refine z_ist (pc := 81) (ws' := wX h a d n c k fi xs ys col (upd (upd tp i (tp j)) j (tp i)) (upd (upd bt i (bt j)) j (bt i)) (upd (upd wy i (wy j)) j (wy i)) cv) hx hb hK hP hD hS 7 rfl j rfl (by omega) (by decide) rfl dX0_exchange_81 (fun H locs hP hD hS => ?_)
  exact ret () _ _ 82 _ hP hD hS trivial dX0_exchange_82

set_option maxHeartbeats 4000000 in
/-- addCorner -/
theorem tX_addCorner (l : Launch) (D : va_G) (d : ClassId) (h : Nat) (a : Nat → Nat) (sz n c k : Nat) (fi xs ys col tp bt wy cv : Nat → Int32) (x y : Int32) (hn : n < 5) (hc : c < 12) : zV l D d yX0_addCorner cX0_addCorner 3 (zR 0 0) [.ref h, .int x, .int y] sz (wX h a d n c k fi xs ys col tp bt wy cv) (fun (_ : Unit) => True) (fun _ => (wX h a d n (c + 1) k (upd fi n (nI (c + 1))) (upd xs c x) (upd ys c y) col tp bt wy cv)) := by
  refine z_startV (by decide) (Nat.le_of_ble_eq_true rfl) ?_
  intro p e s m args below meth cd A Q ls hx hb hml hown hts hA hK hP hD hS ret hl
  have hown : s.vm.findClass RX0 = some m.cls := hown
  have hl : lv_has ls 3 [(0, .ref h), (1, .int x), (2, .int y)] := hl
  refine lv_aload_n (pc := 0) hx hb dX0_addCorner_0 rfl (lv_at hl 0 rfl) ?_
  refine x_get (pc := 1) hx hb hts hown hK hP rfl 4 (by decide) q28 (v := .ref (a 2)) rfl dX0_addCorner_1 ?_
  refine lv_aload_n (pc := 4) hx hb dX0_addCorner_4 rfl (lv_at hl 0 rfl) ?_
  refine x_get (pc := 5) hx hb hts hown hK hP rfl 2 (by decide) q26 (v := .int (nI c)) rfl dX0_addCorner_5 ?_
  refine lv_iload_n (pc := 8) hx hb dX0_addCorner_8 rfl (lv_at hl 1 rfl) ?_
  refine z_ist (pc := 9) (ws' := wX h a d n c k fi (upd xs c x) ys col tp bt wy cv) hx hb hK hP hD hS 3 rfl c rfl (by omega) (by decide) rfl dX0_addCorner_9 (fun H locs hP hD hS => ?_)
  refine lv_aload_n (pc := 10) hx hb dX0_addCorner_10 rfl (lv_at hl 0 rfl) ?_
  refine x_get (pc := 11) hx hb hts hown hK hP rfl 5 (by decide) q29 (v := .ref (a 3)) rfl dX0_addCorner_11 ?_
  refine lv_aload_n (pc := 14) hx hb dX0_addCorner_14 rfl (lv_at hl 0 rfl) ?_
  refine x_get (pc := 15) hx hb hts hown hK hP rfl 2 (by decide) q26 (v := .int (nI c)) rfl dX0_addCorner_15 ?_
  refine lv_iload_n (pc := 18) hx hb dX0_addCorner_18 rfl (lv_at hl 2 rfl) ?_
  refine z_ist (pc := 19) (ws' := wX h a d n c k fi (upd xs c x) (upd ys c y) col tp bt wy cv) hx hb hK hP hD hS 4 rfl c rfl (by omega) (by decide) rfl dX0_addCorner_19 (fun H locs hP hD hS => ?_)
  refine lv_aload_n (pc := 20) hx hb dX0_addCorner_20 rfl (lv_at hl 0 rfl) ?_
  refine lv_dup (pc := 21) hx hb dX0_addCorner_21 rfl ?_
  refine x_get (pc := 22) hx hb hts hown hK hP rfl 2 (by decide) q26 (v := .int (nI c)) rfl dX0_addCorner_22 ?_
  refine lv_iconst (pc := 25) (v := 1) hx hb dX0_addCorner_25 (by decide) ?_
  refine lv_iadd (pc := 26) hx hb dX0_addCorner_26 ?_
  refine z_eq (y := nI (c + 1)) (nI_1 c) ?_
  refine x_put (pc := 27) (ws' := wX h a d n (c + 1) k fi (upd xs c x) (upd ys c y) col tp bt wy cv) hx hb hts hown hK hP hD hS rfl 2 (by decide) q26 rfl (by decide +kernel) (Nat.le_of_ble_eq_true rfl) rfl dX0_addCorner_27 (fun H locs hP hD hS => ?_)
  refine lv_aload_n (pc := 30) hx hb dX0_addCorner_30 rfl (lv_at hl 0 rfl) ?_
  refine x_get (pc := 31) hx hb hts hown hK hP rfl 3 (by decide) q27 (v := .ref (a 1)) rfl dX0_addCorner_31 ?_
  refine lv_aload_n (pc := 34) hx hb dX0_addCorner_34 rfl (lv_at hl 0 rfl) ?_
  refine x_get (pc := 35) hx hb hts hown hK hP rfl 1 (by decide) q25 (v := .int (nI n)) rfl dX0_addCorner_35 ?_
  refine lv_aload_n (pc := 38) hx hb dX0_addCorner_38 rfl (lv_at hl 0 rfl) ?_
  refine x_get (pc := 39) hx hb hts hown hK hP rfl 2 (by decide) q26 (v := .int (nI (c + 1))) rfl dX0_addCorner_39 ?_
  refine z_ist (pc := 42) (ws' := wX h a d n (c + 1) k (upd fi n (nI (c + 1))) (upd xs c x) (upd ys c y) col tp bt wy cv) hx hb hK hP hD hS 2 rfl n rfl (by omega) (by decide) rfl dX0_addCorner_42 (fun H locs hP hD hS => ?_)
  exact ret () _ _ 43 _ hP hD hS trivial dX0_addCorner_43

set_option maxHeartbeats 4000000 in
/-- clear -/
theorem tX_clear (l : Launch) (D : va_G) (d : ClassId) (h : Nat) (a : Nat → Nat) (sz n c k : Nat) (fi xs ys col tp bt wy cv : Nat → Int32) : zV l D d yX0_clear cX0_clear 1 (zR 0 0) [.ref h] sz (wX h a d n c k fi xs ys col tp bt wy cv) (fun (_ : Unit) => True) (fun _ => (wX h a d 0 0 k fi xs ys col tp bt wy cv)) := by
  refine z_startV (by decide) (Nat.le_of_ble_eq_true rfl) ?_
  intro p e s m args below meth cd A Q ls hx hb hml hown hts hA hK hP hD hS ret hl
  have hown : s.vm.findClass RX0 = some m.cls := hown
  have hl : lv_has ls 1 [(0, .ref h)] := hl
  refine lv_aload_n (pc := 0) hx hb dX0_clear_0 rfl (lv_at hl 0 rfl) ?_
  refine lv_iconst (pc := 1) (v := 0) hx hb dX0_clear_1 (by decide) ?_
  refine x_put (pc := 2) (ws' := wX h a d 0 c k fi xs ys col tp bt wy cv) hx hb hts hown hK hP hD hS rfl 1 (by decide) q25 rfl (by decide +kernel) (Nat.le_of_ble_eq_true rfl) rfl dX0_clear_2 (fun H locs hP hD hS => ?_)
  refine lv_aload_n (pc := 5) hx hb dX0_clear_5 rfl (lv_at hl 0 rfl) ?_
  refine lv_iconst (pc := 6) (v := 0) hx hb dX0_clear_6 (by decide) ?_
  refine x_put (pc := 7) (ws' := wX h a d 0 0 k fi xs ys col tp bt wy cv) hx hb hts hown hK hP hD hS rfl 2 (by decide) q26 rfl (by decide +kernel) (Nat.le_of_ble_eq_true rfl) rfl dX0_clear_7 (fun H locs hP hD hS => ?_)
  exact ret () _ _ 10 _ hP hD hS trivial dX0_clear_10

set_option maxHeartbeats 4000000 in
/-- isInside -/
theorem tX_isInside (l : Launch) (D : va_G) (d : ClassId) (sz : Nat) (x o : Int32) : zI l D d yX0_isInside cX0_isInside 2 .boolean (zR 0 0) [.int x, .int o] sz [] (fun r (_ : Unit) => r = insI x o) (fun _ => []) := by
  refine z_startZ (by decide) (Nat.le_of_ble_eq_true rfl) ?_
  intro p e s m args below meth cd A Q ls hx hb hml hown hts hA hK hP hD hS ret hl
  have hl : lv_has ls 2 [(0, .int x), (1, .int o)] := hl
  refine lv_iload_n (pc := 0) hx hb dX0_isInside_0 rfl (lv_at hl 1 rfl) ?_
  refine lv_if_eq (pc := 1) (tgt := 19) hx hb dX0_isInside_1 (by decide) (fun c1 => ?_) (fun c1 => ?_)
  · refine lv_iload_n (pc := 19) hx hb dX0_isInside_19 rfl (lv_at hl 0 rfl) ?_
    refine lv_if_eq (pc := 20) (tgt := 27) hx hb dX0_isInside_20 (by decide) (fun c20 => ?_) (fun c20 => ?_)
    · refine lv_iconst (pc := 27) (v := 0) hx hb dX0_isInside_27 (by decide) ?_
      exact ret 0 () _ _ 28 _ hP hD hS (by rw [insI, if_pos c1, if_pos c20]) dX0_isInside_28 (Or.inl rfl)
    · refine lv_iconst (pc := 23) (v := 1) hx hb dX0_isInside_23 (by decide) ?_
      refine lv_goto (pc := 24) (tgt := 28) hx hb dX0_isInside_24 (by decide) ?_
      exact ret 1 () _ _ 28 _ hP hD hS (by rw [insI, if_pos c1, if_neg c20]) dX0_isInside_28 (Or.inr rfl)
  · refine lv_iload_n (pc := 4) hx hb dX0_isInside_4 rfl (lv_at hl 0 rfl) ?_
    refine lv_iconst (pc := 5) (v := 1) hx hb dX0_isInside_5 (by decide) ?_
    refine lv_iand (pc := 6) hx hb dX0_isInside_6 ?_
    refine lv_iconst (pc := 7) (v := 1) hx hb dX0_isInside_7 (by decide) ?_
    refine lv_icmp_ne (pc := 8) (tgt := 15) hx hb dX0_isInside_8 (by decide) (fun c8 => ?_) (fun c8 => ?_)
    · refine lv_iconst (pc := 15) (v := 0) hx hb dX0_isInside_15 (by decide) ?_
      refine lv_goto (pc := 16) (tgt := 28) hx hb dX0_isInside_16 (by decide) ?_
      exact ret 0 () _ _ 28 _ hP hD hS (by rw [insI, if_neg c1, if_neg c8]) dX0_isInside_28 (Or.inl rfl)
    · refine lv_iconst (pc := 11) (v := 1) hx hb dX0_isInside_11 (by decide) ?_
      refine lv_goto (pc := 12) (tgt := 28) hx hb dX0_isInside_12 (by decide) ?_
      exact ret 1 () _ _ 28 _ hP hD hS (by rw [insI, if_neg c1, if_pos c8]) dX0_isInside_28 (Or.inr rfl)

set_option maxHeartbeats 4000000 in
/-- allWays: the sum of the ways -/
theorem tX_allWays (l : Launch) (D : va_G) (d : ClassId) (h : Nat) (a : Nat → Nat) (sz n c k : Nat) (fi xs ys col tp bt wy cv : Nat → Int32) (hk : k ≤ 12) : zI l D d yX0_allWays cX0_allWays 3 .int (zR 0 0) [.ref h] sz (wX h a d n c k fi xs ys col tp bt wy cv) (fun r (_ : Unit) => r = bx_sum wy k) (fun _ => (wX h a d n c k fi xs ys col tp bt wy cv)) := by
  refine z_startI (by decide) (Nat.le_of_ble_eq_true rfl) ?_
  intro p e s m args below meth cd A Q ls hx hb hml hown hts hA hK hP hD hS ret hl
  have hown : s.vm.findClass RX0 = some m.cls := hown
  have hl : lv_has ls 3 [(0, .ref h)] := hl
  refine lv_iconst (pc := 0) (v := 0) hx hb dX0_allWays_0 (by decide) ?_
  refine lv_istore_n (pc := 1) (lv' := [(1, .int 0), (0, .ref h)]) hx hb dX0_allWays_1 rfl hl (by decide) rfl (fun ls hl => ?_)
  refine lv_iconst (pc := 2) (v := 0) hx hb dX0_allWays_2 (by decide) ?_
  refine lv_istore_n (pc := 3) (lv' := [(2, .int 0), (1, .int 0), (0, .ref h)]) hx hb dX0_allWays_3 rfl hl (by decide) rfl (fun ls hl => ?_)
  have loop : ∀ (N i : Nat), i ≤ k → k < i + N → ∀ (ls : Array Slot), lv_has ls 3 [(0, .ref h), (1, .int (bx_sum wy i)), (2, .int (nI i))] → W p l e (zR 0 0) s m args below meth cd s.heap [] 0 0 Q (F0 m 4 ls []) := by
    intro N
    induction N with
    | zero => intro i h1 h2; exact absurd h2 (by omega)
    | succ N ih =>
      intro i hik hN ls hl
      refine lv_iload_n (pc := 4) hx hb dX0_allWays_4 rfl (lv_at hl 2 rfl) ?_
      refine lv_aload_n (pc := 5) hx hb dX0_allWays_5 rfl (lv_at hl 0 rfl) ?_
      refine x_get (pc := 6) hx hb hts hown hK hP rfl 6 (by decide) q30 (v := .int (nI k)) rfl dX0_allWays_6 ?_
      refine lv_icmp_ge (pc := 9) (tgt := 27) hx hb dX0_allWays_9 (by decide) (fun c9 => ?_) (fun c9 => ?_)
      · have hi : i = k := by rcases Nat.lt_or_ge i k with q | q; exact absurd c9 (nI_ge q (by omega)); omega
        subst hi
        refine lv_iload_n (pc := 27) hx hb dX0_allWays_27 rfl (lv_at hl 1 rfl) ?_
        exact ret (bx_sum wy i) () _ _ 28 _ hP hD hS rfl dX0_allWays_28
      · have hi : i < k := by rcases Nat.lt_or_ge i k with q | q; exact q; exact absurd (nI_le q (by omega)) c9
        refine lv_iload_n (pc := 12) hx hb dX0_allWays_12 rfl (lv_at hl 1 rfl) ?_
        refine lv_aload_n (pc := 13) hx hb dX0_allWays_13 rfl (lv_at hl 0 rfl) ?_
        refine x_get (pc := 14) hx hb hts hown hK hP rfl 9 (by decide) q33 (v := .ref (a 6)) rfl dX0_allWays_14 ?_
        refine lv_iload_n (pc := 17) hx hb dX0_allWays_17 rfl (lv_at hl 2 rfl) ?_
        refine z_ild (pc := 18) hx hb hK hP 7 rfl i rfl (by omega) (by decide) dX0_allWays_18 ?_
        refine lv_iadd (pc := 19) hx hb dX0_allWays_19 ?_
        refine z_eq (y := bx_sum wy (i + 1)) rfl ?_
        refine lv_istore_n (pc := 20) (lv' := [(1, .int (bx_sum wy (i + 1))), (0, .ref h), (2, .int (nI i))]) hx hb dX0_allWays_20 rfl hl (by decide) rfl (fun ls hl => ?_)
        refine lv_iinc (pc := 21) (v := nI (i + 1)) (lv' := [(2, .int (nI (i + 1))), (1, .int (bx_sum wy (i + 1))), (0, .ref h)]) hx hb dX0_allWays_21 hl (k := 2) rfl (nI_1 i) (by decide) rfl (fun ls hl => ?_)
        refine lv_goto (pc := 24) (tgt := 4) hx hb dX0_allWays_24 (by decide) ?_
        exact ih (i + 1) hi (by omega) ls (lv_sub hl [2, 1, 0] rfl)
  exact loop (k + 1) 0 (Nat.zero_le _) (by omega) ls (lv_sub hl [2, 1, 0] rfl)
end
section
/-! plain facts, second part: what each method answers and leaves -/
set_option maxRecDepth 100000
theorem b_no {c : Prop} [Decidable c] {r : Int32} (h : r = if c then 1 else 0) (h0 : r = 0) : ¬ c := fun q => by
  rw [if_pos q] at h
  rw [h] at h0
  exact absurd h0 (by decide)
theorem b_yes {c : Prop} [Decidable c] {r : Int32} (h : r = if c then 1 else 0) (h0 : ¬ r = 0) : c := Decidable.byContradiction fun q => h0 (by rw [h, if_neg q])
theorem okC_nI {m : Nat} (h : m ≤ 64) : okC (nI m) := by
  have e : (nI m).toInt = m := nI_toInt (by omega)
  exact ⟨by omega, by omega⟩
theorem nI_of_okC {x : Int32} (h : okC x) : ∃ j : Nat, j ≤ 64 ∧ x = nI j := nI_of2 (M := 64) (n := 64) rfl (by rw [p_lt, L0]; have := h.1; omega) (by rw [p_le, L64]; exact h.2)
theorem badR_no {r q : Int32} (h : ¬ badR r q) : ∃ i j : Nat, i < 16 ∧ j < 16 ∧ r = nI i ∧ q = nI j := by
  simp only [badR, not_or, p_lt, p_le, L0, L16] at h
  obtain ⟨i, hi, e1⟩ := nI_of2 (x := r) (M := 15) (n := 15) rfl (by rw [p_lt, L0]; omega) (by rw [p_le, L15]; omega)
  obtain ⟨j, hj, e2⟩ := nI_of2 (x := q) (M := 15) (n := 15) rfl (by rw [p_lt, L0]; omega) (by rw [p_le, L15]; omega)
  exact ⟨i, j, by omega, by omega, e1, e2⟩
theorem badR_nI {i j : Nat} (hi : i < 16) (hj : j < 16) : ¬ badR (nI i) (nI j) := by
  have e1 : (nI i).toInt = i := nI_toInt (by omega)
  have e2 : (nI j).toInt = j := nI_toInt (by omega)
  simp only [badR, p_lt, p_le, L0, L16, e1, e2]
  omega
theorem sS_push (tp bt wy : Nat → Int32) (k : Nat) (t b w x : Int32) : sS (upd tp k t) (upd bt k b) (upd wy k w) x (k + 1) = sS tp bt wy x k + cX t b w x := by
  have hs : ∀ (f : Nat → Int32) (v : Int32) (j : Nat), j < k → upd f k v j = f j := fun f v j hj => by
    simp [upd, Nat.ne_of_lt hj]
  rw [sS, sS_cong (tp := tp) (bt := bt) (wy := wy) x k (fun j hj => ⟨hs _ _ _ hj, hs _ _ _ hj, hs _ _ _ hj⟩), pk_us, pk_us, pk_us]
/-- begin -/
def bgR (n c : Nat) (x y : Int32) : Int32 := if badP x y then -1 else if n < 4 ∧ c < 12 then nI (n + 1) else -2
abbrev zShape : Type := Nat × Nat × (Nat → Int32) × (Nat → Int32) × (Nat → Int32)
def bgS (n c : Nat) (fi xs ys : Nat → Int32) (x y : Int32) : zShape := if badP x y then (n, c, fi, xs, ys) else if n < 4 ∧ c < 12 then (n + 1, c + 1, upd (upd fi n (nI c)) (n + 1) (nI (c + 1)), upd xs c x, upd ys c y) else (n, c, fi, xs, ys)
/-- corner -/
def coR (n c : Nat) (x y : Int32) : Int32 := if badP x y then -1 else if 0 < n ∧ c < 12 then nI (c + 1) else -2
def coS (n c : Nat) (fi xs ys : Nat → Int32) (x y : Int32) : zShape := if badP x y then (n, c, fi, xs, ys) else if 0 < n ∧ c < 12 then (n, c + 1, upd fi n (nI (c + 1)), upd xs c x, upd ys c y) else (n, c, fi, xs, ys)
/-- move -/
def mvO (v dv : Int32) : Prop := 0 ≤ v.toInt + dv.toInt ∧ v.toInt + dv.toInt ≤ 64
def mvOK (c : Nat) (xs ys : Nat → Int32) (dx dy : Int32) : Prop := ∀ i, i < c → mvO (xs i) dx ∧ mvO (ys i) dy
def mvd (xs : Nat → Int32) (dx : Int32) (c : Nat) : Nat → Int32 := fa_fill (fun j => xs j + dx) xs c
theorem p_neg {v : Int32} (hv : okC v) : (-v).toInt = -v.toInt := by
  have e : -v = 0 - v := by grind
  rw [e, p_sub (by rw [L0]; have := hv.2; omega) (by rw [L0]; have := hv.1; omega), L0]
  omega
theorem mv_lo {v dv : Int32} (hv : okC v) : dv < -v ↔ v.toInt + dv.toInt < 0 := by
  rw [p_lt, p_neg hv]
  omega
theorem mv_hi {v dv : Int32} (hv : okC v) : 64 - v < dv ↔ 64 < v.toInt + dv.toInt := by
  rw [p_lt, p_sub (by rw [L64]; have := hv.2; omega) (by rw [L64]; have := hv.1; omega), L64]
  omega
/-- wipe, paint: the colour -/
abbrev badK (x : Int32) : Prop := x < 0 ∨ 255 < x
abbrev badL (x : Int32) : Prop := x < 0 ∨ 16 ≤ x
def wiR (x : Int32) : Int32 := if badK x then -3 else 0
def wiC (x : Int32) (col : Nat → Int32) : Nat → Int32 := if badK x then col else fa_fill (fun _ => x) col 256
def pxR (col : Nat → Int32) (r q : Int32) : Int32 := if badR r q then -4 else col (r.toNatClampNeg * 16 + q.toNatClampNeg)
def rsm (col : Nat → Int32) (r : Nat) : Nat → Int32
  | 0 => 0
  | i + 1 => rsm col r i + col (r * 16 + i)
def rsR (col : Nat → Int32) (r : Int32) : Int32 := if badL r then -4 else rsm col r.toNatClampNeg 16
theorem badL_no {r : Int32} (h : ¬ badL r) : ∃ i : Nat, i < 16 ∧ r = nI i := by
  simp only [badL, not_or, p_lt, p_le, L0, L16] at h
  obtain ⟨i, hi, e1⟩ := nI_of2 (x := r) (M := 15) (n := 15) rfl (by rw [p_lt, L0]; omega) (by rw [p_le, L15]; omega)
  exact ⟨i, by omega, e1⟩
def cgR (n : Nat) (fi xs ys : Nat → Int32) (r q o : Int32) : Int32 := if badR r q then -4 else kap (smp n fi xs ys o) r.toNatClampNeg q.toNatClampNeg 4
def wdR (n : Nat) (fi xs ys : Nat → Int32) (x y : Int32) : Int32 := if badP x y then 0 else wOut fi xs ys x y n
/-- the coverage of all pixels -/
def Kp (n : Nat) (fi xs ys : Nat → Int32) (o : Int32) : Nat → Int32 := fun p => kap (smp n fi xs ys o) (p / 16) (p % 16) 4
def paR (n : Nat) (fi xs ys : Nat → Int32) (x o : Int32) : Int32 := if badK x then -3 else cntK (Kp n fi xs ys o) 256
def paC (n : Nat) (fi xs ys col : Nat → Int32) (x o : Int32) : Nat → Int32 := if badK x then col else fa_fill (pnt x (Kp n fi xs ys o) col) col 256
def arR (n : Nat) (fi xs ys : Nat → Int32) (o : Int32) : Int32 := bx_sum (Kp n fi xs ys o) 256
/-- a row of zeros up to i -/
def zrow (cv : Nat → Int32) (r i : Nat) : Nat → Int32 := fun p => if r * 16 ≤ p ∧ p < r * 16 + i then 0 else cv p
theorem zrow_0 (cv : Nat → Int32) (r : Nat) : zrow cv r 0 = cv := by
  funext p
  simp only [zrow]
  rw [if_neg (by omega)]
theorem zrow_succ (cv : Nat → Int32) (r i : Nat) : upd (zrow cv r i) (r * 16 + i) 0 = zrow cv r (i + 1) := by
  funext p
  by_cases e : p = r * 16 + i
  · subst e
    simp only [upd, if_true, zrow]
    rw [if_pos (by omega)]
  · simp only [upd, if_neg e, zrow]
    by_cases h : r * 16 ≤ p ∧ p < r * 16 + i
    · rw [if_pos h, if_pos (by omega)]
    · rw [if_neg h, if_neg (by omega)]
theorem covA_fill (cv : Nat → Int32) (I : Nat → Nat → Int32) : fa_fill (fun _ => 0) cv 256 = covA cv I 0 := by
  rw [covA_0]
  rfl
/-! the shape is kept -/
theorem shp_F {fi : Nat → Int32} {j m : Nat} (h : fi j = nI m) (hm : m < 2147483648) : F_ fi j = m := by
  rw [F_, h, nI_clamp hm]
theorem nxt_lt {n c : Nat} {fi xs ys : Nat → Int32} (h : shp n c fi xs ys) {j i : Nat} (hj : j < n) (h1 : F_ fi j ≤ i) (h2 : i < F_ fi (j + 1)) : nxt fi j i < c ∧ i < c := by
  have a := (h.2.2.1 (j + 1) (by omega)).2
  unfold nxt
  split <;> omega
theorem upd_other (f : Nat → Int32) {k j : Nat} (v : Int32) (h : j ≠ k) : upd f k v j = f j := pk_un h
theorem shp_begin {n c : Nat} {fi xs ys : Nat → Int32} (h : shp n c fi xs ys) (x y : Int32) : shp (bgS n c fi xs ys x y).1 (bgS n c fi xs ys x y).2.1 (bgS n c fi xs ys x y).2.2.1 (bgS n c fi xs ys x y).2.2.2.1 (bgS n c fi xs ys x y).2.2.2.2 := by
  unfold bgS
  by_cases hb : badP x y
  · rw [if_pos hb]; exact h
  · rw [if_neg hb]
    by_cases hn : n < 4 ∧ c < 12
    · rw [if_pos hn]
      obtain ⟨ox, oy⟩ := badP_ok hb
      obtain ⟨h1, h2, h3, h4, h5, h6, h7⟩ := h
      have g : ∀ j, j ≤ n → upd (upd fi n (nI c)) (n + 1) (nI (c + 1)) j = fi j := by
        intro j hj
        rw [pk_un (by omega)]
        by_cases e : j = n
        · subst e
          rw [pk_us, (h3 j hj).1, h5]
        · rw [pk_un e]
      have gF : ∀ j, j ≤ n → F_ (upd (upd fi n (nI c)) (n + 1) (nI (c + 1))) j = F_ fi j := fun j hj => by rw [F_, F_, g j hj]
      have gn : F_ (upd (upd fi n (nI c)) (n + 1) (nI (c + 1))) (n + 1) = c + 1 := shp_F pk_us (by omega)
      refine ⟨by show n + 1 ≤ 4; omega, by show c + 1 ≤ 12; omega, fun j hj => ?_, ?_, gn, fun j hj => ?_, fun j hj => ?_⟩
      · by_cases e : j = n + 1
        · subst e
          exact ⟨by show upd _ _ _ _ = _; rw [gn, pk_us], by show F_ _ _ ≤ c + 1; rw [gn]; omega⟩
        · have hj : j ≤ n := by have : j ≤ n + 1 := hj; omega
          exact ⟨by show upd _ _ _ _ = _; rw [gF j hj, g j hj]; exact (h3 j hj).1, by show F_ _ _ ≤ c + 1; rw [gF j hj]; have := (h3 j hj).2; omega⟩
      · show F_ _ 0 = 0
        rw [gF 0 (Nat.zero_le _)]; exact h4
      · show F_ _ j ≤ F_ _ (j + 1)
        by_cases e : j = n
        · subst e
          rw [gn, gF j (Nat.le_refl _), h5]; omega
        · have hj : j < n := by have : j < n + 1 := hj; omega
          rw [gF j (by omega), gF (j + 1) (by omega)]
          exact h6 j hj
      · show okC (upd xs c x j) ∧ okC (upd ys c y j)
        by_cases e : j = c
        · subst e
          rw [pk_us, pk_us]; exact ⟨ox, oy⟩
        · rw [pk_un e, pk_un e]
          exact h7 j (by have : j < c + 1 := hj; omega)
    · rw [if_neg hn]; exact h
theorem shp_corner {n c : Nat} {fi xs ys : Nat → Int32} (h : shp n c fi xs ys) (x y : Int32) : shp (coS n c fi xs ys x y).1 (coS n c fi xs ys x y).2.1 (coS n c fi xs ys x y).2.2.1 (coS n c fi xs ys x y).2.2.2.1 (coS n c fi xs ys x y).2.2.2.2 := by
  unfold coS
  by_cases hb : badP x y
  · rw [if_pos hb]; exact h
  · rw [if_neg hb]
    by_cases hn : 0 < n ∧ c < 12
    · rw [if_pos hn]
      obtain ⟨ox, oy⟩ := badP_ok hb
      obtain ⟨h1, h2, h3, h4, h5, h6, h7⟩ := h
      have g : ∀ j, j < n → upd fi n (nI (c + 1)) j = fi j := fun j hj => pk_un (by omega)
      have gF : ∀ j, j < n → F_ (upd fi n (nI (c + 1))) j = F_ fi j := fun j hj => by rw [F_, F_, g j hj]
      have gn : F_ (upd fi n (nI (c + 1))) n = c + 1 := shp_F pk_us (by omega)
      refine ⟨h1, by show c + 1 ≤ 12; omega, fun j hj => ?_, ?_, gn, fun j hj => ?_, fun j hj => ?_⟩
      · by_cases e : j = n
        · subst e
          exact ⟨by show upd _ _ _ _ = _; rw [gn, pk_us], by show F_ _ _ ≤ c + 1; rw [gn]; omega⟩
        · have hj : j < n := by have : j ≤ n := hj; omega
          exact ⟨by show upd _ _ _ _ = _; rw [gF j hj, g j hj]; exact (h3 j (by omega)).1, by show F_ _ _ ≤ c + 1; rw [gF j hj]; have := (h3 j (by omega)).2; omega⟩
      · show F_ _ 0 = 0
        rw [gF 0 hn.1]; exact h4
      · show F_ _ j ≤ F_ _ (j + 1)
        have hj : j < n := hj
        by_cases e : j + 1 = n
        · rw [e, gn, gF j hj]
          have := h6 j hj
          rw [e, h5] at this
          omega
        · rw [gF j hj, gF (j + 1) (by omega)]
          exact h6 j hj
      · show okC (upd xs c x j) ∧ okC (upd ys c y j)
        by_cases e : j = c
        · subst e
          rw [pk_us, pk_us]; exact ⟨ox, oy⟩
        · rw [pk_un e, pk_un e]
          exact h7 j (by have : j < c + 1 := hj; omega)
    · rw [if_neg hn]; exact h
theorem mvd_ok {v dv : Int32} (hv : okC v) (h : mvO v dv) : okC (v + dv) := by
  have h1 := hv.1
  have h2 := hv.2
  have h3 := h.1
  have h4 := h.2
  unfold okC
  rw [p_add (by omega) (by omega)]
  exact ⟨h3, h4⟩
theorem shp_move {n c : Nat} {fi xs ys : Nat → Int32} (h : shp n c fi xs ys) {dx dy : Int32} (hm : mvOK c xs ys dx dy) : shp n c fi (mvd xs dx c) (mvd ys dy c) := by
  obtain ⟨h1, h2, h3, h4, h5, h6, h7⟩ := h
  refine ⟨h1, h2, h3, h4, h5, h6, fun j hj => ?_⟩
  rw [mvd, mvd, fa_fill_in hj, fa_fill_in hj]
  exact ⟨mvd_ok (h7 j hj).1 (hm j hj).1, mvd_ok (h7 j hj).2 (hm j hj).2⟩
theorem shp_mirror {n c : Nat} {fi xs ys : Nat → Int32} (h : shp n c fi xs ys) : shp n c fi (fa_fill ys xs c) (fa_fill xs ys c) := by
  obtain ⟨h1, h2, h3, h4, h5, h6, h7⟩ := h
  refine ⟨h1, h2, h3, h4, h5, h6, fun j hj => ?_⟩
  rw [fa_fill_in hj, fa_fill_in hj]
  exact ⟨(h7 j hj).2, (h7 j hj).1⟩
theorem shp_clear {n c : Nat} {fi xs ys : Nat → Int32} (h : shp n c fi xs ys) : shp 0 0 fi xs ys := by
  obtain ⟨h1, h2, h3, h4, h5, h6, h7⟩ := h
  refine ⟨by omega, by omega, fun j hj => ?_, h4, h4, fun j hj => by omega, fun j hj => by omega⟩
  have : j = 0 := by omega
  subst this
  exact ⟨(h3 0 (by omega)).1, by omega⟩
theorem shp_zero : shp 0 0 (fun _ => 0) (fun _ => 0) (fun _ => 0) := by
  refine ⟨by omega, by omega, fun j hj => ?_, rfl, rfl, fun j hj => by omega, fun j hj => by omega⟩
  exact ⟨rfl, by show (0 : Int32).toNatClampNeg ≤ 0; decide⟩
end
section
/-! PolygonFill: crossings -/
set_option maxRecDepth 100000
set_option maxHeartbeats 4000000 in
/-- addEdge: the edge, if it crosses the height y, comes to its place among the crossings -/
theorem tX_addEdge (l : Launch) (D : va_G) (d : ClassId) (h : Nat) (a : Nat → Nat) (sz n c k : Nat) (fi xs ys col tp bt wy cv : Nat → Int32) (x1 y1 x2 y2 y : Int32) (hk : k < 12) (hG : Gd k tp bt) (hx1 : okC x1) (hy1 : okC y1) (hx2 : okC x2) (hy2 : okC y2) (hy : okC y) : zV l D d yX0_addEdge cX0_addEdge 13 (zR 1 25) [.ref h, .int x1, .int y1, .int x2, .int y2, .int y] sz (wX h a d n c k fi xs ys col tp bt wy cv) (fun (u : Nat × (Nat → Int32) × (Nat → Int32) × (Nat → Int32)) => Gd u.1 u.2.1 u.2.2.1 ∧ u.1 ≤ k + 1 ∧ ∀ x, okC x → sS u.2.1 u.2.2.1 u.2.2.2 x u.1 = sS tp bt wy x k + eI x1 y1 x2 y2 x y) (fun u => (wX h a d n c u.1 fi xs ys col u.2.1 u.2.2.1 u.2.2.2 cv)) := by
  refine z_startV (by decide) (Nat.le_of_ble_eq_true rfl) ?_
  intro p e s m args below meth cd A Q ls hx hb hml hown hts hA hK hP hD hS ret hl
  have hown : s.vm.findClass RX0 = some m.cls := hown
  have hl : lv_has ls 13 [(0, .ref h), (1, .int x1), (2, .int y1), (3, .int x2), (4, .int y2), (5, .int y)] := hl
  have hE0 : ∀ x, sS tp bt wy x k + eI x1 y1 x2 y2 x y = sS tp bt wy x k + eI x1 y1 x2 y2 x y := fun _ => rfl
  clear hE0
  obtain ⟨E, hE⟩ : ∃ E : Int32 → Int32, ∀ x, E x = sS tp bt wy x k + eI x1 y1 x2 y2 x y := ⟨_, fun _ => rfl⟩
  have ret : ∀ (u : Nat × (Nat → Int32) × (Nat → Int32) × (Nat → Int32)) (H : Heap) (locs : List Loc) (pc : Nat) (ls : Array Slot), va_P D vwCl (wX h a d n c u.1 fi xs ys col u.2.1 u.2.2.1 u.2.2.2 cv) H → va_D A (wX h a d n c u.1 fi xs ys col u.2.1 u.2.2.1 u.2.2.2 cv) → va_S A s.heap H locs → (Gd u.1 u.2.1 u.2.2.1 ∧ u.1 ≤ k + 1 ∧ ∀ x, okC x → sS u.2.1 u.2.2.1 u.2.2.2 x u.1 = E x) → decode cX0_addEdge pc = .ok (.return_, 1) → W p l e (zR 1 25) s m args below meth cd H locs 0 0 Q (F0 m pc ls []) := fun u H locs pc ls h1 h2 h3 h4 h5 => ret u H locs pc ls h1 h2 h3 ⟨h4.1, h4.2.1, fun x hx => (h4.2.2 x hx).trans (hE x)⟩ h5
  have loop : ∀ (N : Nat) (i : Nat) (tp bt wy : Nat → Int32), (i < N) → (i ≤ k) → (Ins (k + 1) i tp bt) → (∀ x, okC x → sS tp bt wy x (k + 1) = E x) → ∀ (H : Heap) (locs : List Loc), va_P D vwCl (wX h a d n c (k + 1) fi xs ys col tp bt wy cv) H → va_D A (wX h a d n c (k + 1) fi xs ys col tp bt wy cv) → va_S A s.heap H locs → ∀ (ls : Array Slot), lv_has ls 13 [(0, .ref h), (8, .int (nI i))] → W p l e (zR 1 25) s m args below meth cd H locs 0 0 Q (F0 m 176 ls []) := by
    intro N
    induction N with
    | zero => intro i tp bt wy hN hik hI hs; exfalso; omega
    | succ N ih =>
      intro i tp bt wy hN hik hI hs H locs hP hD hS ls hl
      refine lv_iload (pc := 176) hx hb dX0_addEdge_176 (lv_at hl 1 rfl) ?_
      refine lv_if_le (pc := 178) (tgt := 210) hx hb dX0_addEdge_178 (by decide) (fun c178 => ?_) (fun c178 => ?_)
      · have hi : i = 0 := by rcases Nat.eq_zero_or_pos i with q | q; exact q; exact absurd c178 (nI_nle q (by omega))
        subst hi
        exact ret (k + 1, tp, bt, wy) _ _ 210 _ hP hD hS ⟨Ins_end0 hI, Nat.le_refl _, hs⟩ dX0_addEdge_210
      · obtain ⟨i, rfl⟩ : ∃ j, i = j + 1 := ⟨i - 1, by have : i ≠ 0 := fun q => c178 (by subst q; decide); omega⟩
        refine lv_aload_n (pc := 181) hx hb dX0_addEdge_181 rfl (lv_at hl 0 rfl) ?_
        refine lv_iload (pc := 182) hx hb dX0_addEdge_182 (lv_at hl 1 rfl) ?_
        refine lv_iload (pc := 184) hx hb dX0_addEdge_184 (lv_at hl 1 rfl) ?_
        refine lv_iconst (pc := 186) (v := 1) hx hb dX0_addEdge_186 (by decide) ?_
        refine lv_isub (pc := 187) hx hb dX0_addEdge_187 ?_
        refine z_eq (y := nI i) (nI_pred i) ?_
        refine z_callI (pc := 188) (As := [.int (nI (i + 1)), .int (nI i)]) (rest := []) hx hb hml hown hts hA hK hP hD hS (tX_leftOf l D d h a H.size n c (k + 1) fi xs ys col tp bt wy cv (i + 1) i (by omega) (by omega)) (cwV 2 hts (lw_V q106 q108 qs5 q14 q109) rfl rfl rfl (by decide +kernel) ⟨Nat.le_of_ble_eq_true rfl, Nat.le_of_ble_eq_true rfl⟩) (va_recv hK hP (ci := 0) (q0 := 0) rfl rfl) rfl hl.1 rfl (Nat.le_of_ble_eq_true rfl) dX0_addEdge_188 (Nat.le_refl _) (Nat.le_refl _) (fun r_ u_ H locs hr_ hP hD hS => ?_)
        refine lv_if_eq (pc := 191) (tgt := 210) hx hb dX0_addEdge_191 (by decide) (fun c191 => ?_) (fun c191 => ?_)
        · exact ret (k + 1, tp, bt, wy) _ _ 210 _ hP hD hS ⟨Ins_end hI (by omega) (Classical.byContradiction fun q => b_no hr_ c191 ((left_iff hI.1 (by omega) (by omega)).mpr q)), Nat.le_refl _, hs⟩ dX0_addEdge_210
        · refine lv_aload_n (pc := 194) hx hb dX0_addEdge_194 rfl (lv_at hl 0 rfl) ?_
          refine lv_iload (pc := 195) hx hb dX0_addEdge_195 (lv_at hl 1 rfl) ?_
          refine lv_iload (pc := 197) hx hb dX0_addEdge_197 (lv_at hl 1 rfl) ?_
          refine lv_iconst (pc := 199) (v := 1) hx hb dX0_addEdge_199 (by decide) ?_
          refine lv_isub (pc := 200) hx hb dX0_addEdge_200 ?_
          refine z_eq (y := nI i) (nI_pred i) ?_
          refine z_callV (pc := 201) (As := [.int (nI (i + 1)), .int (nI i)]) (rest := []) hx hb hml hown hts hA hK hP hD hS (tX_exchange l D d h a H.size n c (k + 1) fi xs ys col tp bt wy cv (i + 1) i (by omega) (by omega)) (cwV 2 hts (lw_V q110 q112 qs6 q14 q113) rfl rfl rfl (by decide +kernel) ⟨Nat.le_of_ble_eq_true rfl, Nat.le_of_ble_eq_true rfl⟩) (va_recv hK hP (ci := 0) (q0 := 0) rfl rfl) rfl hl.1 rfl (Nat.le_of_ble_eq_true rfl) dX0_addEdge_201 (Nat.le_refl _) (Nat.le_refl _) (fun u_ H locs hu_ hP hD hS => ?_)
          refine lv_iinc (pc := 204) (v := nI i) (lv' := [(8, .int (nI i)), (0, .ref h)]) hx hb dX0_addEdge_204 hl (k := 1) rfl (pk_m1 i) (by decide) rfl (fun ls hl => ?_)
          refine lv_goto (pc := 207) (tgt := 176) hx hb dX0_addEdge_207 (by decide) ?_
          exact ih i (sw tp i) (sw bt i) (sw wy i) (by omega) (by omega) (Ins_step hI (by omega) ((left_iff hI.1 (by omega) (by omega)).mp (b_yes hr_ c191))) (fun x hx => (sS_sw x i (k + 1) (by omega)).trans (hs x hx)) _ _ hP hD hS ls (lv_sub hl [1, 0] rfl)
  have J18 : ∀ (dn : Int32) (H : Heap) (locs : List Loc), (dn = if y1 ≤ y ∧ y < y2 then 1 else 0) → va_P D vwCl (wX h a d n c k fi xs ys col tp bt wy cv) H → va_D A (wX h a d n c k fi xs ys col tp bt wy cv) → va_S A s.heap H locs → ∀ (ls : Array Slot), lv_has ls 13 [(0, .ref h), (1, .int x1), (2, .int y1), (3, .int x2), (4, .int y2), (5, .int y)] → W p l e (zR 1 25) s m args below meth cd H locs 0 0 Q (F0 m 18 ls [.int dn]) := by
    intro dn H locs hdn hP hD hS ls hl
    refine lv_istore (pc := 18) (lv' := [(6, .int dn), (0, .ref h), (1, .int x1), (2, .int y1), (3, .int x2), (4, .int y2), (5, .int y)]) hx hb dX0_addEdge_18 hl (by decide) rfl (fun ls hl => ?_)
    have J38 : ∀ (up : Int32) (H : Heap) (locs : List Loc), (up = if y2 ≤ y ∧ y < y1 then 1 else 0) → va_P D vwCl (wX h a d n c k fi xs ys col tp bt wy cv) H → va_D A (wX h a d n c k fi xs ys col tp bt wy cv) → va_S A s.heap H locs → ∀ (ls : Array Slot), lv_has ls 13 [(6, .int dn), (0, .ref h), (1, .int x1), (2, .int y1), (3, .int x2), (4, .int y2), (5, .int y)] → W p l e (zR 1 25) s m args below meth cd H locs 0 0 Q (F0 m 38 ls [.int up]) := by
      intro up H locs hup hP hD hS ls hl
      refine lv_istore (pc := 38) (lv' := [(7, .int up), (6, .int dn), (0, .ref h), (1, .int x1), (2, .int y1), (3, .int x2), (4, .int y2), (5, .int y)]) hx hb dX0_addEdge_38 hl (by decide) rfl (fun ls hl => ?_)
      refine lv_iload (pc := 40) hx hb dX0_addEdge_40 (lv_at hl 1 rfl) ?_
      refine lv_if_ne (pc := 42) (tgt := 51) hx hb dX0_addEdge_42 (by decide) (fun c42 => ?_) (fun c42 => ?_)
      · have hd := b_yes hdn c42
        have e1 : dn = 1 := by rw [hdn, if_pos hd]
        subst e1
        refine lv_aload_n (pc := 51) hx hb dX0_addEdge_51 rfl (lv_at hl 2 rfl) ?_
        refine x_get (pc := 52) hx hb hts hown hK hP rfl 6 (by decide) q30 (v := .int (nI k)) rfl dX0_addEdge_52 ?_
        refine lv_istore (pc := 55) (lv' := [(8, .int (nI k)), (7, .int up), (6, .int 1), (0, .ref h), (1, .int x1), (2, .int y1), (3, .int x2), (4, .int y2), (5, .int y)]) hx hb dX0_addEdge_55 hl (by decide) rfl (fun ls hl => ?_)
        refine lv_iload (pc := 57) hx hb dX0_addEdge_57 (lv_at hl 2 rfl) ?_
        refine lv_if_eq (pc := 59) (tgt := 69) hx hb dX0_addEdge_59 (by decide) (fun c59 => ?_) (fun c59 => ?_)
        · exact absurd c59 (by decide)
        · refine lv_iload (pc := 62) hx hb dX0_addEdge_62 (lv_at hl 7 rfl) ?_
          refine lv_iload_n (pc := 64) hx hb dX0_addEdge_64 rfl (lv_at hl 5 rfl) ?_
          refine lv_isub (pc := 65) hx hb dX0_addEdge_65 ?_
          refine lv_goto (pc := 66) (tgt := 73) hx hb dX0_addEdge_66 (by decide) ?_
          refine lv_istore (pc := 73) (lv' := [(9, .int (y2 - y1)), (8, .int (nI k)), (7, .int up), (6, .int 1), (0, .ref h), (1, .int x1), (2, .int y1), (3, .int x2), (4, .int y2), (5, .int y)]) hx hb dX0_addEdge_73 hl (by decide) rfl (fun ls hl => ?_)
          refine lv_iload (pc := 75) hx hb dX0_addEdge_75 (lv_at hl 3 rfl) ?_
          refine lv_if_eq (pc := 77) (tgt := 86) hx hb dX0_addEdge_77 (by decide) (fun c77 => ?_) (fun c77 => ?_)
          · exact absurd c77 (by decide)
          · refine lv_iload_n (pc := 80) hx hb dX0_addEdge_80 rfl (lv_at hl 7 rfl) ?_
            refine lv_iload_n (pc := 81) hx hb dX0_addEdge_81 rfl (lv_at hl 5 rfl) ?_
            refine lv_isub (pc := 82) hx hb dX0_addEdge_82 ?_
            refine lv_goto (pc := 83) (tgt := 89) hx hb dX0_addEdge_83 (by decide) ?_
            refine lv_istore (pc := 89) (lv' := [(10, .int (x2 - x1)), (9, .int (y2 - y1)), (8, .int (nI k)), (7, .int up), (6, .int 1), (0, .ref h), (1, .int x1), (2, .int y1), (3, .int x2), (4, .int y2), (5, .int y)]) hx hb dX0_addEdge_89 hl (by decide) rfl (fun ls hl => ?_)
            refine lv_iload (pc := 91) hx hb dX0_addEdge_91 (lv_at hl 4 rfl) ?_
            refine lv_if_eq (pc := 93) (tgt := 100) hx hb dX0_addEdge_93 (by decide) (fun c93 => ?_) (fun c93 => ?_)
            · exact absurd c93 (by decide)
            · refine lv_iload_n (pc := 96) hx hb dX0_addEdge_96 rfl (lv_at hl 6 rfl) ?_
              refine lv_goto (pc := 97) (tgt := 101) hx hb dX0_addEdge_97 (by decide) ?_
              refine lv_istore (pc := 101) (lv' := [(11, .int x1), (10, .int (x2 - x1)), (9, .int (y2 - y1)), (8, .int (nI k)), (7, .int up), (6, .int 1), (0, .ref h), (1, .int x1), (2, .int y1), (3, .int x2), (4, .int y2), (5, .int y)]) hx hb dX0_addEdge_101 hl (by decide) rfl (fun ls hl => ?_)
              refine lv_iload (pc := 103) hx hb dX0_addEdge_103 (lv_at hl 5 rfl) ?_
              refine lv_if_eq (pc := 105) (tgt := 115) hx hb dX0_addEdge_105 (by decide) (fun c105 => ?_) (fun c105 => ?_)
              · exact absurd c105 (by decide)
              · refine lv_iload (pc := 108) hx hb dX0_addEdge_108 (lv_at hl 11 rfl) ?_
                refine lv_iload_n (pc := 110) hx hb dX0_addEdge_110 rfl (lv_at hl 8 rfl) ?_
                refine lv_isub (pc := 111) hx hb dX0_addEdge_111 ?_
                refine lv_goto (pc := 112) (tgt := 120) hx hb dX0_addEdge_112 (by decide) ?_
                refine lv_istore (pc := 120) (lv' := [(12, .int (y - y1)), (11, .int x1), (10, .int (x2 - x1)), (9, .int (y2 - y1)), (8, .int (nI k)), (7, .int up), (6, .int 1), (0, .ref h), (1, .int x1), (2, .int y1), (3, .int x2), (4, .int y2), (5, .int y)]) hx hb dX0_addEdge_120 hl (by decide) rfl (fun ls hl => ?_)
                refine lv_aload_n (pc := 122) hx hb dX0_addEdge_122 rfl (lv_at hl 7 rfl) ?_
                refine x_get (pc := 123) hx hb hts hown hK hP rfl 7 (by decide) q31 (v := .ref (a 4)) rfl dX0_addEdge_123 ?_
                refine lv_iload (pc := 126) hx hb dX0_addEdge_126 (lv_at hl 4 rfl) ?_
                refine lv_iload (pc := 128) hx hb dX0_addEdge_128 (lv_at hl 1 rfl) ?_
                refine lv_iload (pc := 130) hx hb dX0_addEdge_130 (lv_at hl 3 rfl) ?_
                refine lv_imul (pc := 132) hx hb dX0_addEdge_132 ?_
                refine lv_iload (pc := 133) hx hb dX0_addEdge_133 (lv_at hl 0 rfl) ?_
                refine lv_iload (pc := 135) hx hb dX0_addEdge_135 (lv_at hl 2 rfl) ?_
                refine lv_imul (pc := 137) hx hb dX0_addEdge_137 ?_
                refine lv_iadd (pc := 138) hx hb dX0_addEdge_138 ?_
                refine z_ist (pc := 139) (ws' := wX h a d n c k fi xs ys col (upd tp k ((x1 * (y2 - y1)) + ((y - y1) * (x2 - x1)))) bt wy cv) hx hb hK hP hD hS 5 rfl k rfl (by omega) (by decide) rfl dX0_addEdge_139 (fun H locs hP hD hS => ?_)
                refine lv_aload_n (pc := 140) hx hb dX0_addEdge_140 rfl (lv_at hl 7 rfl) ?_
                refine x_get (pc := 141) hx hb hts hown hK hP rfl 8 (by decide) q32 (v := .ref (a 5)) rfl dX0_addEdge_141 ?_
                refine lv_iload (pc := 144) hx hb dX0_addEdge_144 (lv_at hl 4 rfl) ?_
                refine lv_iload (pc := 146) hx hb dX0_addEdge_146 (lv_at hl 3 rfl) ?_
                refine z_ist (pc := 148) (ws' := wX h a d n c k fi xs ys col (upd tp k ((x1 * (y2 - y1)) + ((y - y1) * (x2 - x1)))) (upd bt k (y2 - y1)) wy cv) hx hb hK hP hD hS 6 rfl k rfl (by omega) (by decide) rfl dX0_addEdge_148 (fun H locs hP hD hS => ?_)
                refine lv_aload_n (pc := 149) hx hb dX0_addEdge_149 rfl (lv_at hl 7 rfl) ?_
                refine x_get (pc := 150) hx hb hts hown hK hP rfl 9 (by decide) q33 (v := .ref (a 6)) rfl dX0_addEdge_150 ?_
                refine lv_iload (pc := 153) hx hb dX0_addEdge_153 (lv_at hl 4 rfl) ?_
                refine lv_iload (pc := 155) hx hb dX0_addEdge_155 (lv_at hl 6 rfl) ?_
                refine lv_if_eq (pc := 157) (tgt := 164) hx hb dX0_addEdge_157 (by decide) (fun c157 => ?_) (fun c157 => ?_)
                · exact absurd c157 (by decide)
                · refine lv_iconst (pc := 160) (v := 1) hx hb dX0_addEdge_160 (by decide) ?_
                  refine lv_goto (pc := 161) (tgt := 165) hx hb dX0_addEdge_161 (by decide) ?_
                  refine z_ist (pc := 165) (ws' := wX h a d n c k fi xs ys col (upd tp k ((x1 * (y2 - y1)) + ((y - y1) * (x2 - x1)))) (upd bt k (y2 - y1)) (upd wy k 1) cv) hx hb hK hP hD hS 7 rfl k rfl (by omega) (by decide) rfl dX0_addEdge_165 (fun H locs hP hD hS => ?_)
                  refine lv_aload_n (pc := 166) hx hb dX0_addEdge_166 rfl (lv_at hl 7 rfl) ?_
                  refine lv_dup (pc := 167) hx hb dX0_addEdge_167 rfl ?_
                  refine x_get (pc := 168) hx hb hts hown hK hP rfl 6 (by decide) q30 (v := .int (nI k)) rfl dX0_addEdge_168 ?_
                  refine lv_iconst (pc := 171) (v := 1) hx hb dX0_addEdge_171 (by decide) ?_
                  refine lv_iadd (pc := 172) hx hb dX0_addEdge_172 ?_
                  refine z_eq (y := nI (k + 1)) (nI_1 k) ?_
                  refine x_put (pc := 173) (ws' := wX h a d n c (k + 1) fi xs ys col (upd tp k ((x1 * (y2 - y1)) + ((y - y1) * (x2 - x1)))) (upd bt k (y2 - y1)) (upd wy k 1) cv) hx hb hts hown hK hP hD hS rfl 6 (by decide) q30 rfl (by decide +kernel) (Nat.le_of_ble_eq_true rfl) rfl dX0_addEdge_173 (fun H locs hP hD hS => ?_)
                  have ed := edge_dn hx1 hy1 hx2 hy2 hy hd.1 hd.2
                  exact loop (k + 1) k _ _ _ (Nat.lt_succ_self k) (Nat.le_refl k) (Ins_start hG ed.2.2.2.1 ed.2.2.2.2.1 ed.2.1 ed.2.2.1) (fun x hx => by rw [sS_push, hE, eI_dn hx1 hy1 hx2 hy2 hy hd.1 hd.2 x hx]) _ _ hP hD hS ls (lv_sub hl [7, 4] rfl)
      · refine lv_iload (pc := 45) hx hb dX0_addEdge_45 (lv_at hl 0 rfl) ?_
        refine lv_if_ne (pc := 47) (tgt := 51) hx hb dX0_addEdge_47 (by decide) (fun c47 => ?_) (fun c47 => ?_)
        · have hu := b_yes hup c47
          subst c42
          refine lv_aload_n (pc := 51) hx hb dX0_addEdge_51 rfl (lv_at hl 2 rfl) ?_
          refine x_get (pc := 52) hx hb hts hown hK hP rfl 6 (by decide) q30 (v := .int (nI k)) rfl dX0_addEdge_52 ?_
          refine lv_istore (pc := 55) (lv' := [(8, .int (nI k)), (7, .int up), (6, .int 0), (0, .ref h), (1, .int x1), (2, .int y1), (3, .int x2), (4, .int y2), (5, .int y)]) hx hb dX0_addEdge_55 hl (by decide) rfl (fun ls hl => ?_)
          refine lv_iload (pc := 57) hx hb dX0_addEdge_57 (lv_at hl 2 rfl) ?_
          refine lv_if_eq (pc := 59) (tgt := 69) hx hb dX0_addEdge_59 (by decide) (fun c59 => ?_) (fun c59 => ?_)
          · refine lv_iload_n (pc := 69) hx hb dX0_addEdge_69 rfl (lv_at hl 5 rfl) ?_
            refine lv_iload (pc := 70) hx hb dX0_addEdge_70 (lv_at hl 7 rfl) ?_
            refine lv_isub (pc := 72) hx hb dX0_addEdge_72 ?_
            refine lv_istore (pc := 73) (lv' := [(9, .int (y1 - y2)), (8, .int (nI k)), (7, .int up), (6, .int 0), (0, .ref h), (1, .int x1), (2, .int y1), (3, .int x2), (4, .int y2), (5, .int y)]) hx hb dX0_addEdge_73 hl (by decide) rfl (fun ls hl => ?_)
            refine lv_iload (pc := 75) hx hb dX0_addEdge_75 (lv_at hl 3 rfl) ?_
            refine lv_if_eq (pc := 77) (tgt := 86) hx hb dX0_addEdge_77 (by decide) (fun c77 => ?_) (fun c77 => ?_)
            · refine lv_iload_n (pc := 86) hx hb dX0_addEdge_86 rfl (lv_at hl 5 rfl) ?_
              refine lv_iload_n (pc := 87) hx hb dX0_addEdge_87 rfl (lv_at hl 7 rfl) ?_
              refine lv_isub (pc := 88) hx hb dX0_addEdge_88 ?_
              refine lv_istore (pc := 89) (lv' := [(10, .int (x1 - x2)), (9, .int (y1 - y2)), (8, .int (nI k)), (7, .int up), (6, .int 0), (0, .ref h), (1, .int x1), (2, .int y1), (3, .int x2), (4, .int y2), (5, .int y)]) hx hb dX0_addEdge_89 hl (by decide) rfl (fun ls hl => ?_)
              refine lv_iload (pc := 91) hx hb dX0_addEdge_91 (lv_at hl 4 rfl) ?_
              refine lv_if_eq (pc := 93) (tgt := 100) hx hb dX0_addEdge_93 (by decide) (fun c93 => ?_) (fun c93 => ?_)
              · refine lv_iload_n (pc := 100) hx hb dX0_addEdge_100 rfl (lv_at hl 8 rfl) ?_
                refine lv_istore (pc := 101) (lv' := [(11, .int x2), (10, .int (x1 - x2)), (9, .int (y1 - y2)), (8, .int (nI k)), (7, .int up), (6, .int 0), (0, .ref h), (1, .int x1), (2, .int y1), (3, .int x2), (4, .int y2), (5, .int y)]) hx hb dX0_addEdge_101 hl (by decide) rfl (fun ls hl => ?_)
                refine lv_iload (pc := 103) hx hb dX0_addEdge_103 (lv_at hl 5 rfl) ?_
                refine lv_if_eq (pc := 105) (tgt := 115) hx hb dX0_addEdge_105 (by decide) (fun c105 => ?_) (fun c105 => ?_)
                · refine lv_iload (pc := 115) hx hb dX0_addEdge_115 (lv_at hl 11 rfl) ?_
                  refine lv_iload (pc := 117) hx hb dX0_addEdge_117 (lv_at hl 10 rfl) ?_
                  refine lv_isub (pc := 119) hx hb dX0_addEdge_119 ?_
                  refine lv_istore (pc := 120) (lv' := [(12, .int (y - y2)), (11, .int x2), (10, .int (x1 - x2)), (9, .int (y1 - y2)), (8, .int (nI k)), (7, .int up), (6, .int 0), (0, .ref h), (1, .int x1), (2, .int y1), (3, .int x2), (4, .int y2), (5, .int y)]) hx hb dX0_addEdge_120 hl (by decide) rfl (fun ls hl => ?_)
                  refine lv_aload_n (pc := 122) hx hb dX0_addEdge_122 rfl (lv_at hl 7 rfl) ?_
                  refine x_get (pc := 123) hx hb hts hown hK hP rfl 7 (by decide) q31 (v := .ref (a 4)) rfl dX0_addEdge_123 ?_
                  refine lv_iload (pc := 126) hx hb dX0_addEdge_126 (lv_at hl 4 rfl) ?_
                  refine lv_iload (pc := 128) hx hb dX0_addEdge_128 (lv_at hl 1 rfl) ?_
                  refine lv_iload (pc := 130) hx hb dX0_addEdge_130 (lv_at hl 3 rfl) ?_
                  refine lv_imul (pc := 132) hx hb dX0_addEdge_132 ?_
                  refine lv_iload (pc := 133) hx hb dX0_addEdge_133 (lv_at hl 0 rfl) ?_
                  refine lv_iload (pc := 135) hx hb dX0_addEdge_135 (lv_at hl 2 rfl) ?_
                  refine lv_imul (pc := 137) hx hb dX0_addEdge_137 ?_
                  refine lv_iadd (pc := 138) hx hb dX0_addEdge_138 ?_
                  refine z_ist (pc := 139) (ws' := wX h a d n c k fi xs ys col (upd tp k ((x2 * (y1 - y2)) + ((y - y2) * (x1 - x2)))) bt wy cv) hx hb hK hP hD hS 5 rfl k rfl (by omega) (by decide) rfl dX0_addEdge_139 (fun H locs hP hD hS => ?_)
                  refine lv_aload_n (pc := 140) hx hb dX0_addEdge_140 rfl (lv_at hl 7 rfl) ?_
                  refine x_get (pc := 141) hx hb hts hown hK hP rfl 8 (by decide) q32 (v := .ref (a 5)) rfl dX0_addEdge_141 ?_
                  refine lv_iload (pc := 144) hx hb dX0_addEdge_144 (lv_at hl 4 rfl) ?_
                  refine lv_iload (pc := 146) hx hb dX0_addEdge_146 (lv_at hl 3 rfl) ?_
                  refine z_ist (pc := 148) (ws' := wX h a d n c k fi xs ys col (upd tp k ((x2 * (y1 - y2)) + ((y - y2) * (x1 - x2)))) (upd bt k (y1 - y2)) wy cv) hx hb hK hP hD hS 6 rfl k rfl (by omega) (by decide) rfl dX0_addEdge_148 (fun H locs hP hD hS => ?_)
                  refine lv_aload_n (pc := 149) hx hb dX0_addEdge_149 rfl (lv_at hl 7 rfl) ?_
                  refine x_get (pc := 150) hx hb hts hown hK hP rfl 9 (by decide) q33 (v := .ref (a 6)) rfl dX0_addEdge_150 ?_
                  refine lv_iload (pc := 153) hx hb dX0_addEdge_153 (lv_at hl 4 rfl) ?_
                  refine lv_iload (pc := 155) hx hb dX0_addEdge_155 (lv_at hl 6 rfl) ?_
                  refine lv_if_eq (pc := 157) (tgt := 164) hx hb dX0_addEdge_157 (by decide) (fun c157 => ?_) (fun c157 => ?_)
                  · refine lv_iconst (pc := 164) (v := (-1)) hx hb dX0_addEdge_164 (by decide) ?_
                    refine z_ist (pc := 165) (ws' := wX h a d n c k fi xs ys col (upd tp k ((x2 * (y1 - y2)) + ((y - y2) * (x1 - x2)))) (upd bt k (y1 - y2)) (upd wy k (-1)) cv) hx hb hK hP hD hS 7 rfl k rfl (by omega) (by decide) rfl dX0_addEdge_165 (fun H locs hP hD hS => ?_)
                    refine lv_aload_n (pc := 166) hx hb dX0_addEdge_166 rfl (lv_at hl 7 rfl) ?_
                    refine lv_dup (pc := 167) hx hb dX0_addEdge_167 rfl ?_
                    refine x_get (pc := 168) hx hb hts hown hK hP rfl 6 (by decide) q30 (v := .int (nI k)) rfl dX0_addEdge_168 ?_
                    refine lv_iconst (pc := 171) (v := 1) hx hb dX0_addEdge_171 (by decide) ?_
                    refine lv_iadd (pc := 172) hx hb dX0_addEdge_172 ?_
                    refine z_eq (y := nI (k + 1)) (nI_1 k) ?_
                    refine x_put (pc := 173) (ws' := wX h a d n c (k + 1) fi xs ys col (upd tp k ((x2 * (y1 - y2)) + ((y - y2) * (x1 - x2)))) (upd bt k (y1 - y2)) (upd wy k (-1)) cv) hx hb hts hown hK hP hD hS rfl 6 (by decide) q30 rfl (by decide +kernel) (Nat.le_of_ble_eq_true rfl) rfl dX0_addEdge_173 (fun H locs hP hD hS => ?_)
                    have ed := edge_dn hx2 hy2 hx1 hy1 hy hu.1 hu.2
                    exact loop (k + 1) k _ _ _ (Nat.lt_succ_self k) (Nat.le_refl k) (Ins_start hG ed.2.2.2.1 ed.2.2.2.2.1 ed.2.1 ed.2.2.1) (fun x hx => by rw [sS_push, hE, eI_up hx1 hy1 hx2 hy2 hy hu.1 hu.2 x hx]) _ _ hP hD hS ls (lv_sub hl [7, 4] rfl)
                  · exact absurd rfl c157
                · exact absurd rfl c105
              · exact absurd rfl c93
            · exact absurd rfl c77
          · exact absurd rfl c59
        · exact ret (k, tp, bt, wy) _ _ 50 _ hP hD hS ⟨hG, Nat.le_succ k, fun x hx => by rw [hE, eI_no (b_no hdn c42) (b_no hup c47)]; show sS tp bt wy x k = sS tp bt wy x k + 0; grind⟩ dX0_addEdge_50
    refine lv_iload (pc := 20) hx hb dX0_addEdge_20 (lv_at hl 5 rfl) ?_
    refine lv_iload (pc := 22) hx hb dX0_addEdge_22 (lv_at hl 6 rfl) ?_
    refine lv_icmp_gt (pc := 24) (tgt := 37) hx hb dX0_addEdge_24 (by decide) (fun c24 => ?_) (fun c24 => ?_)
    · refine lv_iconst (pc := 37) (v := 0) hx hb dX0_addEdge_37 (by decide) ?_
      exact J38 _ _ _ (if_neg (by simp only [p_lt, p_le] at *; omega)).symm hP hD hS ls (lv_sub hl [0, 1, 2, 3, 4, 5, 6] rfl)
    · refine lv_iload (pc := 27) hx hb dX0_addEdge_27 (lv_at hl 6 rfl) ?_
      refine lv_iload_n (pc := 29) hx hb dX0_addEdge_29 rfl (lv_at hl 3 rfl) ?_
      refine lv_icmp_ge (pc := 30) (tgt := 37) hx hb dX0_addEdge_30 (by decide) (fun c30 => ?_) (fun c30 => ?_)
      · refine lv_iconst (pc := 37) (v := 0) hx hb dX0_addEdge_37 (by decide) ?_
        exact J38 _ _ _ (if_neg (by simp only [p_lt, p_le] at *; omega)).symm hP hD hS ls (lv_sub hl [0, 1, 2, 3, 4, 5, 6] rfl)
      · refine lv_iconst (pc := 33) (v := 1) hx hb dX0_addEdge_33 (by decide) ?_
        refine lv_goto (pc := 34) (tgt := 38) hx hb dX0_addEdge_34 (by decide) ?_
        exact J38 _ _ _ (if_pos (by simp only [p_lt, p_le] at *; omega)).symm hP hD hS ls (lv_sub hl [0, 1, 2, 3, 4, 5, 6] rfl)
  refine lv_iload_n (pc := 0) hx hb dX0_addEdge_0 rfl (lv_at hl 2 rfl) ?_
  refine lv_iload (pc := 1) hx hb dX0_addEdge_1 (lv_at hl 5 rfl) ?_
  refine lv_icmp_gt (pc := 3) (tgt := 17) hx hb dX0_addEdge_3 (by decide) (fun c3 => ?_) (fun c3 => ?_)
  · refine lv_iconst (pc := 17) (v := 0) hx hb dX0_addEdge_17 (by decide) ?_
    exact J18 _ _ _ (if_neg (by simp only [p_lt, p_le] at *; omega)).symm hP hD hS ls (lv_sub hl [0, 1, 2, 3, 4, 5] rfl)
  · refine lv_iload (pc := 6) hx hb dX0_addEdge_6 (lv_at hl 5 rfl) ?_
    refine lv_iload (pc := 8) hx hb dX0_addEdge_8 (lv_at hl 4 rfl) ?_
    refine lv_icmp_ge (pc := 10) (tgt := 17) hx hb dX0_addEdge_10 (by decide) (fun c10 => ?_) (fun c10 => ?_)
    · refine lv_iconst (pc := 17) (v := 0) hx hb dX0_addEdge_17 (by decide) ?_
      exact J18 _ _ _ (if_neg (by simp only [p_lt, p_le] at *; omega)).symm hP hD hS ls (lv_sub hl [0, 1, 2, 3, 4, 5] rfl)
    · refine lv_iconst (pc := 13) (v := 1) hx hb dX0_addEdge_13 (by decide) ?_
      refine lv_goto (pc := 14) (tgt := 18) hx hb dX0_addEdge_14 (by decide) ?_
      exact J18 _ _ _ (if_pos (by simp only [p_lt, p_le] at *; omega)).symm hP hD hS ls (lv_sub hl [0, 1, 2, 3, 4, 5] rfl)
end
section
/-! PolygonFill: findCrossings, winding -/
set_option maxRecDepth 100000
set_option maxHeartbeats 4000000 in
/-- findCrossings: the crossings of the height y, in order -/
theorem tX_findCrossings (l : Launch) (D : va_G) (d : ClassId) (h : Nat) (a : Nat → Nat) (sz n c k : Nat) (fi xs ys col tp bt wy cv : Nat → Int32) (y : Int32) (hsh : shp n c fi xs ys) (hy : okC y) : zV l D d yX0_findCrossings cX0_findCrossings 5 (zR 2 57) [.ref h, .int y] sz (wX h a d n c k fi xs ys col tp bt wy cv) (fun (u : Nat × (Nat → Int32) × (Nat → Int32) × (Nat → Int32)) => u.1 ≤ 12 ∧ Gd u.1 u.2.1 u.2.2.1 ∧ ∀ x, okC x → sS u.2.1 u.2.2.1 u.2.2.2 x u.1 = wOut fi xs ys x y n) (fun u => (wX h a d n c u.1 fi xs ys col u.2.1 u.2.2.1 u.2.2.2 cv)) := by
  refine z_startV (by decide) (Nat.le_of_ble_eq_true rfl) ?_
  intro p e s m args below meth cd A Q ls hx hb hml hown hts hA hK hP hD hS ret hl
  have hown : s.vm.findClass RX0 = some m.cls := hown
  have hl : lv_has ls 5 [(0, .ref h), (1, .int y)] := hl
  obtain ⟨hn4, hc12, hF, hF0, hFn, hFm, hok⟩ := hsh
  refine lv_aload_n (pc := 0) hx hb dX0_findCrossings_0 rfl (lv_at hl 0 rfl) ?_
  refine lv_iconst (pc := 1) (v := 0) hx hb dX0_findCrossings_1 (by decide) ?_
  refine x_put (pc := 2) (ws' := wX h a d n c 0 fi xs ys col tp bt wy cv) hx hb hts hown hK hP hD hS rfl 6 (by decide) q30 rfl (by decide +kernel) (Nat.le_of_ble_eq_true rfl) rfl dX0_findCrossings_2 (fun H locs hP hD hS => ?_)
  refine lv_iconst (pc := 5) (v := 0) hx hb dX0_findCrossings_5 (by decide) ?_
  refine lv_istore_n (pc := 6) (lv' := [(2, .int 0), (0, .ref h), (1, .int y)]) hx hb dX0_findCrossings_6 rfl hl (by decide) rfl (fun ls hl => ?_)
  have loop : ∀ (N : Nat) (i k : Nat) (tp bt wy : Nat → Int32), (n < i + N) → (i ≤ n) → (Gd k tp bt) → (k ≤ F_ fi i) → (∀ x, okC x → sS tp bt wy x k = wOut fi xs ys x y i) → ∀ (H : Heap) (locs : List Loc), va_P D vwCl (wX h a d n c k fi xs ys col tp bt wy cv) H → va_D A (wX h a d n c k fi xs ys col tp bt wy cv) → va_S A s.heap H locs → ∀ (ls : Array Slot), lv_has ls 5 [(0, .ref h), (1, .int y), (2, .int (nI i))] → W p l e (zR 2 57) s m args below meth cd H locs 0 0 Q (F0 m 7 ls []) := by
    intro N
    induction N with
    | zero => intro i k tp bt wy hN hin hG hki hs; exfalso; omega
    | succ N ih =>
      intro i k tp bt wy hN hin hG hki hs H locs hP hD hS ls hl
      refine lv_iload_n (pc := 7) hx hb dX0_findCrossings_7 rfl (lv_at hl 2 rfl) ?_
      refine lv_aload_n (pc := 8) hx hb dX0_findCrossings_8 rfl (lv_at hl 0 rfl) ?_
      refine x_get (pc := 9) hx hb hts hown hK hP rfl 1 (by decide) q25 (v := .int (nI n)) rfl dX0_findCrossings_9 ?_
      refine lv_icmp_ge (pc := 12) (tgt := 105) hx hb dX0_findCrossings_12 (by decide) (fun c12 => ?_) (fun c12 => ?_)
      · have hi : i = n := by rcases Nat.lt_or_ge i n with q | q; exact absurd c12 (nI_ge q (by omega)); omega
        subst hi
        exact ret (k, tp, bt, wy) _ _ 105 _ hP hD hS ⟨by omega, hG, hs⟩ dX0_findCrossings_105
      · have hi : i < n := by rcases Nat.lt_or_ge i n with q | q; exact q; exact absurd (nI_le q (by omega)) c12
        have hF1 := hF i (by omega)
        have hF2 := hF (i + 1) (by omega)
        have hFm1 := hFm i hi
        refine lv_aload_n (pc := 15) hx hb dX0_findCrossings_15 rfl (lv_at hl 0 rfl) ?_
        refine x_get (pc := 16) hx hb hts hown hK hP rfl 3 (by decide) q27 (v := .ref (a 1)) rfl dX0_findCrossings_16 ?_
        refine lv_iload_n (pc := 19) hx hb dX0_findCrossings_19 rfl (lv_at hl 2 rfl) ?_
        refine z_ild (pc := 20) hx hb hK hP 2 rfl i rfl (by omega) (by decide) dX0_findCrossings_20 ?_
        refine z_eq (y := nI (F_ fi i)) hF1.1 ?_
        refine lv_istore_n (pc := 21) (lv' := [(3, .int (nI (F_ fi i))), (0, .ref h), (1, .int y), (2, .int (nI i))]) hx hb dX0_findCrossings_21 rfl hl (by decide) rfl (fun ls hl => ?_)
        have inner : ∀ (M : Nat) (j k : Nat) (tp bt wy : Nat → Int32), (F_ fi (i + 1) < j + M) → (F_ fi i ≤ j) → (j ≤ F_ fi (i + 1)) → (Gd k tp bt) → (k ≤ j) → (∀ x, okC x → sS tp bt wy x k = wOut fi xs ys x y i + wIn fi xs ys x y i (j - F_ fi i)) → ∀ (H : Heap) (locs : List Loc), va_P D vwCl (wX h a d n c k fi xs ys col tp bt wy cv) H → va_D A (wX h a d n c k fi xs ys col tp bt wy cv) → va_S A s.heap H locs → ∀ (ls : Array Slot), lv_has ls 5 [(0, .ref h), (1, .int y), (2, .int (nI i)), (3, .int (nI j))] → W p l e (zR 2 57) s m args below meth cd H locs 0 0 Q (F0 m 22 ls []) := by
          intro M
          induction M with
          | zero => intro j k tp bt wy hN2 hj1 hj2 hG hkj hs; exfalso; omega
          | succ M ihj =>
            intro j k tp bt wy hN2 hj1 hj2 hG hkj hs H locs hP hD hS ls hl
            refine lv_iload_n (pc := 22) hx hb dX0_findCrossings_22 rfl (lv_at hl 3 rfl) ?_
            refine lv_aload_n (pc := 23) hx hb dX0_findCrossings_23 rfl (lv_at hl 0 rfl) ?_
            refine x_get (pc := 24) hx hb hts hown hK hP rfl 3 (by decide) q27 (v := .ref (a 1)) rfl dX0_findCrossings_24 ?_
            refine lv_iload_n (pc := 27) hx hb dX0_findCrossings_27 rfl (lv_at hl 2 rfl) ?_
            refine lv_iconst (pc := 28) (v := 1) hx hb dX0_findCrossings_28 (by decide) ?_
            refine lv_iadd (pc := 29) hx hb dX0_findCrossings_29 ?_
            refine z_eq (y := nI (i + 1)) (nI_1 i) ?_
            refine z_ild (pc := 30) hx hb hK hP 2 rfl (i + 1) rfl (by omega) (by decide) dX0_findCrossings_30 ?_
            refine z_eq (y := nI (F_ fi (i + 1))) hF2.1 ?_
            refine lv_icmp_ge (pc := 31) (tgt := 99) hx hb dX0_findCrossings_31 (by decide) (fun c31 => ?_) (fun c31 => ?_)
            · have hj : j = F_ fi (i + 1) := by rcases Nat.lt_or_ge j (F_ fi (i + 1)) with q | q; exact absurd c31 (nI_ge q (by omega)); omega
              refine lv_iinc (pc := 99) (v := nI (i + 1)) (lv' := [(2, .int (nI (i + 1))), (0, .ref h), (1, .int y), (3, .int (nI j))]) hx hb dX0_findCrossings_99 hl (k := 2) rfl (nI_1 i) (by decide) rfl (fun ls hl => ?_)
              refine lv_goto (pc := 102) (tgt := 7) hx hb dX0_findCrossings_102 (by decide) ?_
              exact ih (i + 1) k tp bt wy (by omega) (by omega) hG (by omega) (fun x hx => by rw [hs x hx, hj]; rfl) _ _ hP hD hS ls (lv_sub hl [1, 2, 0] rfl)
            · have hj : j < F_ fi (i + 1) := by rcases Nat.lt_or_ge j (F_ fi (i + 1)) with q | q; exact q; exact absurd (nI_le q (by omega)) c31
              have J60 : ∀ (nx : Int32) (H : Heap) (locs : List Loc), (nx = nI (nxt fi i j)) → va_P D vwCl (wX h a d n c k fi xs ys col tp bt wy cv) H → va_D A (wX h a d n c k fi xs ys col tp bt wy cv) → va_S A s.heap H locs → ∀ (ls : Array Slot), lv_has ls 5 [(0, .ref h), (1, .int y), (2, .int (nI i)), (3, .int (nI j))] → W p l e (zR 2 57) s m args below meth cd H locs 0 0 Q (F0 m 60 ls [.int nx]) := by
                intro nx H locs hnx hP hD hS ls hl
                subst hnx
                refine lv_istore (pc := 60) (lv' := [(4, .int (nI (nxt fi i j))), (0, .ref h), (1, .int y), (2, .int (nI i)), (3, .int (nI j))]) hx hb dX0_findCrossings_60 hl (by decide) rfl (fun ls hl => ?_)
                have hnx := nxt_lt ⟨hn4, hc12, hF, hF0, hFn, hFm, hok⟩ hi hj1 hj
                obtain ⟨hnx1, hnx2⟩ := hnx
                have o1 := hok j hnx2
                have o2 := hok (nxt fi i j) hnx1
                refine lv_aload_n (pc := 62) hx hb dX0_findCrossings_62 rfl (lv_at hl 1 rfl) ?_
                refine lv_aload_n (pc := 63) hx hb dX0_findCrossings_63 rfl (lv_at hl 1 rfl) ?_
                refine x_get (pc := 64) hx hb hts hown hK hP rfl 4 (by decide) q28 (v := .ref (a 2)) rfl dX0_findCrossings_64 ?_
                refine lv_iload_n (pc := 67) hx hb dX0_findCrossings_67 rfl (lv_at hl 4 rfl) ?_
                refine z_ild (pc := 68) hx hb hK hP 3 rfl j rfl (by omega) (by decide) dX0_findCrossings_68 ?_
                refine lv_aload_n (pc := 69) hx hb dX0_findCrossings_69 rfl (lv_at hl 1 rfl) ?_
                refine x_get (pc := 70) hx hb hts hown hK hP rfl 5 (by decide) q29 (v := .ref (a 3)) rfl dX0_findCrossings_70 ?_
                refine lv_iload_n (pc := 73) hx hb dX0_findCrossings_73 rfl (lv_at hl 4 rfl) ?_
                refine z_ild (pc := 74) hx hb hK hP 4 rfl j rfl (by omega) (by decide) dX0_findCrossings_74 ?_
                refine lv_aload_n (pc := 75) hx hb dX0_findCrossings_75 rfl (lv_at hl 1 rfl) ?_
                refine x_get (pc := 76) hx hb hts hown hK hP rfl 4 (by decide) q28 (v := .ref (a 2)) rfl dX0_findCrossings_76 ?_
                refine lv_iload (pc := 79) hx hb dX0_findCrossings_79 (lv_at hl 0 rfl) ?_
                refine z_ild (pc := 81) hx hb hK hP 3 rfl (nxt fi i j) rfl (by omega) (by decide) dX0_findCrossings_81 ?_
                refine lv_aload_n (pc := 82) hx hb dX0_findCrossings_82 rfl (lv_at hl 1 rfl) ?_
                refine x_get (pc := 83) hx hb hts hown hK hP rfl 5 (by decide) q29 (v := .ref (a 3)) rfl dX0_findCrossings_83 ?_
                refine lv_iload (pc := 86) hx hb dX0_findCrossings_86 (lv_at hl 0 rfl) ?_
                refine z_ild (pc := 88) hx hb hK hP 4 rfl (nxt fi i j) rfl (by omega) (by decide) dX0_findCrossings_88 ?_
                refine lv_iload_n (pc := 89) hx hb dX0_findCrossings_89 rfl (lv_at hl 2 rfl) ?_
                refine z_callV (pc := 90) (As := [.int (xs j), .int (ys j), .int (xs (nxt fi i j)), .int (ys (nxt fi i j)), .int y]) (rest := []) hx hb hml hown hts hA hK hP hD hS (tX_addEdge l D d h a H.size n c k fi xs ys col tp bt wy cv (xs j) (ys j) (xs (nxt fi i j)) (ys (nxt fi i j)) y (by omega) hG o1.1 o1.2 o2.1 o2.2 hy) (cwV 5 hts (lw_V q102 q104 qs4 q14 q105) rfl rfl rfl (by decide +kernel) ⟨Nat.le_of_ble_eq_true rfl, Nat.le_of_ble_eq_true rfl⟩) (va_recv hK hP (ci := 0) (q0 := 0) rfl rfl) rfl hl.1 rfl (Nat.le_of_ble_eq_true rfl) dX0_findCrossings_90 (Nat.le_refl _) (Nat.le_refl _) (fun u H locs hu hP hD hS => ?_)
                obtain ⟨k, tp, bt, wy⟩ := u
                obtain ⟨hu1, hu2, hu3⟩ := hu
                have hP : va_P D vwCl (wX h a d n c k fi xs ys col tp bt wy cv) H := hP
                have hD : va_D A (wX h a d n c k fi xs ys col tp bt wy cv) := hD
                have hu1 : Gd k tp bt := hu1
                have hu2 : k ≤ _ + 1 := hu2
                have hu3 : ∀ x, okC x → sS tp bt wy x k = _ := hu3
                refine lv_iinc (pc := 93) (v := nI (j + 1)) (lv' := [(3, .int (nI (j + 1))), (4, .int (nI (nxt fi i j))), (0, .ref h), (1, .int y), (2, .int (nI i))]) hx hb dX0_findCrossings_93 hl (k := 4) rfl (nI_1 j) (by decide) rfl (fun ls hl => ?_)
                refine lv_goto (pc := 96) (tgt := 22) hx hb dX0_findCrossings_96 (by decide) ?_
                exact ihj (j + 1) k tp bt wy (by omega) (by omega) (by omega) hu1 (by omega) (fun x hx => by rw [hu3 x hx, hs x hx]; exact wIn_step hj1 _) _ _ hP hD hS ls (lv_sub hl [2, 3, 4, 0] rfl)
              refine lv_iload_n (pc := 34) hx hb dX0_findCrossings_34 rfl (lv_at hl 3 rfl) ?_
              refine lv_iconst (pc := 35) (v := 1) hx hb dX0_findCrossings_35 (by decide) ?_
              refine lv_iadd (pc := 36) hx hb dX0_findCrossings_36 ?_
              refine z_eq (y := nI (j + 1)) (nI_1 j) ?_
              refine lv_aload_n (pc := 37) hx hb dX0_findCrossings_37 rfl (lv_at hl 0 rfl) ?_
              refine x_get (pc := 38) hx hb hts hown hK hP rfl 3 (by decide) q27 (v := .ref (a 1)) rfl dX0_findCrossings_38 ?_
              refine lv_iload_n (pc := 41) hx hb dX0_findCrossings_41 rfl (lv_at hl 2 rfl) ?_
              refine lv_iconst (pc := 42) (v := 1) hx hb dX0_findCrossings_42 (by decide) ?_
              refine lv_iadd (pc := 43) hx hb dX0_findCrossings_43 ?_
              refine z_eq (y := nI (i + 1)) (nI_1 i) ?_
              refine z_ild (pc := 44) hx hb hK hP 2 rfl (i + 1) rfl (by omega) (by decide) dX0_findCrossings_44 ?_
              refine z_eq (y := nI (F_ fi (i + 1))) hF2.1 ?_
              refine lv_icmp_ge (pc := 45) (tgt := 54) hx hb dX0_findCrossings_45 (by decide) (fun c45 => ?_) (fun c45 => ?_)
              · refine lv_aload_n (pc := 54) hx hb dX0_findCrossings_54 rfl (lv_at hl 0 rfl) ?_
                refine x_get (pc := 55) hx hb hts hown hK hP rfl 3 (by decide) q27 (v := .ref (a 1)) rfl dX0_findCrossings_55 ?_
                refine lv_iload_n (pc := 58) hx hb dX0_findCrossings_58 rfl (lv_at hl 2 rfl) ?_
                refine z_ild (pc := 59) hx hb hK hP 2 rfl i rfl (by omega) (by decide) dX0_findCrossings_59 ?_
                refine z_eq (y := nI (F_ fi i)) hF1.1 ?_
                exact J60 _ _ _ (by rw [nxt, if_neg (fun q => nI_ge q (by omega) c45)]) hP hD hS ls (lv_sub hl [0, 1, 2, 3] rfl)
              · refine lv_iload_n (pc := 48) hx hb dX0_findCrossings_48 rfl (lv_at hl 3 rfl) ?_
                refine lv_iconst (pc := 49) (v := 1) hx hb dX0_findCrossings_49 (by decide) ?_
                refine lv_iadd (pc := 50) hx hb dX0_findCrossings_50 ?_
                refine z_eq (y := nI (j + 1)) (nI_1 j) ?_
                refine lv_goto (pc := 51) (tgt := 60) hx hb dX0_findCrossings_51 (by decide) ?_
                exact J60 _ _ _ (by rw [nxt, if_pos (by rcases Nat.lt_or_ge (j + 1) (F_ fi (i + 1)) with q | q; exact q; exact absurd (nI_le q (by omega)) c45)]) hP hD hS ls (lv_sub hl [0, 1, 2, 3] rfl)
        exact inner (F_ fi (i + 1) + 1) (F_ fi i) k tp bt wy (by omega) (Nat.le_refl _) hFm1 hG hki (fun x hx => by rw [hs x hx, Nat.sub_self]; show _ = _ + 0; grind) _ _ hP hD hS ls (lv_sub hl [1, 2, 3, 0] rfl)
  exact loop (n + 1) 0 0 tp bt wy (by omega) (Nat.zero_le _) ⟨fun j hj => absurd hj (by omega), fun i j _ hj => absurd hj (by omega)⟩ (Nat.zero_le _) (fun x hx => rfl) _ _ hP hD hS ls (lv_sub hl [1, 2, 0] rfl)

set_option maxHeartbeats 4000000 in
/-- winding -/
theorem tX_winding (l : Launch) (D : va_G) (d : ClassId) (h : Nat) (a : Nat → Nat) (sz n c k : Nat) (fi xs ys col tp bt wy cv : Nat → Int32) (x y : Int32) (hsh : shp n c fi xs ys) : zI l D d yX0_winding cX0_winding 5 .int (zR 3 81) [.ref h, .int x, .int y] sz (wX h a d n c k fi xs ys col tp bt wy cv) (fun r (u : Nat × (Nat → Int32) × (Nat → Int32) × (Nat → Int32)) => r = wdR n fi xs ys x y) (fun u => (wX h a d n c u.1 fi xs ys col u.2.1 u.2.2.1 u.2.2.2 cv)) := by
  refine z_startI (by decide) (Nat.le_of_ble_eq_true rfl) ?_
  intro p e s m args below meth cd A Q ls hx hb hml hown hts hA hK hP hD hS ret hl
  have hown : s.vm.findClass RX0 = some m.cls := hown
  have hl : lv_has ls 5 [(0, .ref h), (1, .int x), (2, .int y)] := hl
  refine lv_iload_n (pc := 0) hx hb dX0_winding_0 rfl (lv_at hl 1 rfl) ?_
  refine lv_iload_n (pc := 1) hx hb dX0_winding_1 rfl (lv_at hl 2 rfl) ?_
  refine z_callS (pc := 2) (As := [.int x, .int y]) (rest := []) hx hb hml hown hts hA hK hP hS (tX_badPoint l D d _ x y) (va_cwS 2 hts (lw_S q63 q64 q14 q65) rfl rfl rfl (by decide +kernel) ⟨Nat.le_of_ble_eq_true rfl, Nat.le_of_ble_eq_true rfl⟩) rfl hl.1 rfl (Nat.le_of_ble_eq_true rfl) dX0_winding_2 (Nat.le_refl _) (Nat.le_refl _) (fun r_ u_ H locs hr_ hP hS => ?_)
  refine lv_if_eq (pc := 5) (tgt := 10) hx hb dX0_winding_5 (by decide) (fun c5 => ?_) (fun c5 => ?_)
  · have hb_ := b_no hr_ c5
    obtain ⟨okx, oky⟩ := badP_ok hb_
    refine lv_aload_n (pc := 10) hx hb dX0_winding_10 rfl (lv_at hl 0 rfl) ?_
    refine lv_iload_n (pc := 11) hx hb dX0_winding_11 rfl (lv_at hl 2 rfl) ?_
    refine z_callV (pc := 12) (As := [.int y]) (rest := []) hx hb hml hown hts hA hK hP hD hS (tX_findCrossings l D d h a H.size n c k fi xs ys col tp bt wy cv y hsh oky) (cwV 1 hts (lw_V q98 q100 qs3 q14 q101) rfl rfl rfl (by decide +kernel) ⟨Nat.le_of_ble_eq_true rfl, Nat.le_of_ble_eq_true rfl⟩) (va_recv hK hP (ci := 0) (q0 := 0) rfl rfl) rfl hl.1 rfl (Nat.le_of_ble_eq_true rfl) dX0_winding_12 (Nat.le_refl _) (Nat.le_refl _) (fun u H locs hu hP hD hS => ?_)
    obtain ⟨k, tp, bt, wy⟩ := u
    have hP : va_P D vwCl (wX h a d n c k fi xs ys col tp bt wy cv) H := hP
    have hD : va_D A (wX h a d n c k fi xs ys col tp bt wy cv) := hD
    obtain ⟨hk12, hG, hs⟩ : k ≤ 12 ∧ Gd k tp bt ∧ ∀ x, okC x → sS tp bt wy x k = wOut fi xs ys x y n := hu
    have hsx := hs x okx
    refine lv_iconst (pc := 15) (v := 0) hx hb dX0_winding_15 (by decide) ?_
    refine lv_istore_n (pc := 16) (lv' := [(3, .int 0), (0, .ref h), (1, .int x), (2, .int y)]) hx hb dX0_winding_16 rfl hl (by decide) rfl (fun ls hl => ?_)
    refine lv_aload_n (pc := 17) hx hb dX0_winding_17 rfl (lv_at hl 1 rfl) ?_
    refine x_get (pc := 18) hx hb hts hown hK hP rfl 6 (by decide) q30 (v := .int (nI k)) rfl dX0_winding_18 ?_
    refine lv_iconst (pc := 21) (v := 1) hx hb dX0_winding_21 (by decide) ?_
    refine lv_isub (pc := 22) hx hb dX0_winding_22 ?_
    refine lv_istore (pc := 23) (lv' := [(4, .int ((nI k) - 1)), (3, .int 0), (0, .ref h), (1, .int x), (2, .int y)]) hx hb dX0_winding_23 hl (by decide) rfl (fun ls hl => ?_)
    have loop : ∀ (N : Nat) (i : Nat) (v : Int32), (i < N) → (i ≤ k) → (v + sS tp bt wy x i = sS tp bt wy x k) → ∀ (H : Heap) (locs : List Loc), va_P D vwCl (wX h a d n c k fi xs ys col tp bt wy cv) H → va_D A (wX h a d n c k fi xs ys col tp bt wy cv) → va_S A s.heap H locs → ∀ (ls : Array Slot), lv_has ls 5 [(0, .ref h), (1, .int x), (2, .int y), (3, .int v), (4, .int (nI i - 1))] → W p l e (zR 3 81) s m args below meth cd H locs 0 0 Q (F0 m 25 ls []) := by
      intro N
      induction N with
      | zero => intro i v hN hik hv; exfalso; omega
      | succ N ih =>
        intro i v hN hik hv H locs hP hD hS ls hl
        refine lv_iload (pc := 25) hx hb dX0_winding_25 (lv_at hl 4 rfl) ?_
        refine lv_if_lt (pc := 27) (tgt := 65) hx hb dX0_winding_27 (by decide) (fun c27 => ?_) (fun c27 => ?_)
        · have hi : i = 0 := by rcases Nat.eq_zero_or_pos i with q | q; exact q; obtain ⟨j, rfl⟩ : ∃ j, i = j + 1 := ⟨i - 1, by omega⟩; rw [nI_pred] at c27; exact absurd c27 (nI_pos (by omega))
          subst hi
          refine lv_iload_n (pc := 65) hx hb dX0_winding_65 rfl (lv_at hl 3 rfl) ?_
          exact ret v (k, tp, bt, wy) _ _ 66 _ hP hD hS (by rw [wdR, if_neg hb_, ← hsx, ← hv]; show v = v + 0; grind) dX0_winding_66
        · obtain ⟨i, rfl⟩ : ∃ j, i = j + 1 := ⟨i - 1, by have : i ≠ 0 := fun q => c27 (by subst q; decide); omega⟩
          rw [nI_pred] at hl
          refine lv_aload_n (pc := 30) hx hb dX0_winding_30 rfl (lv_at hl 0 rfl) ?_
          refine x_get (pc := 31) hx hb hts hown hK hP rfl 7 (by decide) q31 (v := .ref (a 4)) rfl dX0_winding_31 ?_
          refine lv_iload (pc := 34) hx hb dX0_winding_34 (lv_at hl 4 rfl) ?_
          refine z_ild (pc := 36) hx hb hK hP 5 rfl i rfl (by omega) (by decide) dX0_winding_36 ?_
          refine lv_iload_n (pc := 37) hx hb dX0_winding_37 rfl (lv_at hl 1 rfl) ?_
          refine lv_aload_n (pc := 38) hx hb dX0_winding_38 rfl (lv_at hl 0 rfl) ?_
          refine x_get (pc := 39) hx hb hts hown hK hP rfl 8 (by decide) q32 (v := .ref (a 5)) rfl dX0_winding_39 ?_
          refine lv_iload (pc := 42) hx hb dX0_winding_42 (lv_at hl 4 rfl) ?_
          refine z_ild (pc := 44) hx hb hK hP 6 rfl i rfl (by omega) (by decide) dX0_winding_44 ?_
          refine lv_imul (pc := 45) hx hb dX0_winding_45 ?_
          refine lv_icmp_le (pc := 46) (tgt := 65) hx hb dX0_winding_46 (by decide) (fun c46 => ?_) (fun c46 => ?_)
          · refine lv_iload_n (pc := 65) hx hb dX0_winding_65 rfl (lv_at hl 3 rfl) ?_
            exact ret v (k, tp, bt, wy) _ _ 66 _ hP hD hS (by rw [wdR, if_neg hb_, ← hsx, ← hv, sS_zero (i + 1) (fun j hj => cross_down hG (Nat.le_of_lt_succ hj) (by omega) okx (by simp only [p_lt, p_le] at *; omega))]; show v = v + 0; grind) dX0_winding_66
          · refine lv_iload_n (pc := 49) hx hb dX0_winding_49 rfl (lv_at hl 3 rfl) ?_
            refine lv_aload_n (pc := 50) hx hb dX0_winding_50 rfl (lv_at hl 0 rfl) ?_
            refine x_get (pc := 51) hx hb hts hown hK hP rfl 9 (by decide) q33 (v := .ref (a 6)) rfl dX0_winding_51 ?_
            refine lv_iload (pc := 54) hx hb dX0_winding_54 (lv_at hl 4 rfl) ?_
            refine z_ild (pc := 56) hx hb hK hP 7 rfl i rfl (by omega) (by decide) dX0_winding_56 ?_
            refine lv_iadd (pc := 57) hx hb dX0_winding_57 ?_
            refine lv_istore_n (pc := 58) (lv' := [(3, .int (v + (wy i))), (0, .ref h), (1, .int x), (2, .int y), (4, .int (nI i))]) hx hb dX0_winding_58 rfl hl (by decide) rfl (fun ls hl => ?_)
            refine lv_iinc (pc := 59) (v := nI i - 1) (lv' := [(4, .int (nI i - 1)), (3, .int (v + (wy i))), (0, .ref h), (1, .int x), (2, .int y)]) hx hb dX0_winding_59 hl (k := 4) rfl (by grind) (by decide) rfl (fun ls hl => ?_)
            refine lv_goto (pc := 62) (tgt := 25) hx hb dX0_winding_62 (by decide) ?_
            exact ih i _ (by omega) (by omega) (by rw [← hv, sS, cX, if_pos (by simp only [p_lt, p_le] at *; omega)]; grind) _ _ hP hD hS ls (lv_sub hl [2, 3, 4, 1, 0] rfl)
    exact loop (k + 1) k 0 (by omega) (Nat.le_refl _) (by grind) _ _ hP hD hS ls (lv_sub hl [2, 3, 4, 1, 0] rfl)
  · refine lv_iconst (pc := 8) (v := 0) hx hb dX0_winding_8 (by decide) ?_
    exact ret 0 (k, tp, bt, wy) _ _ 9 _ hP hD hS (by rw [wdR, if_pos (b_yes hr_ c5)]) dX0_winding_9
end
section
/-! PolygonFill: the sweep, coverage -/
set_option maxRecDepth 100000
set_option maxHeartbeats 4000000 in
/-- sweep: the samples of the line L are counted into their pixels -/
theorem tX_sweep (l : Launch) (D : va_G) (d : ClassId) (h : Nat) (a : Nat → Nat) (sz n c k : Nat) (fi xs ys col tp bt wy cv : Nat → Int32) (L : Nat) (o : Int32) (hL : L < 32) (hsh : shp n c fi xs ys) : zV l D d yX0_sweep cX0_sweep 8 (zR 3 81) [.ref h, .int (nI L), .int o] sz (wX h a d n c k fi xs ys col tp bt wy cv) (fun (u : Nat × (Nat → Int32) × (Nat → Int32) × (Nat → Int32)) => True) (fun u => (wX h a d n c u.1 fi xs ys col u.2.1 u.2.2.1 u.2.2.2 (covS cv L (smp n fi xs ys o L) 32))) := by
  refine z_startV (by decide) (Nat.le_of_ble_eq_true rfl) ?_
  intro p e s m args below meth cd A Q ls hx hb hml hown hts hA hK hP hD hS ret hl
  have hown : s.vm.findClass RX0 = some m.cls := hown
  have hl : lv_has ls 8 [(0, .ref h), (1, .int (nI L)), (2, .int o)] := hl
  refine lv_aload_n (pc := 0) hx hb dX0_sweep_0 rfl (lv_at hl 0 rfl) ?_
  refine lv_iconst (pc := 1) (v := 2) hx hb dX0_sweep_1 (by decide) ?_
  refine lv_iload_n (pc := 2) hx hb dX0_sweep_2 rfl (lv_at hl 1 rfl) ?_
  refine lv_imul (pc := 3) hx hb dX0_sweep_3 ?_
  refine lv_iconst (pc := 4) (v := 1) hx hb dX0_sweep_4 (by decide) ?_
  refine lv_iadd (pc := 5) hx hb dX0_sweep_5 ?_
  refine z_eq (y := nI (2 * L + 1)) (by rw [show (2 : Int32) = nI 2 from rfl, pk_mul, nI_1]) ?_
  refine z_callV (pc := 6) (As := [.int (nI (2 * L + 1))]) (rest := []) hx hb hml hown hts hA hK hP hD hS (tX_findCrossings l D d h a s.heap.size n c k fi xs ys col tp bt wy cv (nI (2 * L + 1)) hsh (okC_nI (by omega))) (cwV 1 hts (lw_V q98 q100 qs3 q14 q101) rfl rfl rfl (by decide +kernel) ⟨Nat.le_of_ble_eq_true rfl, Nat.le_of_ble_eq_true rfl⟩) (va_recv hK hP (ci := 0) (q0 := 0) rfl rfl) rfl hl.1 rfl (Nat.le_of_ble_eq_true rfl) dX0_sweep_6 (Nat.le_refl _) (Nat.le_refl _) (fun u H locs hu hP hD hS => ?_)
  obtain ⟨k, tp, bt, wy⟩ := u
  have hP : va_P D vwCl (wX h a d n c k fi xs ys col tp bt wy cv) H := hP
  have hD : va_D A (wX h a d n c k fi xs ys col tp bt wy cv) := hD
  obtain ⟨hk12, hG, hs⟩ : k ≤ 12 ∧ Gd k tp bt ∧ ∀ x, okC x → sS tp bt wy x k = wOut fi xs ys x (nI (2 * L + 1)) n := hu
  refine lv_aload_n (pc := 9) hx hb dX0_sweep_9 rfl (lv_at hl 0 rfl) ?_
  refine z_callI (pc := 10) (As := []) (rest := []) hx hb hml hown hts hA hK hP hD hS (tX_allWays l D d h a H.size n c k fi xs ys col tp bt wy cv hk12) (cwV 0 hts (lw_V q114 q116 qs7 q14 q117) rfl rfl rfl (by decide +kernel) ⟨Nat.le_of_ble_eq_true rfl, Nat.le_of_ble_eq_true rfl⟩) (va_recv hK hP (ci := 0) (q0 := 0) rfl rfl) rfl hl.1 rfl (Nat.le_of_ble_eq_true rfl) dX0_sweep_10 (Nat.le_refl _) (Nat.le_refl _) (fun r_ u_ H locs hr_ hP hD hS => ?_)
  refine lv_istore_n (pc := 13) (lv' := [(3, .int r_), (0, .ref h), (1, .int (nI L)), (2, .int o)]) hx hb dX0_sweep_13 rfl hl (by decide) rfl (fun ls hl => ?_)
  refine lv_iconst (pc := 14) (v := 0) hx hb dX0_sweep_14 (by decide) ?_
  refine lv_istore (pc := 15) (lv' := [(4, .int 0), (3, .int r_), (0, .ref h), (1, .int (nI L)), (2, .int o)]) hx hb dX0_sweep_15 hl (by decide) rfl (fun ls hl => ?_)
  refine lv_iconst (pc := 17) (v := 0) hx hb dX0_sweep_17 (by decide) ?_
  refine lv_istore (pc := 18) (lv' := [(5, .int 0), (4, .int 0), (3, .int r_), (0, .ref h), (1, .int (nI L)), (2, .int o)]) hx hb dX0_sweep_18 hl (by decide) rfl (fun ls hl => ?_)
  have hc0 := covS_0 cv L (smp n fi xs ys o L)
  have loop : ∀ (N : Nat) (i t : Nat) (v : Int32), (32 < i + N) → (i ≤ 32) → (t ≤ k) → (v + bx_sum wy t = bx_sum wy k) → (i < 32 → ∀ j, j < t → ¬ nI (2 * i + 1) * bt j < tp j) → ∀ (H : Heap) (locs : List Loc), va_P D vwCl (wX h a d n c k fi xs ys col tp bt wy (covS cv L (smp n fi xs ys o L) i)) H → va_D A (wX h a d n c k fi xs ys col tp bt wy (covS cv L (smp n fi xs ys o L) i)) → va_S A s.heap H locs → ∀ (ls : Array Slot), lv_has ls 8 [(0, .ref h), (1, .int (nI L)), (2, .int o), (3, .int v), (4, .int (nI t)), (5, .int (nI i))] → W p l e (zR 3 81) s m args below meth cd H locs 0 0 Q (F0 m 20 ls []) := by
    intro N
    induction N with
    | zero => intro i t v hN hi32 htk hv hlo; exfalso; omega
    | succ N ih =>
      intro i t v hN hi32 htk hv hlo H locs hP hD hS ls hl
      refine lv_iload (pc := 20) hx hb dX0_sweep_20 (lv_at hl 5 rfl) ?_
      refine lv_bipush (pc := 22) (v := 32) hx hb dX0_sweep_22 (by decide) ?_
      refine lv_icmp_ge (pc := 24) (tgt := 118) hx hb dX0_sweep_24 (by decide) (fun c24 => ?_) (fun c24 => ?_)
      · have hi : i = 32 := by rcases Nat.lt_or_ge i 32 with q | q; exact absurd c24 (nI_ge (b := 32) q (by omega)); omega
        subst hi
        exact ret (k, tp, bt, wy) _ _ 118 _ hP hD hS trivial dX0_sweep_118
      · have hi : i < 32 := by rcases Nat.lt_or_ge i 32 with q | q; exact q; exact absurd (nI_le (a := 32) q (by omega)) c24
        refine lv_iconst (pc := 27) (v := 2) hx hb dX0_sweep_27 (by decide) ?_
        refine lv_iload (pc := 28) hx hb dX0_sweep_28 (lv_at hl 5 rfl) ?_
        refine lv_imul (pc := 30) hx hb dX0_sweep_30 ?_
        refine lv_iconst (pc := 31) (v := 1) hx hb dX0_sweep_31 (by decide) ?_
        refine lv_iadd (pc := 32) hx hb dX0_sweep_32 ?_
        refine z_eq (y := nI (2 * i + 1)) (by rw [show (2 : Int32) = nI 2 from rfl, pk_mul, nI_1]) ?_
        refine lv_istore (pc := 33) (lv' := [(6, .int (nI (2 * i + 1))), (0, .ref h), (1, .int (nI L)), (2, .int o), (3, .int v), (4, .int (nI t)), (5, .int (nI i))]) hx hb dX0_sweep_33 hl (by decide) rfl (fun ls hl => ?_)
        have okx : okC (nI (2 * i + 1)) := okC_nI (by omega)
        have J80 : ∀ (t : Nat) (v : Int32) (H : Heap) (locs : List Loc), (t ≤ k) → (v + bx_sum wy t = bx_sum wy k) → (∀ j, j < t → ¬ nI (2 * i + 1) * bt j < tp j) → (∀ j, t ≤ j → j < k → nI (2 * i + 1) * bt j < tp j) → va_P D vwCl (wX h a d n c k fi xs ys col tp bt wy (covS cv L (smp n fi xs ys o L) i)) H → va_D A (wX h a d n c k fi xs ys col tp bt wy (covS cv L (smp n fi xs ys o L) i)) → va_S A s.heap H locs → ∀ (ls : Array Slot), lv_has ls 8 [(0, .ref h), (1, .int (nI L)), (2, .int o), (3, .int v), (4, .int (nI t)), (5, .int (nI i)), (6, .int (nI (2 * i + 1)))] → W p l e (zR 3 81) s m args below meth cd H locs 0 0 Q (F0 m 80 ls []) := by
          intro t v H locs htk hv hlo hup hP hD hS ls hl
          have hvs : v = wOut fi xs ys (nI (2 * i + 1)) (nI (2 * L + 1)) n := by have z1 := sS_split (wy := wy) hlo k htk hup; rw [hs _ okx] at z1; grind
          refine lv_iload_n (pc := 80) hx hb dX0_sweep_80 rfl (lv_at hl 3 rfl) ?_
          refine lv_iload_n (pc := 81) hx hb dX0_sweep_81 rfl (lv_at hl 2 rfl) ?_
          refine z_callS (pc := 82) (As := [.int v, .int o]) (rest := []) hx hb hml hown hts hA hK hP hS (tX_isInside l D d _ v o) (va_cwS 2 hts (lw_S q118 q119 q14 q120) rfl rfl rfl (by decide +kernel) ⟨Nat.le_of_ble_eq_true rfl, Nat.le_of_ble_eq_true rfl⟩) rfl hl.1 rfl (Nat.le_of_ble_eq_true rfl) dX0_sweep_82 (Nat.le_refl _) (Nat.le_refl _) (fun r_ u_ H locs hr_ hP hS => ?_)
          have hsm : smp n fi xs ys o L i = r_ := by rw [hr_, hvs]; rfl
          refine lv_istore (pc := 85) (lv' := [(7, .int r_), (0, .ref h), (1, .int (nI L)), (2, .int o), (3, .int v), (4, .int (nI t)), (5, .int (nI i)), (6, .int (nI (2 * i + 1)))]) hx hb dX0_sweep_85 hl (by decide) rfl (fun ls hl => ?_)
          refine lv_iload (pc := 87) hx hb dX0_sweep_87 (lv_at hl 0 rfl) ?_
          refine lv_if_eq (pc := 89) (tgt := 112) hx hb dX0_sweep_89 (by decide) (fun c89 => ?_) (fun c89 => ?_)
          · have hw_ : covS cv L (smp n fi xs ys o L) i = covS cv L (smp n fi xs ys o L) (i + 1) := covS_skip cv L _ hi (hsm.trans c89)
            rw [hw_] at hP hD
            refine lv_iinc (pc := 112) (v := nI (i + 1)) (lv' := [(5, .int (nI (i + 1))), (7, .int r_), (0, .ref h), (1, .int (nI L)), (2, .int o), (3, .int v), (4, .int (nI t)), (6, .int (nI (2 * i + 1)))]) hx hb dX0_sweep_112 hl (k := 6) rfl (nI_1 i) (by decide) rfl (fun ls hl => ?_)
            refine lv_goto (pc := 115) (tgt := 20) hx hb dX0_sweep_115 (by decide) ?_
            exact ih (i + 1) t v (by omega) (by omega) htk hv (fun hi2 j hj => cross_right hG.1 (by omega) okx (okC_nI (by omega)) (by rw [nI_toInt (by omega), nI_toInt (by omega)]; omega) (hlo j hj)) _ _ hP hD hS ls (lv_sub hl [2, 3, 4, 5, 6, 0] rfl)
          · have h1 : smp n fi xs ys o L i = 1 := by rcases insI_01 v o with q | q; exact absurd (hr_.trans q) c89; exact hsm.trans (hr_.trans q)
            refine lv_aload_n (pc := 92) hx hb dX0_sweep_92 rfl (lv_at hl 1 rfl) ?_
            refine x_get (pc := 93) hx hb hts hown hK hP rfl 10 (by decide) q34 (v := .ref (a 7)) rfl dX0_sweep_93 ?_
            refine lv_iload_n (pc := 96) hx hb dX0_sweep_96 rfl (lv_at hl 2 rfl) ?_
            refine lv_iconst (pc := 97) (v := 2) hx hb dX0_sweep_97 (by decide) ?_
            refine lv_idiv (pc := 98) hx hb dX0_sweep_98 (by decide) ?_
            refine lv_bipush (pc := 99) (v := 16) hx hb dX0_sweep_99 (by decide) ?_
            refine lv_imul (pc := 101) hx hb dX0_sweep_101 ?_
            refine lv_iload (pc := 102) hx hb dX0_sweep_102 (lv_at hl 6 rfl) ?_
            refine lv_iconst (pc := 104) (v := 2) hx hb dX0_sweep_104 (by decide) ?_
            refine lv_idiv (pc := 105) hx hb dX0_sweep_105 (by decide) ?_
            refine lv_iadd (pc := 106) hx hb dX0_sweep_106 ?_
            refine z_eq (y := nI (L / 2 * 16 + i / 2)) (by rw [show (2 : Int32) = nI 2 from rfl, show (16 : Int32) = nI 16 from rfl, pk_div (by omega) (by decide) (by decide), pk_div (by omega) (by decide) (by decide), pk_mul, nI_add]) ?_
            refine lv_dup2_11 (pc := 107) hx hb dX0_sweep_107 rfl rfl ?_
            refine z_ild (pc := 108) hx hb hK hP 8 rfl (L / 2 * 16 + i / 2) rfl (by omega) (by decide) dX0_sweep_108 ?_
            refine lv_iconst (pc := 109) (v := 1) hx hb dX0_sweep_109 (by decide) ?_
            refine lv_iadd (pc := 110) hx hb dX0_sweep_110 ?_
            refine z_ist (pc := 111) (ws' := wX h a d n c k fi xs ys col tp bt wy (upd (covS cv L (smp n fi xs ys o L) i) (L / 2 * 16 + i / 2) (((covS cv L (smp n fi xs ys o L) i) (L / 2 * 16 + i / 2)) + 1))) hx hb hK hP hD hS 8 rfl (L / 2 * 16 + i / 2) rfl (by omega) (by decide) rfl dX0_sweep_111 (fun H locs hP hD hS => ?_)
            have hw_ : upd (covS cv L (smp n fi xs ys o L) i) (L / 2 * 16 + i / 2) (((covS cv L (smp n fi xs ys o L) i) (L / 2 * 16 + i / 2)) + 1) = covS cv L (smp n fi xs ys o L) (i + 1) := by rw [← covS_step cv L _ hi, h1]
            rw [hw_] at hP hD
            refine lv_iinc (pc := 112) (v := nI (i + 1)) (lv' := [(5, .int (nI (i + 1))), (7, .int r_), (0, .ref h), (1, .int (nI L)), (2, .int o), (3, .int v), (4, .int (nI t)), (6, .int (nI (2 * i + 1)))]) hx hb dX0_sweep_112 hl (k := 6) rfl (nI_1 i) (by decide) rfl (fun ls hl => ?_)
            refine lv_goto (pc := 115) (tgt := 20) hx hb dX0_sweep_115 (by decide) ?_
            exact ih (i + 1) t v (by omega) (by omega) htk hv (fun hi2 j hj => cross_right hG.1 (by omega) okx (okC_nI (by omega)) (by rw [nI_toInt (by omega), nI_toInt (by omega)]; omega) (hlo j hj)) _ _ hP hD hS ls (lv_sub hl [2, 3, 4, 5, 6, 0] rfl)
        have inner : ∀ (M : Nat) (t : Nat) (v : Int32), (k < t + M) → (t ≤ k) → (v + bx_sum wy t = bx_sum wy k) → (∀ j, j < t → ¬ nI (2 * i + 1) * bt j < tp j) → ∀ (H : Heap) (locs : List Loc), va_P D vwCl (wX h a d n c k fi xs ys col tp bt wy (covS cv L (smp n fi xs ys o L) i)) H → va_D A (wX h a d n c k fi xs ys col tp bt wy (covS cv L (smp n fi xs ys o L) i)) → va_S A s.heap H locs → ∀ (ls : Array Slot), lv_has ls 8 [(0, .ref h), (1, .int (nI L)), (2, .int o), (3, .int v), (4, .int (nI t)), (5, .int (nI i)), (6, .int (nI (2 * i + 1)))] → W p l e (zR 3 81) s m args below meth cd H locs 0 0 Q (F0 m 35 ls []) := by
          intro M
          induction M with
          | zero => intro t v hM htk hv hlo; exfalso; omega
          | succ M ih2 =>
            intro t v hM htk hv hlo H locs hP hD hS ls hl
            refine lv_iload (pc := 35) hx hb dX0_sweep_35 (lv_at hl 4 rfl) ?_
            refine lv_aload_n (pc := 37) hx hb dX0_sweep_37 rfl (lv_at hl 0 rfl) ?_
            refine x_get (pc := 38) hx hb hts hown hK hP rfl 6 (by decide) q30 (v := .int (nI k)) rfl dX0_sweep_38 ?_
            refine lv_icmp_ge (pc := 41) (tgt := 80) hx hb dX0_sweep_41 (by decide) (fun c41 => ?_) (fun c41 => ?_)
            · have ht : t = k := by rcases Nat.lt_or_ge t k with q | q; exact absurd c41 (nI_ge (b := k) q (by omega)); omega
              exact J80 t v _ _ htk hv hlo (fun j h1 h2 => absurd h2 (by omega)) hP hD hS ls (lv_sub hl [0, 1, 2, 3, 4, 5, 6] rfl)
            · have ht : t < k := by rcases Nat.lt_or_ge t k with q | q; exact q; exact absurd (nI_le (a := k) q (by omega)) c41
              refine lv_aload_n (pc := 44) hx hb dX0_sweep_44 rfl (lv_at hl 0 rfl) ?_
              refine x_get (pc := 45) hx hb hts hown hK hP rfl 7 (by decide) q31 (v := .ref (a 4)) rfl dX0_sweep_45 ?_
              refine lv_iload (pc := 48) hx hb dX0_sweep_48 (lv_at hl 4 rfl) ?_
              refine z_ild (pc := 50) hx hb hK hP 5 rfl t rfl (by omega) (by decide) dX0_sweep_50 ?_
              refine lv_iload (pc := 51) hx hb dX0_sweep_51 (lv_at hl 6 rfl) ?_
              refine lv_aload_n (pc := 53) hx hb dX0_sweep_53 rfl (lv_at hl 0 rfl) ?_
              refine x_get (pc := 54) hx hb hts hown hK hP rfl 8 (by decide) q32 (v := .ref (a 5)) rfl dX0_sweep_54 ?_
              refine lv_iload (pc := 57) hx hb dX0_sweep_57 (lv_at hl 4 rfl) ?_
              refine z_ild (pc := 59) hx hb hK hP 6 rfl t rfl (by omega) (by decide) dX0_sweep_59 ?_
              refine lv_imul (pc := 60) hx hb dX0_sweep_60 ?_
              refine lv_icmp_gt (pc := 61) (tgt := 80) hx hb dX0_sweep_61 (by decide) (fun c61 => ?_) (fun c61 => ?_)
              · exact J80 t v _ _ htk hv hlo (fun j h1 h2 => cross_up hG h1 h2 okx c61) hP hD hS ls (lv_sub hl [0, 1, 2, 3, 4, 5, 6] rfl)
              · refine lv_iload_n (pc := 64) hx hb dX0_sweep_64 rfl (lv_at hl 3 rfl) ?_
                refine lv_aload_n (pc := 65) hx hb dX0_sweep_65 rfl (lv_at hl 0 rfl) ?_
                refine x_get (pc := 66) hx hb hts hown hK hP rfl 9 (by decide) q33 (v := .ref (a 6)) rfl dX0_sweep_66 ?_
                refine lv_iload (pc := 69) hx hb dX0_sweep_69 (lv_at hl 4 rfl) ?_
                refine z_ild (pc := 71) hx hb hK hP 7 rfl t rfl (by omega) (by decide) dX0_sweep_71 ?_
                refine lv_isub (pc := 72) hx hb dX0_sweep_72 ?_
                refine lv_istore_n (pc := 73) (lv' := [(3, .int (v - (wy t))), (0, .ref h), (1, .int (nI L)), (2, .int o), (4, .int (nI t)), (5, .int (nI i)), (6, .int (nI (2 * i + 1)))]) hx hb dX0_sweep_73 rfl hl (by decide) rfl (fun ls hl => ?_)
                refine lv_iinc (pc := 74) (v := nI (t + 1)) (lv' := [(4, .int (nI (t + 1))), (3, .int (v - (wy t))), (0, .ref h), (1, .int (nI L)), (2, .int o), (5, .int (nI i)), (6, .int (nI (2 * i + 1)))]) hx hb dX0_sweep_74 hl (k := 4) rfl (nI_1 t) (by decide) rfl (fun ls hl => ?_)
                refine lv_goto (pc := 77) (tgt := 35) hx hb dX0_sweep_77 (by decide) ?_
                exact ih2 (t + 1) _ (by omega) (by omega) (by rw [← hv, bx_sum]; grind) (fun j hj => by rcases Nat.lt_or_ge j t with q | q; exact hlo j q; rw [Nat.le_antisymm (Nat.le_of_lt_succ hj) q]; exact c61) _ _ hP hD hS ls (lv_sub hl [2, 3, 4, 1, 0, 5, 6] rfl)
        exact inner (k + 1) t v (by omega) htk hv (hlo hi) _ _ hP hD hS ls (lv_sub hl [1, 2, 3, 4, 5, 6, 0] rfl)
  exact loop 33 0 0 r_ (by omega) (by omega) (Nat.zero_le _) (by rw [hr_]; show _ + 0 = _; grind) (fun _ j hj => absurd hj (by omega)) _ _ (by rw [hc0]; exact hP) (by rw [hc0]; exact hD) hS ls (lv_sub hl [3, 4, 5, 2, 1, 0] rfl)

set_option maxHeartbeats 4000000 in
/-- coverAll -/
theorem tX_coverAll (l : Launch) (D : va_G) (d : ClassId) (h : Nat) (a : Nat → Nat) (sz n c k : Nat) (fi xs ys col tp bt wy cv : Nat → Int32) (o : Int32) (hsh : shp n c fi xs ys) : zV l D d yX0_coverAll cX0_coverAll 3 (zR 4 108) [.ref h, .int o] sz (wX h a d n c k fi xs ys col tp bt wy cv) (fun (u : Nat × (Nat → Int32) × (Nat → Int32) × (Nat → Int32)) => True) (fun u => (wX h a d n c u.1 fi xs ys col u.2.1 u.2.2.1 u.2.2.2 (covA cv (smp n fi xs ys o) 32))) := by
  refine z_startV (by decide) (Nat.le_of_ble_eq_true rfl) ?_
  intro p e s m args below meth cd A Q ls hx hb hml hown hts hA hK hP hD hS ret hl
  have hown : s.vm.findClass RX0 = some m.cls := hown
  have hl : lv_has ls 3 [(0, .ref h), (1, .int o)] := hl
  refine lv_iconst (pc := 0) (v := 0) hx hb dX0_coverAll_0 (by decide) ?_
  refine lv_istore_n (pc := 1) (lv' := [(2, .int 0), (0, .ref h), (1, .int o)]) hx hb dX0_coverAll_1 rfl hl (by decide) rfl (fun ls hl => ?_)
  have loop2 : ∀ (N : Nat) (i k : Nat) (tp bt wy : Nat → Int32), (32 < i + N) → (i ≤ 32) → ∀ (H : Heap) (locs : List Loc), va_P D vwCl (wX h a d n c k fi xs ys col tp bt wy (covA cv (smp n fi xs ys o) i)) H → va_D A (wX h a d n c k fi xs ys col tp bt wy (covA cv (smp n fi xs ys o) i)) → va_S A s.heap H locs → ∀ (ls : Array Slot), lv_has ls 3 [(0, .ref h), (1, .int o), (2, .int (nI i))] → W p l e (zR 4 108) s m args below meth cd H locs 0 0 Q (F0 m 24 ls []) := by
    intro N
    induction N with
    | zero => intro i k tp bt wy hN hi32; exfalso; omega
    | succ N ih =>
      intro i k tp bt wy hN hi32 H locs hP hD hS ls hl
      refine lv_iload_n (pc := 24) hx hb dX0_coverAll_24 rfl (lv_at hl 2 rfl) ?_
      refine lv_bipush (pc := 25) (v := 32) hx hb dX0_coverAll_25 (by decide) ?_
      refine lv_icmp_ge (pc := 27) (tgt := 42) hx hb dX0_coverAll_27 (by decide) (fun c27 => ?_) (fun c27 => ?_)
      · have hi : i = 32 := by rcases Nat.lt_or_ge i 32 with q | q; exact absurd c27 (nI_ge (b := 32) q (by omega)); omega
        subst hi
        exact ret (k, tp, bt, wy) _ _ 42 _ hP hD hS trivial dX0_coverAll_42
      · have hi : i < 32 := by rcases Nat.lt_or_ge i 32 with q | q; exact q; exact absurd (nI_le (a := 32) q (by omega)) c27
        refine lv_aload_n (pc := 30) hx hb dX0_coverAll_30 rfl (lv_at hl 0 rfl) ?_
        refine lv_iload_n (pc := 31) hx hb dX0_coverAll_31 rfl (lv_at hl 2 rfl) ?_
        refine lv_iload_n (pc := 32) hx hb dX0_coverAll_32 rfl (lv_at hl 1 rfl) ?_
        refine z_callV (pc := 33) (As := [.int (nI i), .int o]) (rest := []) hx hb hml hown hts hA hK hP hD hS (tX_sweep l D d h a H.size n c k fi xs ys col tp bt wy (covA cv (smp n fi xs ys o) i) i o hi hsh) (cwV 2 hts (lw_V q94 q96 qs2 q14 q97) rfl rfl rfl (by decide +kernel) ⟨Nat.le_of_ble_eq_true rfl, Nat.le_of_ble_eq_true rfl⟩) (va_recv hK hP (ci := 0) (q0 := 0) rfl rfl) rfl hl.1 rfl (Nat.le_of_ble_eq_true rfl) dX0_coverAll_33 (Nat.le_refl _) (Nat.le_refl _) (fun u H locs hu hP hD hS => ?_)
        obtain ⟨k, tp, bt, wy⟩ := u
        have hP : va_P D vwCl (wX h a d n c k fi xs ys col tp bt wy (covS (covA cv (smp n fi xs ys o) i) i (smp n fi xs ys o i) 32)) H := hP
        have hD : va_D A (wX h a d n c k fi xs ys col tp bt wy (covS (covA cv (smp n fi xs ys o) i) i (smp n fi xs ys o i) 32)) := hD
        have hw_ : covS (covA cv (smp n fi xs ys o) i) i (smp n fi xs ys o i) 32 = covA cv (smp n fi xs ys o) (i + 1) := covA_step cv _ hi
        rw [hw_] at hP hD
        refine lv_iinc (pc := 36) (v := nI (i + 1)) (lv' := [(2, .int (nI (i + 1))), (0, .ref h), (1, .int o)]) hx hb dX0_coverAll_36 hl (k := 2) rfl (nI_1 i) (by decide) rfl (fun ls hl => ?_)
        refine lv_goto (pc := 39) (tgt := 24) hx hb dX0_coverAll_39 (by decide) ?_
        exact ih (i + 1) k tp bt wy (by omega) (by omega) _ _ hP hD hS ls (lv_sub hl [1, 2, 0] rfl)
  have loop1 : ∀ (N : Nat) (i : Nat), (256 < i + N) → (i ≤ 256) → ∀ (H : Heap) (locs : List Loc), va_P D vwCl (wX h a d n c k fi xs ys col tp bt wy (fa_fill (fun _ => 0) cv i)) H → va_D A (wX h a d n c k fi xs ys col tp bt wy (fa_fill (fun _ => 0) cv i)) → va_S A s.heap H locs → ∀ (ls : Array Slot), lv_has ls 3 [(0, .ref h), (1, .int o), (2, .int (nI i))] → W p l e (zR 4 108) s m args below meth cd H locs 0 0 Q (F0 m 2 ls []) := by
    intro N
    induction N with
    | zero => intro i hN hi32; exfalso; omega
    | succ N ih =>
      intro i hN hi32 H locs hP hD hS ls hl
      refine lv_iload_n (pc := 2) hx hb dX0_coverAll_2 rfl (lv_at hl 2 rfl) ?_
      refine lv_sipush (pc := 3) (v := 256) hx hb dX0_coverAll_3 (by decide) ?_
      refine lv_icmp_ge (pc := 6) (tgt := 22) hx hb dX0_coverAll_6 (by decide) (fun c6 => ?_) (fun c6 => ?_)
      · have hi : i = 256 := by rcases Nat.lt_or_ge i 256 with q | q; exact absurd c6 (nI_ge (b := 256) q (by omega)); omega
        subst hi
        refine lv_iconst (pc := 22) (v := 0) hx hb dX0_coverAll_22 (by decide) ?_
        refine lv_istore_n (pc := 23) (lv' := [(2, .int 0), (0, .ref h), (1, .int o)]) hx hb dX0_coverAll_23 rfl hl (by decide) rfl (fun ls hl => ?_)
        rw [covA_fill cv (smp n fi xs ys o)] at hP hD
        exact loop2 33 0 k tp bt wy (by omega) (by omega) _ _ hP hD hS ls (lv_sub hl [1, 2, 0] rfl)
      · have hi : i < 256 := by rcases Nat.lt_or_ge i 256 with q | q; exact q; exact absurd (nI_le (a := 256) q (by omega)) c6
        refine lv_aload_n (pc := 9) hx hb dX0_coverAll_9 rfl (lv_at hl 0 rfl) ?_
        refine x_get (pc := 10) hx hb hts hown hK hP rfl 10 (by decide) q34 (v := .ref (a 7)) rfl dX0_coverAll_10 ?_
        refine lv_iload_n (pc := 13) hx hb dX0_coverAll_13 rfl (lv_at hl 2 rfl) ?_
        refine lv_iconst (pc := 14) (v := 0) hx hb dX0_coverAll_14 (by decide) ?_
        refine z_ist (pc := 15) (ws' := wX h a d n c k fi xs ys col tp bt wy (upd (fa_fill (fun _ => 0) cv i) i 0)) hx hb hK hP hD hS 8 rfl i rfl (by omega) (by decide) rfl dX0_coverAll_15 (fun H locs hP hD hS => ?_)
        have hw_ : upd (fa_fill (fun _ => 0) cv i) i 0 = fa_fill (fun _ => 0) cv (i + 1) := fa_fill_succ (fun _ => 0) cv i
        rw [hw_] at hP hD
        refine lv_iinc (pc := 16) (v := nI (i + 1)) (lv' := [(2, .int (nI (i + 1))), (0, .ref h), (1, .int o)]) hx hb dX0_coverAll_16 hl (k := 2) rfl (nI_1 i) (by decide) rfl (fun ls hl => ?_)
        refine lv_goto (pc := 19) (tgt := 2) hx hb dX0_coverAll_19 (by decide) ?_
        exact ih (i + 1) (by omega) (by omega) _ _ hP hD hS ls (lv_sub hl [1, 2, 0] rfl)
  exact loop1 257 0 (by omega) (by omega) _ _ (by rw [fa_fill_0]; exact hP) (by rw [fa_fill_0]; exact hD) hS ls (lv_sub hl [1, 2, 0] rfl)

set_option maxHeartbeats 4000000 in
/-- paint -/
theorem tX_paint (l : Launch) (D : va_G) (d : ClassId) (h : Nat) (a : Nat → Nat) (sz n c k : Nat) (fi xs ys col tp bt wy cv : Nat → Int32) (x o : Int32) (hsh : shp n c fi xs ys) : zI l D d yX0_paint cX0_paint 6 .int (zR 5 130) [.ref h, .int x, .int o] sz (wX h a d n c k fi xs ys col tp bt wy cv) (fun r (u : Nat × (Nat → Int32) × (Nat → Int32) × (Nat → Int32) × (Nat → Int32)) => r = paR n fi xs ys x o) (fun u => (wX h a d n c u.1 fi xs ys (paC n fi xs ys col x o) u.2.1 u.2.2.1 u.2.2.2.1 u.2.2.2.2)) := by
  refine z_startI (by decide) (Nat.le_of_ble_eq_true rfl) ?_
  intro p e s m args below meth cd A Q ls hx hb hml hown hts hA hK hP hD hS ret hl
  have hown : s.vm.findClass RX0 = some m.cls := hown
  have hl : lv_has ls 6 [(0, .ref h), (1, .int x), (2, .int o)] := hl
  refine lv_iload_n (pc := 0) hx hb dX0_paint_0 rfl (lv_at hl 1 rfl) ?_
  refine lv_if_lt (pc := 1) (tgt := 11) hx hb dX0_paint_1 (by decide) (fun c1 => ?_) (fun c1 => ?_)
  · refine lv_bipush (pc := 11) (v := (-3)) hx hb dX0_paint_11 (by decide) ?_
    have hbk : badK x := by simp only [badK, p_lt, p_le, L0, L255] at *; omega
    have hw_ : col = paC n fi xs ys col x o := by rw [paC, if_pos hbk]
    have hP : va_P D vwCl (wX h a d n c k fi xs ys (paC n fi xs ys col x o) tp bt wy cv) s.heap := by rw [← hw_]; exact hP
    have hD : va_D A (wX h a d n c k fi xs ys (paC n fi xs ys col x o) tp bt wy cv) := by rw [← hw_]; exact hD
    exact ret (-3) (k, tp, bt, wy, cv) _ _ 13 _ hP hD hS (by rw [paR, if_pos hbk]) dX0_paint_13
  · refine lv_iload_n (pc := 4) hx hb dX0_paint_4 rfl (lv_at hl 1 rfl) ?_
    refine lv_sipush (pc := 5) (v := 255) hx hb dX0_paint_5 (by decide) ?_
    refine lv_icmp_le (pc := 8) (tgt := 14) hx hb dX0_paint_8 (by decide) (fun c8 => ?_) (fun c8 => ?_)
    · have hbk : ¬ badK x := by simp only [badK, p_lt, p_le, L0, L255] at *; omega
      refine lv_aload_n (pc := 14) hx hb dX0_paint_14 rfl (lv_at hl 0 rfl) ?_
      refine lv_iload_n (pc := 15) hx hb dX0_paint_15 rfl (lv_at hl 2 rfl) ?_
      refine z_callV (pc := 16) (As := [.int o]) (rest := []) hx hb hml hown hts hA hK hP hD hS (tX_coverAll l D d h a s.heap.size n c k fi xs ys col tp bt wy cv o hsh) (cwV 1 hts (lw_V q90 q92 qs1 q14 q93) rfl rfl rfl (by decide +kernel) ⟨Nat.le_of_ble_eq_true rfl, Nat.le_of_ble_eq_true rfl⟩) (va_recv hK hP (ci := 0) (q0 := 0) rfl rfl) rfl hl.1 rfl (Nat.le_of_ble_eq_true rfl) dX0_paint_16 (Nat.le_refl _) (Nat.le_refl _) (fun u H locs hu hP hD hS => ?_)
      obtain ⟨k, tp, bt, wy⟩ := u
      have hP : va_P D vwCl (wX h a d n c k fi xs ys col tp bt wy (covA cv (smp n fi xs ys o) 32)) H := hP
      have hD : va_D A (wX h a d n c k fi xs ys col tp bt wy (covA cv (smp n fi xs ys o) 32)) := hD
      refine lv_iconst (pc := 19) (v := 0) hx hb dX0_paint_19 (by decide) ?_
      refine lv_istore_n (pc := 20) (lv' := [(3, .int 0), (0, .ref h), (1, .int x), (2, .int o)]) hx hb dX0_paint_20 rfl hl (by decide) rfl (fun ls hl => ?_)
      refine lv_iconst (pc := 21) (v := 0) hx hb dX0_paint_21 (by decide) ?_
      refine lv_istore (pc := 22) (lv' := [(4, .int 0), (3, .int 0), (0, .ref h), (1, .int x), (2, .int o)]) hx hb dX0_paint_22 hl (by decide) rfl (fun ls hl => ?_)
      have loop : ∀ (N : Nat) (i : Nat), (256 < i + N) → (i ≤ 256) → ∀ (H : Heap) (locs : List Loc), va_P D vwCl (wX h a d n c k fi xs ys (fa_fill (pnt x (Kp n fi xs ys o) col) col i) tp bt wy (covA cv (smp n fi xs ys o) 32)) H → va_D A (wX h a d n c k fi xs ys (fa_fill (pnt x (Kp n fi xs ys o) col) col i) tp bt wy (covA cv (smp n fi xs ys o) 32)) → va_S A s.heap H locs → ∀ (ls : Array Slot), lv_has ls 6 [(0, .ref h), (1, .int x), (2, .int o), (3, .int (cntK (Kp n fi xs ys o) i)), (4, .int (nI i))] → W p l e (zR 5 130) s m args below meth cd H locs 0 0 Q (F0 m 24 ls []) := by
        intro N
        induction N with
        | zero => intro i hN hi32; exfalso; omega
        | succ N ih =>
          intro i hN hi32 H locs hP hD hS ls hl
          refine lv_iload (pc := 24) hx hb dX0_paint_24 (lv_at hl 4 rfl) ?_
          refine lv_sipush (pc := 26) (v := 256) hx hb dX0_paint_26 (by decide) ?_
          refine lv_icmp_ge (pc := 29) (tgt := 81) hx hb dX0_paint_29 (by decide) (fun c29 => ?_) (fun c29 => ?_)
          · have hi : i = 256 := by rcases Nat.lt_or_ge i 256 with q | q; exact absurd c29 (nI_ge (b := 256) q (by omega)); omega
            subst hi
            have hw_ : fa_fill (pnt x (Kp n fi xs ys o) col) col 256 = paC n fi xs ys col x o := by rw [paC, if_neg hbk]
            rw [hw_] at hP hD
            refine lv_iload_n (pc := 81) hx hb dX0_paint_81 rfl (lv_at hl 3 rfl) ?_
            exact ret (cntK (Kp n fi xs ys o) 256) (k, tp, bt, wy, _) _ _ 82 _ hP hD hS (by rw [paR, if_neg hbk]) dX0_paint_82
          · have hi : i < 256 := by rcases Nat.lt_or_ge i 256 with q | q; exact q; exact absurd (nI_le (a := 256) q (by omega)) c29
            refine lv_aload_n (pc := 32) hx hb dX0_paint_32 rfl (lv_at hl 0 rfl) ?_
            refine x_get (pc := 33) hx hb hts hown hK hP rfl 10 (by decide) q34 (v := .ref (a 7)) rfl dX0_paint_33 ?_
            refine lv_iload (pc := 36) hx hb dX0_paint_36 (lv_at hl 4 rfl) ?_
            refine z_ild (pc := 38) hx hb hK hP 8 rfl i rfl (by omega) (by decide) dX0_paint_38 ?_
            refine z_eq (y := Kp n fi xs ys o i) (covA_32 cv _ hi) ?_
            refine lv_istore (pc := 39) (lv' := [(5, .int (Kp n fi xs ys o i)), (0, .ref h), (1, .int x), (2, .int o), (3, .int (cntK (Kp n fi xs ys o) i)), (4, .int (nI i))]) hx hb dX0_paint_39 hl (by decide) rfl (fun ls hl => ?_)
            refine lv_aload_n (pc := 41) hx hb dX0_paint_41 rfl (lv_at hl 1 rfl) ?_
            refine x_get (pc := 42) hx hb hts hown hK hP rfl 0 (by decide) q24 (v := .ref (a 0)) rfl dX0_paint_42 ?_
            refine lv_iload (pc := 45) hx hb dX0_paint_45 (lv_at hl 5 rfl) ?_
            refine lv_aload_n (pc := 47) hx hb dX0_paint_47 rfl (lv_at hl 1 rfl) ?_
            refine x_get (pc := 48) hx hb hts hown hK hP rfl 0 (by decide) q24 (v := .ref (a 0)) rfl dX0_paint_48 ?_
            refine lv_iload (pc := 51) hx hb dX0_paint_51 (lv_at hl 5 rfl) ?_
            refine z_ild (pc := 53) hx hb hK hP 1 rfl i rfl (by omega) (by decide) dX0_paint_53 ?_
            refine z_eq (y := col i) (fa_fill_out (Nat.le_refl i)) ?_
            refine lv_iconst (pc := 54) (v := 4) hx hb dX0_paint_54 (by decide) ?_
            refine lv_iload (pc := 55) hx hb dX0_paint_55 (lv_at hl 0 rfl) ?_
            refine lv_isub (pc := 57) hx hb dX0_paint_57 ?_
            refine lv_imul (pc := 58) hx hb dX0_paint_58 ?_
            refine lv_iload_n (pc := 59) hx hb dX0_paint_59 rfl (lv_at hl 2 rfl) ?_
            refine lv_iload (pc := 60) hx hb dX0_paint_60 (lv_at hl 0 rfl) ?_
            refine lv_imul (pc := 62) hx hb dX0_paint_62 ?_
            refine lv_iadd (pc := 63) hx hb dX0_paint_63 ?_
            refine lv_iconst (pc := 64) (v := 4) hx hb dX0_paint_64 (by decide) ?_
            refine lv_idiv (pc := 65) hx hb dX0_paint_65 (by decide) ?_
            refine z_ist (pc := 66) (ws' := wX h a d n c k fi xs ys (upd (fa_fill (pnt x (Kp n fi xs ys o) col) col i) i ((((col i) * (4 - (Kp n fi xs ys o i))) + (x * (Kp n fi xs ys o i))) / 4)) tp bt wy (covA cv (smp n fi xs ys o) 32)) hx hb hK hP hD hS 1 rfl i rfl (by omega) (by decide) rfl dX0_paint_66 (fun H locs hP hD hS => ?_)
            have hw_ : upd (fa_fill (pnt x (Kp n fi xs ys o) col) col i) i ((((col i) * (4 - (Kp n fi xs ys o i))) + (x * (Kp n fi xs ys o i))) / 4) = fa_fill (pnt x (Kp n fi xs ys o) col) col (i + 1) := fa_fill_succ (pnt x (Kp n fi xs ys o) col) col i
            rw [hw_] at hP hD
            refine lv_iload (pc := 67) hx hb dX0_paint_67 (lv_at hl 0 rfl) ?_
            refine lv_if_le (pc := 69) (tgt := 75) hx hb dX0_paint_69 (by decide) (fun c69 => ?_) (fun c69 => ?_)
            · refine lv_iinc (pc := 75) (v := nI (i + 1)) (lv' := [(4, .int (nI (i + 1))), (5, .int (Kp n fi xs ys o i)), (0, .ref h), (1, .int x), (2, .int o), (3, .int (cntK (Kp n fi xs ys o) i))]) hx hb dX0_paint_75 hl (k := 5) rfl (nI_1 i) (by decide) rfl (fun ls hl => ?_)
              refine lv_goto (pc := 78) (tgt := 24) hx hb dX0_paint_78 (by decide) ?_
              exact ih (i + 1) (by omega) (by omega) _ _ hP hD hS ls (by have hq : cntK (Kp n fi xs ys o) (i + 1) = cntK (Kp n fi xs ys o) i := by { rw [cntK, if_neg (by simp only [p_lt, p_le] at *; omega)] }; rw [hq]; exact lv_sub hl [2, 3, 4, 5, 0] rfl)
            · refine lv_iinc (pc := 72) (v := (cntK (Kp n fi xs ys o) i) + 1) (lv' := [(3, .int ((cntK (Kp n fi xs ys o) i) + 1)), (5, .int (Kp n fi xs ys o i)), (0, .ref h), (1, .int x), (2, .int o), (4, .int (nI i))]) hx hb dX0_paint_72 hl (k := 4) rfl rfl (by decide) rfl (fun ls hl => ?_)
              refine lv_iinc (pc := 75) (v := nI (i + 1)) (lv' := [(4, .int (nI (i + 1))), (3, .int ((cntK (Kp n fi xs ys o) i) + 1)), (5, .int (Kp n fi xs ys o i)), (0, .ref h), (1, .int x), (2, .int o)]) hx hb dX0_paint_75 hl (k := 5) rfl (nI_1 i) (by decide) rfl (fun ls hl => ?_)
              refine lv_goto (pc := 78) (tgt := 24) hx hb dX0_paint_78 (by decide) ?_
              exact ih (i + 1) (by omega) (by omega) _ _ hP hD hS ls (by have hq : cntK (Kp n fi xs ys o) (i + 1) = cntK (Kp n fi xs ys o) i + 1 := by { rw [cntK, if_pos (by simp only [p_lt, p_le] at *; omega)] }; rw [hq]; exact lv_sub hl [3, 4, 5, 1, 0] rfl)
      exact loop 257 0 (by omega) (by omega) _ _ (by rw [fa_fill_0]; exact hP) (by rw [fa_fill_0]; exact hD) hS ls (lv_sub hl [2, 3, 4, 1, 0] rfl)
    · refine lv_bipush (pc := 11) (v := (-3)) hx hb dX0_paint_11 (by decide) ?_
      have hbk : badK x := by simp only [badK, p_lt, p_le, L0, L255] at *; omega
      have hw_ : col = paC n fi xs ys col x o := by rw [paC, if_pos hbk]
      have hP : va_P D vwCl (wX h a d n c k fi xs ys (paC n fi xs ys col x o) tp bt wy cv) s.heap := by rw [← hw_]; exact hP
      have hD : va_D A (wX h a d n c k fi xs ys (paC n fi xs ys col x o) tp bt wy cv) := by rw [← hw_]; exact hD
      exact ret (-3) (k, tp, bt, wy, cv) _ _ 13 _ hP hD hS (by rw [paR, if_pos hbk]) dX0_paint_13

set_option maxHeartbeats 4000000 in
/-- area -/
theorem tX_area (l : Launch) (D : va_G) (d : ClassId) (h : Nat) (a : Nat → Nat) (sz n c k : Nat) (fi xs ys col tp bt wy cv : Nat → Int32) (o : Int32) (hsh : shp n c fi xs ys) : zI l D d yX0_area cX0_area 4 .int (zR 5 130) [.ref h, .int o] sz (wX h a d n c k fi xs ys col tp bt wy cv) (fun r (u : Nat × (Nat → Int32) × (Nat → Int32) × (Nat → Int32) × (Nat → Int32)) => r = arR n fi xs ys o) (fun u => (wX h a d n c u.1 fi xs ys col u.2.1 u.2.2.1 u.2.2.2.1 u.2.2.2.2)) := by
  refine z_startI (by decide) (Nat.le_of_ble_eq_true rfl) ?_
  intro p e s m args below meth cd A Q ls hx hb hml hown hts hA hK hP hD hS ret hl
  have hown : s.vm.findClass RX0 = some m.cls := hown
  have hl : lv_has ls 4 [(0, .ref h), (1, .int o)] := hl
  refine lv_aload_n (pc := 0) hx hb dX0_area_0 rfl (lv_at hl 0 rfl) ?_
  refine lv_iload_n (pc := 1) hx hb dX0_area_1 rfl (lv_at hl 1 rfl) ?_
  refine z_callV (pc := 2) (As := [.int o]) (rest := []) hx hb hml hown hts hA hK hP hD hS (tX_coverAll l D d h a s.heap.size n c k fi xs ys col tp bt wy cv o hsh) (cwV 1 hts (lw_V q90 q92 qs1 q14 q93) rfl rfl rfl (by decide +kernel) ⟨Nat.le_of_ble_eq_true rfl, Nat.le_of_ble_eq_true rfl⟩) (va_recv hK hP (ci := 0) (q0 := 0) rfl rfl) rfl hl.1 rfl (Nat.le_of_ble_eq_true rfl) dX0_area_2 (Nat.le_refl _) (Nat.le_refl _) (fun u H locs hu hP hD hS => ?_)
  obtain ⟨k, tp, bt, wy⟩ := u
  have hP : va_P D vwCl (wX h a d n c k fi xs ys col tp bt wy (covA cv (smp n fi xs ys o) 32)) H := hP
  have hD : va_D A (wX h a d n c k fi xs ys col tp bt wy (covA cv (smp n fi xs ys o) 32)) := hD
  refine lv_iconst (pc := 5) (v := 0) hx hb dX0_area_5 (by decide) ?_
  refine lv_istore_n (pc := 6) (lv' := [(2, .int 0), (0, .ref h), (1, .int o)]) hx hb dX0_area_6 rfl hl (by decide) rfl (fun ls hl => ?_)
  refine lv_iconst (pc := 7) (v := 0) hx hb dX0_area_7 (by decide) ?_
  refine lv_istore_n (pc := 8) (lv' := [(3, .int 0), (2, .int 0), (0, .ref h), (1, .int o)]) hx hb dX0_area_8 rfl hl (by decide) rfl (fun ls hl => ?_)
  have loop : ∀ (N : Nat) (i : Nat), (256 < i + N) → (i ≤ 256) → ∀ (H : Heap) (locs : List Loc), va_P D vwCl (wX h a d n c k fi xs ys col tp bt wy (covA cv (smp n fi xs ys o) 32)) H → va_D A (wX h a d n c k fi xs ys col tp bt wy (covA cv (smp n fi xs ys o) 32)) → va_S A s.heap H locs → ∀ (ls : Array Slot), lv_has ls 4 [(0, .ref h), (1, .int o), (2, .int (bx_sum (Kp n fi xs ys o) i)), (3, .int (nI i))] → W p l e (zR 5 130) s m args below meth cd H locs 0 0 Q (F0 m 9 ls []) := by
    intro N
    induction N with
    | zero => intro i hN hi32; exfalso; omega
    | succ N ih =>
      intro i hN hi32 H locs hP hD hS ls hl
      refine lv_iload_n (pc := 9) hx hb dX0_area_9 rfl (lv_at hl 3 rfl) ?_
      refine lv_sipush (pc := 10) (v := 256) hx hb dX0_area_10 (by decide) ?_
      refine lv_icmp_ge (pc := 13) (tgt := 31) hx hb dX0_area_13 (by decide) (fun c13 => ?_) (fun c13 => ?_)
      · have hi : i = 256 := by rcases Nat.lt_or_ge i 256 with q | q; exact absurd c13 (nI_ge (b := 256) q (by omega)); omega
        subst hi
        refine lv_iload_n (pc := 31) hx hb dX0_area_31 rfl (lv_at hl 2 rfl) ?_
        exact ret (bx_sum (Kp n fi xs ys o) 256) (k, tp, bt, wy, _) _ _ 32 _ hP hD hS rfl dX0_area_32
      · have hi : i < 256 := by rcases Nat.lt_or_ge i 256 with q | q; exact q; exact absurd (nI_le (a := 256) q (by omega)) c13
        refine lv_iload_n (pc := 16) hx hb dX0_area_16 rfl (lv_at hl 2 rfl) ?_
        refine lv_aload_n (pc := 17) hx hb dX0_area_17 rfl (lv_at hl 0 rfl) ?_
        refine x_get (pc := 18) hx hb hts hown hK hP rfl 10 (by decide) q34 (v := .ref (a 7)) rfl dX0_area_18 ?_
        refine lv_iload_n (pc := 21) hx hb dX0_area_21 rfl (lv_at hl 3 rfl) ?_
        refine z_ild (pc := 22) hx hb hK hP 8 rfl i rfl (by omega) (by decide) dX0_area_22 ?_
        refine z_eq (y := Kp n fi xs ys o i) (covA_32 cv _ hi) ?_
        refine lv_iadd (pc := 23) hx hb dX0_area_23 ?_
        refine lv_istore_n (pc := 24) (lv' := [(2, .int ((bx_sum (Kp n fi xs ys o) i) + (Kp n fi xs ys o i))), (0, .ref h), (1, .int o), (3, .int (nI i))]) hx hb dX0_area_24 rfl hl (by decide) rfl (fun ls hl => ?_)
        refine lv_iinc (pc := 25) (v := nI (i + 1)) (lv' := [(3, .int (nI (i + 1))), (2, .int ((bx_sum (Kp n fi xs ys o) i) + (Kp n fi xs ys o i))), (0, .ref h), (1, .int o)]) hx hb dX0_area_25 hl (k := 3) rfl (nI_1 i) (by decide) rfl (fun ls hl => ?_)
        refine lv_goto (pc := 28) (tgt := 9) hx hb dX0_area_28 (by decide) ?_
        exact ih (i + 1) (by omega) (by omega) _ _ hP hD hS ls (lv_sub hl [2, 3, 1, 0] rfl)
  exact loop 257 0 (by omega) (by omega) _ _ hP hD hS ls (lv_sub hl [2, 3, 1, 0] rfl)

set_option maxHeartbeats 4000000 in
/-- coverage -/
theorem tX_coverage (l : Launch) (D : va_G) (d : ClassId) (h : Nat) (a : Nat → Nat) (sz n c k : Nat) (fi xs ys col tp bt wy cv : Nat → Int32) (r q o : Int32) (hsh : shp n c fi xs ys) : zI l D d yX0_coverage cX0_coverage 6 .int (zR 4 108) [.ref h, .int r, .int q, .int o] sz (wX h a d n c k fi xs ys col tp bt wy cv) (fun rr (u : Nat × (Nat → Int32) × (Nat → Int32) × (Nat → Int32) × (Nat → Int32)) => rr = cgR n fi xs ys r q o) (fun u => (wX h a d n c u.1 fi xs ys col u.2.1 u.2.2.1 u.2.2.2.1 u.2.2.2.2)) := by
  refine z_startI (by decide) (Nat.le_of_ble_eq_true rfl) ?_
  intro p e s m args below meth cd A Q ls hx hb hml hown hts hA hK hP hD hS ret hl
  have hown : s.vm.findClass RX0 = some m.cls := hown
  have hl : lv_has ls 6 [(0, .ref h), (1, .int r), (2, .int q), (3, .int o)] := hl
  refine lv_iload_n (pc := 0) hx hb dX0_coverage_0 rfl (lv_at hl 1 rfl) ?_
  refine lv_iload_n (pc := 1) hx hb dX0_coverage_1 rfl (lv_at hl 2 rfl) ?_
  refine z_callS (pc := 2) (As := [.int r, .int q]) (rest := []) hx hb hml hown hts hA hK hP hS (tX_badPixel l D d _ r q) (va_cwS 2 hts (lw_S q129 q130 q14 q131) rfl rfl rfl (by decide +kernel) ⟨Nat.le_of_ble_eq_true rfl, Nat.le_of_ble_eq_true rfl⟩) rfl hl.1 rfl (Nat.le_of_ble_eq_true rfl) dX0_coverage_2 (Nat.le_refl _) (Nat.le_refl _) (fun r_ u_ H locs hr_ hP hS => ?_)
  refine lv_if_eq (pc := 5) (tgt := 11) hx hb dX0_coverage_5 (by decide) (fun c5 => ?_) (fun c5 => ?_)
  · have hb_ := b_no hr_ c5
    obtain ⟨R_, C_, hR, hC, rfl, rfl⟩ := badR_no hb_
    refine lv_iload_n (pc := 11) hx hb dX0_coverage_11 rfl (lv_at hl 1 rfl) ?_
    refine lv_bipush (pc := 12) (v := 16) hx hb dX0_coverage_12 (by decide) ?_
    refine lv_imul (pc := 14) hx hb dX0_coverage_14 ?_
    refine lv_iload_n (pc := 15) hx hb dX0_coverage_15 rfl (lv_at hl 2 rfl) ?_
    refine lv_iadd (pc := 16) hx hb dX0_coverage_16 ?_
    refine z_eq (y := nI (R_ * 16 + C_)) (by rw [show (16 : Int32) = nI 16 from rfl, pk_mul, nI_add]) ?_
    refine lv_istore (pc := 17) (lv' := [(4, .int (nI (R_ * 16 + C_))), (0, .ref h), (1, .int (nI R_)), (2, .int (nI C_)), (3, .int o)]) hx hb dX0_coverage_17 hl (by decide) rfl (fun ls hl => ?_)
    refine lv_iconst (pc := 19) (v := 0) hx hb dX0_coverage_19 (by decide) ?_
    refine lv_istore (pc := 20) (lv' := [(5, .int 0), (4, .int (nI (R_ * 16 + C_))), (0, .ref h), (1, .int (nI R_)), (2, .int (nI C_)), (3, .int o)]) hx hb dX0_coverage_20 hl (by decide) rfl (fun ls hl => ?_)
    have loop : ∀ (N : Nat) (i : Nat), (16 < i + N) → (i ≤ 16) → ∀ (H : Heap) (locs : List Loc), va_P D vwCl (wX h a d n c k fi xs ys col tp bt wy (zrow cv R_ i)) H → va_D A (wX h a d n c k fi xs ys col tp bt wy (zrow cv R_ i)) → va_S A s.heap H locs → ∀ (ls : Array Slot), lv_has ls 6 [(0, .ref h), (1, .int (nI R_)), (3, .int o), (4, .int (nI (R_ * 16 + C_))), (5, .int (nI i))] → W p l e (zR 4 108) s m args below meth cd H locs 0 0 Q (F0 m 22 ls []) := by
      intro N
      induction N with
      | zero => intro i hN hi32; exfalso; omega
      | succ N ih =>
        intro i hN hi32 H locs hP hD hS ls hl
        refine lv_iload (pc := 22) hx hb dX0_coverage_22 (lv_at hl 4 rfl) ?_
        refine lv_bipush (pc := 24) (v := 16) hx hb dX0_coverage_24 (by decide) ?_
        refine lv_icmp_ge (pc := 26) (tgt := 48) hx hb dX0_coverage_26 (by decide) (fun c26 => ?_) (fun c26 => ?_)
        · have hi : i = 16 := by rcases Nat.lt_or_ge i 16 with q | q; exact absurd c26 (nI_ge (b := 16) q (by omega)); omega
          subst hi
          refine lv_aload_n (pc := 48) hx hb dX0_coverage_48 rfl (lv_at hl 0 rfl) ?_
          refine lv_iconst (pc := 49) (v := 2) hx hb dX0_coverage_49 (by decide) ?_
          refine lv_iload_n (pc := 50) hx hb dX0_coverage_50 rfl (lv_at hl 1 rfl) ?_
          refine lv_imul (pc := 51) hx hb dX0_coverage_51 ?_
          refine z_eq (y := nI (2 * R_)) (by rw [show (2 : Int32) = nI 2 from rfl, pk_mul]) ?_
          refine lv_iload_n (pc := 52) hx hb dX0_coverage_52 rfl (lv_at hl 2 rfl) ?_
          refine z_callV (pc := 53) (As := [.int (nI (2 * R_)), .int o]) (rest := []) hx hb hml hown hts hA hK hP hD hS (tX_sweep l D d h a H.size n c k fi xs ys col tp bt wy (zrow cv R_ 16) (2 * R_) o (by omega) hsh) (cwV 2 hts (lw_V q94 q96 qs2 q14 q97) rfl rfl rfl (by decide +kernel) ⟨Nat.le_of_ble_eq_true rfl, Nat.le_of_ble_eq_true rfl⟩) (va_recv hK hP (ci := 0) (q0 := 0) rfl rfl) rfl hl.1 rfl (Nat.le_of_ble_eq_true rfl) dX0_coverage_53 (Nat.le_refl _) (Nat.le_refl _) (fun u H locs hu hP hD hS => ?_)
          obtain ⟨k, tp, bt, wy⟩ := u
          have hP : va_P D vwCl (wX h a d n c k fi xs ys col tp bt wy (covS (zrow cv R_ 16) (2 * R_) (smp n fi xs ys o (2 * R_)) 32)) H := hP
          have hD : va_D A (wX h a d n c k fi xs ys col tp bt wy (covS (zrow cv R_ 16) (2 * R_) (smp n fi xs ys o (2 * R_)) 32)) := hD
          refine lv_aload_n (pc := 56) hx hb dX0_coverage_56 rfl (lv_at hl 0 rfl) ?_
          refine lv_iconst (pc := 57) (v := 2) hx hb dX0_coverage_57 (by decide) ?_
          refine lv_iload_n (pc := 58) hx hb dX0_coverage_58 rfl (lv_at hl 1 rfl) ?_
          refine lv_imul (pc := 59) hx hb dX0_coverage_59 ?_
          refine lv_iconst (pc := 60) (v := 1) hx hb dX0_coverage_60 (by decide) ?_
          refine lv_iadd (pc := 61) hx hb dX0_coverage_61 ?_
          refine z_eq (y := nI (2 * R_ + 1)) (by rw [show (2 : Int32) = nI 2 from rfl, pk_mul, nI_1]) ?_
          refine lv_iload_n (pc := 62) hx hb dX0_coverage_62 rfl (lv_at hl 2 rfl) ?_
          refine z_callV (pc := 63) (As := [.int (nI (2 * R_ + 1)), .int o]) (rest := []) hx hb hml hown hts hA hK hP hD hS (tX_sweep l D d h a H.size n c k fi xs ys col tp bt wy (covS (zrow cv R_ 16) (2 * R_) (smp n fi xs ys o (2 * R_)) 32) (2 * R_ + 1) o (by omega) hsh) (cwV 2 hts (lw_V q94 q96 qs2 q14 q97) rfl rfl rfl (by decide +kernel) ⟨Nat.le_of_ble_eq_true rfl, Nat.le_of_ble_eq_true rfl⟩) (va_recv hK hP (ci := 0) (q0 := 0) rfl rfl) rfl hl.1 rfl (Nat.le_of_ble_eq_true rfl) dX0_coverage_63 (Nat.le_refl _) (Nat.le_refl _) (fun u H locs hu hP hD hS => ?_)
          obtain ⟨k, tp, bt, wy⟩ := u
          have hP : va_P D vwCl (wX h a d n c k fi xs ys col tp bt wy (covS (covS (zrow cv R_ 16) (2 * R_) (smp n fi xs ys o (2 * R_)) 32) (2 * R_ + 1) (smp n fi xs ys o (2 * R_ + 1)) 32)) H := hP
          have hD : va_D A (wX h a d n c k fi xs ys col tp bt wy (covS (covS (zrow cv R_ 16) (2 * R_) (smp n fi xs ys o (2 * R_)) 32) (2 * R_ + 1) (smp n fi xs ys o (2 * R_ + 1)) 32)) := hD
          refine lv_aload_n (pc := 66) hx hb dX0_coverage_66 rfl (lv_at hl 0 rfl) ?_
          refine x_get (pc := 67) hx hb hts hown hK hP rfl 10 (by decide) q34 (v := .ref (a 7)) rfl dX0_coverage_67 ?_
          refine lv_iload (pc := 70) hx hb dX0_coverage_70 (lv_at hl 3 rfl) ?_
          refine z_ild (pc := 72) hx hb hK hP 8 rfl (R_ * 16 + C_) rfl (by omega) (by decide) dX0_coverage_72 ?_
          exact ret _ (k, tp, bt, wy, _) _ _ 73 _ hP hD hS (by rw [cgR, if_neg hb_, nI_clamp (by omega), nI_clamp (by omega)]; exact covS_two _ _ hC (if_pos (by omega))) dX0_coverage_73
        · have hi : i < 16 := by rcases Nat.lt_or_ge i 16 with q | q; exact q; exact absurd (nI_le (a := 16) q (by omega)) c26
          refine lv_aload_n (pc := 29) hx hb dX0_coverage_29 rfl (lv_at hl 0 rfl) ?_
          refine x_get (pc := 30) hx hb hts hown hK hP rfl 10 (by decide) q34 (v := .ref (a 7)) rfl dX0_coverage_30 ?_
          refine lv_iload_n (pc := 33) hx hb dX0_coverage_33 rfl (lv_at hl 1 rfl) ?_
          refine lv_bipush (pc := 34) (v := 16) hx hb dX0_coverage_34 (by decide) ?_
          refine lv_imul (pc := 36) hx hb dX0_coverage_36 ?_
          refine lv_iload (pc := 37) hx hb dX0_coverage_37 (lv_at hl 4 rfl) ?_
          refine lv_iadd (pc := 39) hx hb dX0_coverage_39 ?_
          refine z_eq (y := nI (R_ * 16 + i)) (by rw [show (16 : Int32) = nI 16 from rfl, pk_mul, nI_add]) ?_
          refine lv_iconst (pc := 40) (v := 0) hx hb dX0_coverage_40 (by decide) ?_
          refine z_ist (pc := 41) (ws' := wX h a d n c k fi xs ys col tp bt wy (upd (zrow cv R_ i) (R_ * 16 + i) 0)) hx hb hK hP hD hS 8 rfl (R_ * 16 + i) rfl (by omega) (by decide) rfl dX0_coverage_41 (fun H locs hP hD hS => ?_)
          have hw_ : upd (zrow cv R_ i) (R_ * 16 + i) 0 = zrow cv R_ (i + 1) := zrow_succ cv R_ i
          rw [hw_] at hP hD
          refine lv_iinc (pc := 42) (v := nI (i + 1)) (lv' := [(5, .int (nI (i + 1))), (0, .ref h), (1, .int (nI R_)), (3, .int o), (4, .int (nI (R_ * 16 + C_)))]) hx hb dX0_coverage_42 hl (k := 4) rfl (nI_1 i) (by decide) rfl (fun ls hl => ?_)
          refine lv_goto (pc := 45) (tgt := 22) hx hb dX0_coverage_45 (by decide) ?_
          exact ih (i + 1) (by omega) (by omega) _ _ hP hD hS ls (lv_sub hl [1, 2, 3, 4, 0] rfl)
    exact loop 17 0 (by omega) (by omega) _ _ (by rw [zrow_0]; exact hP) (by rw [zrow_0]; exact hD) hS ls (lv_sub hl [2, 3, 5, 1, 0] rfl)
  · refine lv_bipush (pc := 8) (v := (-4)) hx hb dX0_coverage_8 (by decide) ?_
    exact ret (-4) (k, tp, bt, wy, cv) _ _ 10 _ hP hD hS (by rw [cgR, if_pos (b_yes hr_ c5)]) dX0_coverage_10
end
section
/-! PolygonFill: the shape, colours -/
set_option maxRecDepth 100000
set_option maxHeartbeats 4000000 in
/-- begin -/
theorem tX_begin (l : Launch) (D : va_G) (d : ClassId) (h : Nat) (a : Nat → Nat) (sz n c k : Nat) (fi xs ys col tp bt wy cv : Nat → Int32) (x y : Int32) (hn : n ≤ 4) (hc : c ≤ 12) : zI l D d yX0_begin cX0_begin 3 .int (zR 1 25) [.ref h, .int x, .int y] sz (wX h a d n c k fi xs ys col tp bt wy cv) (fun r (u : zShape) => r = bgR n c x y ∧ u = bgS n c fi xs ys x y) (fun u => (wX h a d u.1 u.2.1 k u.2.2.1 u.2.2.2.1 u.2.2.2.2 col tp bt wy cv)) := by
  refine z_startI (by decide) (Nat.le_of_ble_eq_true rfl) ?_
  intro p e s m args below meth cd A Q ls hx hb hml hown hts hA hK hP hD hS ret hl
  have hown : s.vm.findClass RX0 = some m.cls := hown
  have hl : lv_has ls 3 [(0, .ref h), (1, .int x), (2, .int y)] := hl
  refine lv_iload_n (pc := 0) hx hb dX0_begin_0 rfl (lv_at hl 1 rfl) ?_
  refine lv_iload_n (pc := 1) hx hb dX0_begin_1 rfl (lv_at hl 2 rfl) ?_
  refine z_callS (pc := 2) (As := [.int x, .int y]) (rest := []) hx hb hml hown hts hA hK hP hS (tX_badPoint l D d _ x y) (va_cwS 2 hts (lw_S q63 q64 q14 q65) rfl rfl rfl (by decide +kernel) ⟨Nat.le_of_ble_eq_true rfl, Nat.le_of_ble_eq_true rfl⟩) rfl hl.1 rfl (Nat.le_of_ble_eq_true rfl) dX0_begin_2 (Nat.le_refl _) (Nat.le_refl _) (fun r_ u_ H locs hr_ hP hS => ?_)
  refine lv_if_eq (pc := 5) (tgt := 10) hx hb dX0_begin_5 (by decide) (fun c5 => ?_) (fun c5 => ?_)
  · have hb_ := b_no hr_ c5
    refine lv_aload_n (pc := 10) hx hb dX0_begin_10 rfl (lv_at hl 0 rfl) ?_
    refine x_get (pc := 11) hx hb hts hown hK hP rfl 1 (by decide) q25 (v := .int (nI n)) rfl dX0_begin_11 ?_
    refine lv_iconst (pc := 14) (v := 4) hx hb dX0_begin_14 (by decide) ?_
    refine lv_icmp_ge (pc := 15) (tgt := 27) hx hb dX0_begin_15 (by decide) (fun c15 => ?_) (fun c15 => ?_)
    · have hf_ : ¬ (n < 4 ∧ c < 12) := by intro q; exact absurd c15 (nI_ge (b := 4) q.1 (by omega))
      refine lv_bipush (pc := 27) (v := (-2)) hx hb dX0_begin_27 (by decide) ?_
      exact ret (-2) (n, c, fi, xs, ys) _ _ 29 _ hP hD hS ⟨by rw [bgR, if_neg hb_, if_neg hf_], by rw [bgS, if_neg hb_, if_neg hf_]⟩ dX0_begin_29
    · refine lv_aload_n (pc := 18) hx hb dX0_begin_18 rfl (lv_at hl 0 rfl) ?_
      refine x_get (pc := 19) hx hb hts hown hK hP rfl 2 (by decide) q26 (v := .int (nI c)) rfl dX0_begin_19 ?_
      refine lv_bipush (pc := 22) (v := 12) hx hb dX0_begin_22 (by decide) ?_
      refine lv_icmp_lt (pc := 24) (tgt := 30) hx hb dX0_begin_24 (by decide) (fun c24 => ?_) (fun c24 => ?_)
      · have hf_ : n < 4 ∧ c < 12 := ⟨by rcases Nat.lt_or_ge n 4 with q | q; exact q; exact absurd (nI_le (a := 4) q (by omega)) c15, (nI_ltI (a := c) (b := 12) (by omega) (by omega)).mp c24⟩
        refine lv_aload_n (pc := 30) hx hb dX0_begin_30 rfl (lv_at hl 0 rfl) ?_
        refine x_get (pc := 31) hx hb hts hown hK hP rfl 3 (by decide) q27 (v := .ref (a 1)) rfl dX0_begin_31 ?_
        refine lv_aload_n (pc := 34) hx hb dX0_begin_34 rfl (lv_at hl 0 rfl) ?_
        refine x_get (pc := 35) hx hb hts hown hK hP rfl 1 (by decide) q25 (v := .int (nI n)) rfl dX0_begin_35 ?_
        refine lv_aload_n (pc := 38) hx hb dX0_begin_38 rfl (lv_at hl 0 rfl) ?_
        refine x_get (pc := 39) hx hb hts hown hK hP rfl 2 (by decide) q26 (v := .int (nI c)) rfl dX0_begin_39 ?_
        refine z_ist (pc := 42) (ws' := wX h a d n c k (upd fi n (nI c)) xs ys col tp bt wy cv) hx hb hK hP hD hS 2 rfl n rfl (by omega) (by decide) rfl dX0_begin_42 (fun H locs hP hD hS => ?_)
        refine lv_aload_n (pc := 43) hx hb dX0_begin_43 rfl (lv_at hl 0 rfl) ?_
        refine lv_dup (pc := 44) hx hb dX0_begin_44 rfl ?_
        refine x_get (pc := 45) hx hb hts hown hK hP rfl 1 (by decide) q25 (v := .int (nI n)) rfl dX0_begin_45 ?_
        refine lv_iconst (pc := 48) (v := 1) hx hb dX0_begin_48 (by decide) ?_
        refine lv_iadd (pc := 49) hx hb dX0_begin_49 ?_
        refine z_eq (y := nI (n + 1)) (nI_1 n) ?_
        refine x_put (pc := 50) (ws' := wX h a d (n + 1) c k (upd fi n (nI c)) xs ys col tp bt wy cv) hx hb hts hown hK hP hD hS rfl 1 (by decide) q25 rfl (by decide +kernel) (Nat.le_of_ble_eq_true rfl) rfl dX0_begin_50 (fun H locs hP hD hS => ?_)
        refine lv_aload_n (pc := 53) hx hb dX0_begin_53 rfl (lv_at hl 0 rfl) ?_
        refine lv_iload_n (pc := 54) hx hb dX0_begin_54 rfl (lv_at hl 1 rfl) ?_
        refine lv_iload_n (pc := 55) hx hb dX0_begin_55 rfl (lv_at hl 2 rfl) ?_
        refine z_callV (pc := 56) (As := [.int x, .int y]) (rest := []) hx hb hml hown hts hA hK hP hD hS (tX_addCorner l D d h a H.size (n + 1) c k (upd fi n (nI c)) xs ys col tp bt wy cv x y (by omega) hf_.2) (cwV 2 hts (lw_V q66 q68 qs0 q14 q69) rfl rfl rfl (by decide +kernel) ⟨Nat.le_of_ble_eq_true rfl, Nat.le_of_ble_eq_true rfl⟩) (va_recv hK hP (ci := 0) (q0 := 0) rfl rfl) rfl hl.1 rfl (Nat.le_of_ble_eq_true rfl) dX0_begin_56 (Nat.le_refl _) (Nat.le_refl _) (fun u_ H locs hu_ hP hD hS => ?_)
        have hP : va_P D vwCl (wX h a d (n + 1) (c + 1) k (upd (upd fi n (nI c)) (n + 1) (nI (c + 1))) (upd xs c x) (upd ys c y) col tp bt wy cv) H := hP
        have hD : va_D A (wX h a d (n + 1) (c + 1) k (upd (upd fi n (nI c)) (n + 1) (nI (c + 1))) (upd xs c x) (upd ys c y) col tp bt wy cv) := hD
        refine lv_aload_n (pc := 59) hx hb dX0_begin_59 rfl (lv_at hl 0 rfl) ?_
        refine x_get (pc := 60) hx hb hts hown hK hP rfl 1 (by decide) q25 (v := .int (nI (n + 1))) rfl dX0_begin_60 ?_
        exact ret (nI (n + 1)) (n + 1, c + 1, upd (upd fi n (nI c)) (n + 1) (nI (c + 1)), upd xs c x, upd ys c y) _ _ 63 _ hP hD hS ⟨by rw [bgR, if_neg hb_, if_pos hf_], by rw [bgS, if_neg hb_, if_pos hf_]⟩ dX0_begin_63
      · have hf_ : ¬ (n < 4 ∧ c < 12) := by intro q; exact c24 (nI_lt (b := 12) q.2 (by omega))
        refine lv_bipush (pc := 27) (v := (-2)) hx hb dX0_begin_27 (by decide) ?_
        exact ret (-2) (n, c, fi, xs, ys) _ _ 29 _ hP hD hS ⟨by rw [bgR, if_neg hb_, if_neg hf_], by rw [bgS, if_neg hb_, if_neg hf_]⟩ dX0_begin_29
  · have hb_ := b_yes hr_ c5
    refine lv_iconst (pc := 8) (v := (-1)) hx hb dX0_begin_8 (by decide) ?_
    exact ret (-1) (n, c, fi, xs, ys) _ _ 9 _ hP hD hS ⟨by rw [bgR, if_pos hb_], by rw [bgS, if_pos hb_]⟩ dX0_begin_9

set_option maxHeartbeats 4000000 in
/-- corner -/
theorem tX_corner (l : Launch) (D : va_G) (d : ClassId) (h : Nat) (a : Nat → Nat) (sz n c k : Nat) (fi xs ys col tp bt wy cv : Nat → Int32) (x y : Int32) (hn : n ≤ 4) (hc : c ≤ 12) : zI l D d yX0_corner cX0_corner 3 .int (zR 1 25) [.ref h, .int x, .int y] sz (wX h a d n c k fi xs ys col tp bt wy cv) (fun r (u : zShape) => r = coR n c x y ∧ u = coS n c fi xs ys x y) (fun u => (wX h a d u.1 u.2.1 k u.2.2.1 u.2.2.2.1 u.2.2.2.2 col tp bt wy cv)) := by
  refine z_startI (by decide) (Nat.le_of_ble_eq_true rfl) ?_
  intro p e s m args below meth cd A Q ls hx hb hml hown hts hA hK hP hD hS ret hl
  have hown : s.vm.findClass RX0 = some m.cls := hown
  have hl : lv_has ls 3 [(0, .ref h), (1, .int x), (2, .int y)] := hl
  refine lv_iload_n (pc := 0) hx hb dX0_corner_0 rfl (lv_at hl 1 rfl) ?_
  refine lv_iload_n (pc := 1) hx hb dX0_corner_1 rfl (lv_at hl 2 rfl) ?_
  refine z_callS (pc := 2) (As := [.int x, .int y]) (rest := []) hx hb hml hown hts hA hK hP hS (tX_badPoint l D d _ x y) (va_cwS 2 hts (lw_S q63 q64 q14 q65) rfl rfl rfl (by decide +kernel) ⟨Nat.le_of_ble_eq_true rfl, Nat.le_of_ble_eq_true rfl⟩) rfl hl.1 rfl (Nat.le_of_ble_eq_true rfl) dX0_corner_2 (Nat.le_refl _) (Nat.le_refl _) (fun r_ u_ H locs hr_ hP hS => ?_)
  refine lv_if_eq (pc := 5) (tgt := 10) hx hb dX0_corner_5 (by decide) (fun c5 => ?_) (fun c5 => ?_)
  · have hb_ := b_no hr_ c5
    refine lv_aload_n (pc := 10) hx hb dX0_corner_10 rfl (lv_at hl 0 rfl) ?_
    refine x_get (pc := 11) hx hb hts hown hK hP rfl 1 (by decide) q25 (v := .int (nI n)) rfl dX0_corner_11 ?_
    refine lv_if_eq (pc := 14) (tgt := 26) hx hb dX0_corner_14 (by decide) (fun c14 => ?_) (fun c14 => ?_)
    · have hf_ : ¬ (0 < n ∧ c < 12) := by intro q; exact nI_ne0 q.1 (by omega) c14
      refine lv_bipush (pc := 26) (v := (-2)) hx hb dX0_corner_26 (by decide) ?_
      exact ret (-2) (n, c, fi, xs, ys) _ _ 28 _ hP hD hS ⟨by rw [coR, if_neg hb_, if_neg hf_], by rw [coS, if_neg hb_, if_neg hf_]⟩ dX0_corner_28
    · refine lv_aload_n (pc := 17) hx hb dX0_corner_17 rfl (lv_at hl 0 rfl) ?_
      refine x_get (pc := 18) hx hb hts hown hK hP rfl 2 (by decide) q26 (v := .int (nI c)) rfl dX0_corner_18 ?_
      refine lv_bipush (pc := 21) (v := 12) hx hb dX0_corner_21 (by decide) ?_
      refine lv_icmp_lt (pc := 23) (tgt := 29) hx hb dX0_corner_23 (by decide) (fun c23 => ?_) (fun c23 => ?_)
      · have hf_ : 0 < n ∧ c < 12 := ⟨by rcases Nat.eq_zero_or_pos n with q | q; exact absurd (by rw [q]; rfl) c14; exact q, (nI_ltI (a := c) (b := 12) (by omega) (by omega)).mp c23⟩
        refine lv_aload_n (pc := 29) hx hb dX0_corner_29 rfl (lv_at hl 0 rfl) ?_
        refine lv_iload_n (pc := 30) hx hb dX0_corner_30 rfl (lv_at hl 1 rfl) ?_
        refine lv_iload_n (pc := 31) hx hb dX0_corner_31 rfl (lv_at hl 2 rfl) ?_
        refine z_callV (pc := 32) (As := [.int x, .int y]) (rest := []) hx hb hml hown hts hA hK hP hD hS (tX_addCorner l D d h a H.size n c k fi xs ys col tp bt wy cv x y (by omega) hf_.2) (cwV 2 hts (lw_V q66 q68 qs0 q14 q69) rfl rfl rfl (by decide +kernel) ⟨Nat.le_of_ble_eq_true rfl, Nat.le_of_ble_eq_true rfl⟩) (va_recv hK hP (ci := 0) (q0 := 0) rfl rfl) rfl hl.1 rfl (Nat.le_of_ble_eq_true rfl) dX0_corner_32 (Nat.le_refl _) (Nat.le_refl _) (fun u_ H locs hu_ hP hD hS => ?_)
        have hP : va_P D vwCl (wX h a d n (c + 1) k (upd fi n (nI (c + 1))) (upd xs c x) (upd ys c y) col tp bt wy cv) H := hP
        have hD : va_D A (wX h a d n (c + 1) k (upd fi n (nI (c + 1))) (upd xs c x) (upd ys c y) col tp bt wy cv) := hD
        refine lv_aload_n (pc := 35) hx hb dX0_corner_35 rfl (lv_at hl 0 rfl) ?_
        refine x_get (pc := 36) hx hb hts hown hK hP rfl 2 (by decide) q26 (v := .int (nI (c + 1))) rfl dX0_corner_36 ?_
        exact ret (nI (c + 1)) (n, c + 1, upd fi n (nI (c + 1)), upd xs c x, upd ys c y) _ _ 39 _ hP hD hS ⟨by rw [coR, if_neg hb_, if_pos hf_], by rw [coS, if_neg hb_, if_pos hf_]⟩ dX0_corner_39
      · have hf_ : ¬ (0 < n ∧ c < 12) := by intro q; exact c23 (nI_lt (b := 12) q.2 (by omega))
        refine lv_bipush (pc := 26) (v := (-2)) hx hb dX0_corner_26 (by decide) ?_
        exact ret (-2) (n, c, fi, xs, ys) _ _ 28 _ hP hD hS ⟨by rw [coR, if_neg hb_, if_neg hf_], by rw [coS, if_neg hb_, if_neg hf_]⟩ dX0_corner_28
  · have hb_ := b_yes hr_ c5
    refine lv_iconst (pc := 8) (v := (-1)) hx hb dX0_corner_8 (by decide) ?_
    exact ret (-1) (n, c, fi, xs, ys) _ _ 9 _ hP hD hS ⟨by rw [coR, if_pos hb_], by rw [coS, if_pos hb_]⟩ dX0_corner_9

set_option maxHeartbeats 4000000 in
/-- move -/
theorem tX_move (l : Launch) (D : va_G) (d : ClassId) (h : Nat) (a : Nat → Nat) (sz n c k : Nat) (fi xs ys col tp bt wy cv : Nat → Int32) (x y : Int32) (hc : c ≤ 12) (hok : ∀ j, j < c → okC (xs j) ∧ okC (ys j)) : zI l D d yX0_move cX0_move 4 .int (zR 0 0) [.ref h, .int x, .int y] sz (wX h a d n c k fi xs ys col tp bt wy cv) (fun r (u : (Nat → Int32) × (Nat → Int32)) => (mvOK c xs ys x y → r = nI c ∧ u = (mvd xs x c, mvd ys y c)) ∧ (¬ mvOK c xs ys x y → r = -1 ∧ u = (xs, ys))) (fun u => (wX h a d n c k fi u.1 u.2 col tp bt wy cv)) := by
  refine z_startI (by decide) (Nat.le_of_ble_eq_true rfl) ?_
  intro p e s m args below meth cd A Q ls hx hb hml hown hts hA hK hP hD hS ret hl
  have hown : s.vm.findClass RX0 = some m.cls := hown
  have hl : lv_has ls 4 [(0, .ref h), (1, .int x), (2, .int y)] := hl
  refine lv_iconst (pc := 0) (v := 0) hx hb dX0_move_0 (by decide) ?_
  refine lv_istore_n (pc := 1) (lv' := [(3, .int 0), (0, .ref h), (1, .int x), (2, .int y)]) hx hb dX0_move_1 rfl hl (by decide) rfl (fun ls hl => ?_)
  have second : mvOK c xs ys x y → ∀ (H : Heap) (locs : List Loc), va_P D vwCl (wX h a d n c k fi xs ys col tp bt wy cv) H → va_D A (wX h a d n c k fi xs ys col tp bt wy cv) → va_S A s.heap H locs → ∀ (ls : Array Slot), lv_has ls 4 [(0, .ref h), (1, .int x), (2, .int y), (3, .int 0)] → W p l e (zR 0 0) s m args below meth cd H locs 0 0 Q (F0 m 68 ls []) := by
    intro hm H locs hP hD hS ls hl
    have loop2 : ∀ (N : Nat) (i : Nat), (c < i + N) → (i ≤ c) → ∀ (H : Heap) (locs : List Loc), va_P D vwCl (wX h a d n c k fi (mvd xs x i) (mvd ys y i) col tp bt wy cv) H → va_D A (wX h a d n c k fi (mvd xs x i) (mvd ys y i) col tp bt wy cv) → va_S A s.heap H locs → ∀ (ls : Array Slot), lv_has ls 4 [(0, .ref h), (1, .int x), (2, .int y), (3, .int (nI i))] → W p l e (zR 0 0) s m args below meth cd H locs 0 0 Q (F0 m 68 ls []) := by
      intro N
      induction N with
      | zero => intro i hN hic; exfalso; omega
      | succ N ih =>
        intro i hN hic H locs hP hD hS ls hl
        refine lv_iload_n (pc := 68) hx hb dX0_move_68 rfl (lv_at hl 3 rfl) ?_
        refine lv_aload_n (pc := 69) hx hb dX0_move_69 rfl (lv_at hl 0 rfl) ?_
        refine x_get (pc := 70) hx hb hts hown hK hP rfl 2 (by decide) q26 (v := .int (nI c)) rfl dX0_move_70 ?_
        refine lv_icmp_ge (pc := 73) (tgt := 102) hx hb dX0_move_73 (by decide) (fun c73 => ?_) (fun c73 => ?_)
        · have hi : i = c := by rcases Nat.lt_or_ge i c with q | q; exact absurd c73 (nI_ge (b := c) q (by omega)); omega
          subst hi
          refine lv_aload_n (pc := 102) hx hb dX0_move_102 rfl (lv_at hl 0 rfl) ?_
          refine x_get (pc := 103) hx hb hts hown hK hP rfl 2 (by decide) q26 (v := .int (nI i)) rfl dX0_move_103 ?_
          exact ret (nI i) (mvd xs x i, mvd ys y i) _ _ 106 _ hP hD hS ⟨fun _ => ⟨rfl, rfl⟩, fun q => absurd hm q⟩ dX0_move_106
        · have hi : i < c := by rcases Nat.lt_or_ge i c with q | q; exact q; exact absurd (nI_le (a := c) q (by omega)) c73
          refine lv_aload_n (pc := 76) hx hb dX0_move_76 rfl (lv_at hl 0 rfl) ?_
          refine x_get (pc := 77) hx hb hts hown hK hP rfl 4 (by decide) q28 (v := .ref (a 2)) rfl dX0_move_77 ?_
          refine lv_iload_n (pc := 80) hx hb dX0_move_80 rfl (lv_at hl 3 rfl) ?_
          refine lv_dup2_11 (pc := 81) hx hb dX0_move_81 rfl rfl ?_
          refine z_ild (pc := 82) hx hb hK hP 3 rfl i rfl (by omega) (by decide) dX0_move_82 ?_
          refine z_eq (y := xs i) (fa_fill_out (Nat.le_refl i)) ?_
          refine lv_iload_n (pc := 83) hx hb dX0_move_83 rfl (lv_at hl 1 rfl) ?_
          refine lv_iadd (pc := 84) hx hb dX0_move_84 ?_
          refine z_ist (pc := 85) (ws' := wX h a d n c k fi (upd (mvd xs x i) i ((xs i) + x)) (mvd ys y i) col tp bt wy cv) hx hb hK hP hD hS 3 rfl i rfl (by omega) (by decide) rfl dX0_move_85 (fun H locs hP hD hS => ?_)
          have hw_ : upd (mvd xs x i) i ((xs i) + x) = mvd xs x (i + 1) := fa_fill_succ (fun j => xs j + x) xs i
          rw [hw_] at hP hD
          refine lv_aload_n (pc := 86) hx hb dX0_move_86 rfl (lv_at hl 0 rfl) ?_
          refine x_get (pc := 87) hx hb hts hown hK hP rfl 5 (by decide) q29 (v := .ref (a 3)) rfl dX0_move_87 ?_
          refine lv_iload_n (pc := 90) hx hb dX0_move_90 rfl (lv_at hl 3 rfl) ?_
          refine lv_dup2_11 (pc := 91) hx hb dX0_move_91 rfl rfl ?_
          refine z_ild (pc := 92) hx hb hK hP 4 rfl i rfl (by omega) (by decide) dX0_move_92 ?_
          refine z_eq (y := ys i) (fa_fill_out (Nat.le_refl i)) ?_
          refine lv_iload_n (pc := 93) hx hb dX0_move_93 rfl (lv_at hl 2 rfl) ?_
          refine lv_iadd (pc := 94) hx hb dX0_move_94 ?_
          refine z_ist (pc := 95) (ws' := wX h a d n c k fi (mvd xs x (i + 1)) (upd (mvd ys y i) i ((ys i) + y)) col tp bt wy cv) hx hb hK hP hD hS 4 rfl i rfl (by omega) (by decide) rfl dX0_move_95 (fun H locs hP hD hS => ?_)
          have hw_ : upd (mvd ys y i) i ((ys i) + y) = mvd ys y (i + 1) := fa_fill_succ (fun j => ys j + y) ys i
          rw [hw_] at hP hD
          refine lv_iinc (pc := 96) (v := nI (i + 1)) (lv' := [(3, .int (nI (i + 1))), (0, .ref h), (1, .int x), (2, .int y)]) hx hb dX0_move_96 hl (k := 3) rfl (nI_1 i) (by decide) rfl (fun ls hl => ?_)
          refine lv_goto (pc := 99) (tgt := 68) hx hb dX0_move_99 (by decide) ?_
          exact ih (i + 1) (by omega) (by omega) _ _ hP hD hS ls (lv_sub hl [1, 2, 3, 0] rfl)
    exact loop2 (c + 1) 0 (by omega) (by omega) _ _ (by rw [mvd, mvd, fa_fill_0, fa_fill_0]; exact hP) (by rw [mvd, mvd, fa_fill_0, fa_fill_0]; exact hD) hS ls hl
  have loop1 : ∀ (N : Nat) (i : Nat), (c < i + N) → (i ≤ c) → (mvOK i xs ys x y) → ∀ (H : Heap) (locs : List Loc), va_P D vwCl (wX h a d n c k fi xs ys col tp bt wy cv) H → va_D A (wX h a d n c k fi xs ys col tp bt wy cv) → va_S A s.heap H locs → ∀ (ls : Array Slot), lv_has ls 4 [(0, .ref h), (1, .int x), (2, .int y), (3, .int (nI i))] → W p l e (zR 0 0) s m args below meth cd H locs 0 0 Q (F0 m 2 ls []) := by
    intro N
    induction N with
    | zero => intro i hN hic hm; exfalso; omega
    | succ N ih =>
      intro i hN hic hm H locs hP hD hS ls hl
      refine lv_iload_n (pc := 2) hx hb dX0_move_2 rfl (lv_at hl 3 rfl) ?_
      refine lv_aload_n (pc := 3) hx hb dX0_move_3 rfl (lv_at hl 0 rfl) ?_
      refine x_get (pc := 4) hx hb hts hown hK hP rfl 2 (by decide) q26 (v := .int (nI c)) rfl dX0_move_4 ?_
      refine lv_icmp_ge (pc := 7) (tgt := 66) hx hb dX0_move_7 (by decide) (fun c7 => ?_) (fun c7 => ?_)
      · have hi : i = c := by rcases Nat.lt_or_ge i c with q | q; exact absurd c7 (nI_ge (b := c) q (by omega)); omega
        refine lv_iconst (pc := 66) (v := 0) hx hb dX0_move_66 (by decide) ?_
        refine lv_istore_n (pc := 67) (lv' := [(3, .int 0), (0, .ref h), (1, .int x), (2, .int y)]) hx hb dX0_move_67 rfl hl (by decide) rfl (fun ls hl => ?_)
        exact second (by rw [← hi]; exact hm) _ _ hP hD hS ls (lv_sub hl [1, 2, 3, 0] rfl)
      · have hi : i < c := by rcases Nat.lt_or_ge i c with q | q; exact q; exact absurd (nI_le (a := c) q (by omega)) c7
        obtain ⟨ox, oy⟩ := hok i hi
        refine lv_iload_n (pc := 10) hx hb dX0_move_10 rfl (lv_at hl 1 rfl) ?_
        refine lv_aload_n (pc := 11) hx hb dX0_move_11 rfl (lv_at hl 0 rfl) ?_
        refine x_get (pc := 12) hx hb hts hown hK hP rfl 4 (by decide) q28 (v := .ref (a 2)) rfl dX0_move_12 ?_
        refine lv_iload_n (pc := 15) hx hb dX0_move_15 rfl (lv_at hl 3 rfl) ?_
        refine z_ild (pc := 16) hx hb hK hP 3 rfl i rfl (by omega) (by decide) dX0_move_16 ?_
        refine lv_ineg (pc := 17) hx hb dX0_move_17 ?_
        refine lv_icmp_lt (pc := 18) (tgt := 58) hx hb dX0_move_18 (by decide) (fun c18 => ?_) (fun c18 => ?_)
        · refine lv_iconst (pc := 58) (v := (-1)) hx hb dX0_move_58 (by decide) ?_
          exact ret (-1) (xs, ys) _ _ 59 _ hP hD hS ⟨fun q => absurd (q i hi) (by unfold mvO; rw [mv_lo ox] at c18; omega), fun _ => ⟨rfl, rfl⟩⟩ dX0_move_59
        · refine lv_iload_n (pc := 21) hx hb dX0_move_21 rfl (lv_at hl 1 rfl) ?_
          refine lv_bipush (pc := 22) (v := 64) hx hb dX0_move_22 (by decide) ?_
          refine lv_aload_n (pc := 24) hx hb dX0_move_24 rfl (lv_at hl 0 rfl) ?_
          refine x_get (pc := 25) hx hb hts hown hK hP rfl 4 (by decide) q28 (v := .ref (a 2)) rfl dX0_move_25 ?_
          refine lv_iload_n (pc := 28) hx hb dX0_move_28 rfl (lv_at hl 3 rfl) ?_
          refine z_ild (pc := 29) hx hb hK hP 3 rfl i rfl (by omega) (by decide) dX0_move_29 ?_
          refine lv_isub (pc := 30) hx hb dX0_move_30 ?_
          refine lv_icmp_gt (pc := 31) (tgt := 58) hx hb dX0_move_31 (by decide) (fun c31 => ?_) (fun c31 => ?_)
          · refine lv_iconst (pc := 58) (v := (-1)) hx hb dX0_move_58 (by decide) ?_
            exact ret (-1) (xs, ys) _ _ 59 _ hP hD hS ⟨fun q => absurd (q i hi) (by unfold mvO; rw [mv_hi ox] at c31; omega), fun _ => ⟨rfl, rfl⟩⟩ dX0_move_59
          · refine lv_iload_n (pc := 34) hx hb dX0_move_34 rfl (lv_at hl 2 rfl) ?_
            refine lv_aload_n (pc := 35) hx hb dX0_move_35 rfl (lv_at hl 0 rfl) ?_
            refine x_get (pc := 36) hx hb hts hown hK hP rfl 5 (by decide) q29 (v := .ref (a 3)) rfl dX0_move_36 ?_
            refine lv_iload_n (pc := 39) hx hb dX0_move_39 rfl (lv_at hl 3 rfl) ?_
            refine z_ild (pc := 40) hx hb hK hP 4 rfl i rfl (by omega) (by decide) dX0_move_40 ?_
            refine lv_ineg (pc := 41) hx hb dX0_move_41 ?_
            refine lv_icmp_lt (pc := 42) (tgt := 58) hx hb dX0_move_42 (by decide) (fun c42 => ?_) (fun c42 => ?_)
            · refine lv_iconst (pc := 58) (v := (-1)) hx hb dX0_move_58 (by decide) ?_
              exact ret (-1) (xs, ys) _ _ 59 _ hP hD hS ⟨fun q => absurd (q i hi) (by unfold mvO; rw [mv_lo oy] at c42; omega), fun _ => ⟨rfl, rfl⟩⟩ dX0_move_59
            · refine lv_iload_n (pc := 45) hx hb dX0_move_45 rfl (lv_at hl 2 rfl) ?_
              refine lv_bipush (pc := 46) (v := 64) hx hb dX0_move_46 (by decide) ?_
              refine lv_aload_n (pc := 48) hx hb dX0_move_48 rfl (lv_at hl 0 rfl) ?_
              refine x_get (pc := 49) hx hb hts hown hK hP rfl 5 (by decide) q29 (v := .ref (a 3)) rfl dX0_move_49 ?_
              refine lv_iload_n (pc := 52) hx hb dX0_move_52 rfl (lv_at hl 3 rfl) ?_
              refine z_ild (pc := 53) hx hb hK hP 4 rfl i rfl (by omega) (by decide) dX0_move_53 ?_
              refine lv_isub (pc := 54) hx hb dX0_move_54 ?_
              refine lv_icmp_le (pc := 55) (tgt := 60) hx hb dX0_move_55 (by decide) (fun c55 => ?_) (fun c55 => ?_)
              · refine lv_iinc (pc := 60) (v := nI (i + 1)) (lv' := [(3, .int (nI (i + 1))), (0, .ref h), (1, .int x), (2, .int y)]) hx hb dX0_move_60 hl (k := 3) rfl (nI_1 i) (by decide) rfl (fun ls hl => ?_)
                refine lv_goto (pc := 63) (tgt := 2) hx hb dX0_move_63 (by decide) ?_
                have c55 : ¬ 64 - ys i < y := by simp only [p_lt, p_le] at *; omega
                rw [mv_lo ox] at c18; rw [mv_hi ox] at c31; rw [mv_lo oy] at c42; rw [mv_hi oy] at c55
                exact ih (i + 1) (by omega) (by omega) (fun j hj => by rcases Nat.lt_or_ge j i with q | q; exact hm j q; rw [Nat.le_antisymm (Nat.le_of_lt_succ hj) q]; exact ⟨⟨by omega, by omega⟩, ⟨by omega, by omega⟩⟩) _ _ hP hD hS ls (lv_sub hl [1, 2, 3, 0] rfl)
              · refine lv_iconst (pc := 58) (v := (-1)) hx hb dX0_move_58 (by decide) ?_
                exact ret (-1) (xs, ys) _ _ 59 _ hP hD hS ⟨fun q => absurd (q i hi) (by unfold mvO; have c55 : 64 - ys i < y := (by simp only [p_lt, p_le] at *; omega); rw [mv_hi oy] at c55; omega), fun _ => ⟨rfl, rfl⟩⟩ dX0_move_59
  exact loop1 (c + 1) 0 (by omega) (by omega) (fun j hj => absurd hj (by omega)) _ _ hP hD hS ls (lv_sub hl [1, 2, 3, 0] rfl)

set_option maxHeartbeats 4000000 in
/-- mirror -/
theorem tX_mirror (l : Launch) (D : va_G) (d : ClassId) (h : Nat) (a : Nat → Nat) (sz n c k : Nat) (fi xs ys col tp bt wy cv : Nat → Int32) (hc : c ≤ 12) : zV l D d yX0_mirror cX0_mirror 3 (zR 0 0) [.ref h] sz (wX h a d n c k fi xs ys col tp bt wy cv) (fun (_ : Unit) => True) (fun _ => (wX h a d n c k fi (fa_fill ys xs c) (fa_fill xs ys c) col tp bt wy cv)) := by
  refine z_startV (by decide) (Nat.le_of_ble_eq_true rfl) ?_
  intro p e s m args below meth cd A Q ls hx hb hml hown hts hA hK hP hD hS ret hl
  have hown : s.vm.findClass RX0 = some m.cls := hown
  have hl : lv_has ls 3 [(0, .ref h)] := hl
  refine lv_iconst (pc := 0) (v := 0) hx hb dX0_mirror_0 (by decide) ?_
  refine lv_istore_n (pc := 1) (lv' := [(1, .int 0), (0, .ref h)]) hx hb dX0_mirror_1 rfl hl (by decide) rfl (fun ls hl => ?_)
  have loop : ∀ (N : Nat) (i : Nat), (c < i + N) → (i ≤ c) → ∀ (H : Heap) (locs : List Loc), va_P D vwCl (wX h a d n c k fi (fa_fill ys xs i) (fa_fill xs ys i) col tp bt wy cv) H → va_D A (wX h a d n c k fi (fa_fill ys xs i) (fa_fill xs ys i) col tp bt wy cv) → va_S A s.heap H locs → ∀ (ls : Array Slot), lv_has ls 3 [(0, .ref h), (1, .int (nI i))] → W p l e (zR 0 0) s m args below meth cd H locs 0 0 Q (F0 m 2 ls []) := by
    intro N
    induction N with
    | zero => intro i hN hic; exfalso; omega
    | succ N ih =>
      intro i hN hic H locs hP hD hS ls hl
      refine lv_iload_n (pc := 2) hx hb dX0_mirror_2 rfl (lv_at hl 1 rfl) ?_
      refine lv_aload_n (pc := 3) hx hb dX0_mirror_3 rfl (lv_at hl 0 rfl) ?_
      refine x_get (pc := 4) hx hb hts hown hK hP rfl 2 (by decide) q26 (v := .int (nI c)) rfl dX0_mirror_4 ?_
      refine lv_icmp_ge (pc := 7) (tgt := 42) hx hb dX0_mirror_7 (by decide) (fun c7 => ?_) (fun c7 => ?_)
      · have hi : i = c := by rcases Nat.lt_or_ge i c with q | q; exact absurd c7 (nI_ge (b := c) q (by omega)); omega
        subst hi
        exact ret () _ _ 42 _ hP hD hS trivial dX0_mirror_42
      · have hi : i < c := by rcases Nat.lt_or_ge i c with q | q; exact q; exact absurd (nI_le (a := c) q (by omega)) c7
        refine lv_aload_n (pc := 10) hx hb dX0_mirror_10 rfl (lv_at hl 0 rfl) ?_
        refine x_get (pc := 11) hx hb hts hown hK hP rfl 4 (by decide) q28 (v := .ref (a 2)) rfl dX0_mirror_11 ?_
        refine lv_iload_n (pc := 14) hx hb dX0_mirror_14 rfl (lv_at hl 1 rfl) ?_
        refine z_ild (pc := 15) hx hb hK hP 3 rfl i rfl (by omega) (by decide) dX0_mirror_15 ?_
        refine z_eq (y := xs i) (fa_fill_out (Nat.le_refl i)) ?_
        refine lv_istore_n (pc := 16) (lv' := [(2, .int (xs i)), (0, .ref h), (1, .int (nI i))]) hx hb dX0_mirror_16 rfl hl (by decide) rfl (fun ls hl => ?_)
        refine lv_aload_n (pc := 17) hx hb dX0_mirror_17 rfl (lv_at hl 1 rfl) ?_
        refine x_get (pc := 18) hx hb hts hown hK hP rfl 4 (by decide) q28 (v := .ref (a 2)) rfl dX0_mirror_18 ?_
        refine lv_iload_n (pc := 21) hx hb dX0_mirror_21 rfl (lv_at hl 2 rfl) ?_
        refine lv_aload_n (pc := 22) hx hb dX0_mirror_22 rfl (lv_at hl 1 rfl) ?_
        refine x_get (pc := 23) hx hb hts hown hK hP rfl 5 (by decide) q29 (v := .ref (a 3)) rfl dX0_mirror_23 ?_
        refine lv_iload_n (pc := 26) hx hb dX0_mirror_26 rfl (lv_at hl 2 rfl) ?_
        refine z_ild (pc := 27) hx hb hK hP 4 rfl i rfl (by omega) (by decide) dX0_mirror_27 ?_
        refine z_eq (y := ys i) (fa_fill_out (Nat.le_refl i)) ?_
        refine z_ist (pc := 28) (ws' := wX h a d n c k fi (upd (fa_fill ys xs i) i (ys i)) (fa_fill xs ys i) col tp bt wy cv) hx hb hK hP hD hS 3 rfl i rfl (by omega) (by decide) rfl dX0_mirror_28 (fun H locs hP hD hS => ?_)
        have hw_ : upd (fa_fill ys xs i) i (ys i) = fa_fill ys xs (i + 1) := fa_fill_succ ys xs i
        rw [hw_] at hP hD
        refine lv_aload_n (pc := 29) hx hb dX0_mirror_29 rfl (lv_at hl 1 rfl) ?_
        refine x_get (pc := 30) hx hb hts hown hK hP rfl 5 (by decide) q29 (v := .ref (a 3)) rfl dX0_mirror_30 ?_
        refine lv_iload_n (pc := 33) hx hb dX0_mirror_33 rfl (lv_at hl 2 rfl) ?_
        refine lv_iload_n (pc := 34) hx hb dX0_mirror_34 rfl (lv_at hl 0 rfl) ?_
        refine z_ist (pc := 35) (ws' := wX h a d n c k fi (fa_fill ys xs (i + 1)) (upd (fa_fill xs ys i) i (xs i)) col tp bt wy cv) hx hb hK hP hD hS 4 rfl i rfl (by omega) (by decide) rfl dX0_mirror_35 (fun H locs hP hD hS => ?_)
        have hw_ : upd (fa_fill xs ys i) i (xs i) = fa_fill xs ys (i + 1) := fa_fill_succ xs ys i
        rw [hw_] at hP hD
        refine lv_iinc (pc := 36) (v := nI (i + 1)) (lv' := [(1, .int (nI (i + 1))), (2, .int (xs i)), (0, .ref h)]) hx hb dX0_mirror_36 hl (k := 2) rfl (nI_1 i) (by decide) rfl (fun ls hl => ?_)
        refine lv_goto (pc := 39) (tgt := 2) hx hb dX0_mirror_39 (by decide) ?_
        exact ih (i + 1) (by omega) (by omega) _ _ hP hD hS ls (lv_sub hl [2, 0] rfl)
  exact loop (c + 1) 0 (by omega) (by omega) _ _ (by rw [fa_fill_0, fa_fill_0]; exact hP) (by rw [fa_fill_0, fa_fill_0]; exact hD) hS ls (lv_sub hl [1, 0] rfl)

set_option maxHeartbeats 4000000 in
/-- wipe -/
theorem tX_wipe (l : Launch) (D : va_G) (d : ClassId) (h : Nat) (a : Nat → Nat) (sz n c k : Nat) (fi xs ys col tp bt wy cv : Nat → Int32) (x : Int32) : zI l D d yX0_wipe cX0_wipe 3 .int (zR 0 0) [.ref h, .int x] sz (wX h a d n c k fi xs ys col tp bt wy cv) (fun r (_ : Unit) => r = wiR x) (fun _ => (wX h a d n c k fi xs ys (wiC x col) tp bt wy cv)) := by
  refine z_startI (by decide) (Nat.le_of_ble_eq_true rfl) ?_
  intro p e s m args below meth cd A Q ls hx hb hml hown hts hA hK hP hD hS ret hl
  have hown : s.vm.findClass RX0 = some m.cls := hown
  have hl : lv_has ls 3 [(0, .ref h), (1, .int x)] := hl
  refine lv_iload_n (pc := 0) hx hb dX0_wipe_0 rfl (lv_at hl 1 rfl) ?_
  refine lv_if_lt (pc := 1) (tgt := 11) hx hb dX0_wipe_1 (by decide) (fun c1 => ?_) (fun c1 => ?_)
  · refine lv_bipush (pc := 11) (v := (-3)) hx hb dX0_wipe_11 (by decide) ?_
    have hbk : badK x := by simp only [badK, p_lt, p_le, L0, L255] at *; omega
    have hw_ : col = wiC x col := by rw [wiC, if_pos hbk]
    have hP : va_P D vwCl (wX h a d n c k fi xs ys (wiC x col) tp bt wy cv) s.heap := by rw [← hw_]; exact hP
    have hD : va_D A (wX h a d n c k fi xs ys (wiC x col) tp bt wy cv) := by rw [← hw_]; exact hD
    exact ret (-3) () _ _ 13 _ hP hD hS (by rw [wiR, if_pos hbk]) dX0_wipe_13
  · refine lv_iload_n (pc := 4) hx hb dX0_wipe_4 rfl (lv_at hl 1 rfl) ?_
    refine lv_sipush (pc := 5) (v := 255) hx hb dX0_wipe_5 (by decide) ?_
    refine lv_icmp_le (pc := 8) (tgt := 14) hx hb dX0_wipe_8 (by decide) (fun c8 => ?_) (fun c8 => ?_)
    · have hbk : ¬ badK x := by simp only [badK, p_lt, p_le, L0, L255] at *; omega
      refine lv_iconst (pc := 14) (v := 0) hx hb dX0_wipe_14 (by decide) ?_
      refine lv_istore_n (pc := 15) (lv' := [(2, .int 0), (0, .ref h), (1, .int x)]) hx hb dX0_wipe_15 rfl hl (by decide) rfl (fun ls hl => ?_)
      have loop : ∀ (N : Nat) (i : Nat), (256 < i + N) → (i ≤ 256) → ∀ (H : Heap) (locs : List Loc), va_P D vwCl (wX h a d n c k fi xs ys (fa_fill (fun _ => x) col i) tp bt wy cv) H → va_D A (wX h a d n c k fi xs ys (fa_fill (fun _ => x) col i) tp bt wy cv) → va_S A s.heap H locs → ∀ (ls : Array Slot), lv_has ls 3 [(0, .ref h), (1, .int x), (2, .int (nI i))] → W p l e (zR 0 0) s m args below meth cd H locs 0 0 Q (F0 m 16 ls []) := by
        intro N
        induction N with
        | zero => intro i hN hic; exfalso; omega
        | succ N ih =>
          intro i hN hic H locs hP hD hS ls hl
          refine lv_iload_n (pc := 16) hx hb dX0_wipe_16 rfl (lv_at hl 2 rfl) ?_
          refine lv_sipush (pc := 17) (v := 256) hx hb dX0_wipe_17 (by decide) ?_
          refine lv_icmp_ge (pc := 20) (tgt := 36) hx hb dX0_wipe_20 (by decide) (fun c20 => ?_) (fun c20 => ?_)
          · have hi : i = 256 := by rcases Nat.lt_or_ge i 256 with q | q; exact absurd c20 (nI_ge (b := 256) q (by omega)); omega
            subst hi
            have hw_ : fa_fill (fun _ => x) col 256 = wiC x col := by rw [wiC, if_neg hbk]
            rw [hw_] at hP hD
            refine lv_iconst (pc := 36) (v := 0) hx hb dX0_wipe_36 (by decide) ?_
            exact ret 0 () _ _ 37 _ hP hD hS (by rw [wiR, if_neg hbk]) dX0_wipe_37
          · have hi : i < 256 := by rcases Nat.lt_or_ge i 256 with q | q; exact q; exact absurd (nI_le (a := 256) q (by omega)) c20
            refine lv_aload_n (pc := 23) hx hb dX0_wipe_23 rfl (lv_at hl 0 rfl) ?_
            refine x_get (pc := 24) hx hb hts hown hK hP rfl 0 (by decide) q24 (v := .ref (a 0)) rfl dX0_wipe_24 ?_
            refine lv_iload_n (pc := 27) hx hb dX0_wipe_27 rfl (lv_at hl 2 rfl) ?_
            refine lv_iload_n (pc := 28) hx hb dX0_wipe_28 rfl (lv_at hl 1 rfl) ?_
            refine z_ist (pc := 29) (ws' := wX h a d n c k fi xs ys (upd (fa_fill (fun _ => x) col i) i x) tp bt wy cv) hx hb hK hP hD hS 1 rfl i rfl (by omega) (by decide) rfl dX0_wipe_29 (fun H locs hP hD hS => ?_)
            have hw_ : upd (fa_fill (fun _ => x) col i) i x = fa_fill (fun _ => x) col (i + 1) := fa_fill_succ (fun _ => x) col i
            rw [hw_] at hP hD
            refine lv_iinc (pc := 30) (v := nI (i + 1)) (lv' := [(2, .int (nI (i + 1))), (0, .ref h), (1, .int x)]) hx hb dX0_wipe_30 hl (k := 2) rfl (nI_1 i) (by decide) rfl (fun ls hl => ?_)
            refine lv_goto (pc := 33) (tgt := 16) hx hb dX0_wipe_33 (by decide) ?_
            exact ih (i + 1) (by omega) (by omega) _ _ hP hD hS ls (lv_sub hl [1, 2, 0] rfl)
      exact loop 257 0 (by omega) (by omega) _ _ (by rw [fa_fill_0]; exact hP) (by rw [fa_fill_0]; exact hD) hS ls (lv_sub hl [1, 2, 0] rfl)
    · refine lv_bipush (pc := 11) (v := (-3)) hx hb dX0_wipe_11 (by decide) ?_
      have hbk : badK x := by simp only [badK, p_lt, p_le, L0, L255] at *; omega
      have hw_ : col = wiC x col := by rw [wiC, if_pos hbk]
      have hP : va_P D vwCl (wX h a d n c k fi xs ys (wiC x col) tp bt wy cv) s.heap := by rw [← hw_]; exact hP
      have hD : va_D A (wX h a d n c k fi xs ys (wiC x col) tp bt wy cv) := by rw [← hw_]; exact hD
      exact ret (-3) () _ _ 13 _ hP hD hS (by rw [wiR, if_pos hbk]) dX0_wipe_13

set_option maxHeartbeats 4000000 in
/-- pixel -/
theorem tX_pixel (l : Launch) (D : va_G) (d : ClassId) (h : Nat) (a : Nat → Nat) (sz n c k : Nat) (fi xs ys col tp bt wy cv : Nat → Int32) (r q : Int32) : zI l D d yX0_pixel cX0_pixel 3 .int (zR 1 25) [.ref h, .int r, .int q] sz (wX h a d n c k fi xs ys col tp bt wy cv) (fun rr (_ : Unit) => rr = pxR col r q) (fun _ => (wX h a d n c k fi xs ys col tp bt wy cv)) := by
  refine z_startI (by decide) (Nat.le_of_ble_eq_true rfl) ?_
  intro p e s m args below meth cd A Q ls hx hb hml hown hts hA hK hP hD hS ret hl
  have hown : s.vm.findClass RX0 = some m.cls := hown
  have hl : lv_has ls 3 [(0, .ref h), (1, .int r), (2, .int q)] := hl
  refine lv_iload_n (pc := 0) hx hb dX0_pixel_0 rfl (lv_at hl 1 rfl) ?_
  refine lv_iload_n (pc := 1) hx hb dX0_pixel_1 rfl (lv_at hl 2 rfl) ?_
  refine z_callS (pc := 2) (As := [.int r, .int q]) (rest := []) hx hb hml hown hts hA hK hP hS (tX_badPixel l D d _ r q) (va_cwS 2 hts (lw_S q129 q130 q14 q131) rfl rfl rfl (by decide +kernel) ⟨Nat.le_of_ble_eq_true rfl, Nat.le_of_ble_eq_true rfl⟩) rfl hl.1 rfl (Nat.le_of_ble_eq_true rfl) dX0_pixel_2 (Nat.le_refl _) (Nat.le_refl _) (fun r_ u_ H locs hr_ hP hS => ?_)
  refine lv_if_eq (pc := 5) (tgt := 13) hx hb dX0_pixel_5 (by decide) (fun c5 => ?_) (fun c5 => ?_)
  · have hb_ := b_no hr_ c5
    obtain ⟨R_, C_, hR, hC, rfl, rfl⟩ := badR_no hb_
    refine lv_aload_n (pc := 13) hx hb dX0_pixel_13 rfl (lv_at hl 0 rfl) ?_
    refine x_get (pc := 14) hx hb hts hown hK hP rfl 0 (by decide) q24 (v := .ref (a 0)) rfl dX0_pixel_14 ?_
    refine lv_iload_n (pc := 17) hx hb dX0_pixel_17 rfl (lv_at hl 1 rfl) ?_
    refine lv_bipush (pc := 18) (v := 16) hx hb dX0_pixel_18 (by decide) ?_
    refine lv_imul (pc := 20) hx hb dX0_pixel_20 ?_
    refine lv_iload_n (pc := 21) hx hb dX0_pixel_21 rfl (lv_at hl 2 rfl) ?_
    refine lv_iadd (pc := 22) hx hb dX0_pixel_22 ?_
    refine z_eq (y := nI (R_ * 16 + C_)) (by rw [show (16 : Int32) = nI 16 from rfl, pk_mul, nI_add]) ?_
    refine z_ild (pc := 23) hx hb hK hP 1 rfl (R_ * 16 + C_) rfl (by omega) (by decide) dX0_pixel_23 ?_
    exact ret (col (R_ * 16 + C_)) () _ _ 24 _ hP hD hS (by rw [pxR, if_neg hb_, nI_clamp (by omega), nI_clamp (by omega)]) dX0_pixel_24
  · refine lv_bipush (pc := 8) (v := (-4)) hx hb dX0_pixel_8 (by decide) ?_
    refine lv_goto (pc := 10) (tgt := 24) hx hb dX0_pixel_10 (by decide) ?_
    exact ret (-4) () _ _ 24 _ hP hD hS (by rw [pxR, if_pos (b_yes hr_ c5)]) dX0_pixel_24

set_option maxHeartbeats 4000000 in
/-- rowSum -/
theorem tX_rowSum (l : Launch) (D : va_G) (d : ClassId) (h : Nat) (a : Nat → Nat) (sz n c k : Nat) (fi xs ys col tp bt wy cv : Nat → Int32) (r : Int32) : zI l D d yX0_rowSum cX0_rowSum 4 .int (zR 0 0) [.ref h, .int r] sz (wX h a d n c k fi xs ys col tp bt wy cv) (fun rr (_ : Unit) => rr = rsR col r) (fun _ => (wX h a d n c k fi xs ys col tp bt wy cv)) := by
  refine z_startI (by decide) (Nat.le_of_ble_eq_true rfl) ?_
  intro p e s m args below meth cd A Q ls hx hb hml hown hts hA hK hP hD hS ret hl
  have hown : s.vm.findClass RX0 = some m.cls := hown
  have hl : lv_has ls 4 [(0, .ref h), (1, .int r)] := hl
  refine lv_iload_n (pc := 0) hx hb dX0_rowSum_0 rfl (lv_at hl 1 rfl) ?_
  refine lv_if_lt (pc := 1) (tgt := 10) hx hb dX0_rowSum_1 (by decide) (fun c1 => ?_) (fun c1 => ?_)
  · refine lv_bipush (pc := 10) (v := (-4)) hx hb dX0_rowSum_10 (by decide) ?_
    exact ret (-4) () _ _ 12 _ hP hD hS (by rw [rsR, if_pos (by simp only [badL, p_lt, p_le, L0, L16] at *; omega)]) dX0_rowSum_12
  · refine lv_iload_n (pc := 4) hx hb dX0_rowSum_4 rfl (lv_at hl 1 rfl) ?_
    refine lv_bipush (pc := 5) (v := 16) hx hb dX0_rowSum_5 (by decide) ?_
    refine lv_icmp_lt (pc := 7) (tgt := 13) hx hb dX0_rowSum_7 (by decide) (fun c7 => ?_) (fun c7 => ?_)
    · have hb_ : ¬ badL r := by simp only [badL, p_lt, p_le, L0, L16] at *; omega
      obtain ⟨R_, hR, rfl⟩ := badL_no hb_
      refine lv_iconst (pc := 13) (v := 0) hx hb dX0_rowSum_13 (by decide) ?_
      refine lv_istore_n (pc := 14) (lv' := [(2, .int 0), (0, .ref h), (1, .int (nI R_))]) hx hb dX0_rowSum_14 rfl hl (by decide) rfl (fun ls hl => ?_)
      refine lv_iconst (pc := 15) (v := 0) hx hb dX0_rowSum_15 (by decide) ?_
      refine lv_istore_n (pc := 16) (lv' := [(3, .int 0), (2, .int 0), (0, .ref h), (1, .int (nI R_))]) hx hb dX0_rowSum_16 rfl hl (by decide) rfl (fun ls hl => ?_)
      have loop : ∀ (N : Nat) (i : Nat), (16 < i + N) → (i ≤ 16) → ∀ (H : Heap) (locs : List Loc), va_P D vwCl (wX h a d n c k fi xs ys col tp bt wy cv) H → va_D A (wX h a d n c k fi xs ys col tp bt wy cv) → va_S A s.heap H locs → ∀ (ls : Array Slot), lv_has ls 4 [(0, .ref h), (1, .int (nI R_)), (2, .int (rsm col R_ i)), (3, .int (nI i))] → W p l e (zR 0 0) s m args below meth cd H locs 0 0 Q (F0 m 17 ls []) := by
        intro N
        induction N with
        | zero => intro i hN hic; exfalso; omega
        | succ N ih =>
          intro i hN hic H locs hP hD hS ls hl
          refine lv_iload_n (pc := 17) hx hb dX0_rowSum_17 rfl (lv_at hl 3 rfl) ?_
          refine lv_bipush (pc := 18) (v := 16) hx hb dX0_rowSum_18 (by decide) ?_
          refine lv_icmp_ge (pc := 20) (tgt := 43) hx hb dX0_rowSum_20 (by decide) (fun c20 => ?_) (fun c20 => ?_)
          · have hi : i = 16 := by rcases Nat.lt_or_ge i 16 with q | q; exact absurd c20 (nI_ge (b := 16) q (by omega)); omega
            subst hi
            refine lv_iload_n (pc := 43) hx hb dX0_rowSum_43 rfl (lv_at hl 2 rfl) ?_
            exact ret (rsm col R_ 16) () _ _ 44 _ hP hD hS (by rw [rsR, if_neg hb_, nI_clamp (by omega)]) dX0_rowSum_44
          · have hi : i < 16 := by rcases Nat.lt_or_ge i 16 with q | q; exact q; exact absurd (nI_le (a := 16) q (by omega)) c20
            refine lv_iload_n (pc := 23) hx hb dX0_rowSum_23 rfl (lv_at hl 2 rfl) ?_
            refine lv_aload_n (pc := 24) hx hb dX0_rowSum_24 rfl (lv_at hl 0 rfl) ?_
            refine x_get (pc := 25) hx hb hts hown hK hP rfl 0 (by decide) q24 (v := .ref (a 0)) rfl dX0_rowSum_25 ?_
            refine lv_iload_n (pc := 28) hx hb dX0_rowSum_28 rfl (lv_at hl 1 rfl) ?_
            refine lv_bipush (pc := 29) (v := 16) hx hb dX0_rowSum_29 (by decide) ?_
            refine lv_imul (pc := 31) hx hb dX0_rowSum_31 ?_
            refine lv_iload_n (pc := 32) hx hb dX0_rowSum_32 rfl (lv_at hl 3 rfl) ?_
            refine lv_iadd (pc := 33) hx hb dX0_rowSum_33 ?_
            refine z_eq (y := nI (R_ * 16 + i)) (by rw [show (16 : Int32) = nI 16 from rfl, pk_mul, nI_add]) ?_
            refine z_ild (pc := 34) hx hb hK hP 1 rfl (R_ * 16 + i) rfl (by omega) (by decide) dX0_rowSum_34 ?_
            refine lv_iadd (pc := 35) hx hb dX0_rowSum_35 ?_
            refine lv_istore_n (pc := 36) (lv' := [(2, .int ((rsm col R_ i) + (col (R_ * 16 + i)))), (0, .ref h), (1, .int (nI R_)), (3, .int (nI i))]) hx hb dX0_rowSum_36 rfl hl (by decide) rfl (fun ls hl => ?_)
            refine lv_iinc (pc := 37) (v := nI (i + 1)) (lv' := [(3, .int (nI (i + 1))), (2, .int ((rsm col R_ i) + (col (R_ * 16 + i)))), (0, .ref h), (1, .int (nI R_))]) hx hb dX0_rowSum_37 hl (k := 3) rfl (nI_1 i) (by decide) rfl (fun ls hl => ?_)
            refine lv_goto (pc := 40) (tgt := 17) hx hb dX0_rowSum_40 (by decide) ?_
            exact ih (i + 1) (by omega) (by omega) _ _ hP hD hS ls (lv_sub hl [2, 3, 1, 0] rfl)
      exact loop 17 0 (by omega) (by omega) _ _ hP hD hS ls (lv_sub hl [2, 3, 1, 0] rfl)
    · refine lv_bipush (pc := 10) (v := (-4)) hx hb dX0_rowSum_10 (by decide) ?_
      exact ret (-4) () _ _ 12 _ hP hD hS (by rw [rsR, if_pos (by simp only [badL, p_lt, p_le, L0, L16] at *; omega)]) dX0_rowSum_12
end
section
/-! PolygonFillModel: leaves and the shape -/
set_option maxRecDepth 100000
abbrev outC (x : Int32) : Prop := x < 0 ∨ 64 < x
set_option maxHeartbeats 4000000 in
/-- out -/
theorem tM_out (l : Launch) (D : va_G) (d : ClassId) (h : Nat) (a : Nat → Nat) (sz n c : Nat) (fi xs ys col : Nat → Int32) (x : Int32) : zI l D d yX1_out cX1_out 2 .boolean (zR 0 0) [.ref h, .int x] sz (wM h a d n c fi xs ys col) (fun r (_ : Unit) => r = if outC x then 1 else 0) (fun _ => (wM h a d n c fi xs ys col)) := by
  refine z_startZ (by decide) (Nat.le_of_ble_eq_true rfl) ?_
  intro p e s m args below meth cd A Q ls hx hb hml hown hts hA hK hP hD hS ret hl
  have hown : s.vm.findClass RX1 = some m.cls := hown
  have hl : lv_has ls 2 [(0, .ref h), (1, .int x)] := hl
  refine lv_iload_n (pc := 0) hx hb dX1_out_0 rfl (lv_at hl 1 rfl) ?_
  refine lv_if_lt (pc := 1) (tgt := 10) hx hb dX1_out_1 (by decide) (fun c1 => ?_) (fun c1 => ?_)
  · refine lv_iconst (pc := 10) (v := 1) hx hb dX1_out_10 (by decide) ?_
    refine lv_goto (pc := 11) (tgt := 15) hx hb dX1_out_11 (by decide) ?_
    exact ret 1 () _ _ 15 _ hP hD hS (if_pos (by simp only [outC, p_lt, p_le, L0, L15, L16, L64, Lm64, L255] at *; omega)).symm dX1_out_15 (Or.inr rfl)
  · refine lv_iload_n (pc := 4) hx hb dX1_out_4 rfl (lv_at hl 1 rfl) ?_
    refine lv_bipush (pc := 5) (v := 64) hx hb dX1_out_5 (by decide) ?_
    refine lv_icmp_le (pc := 7) (tgt := 14) hx hb dX1_out_7 (by decide) (fun c7 => ?_) (fun c7 => ?_)
    · refine lv_iconst (pc := 14) (v := 0) hx hb dX1_out_14 (by decide) ?_
      exact ret 0 () _ _ 15 _ hP hD hS (if_neg (by simp only [outC, p_lt, p_le, L0, L15, L16, L64, Lm64, L255] at *; omega)).symm dX1_out_15 (Or.inl rfl)
    · refine lv_iconst (pc := 10) (v := 1) hx hb dX1_out_10 (by decide) ?_
      refine lv_goto (pc := 11) (tgt := 15) hx hb dX1_out_11 (by decide) ?_
      exact ret 1 () _ _ 15 _ hP hD hS (if_pos (by simp only [outC, p_lt, p_le, L0, L15, L16, L64, Lm64, L255] at *; omega)).symm dX1_out_15 (Or.inr rfl)

set_option maxHeartbeats 4000000 in
/-- badPixel -/
theorem tM_badPixel (l : Launch) (D : va_G) (d : ClassId) (h : Nat) (a : Nat → Nat) (sz n c : Nat) (fi xs ys col : Nat → Int32) (x y : Int32) : zI l D d yX1_badPixel cX1_badPixel 3 .boolean (zR 0 0) [.ref h, .int x, .int y] sz (wM h a d n c fi xs ys col) (fun r (_ : Unit) => r = if badR x y then 1 else 0) (fun _ => (wM h a d n c fi xs ys col)) := by
  refine z_startZ (by decide) (Nat.le_of_ble_eq_true rfl) ?_
  intro p e s m args below meth cd A Q ls hx hb hml hown hts hA hK hP hD hS ret hl
  have hown : s.vm.findClass RX1 = some m.cls := hown
  have hl : lv_has ls 3 [(0, .ref h), (1, .int x), (2, .int y)] := hl
  refine lv_iload_n (pc := 0) hx hb dX1_badPixel_0 rfl (lv_at hl 1 rfl) ?_
  refine lv_if_lt (pc := 1) (tgt := 20) hx hb dX1_badPixel_1 (by decide) (fun c1 => ?_) (fun c1 => ?_)
  · refine lv_iconst (pc := 20) (v := 1) hx hb dX1_badPixel_20 (by decide) ?_
    refine lv_goto (pc := 21) (tgt := 25) hx hb dX1_badPixel_21 (by decide) ?_
    exact ret 1 () _ _ 25 _ hP hD hS (if_pos (by simp only [badR, p_lt, p_le, L0, L15, L16, L64, Lm64, L255] at *; omega)).symm dX1_badPixel_25 (Or.inr rfl)
  · refine lv_iload_n (pc := 4) hx hb dX1_badPixel_4 rfl (lv_at hl 1 rfl) ?_
    refine lv_bipush (pc := 5) (v := 15) hx hb dX1_badPixel_5 (by decide) ?_
    refine lv_icmp_gt (pc := 7) (tgt := 20) hx hb dX1_badPixel_7 (by decide) (fun c7 => ?_) (fun c7 => ?_)
    · refine lv_iconst (pc := 20) (v := 1) hx hb dX1_badPixel_20 (by decide) ?_
      refine lv_goto (pc := 21) (tgt := 25) hx hb dX1_badPixel_21 (by decide) ?_
      exact ret 1 () _ _ 25 _ hP hD hS (if_pos (by simp only [badR, p_lt, p_le, L0, L15, L16, L64, Lm64, L255] at *; omega)).symm dX1_badPixel_25 (Or.inr rfl)
    · refine lv_iload_n (pc := 10) hx hb dX1_badPixel_10 rfl (lv_at hl 2 rfl) ?_
      refine lv_if_lt (pc := 11) (tgt := 20) hx hb dX1_badPixel_11 (by decide) (fun c11 => ?_) (fun c11 => ?_)
      · refine lv_iconst (pc := 20) (v := 1) hx hb dX1_badPixel_20 (by decide) ?_
        refine lv_goto (pc := 21) (tgt := 25) hx hb dX1_badPixel_21 (by decide) ?_
        exact ret 1 () _ _ 25 _ hP hD hS (if_pos (by simp only [badR, p_lt, p_le, L0, L15, L16, L64, Lm64, L255] at *; omega)).symm dX1_badPixel_25 (Or.inr rfl)
      · refine lv_iload_n (pc := 14) hx hb dX1_badPixel_14 rfl (lv_at hl 2 rfl) ?_
        refine lv_bipush (pc := 15) (v := 15) hx hb dX1_badPixel_15 (by decide) ?_
        refine lv_icmp_le (pc := 17) (tgt := 24) hx hb dX1_badPixel_17 (by decide) (fun c17 => ?_) (fun c17 => ?_)
        · refine lv_iconst (pc := 24) (v := 0) hx hb dX1_badPixel_24 (by decide) ?_
          exact ret 0 () _ _ 25 _ hP hD hS (if_neg (by simp only [badR, p_lt, p_le, L0, L15, L16, L64, Lm64, L255] at *; omega)).symm dX1_badPixel_25 (Or.inl rfl)
        · refine lv_iconst (pc := 20) (v := 1) hx hb dX1_badPixel_20 (by decide) ?_
          refine lv_goto (pc := 21) (tgt := 25) hx hb dX1_badPixel_21 (by decide) ?_
          exact ret 1 () _ _ 25 _ hP hD hS (if_pos (by simp only [badR, p_lt, p_le, L0, L15, L16, L64, Lm64, L255] at *; omega)).symm dX1_badPixel_25 (Or.inr rfl)

set_option maxHeartbeats 4000000 in
/-- put -/
theorem tM_put (l : Launch) (D : va_G) (d : ClassId) (h : Nat) (a : Nat → Nat) (sz n c : Nat) (fi xs ys col : Nat → Int32) (x y : Int32) (hn : n < 5) (hc : c < 12) : zV l D d yX1_put cX1_put 3 (zR 0 0) [.ref h, .int x, .int y] sz (wM h a d n c fi xs ys col) (fun (_ : Unit) => True) (fun _ => (wM h a d n (c + 1) (upd fi n (nI (c + 1))) (upd xs c x) (upd ys c y) col)) := by
  refine z_startV (by decide) (Nat.le_of_ble_eq_true rfl) ?_
  intro p e s m args below meth cd A Q ls hx hb hml hown hts hA hK hP hD hS ret hl
  have hown : s.vm.findClass RX1 = some m.cls := hown
  have hl : lv_has ls 3 [(0, .ref h), (1, .int x), (2, .int y)] := hl
  refine lv_aload_n (pc := 0) hx hb dX1_put_0 rfl (lv_at hl 0 rfl) ?_
  refine m_get (pc := 1) hx hb hts hown hK hP rfl 2 (by decide) q156 (v := .ref (a 0)) rfl dX1_put_1 ?_
  refine lv_aload_n (pc := 4) hx hb dX1_put_4 rfl (lv_at hl 0 rfl) ?_
  refine m_get (pc := 5) hx hb hts hown hK hP rfl 0 (by decide) q154 (v := .int (nI c)) rfl dX1_put_5 ?_
  refine lv_iload_n (pc := 8) hx hb dX1_put_8 rfl (lv_at hl 1 rfl) ?_
  refine z_ist (pc := 9) (ws' := wM h a d n c fi (upd xs c x) ys col) hx hb hK hP hD hS 1 rfl c rfl (by omega) (by decide) rfl dX1_put_9 (fun H locs hP hD hS => ?_)
  refine lv_aload_n (pc := 10) hx hb dX1_put_10 rfl (lv_at hl 0 rfl) ?_
  refine m_get (pc := 11) hx hb hts hown hK hP rfl 3 (by decide) q157 (v := .ref (a 1)) rfl dX1_put_11 ?_
  refine lv_aload_n (pc := 14) hx hb dX1_put_14 rfl (lv_at hl 0 rfl) ?_
  refine m_get (pc := 15) hx hb hts hown hK hP rfl 0 (by decide) q154 (v := .int (nI c)) rfl dX1_put_15 ?_
  refine lv_iload_n (pc := 18) hx hb dX1_put_18 rfl (lv_at hl 2 rfl) ?_
  refine z_ist (pc := 19) (ws' := wM h a d n c fi (upd xs c x) (upd ys c y) col) hx hb hK hP hD hS 2 rfl c rfl (by omega) (by decide) rfl dX1_put_19 (fun H locs hP hD hS => ?_)
  refine lv_aload_n (pc := 20) hx hb dX1_put_20 rfl (lv_at hl 0 rfl) ?_
  refine lv_aload_n (pc := 21) hx hb dX1_put_21 rfl (lv_at hl 0 rfl) ?_
  refine m_get (pc := 22) hx hb hts hown hK hP rfl 0 (by decide) q154 (v := .int (nI c)) rfl dX1_put_22 ?_
  refine lv_iconst (pc := 25) (v := 1) hx hb dX1_put_25 (by decide) ?_
  refine lv_iadd (pc := 26) hx hb dX1_put_26 ?_
  refine z_eq (y := nI (c + 1)) (nI_1 c) ?_
  refine m_put (pc := 27) (ws' := wM h a d n (c + 1) fi (upd xs c x) (upd ys c y) col) hx hb hts hown hK hP hD hS rfl 0 (by decide) q154 rfl (by decide +kernel) (Nat.le_of_ble_eq_true rfl) rfl dX1_put_27 (fun H locs hP hD hS => ?_)
  refine lv_aload_n (pc := 30) hx hb dX1_put_30 rfl (lv_at hl 0 rfl) ?_
  refine m_get (pc := 31) hx hb hts hown hK hP rfl 4 (by decide) q158 (v := .ref (a 2)) rfl dX1_put_31 ?_
  refine lv_aload_n (pc := 34) hx hb dX1_put_34 rfl (lv_at hl 0 rfl) ?_
  refine m_get (pc := 35) hx hb hts hown hK hP rfl 1 (by decide) q155 (v := .int (nI n)) rfl dX1_put_35 ?_
  refine lv_aload_n (pc := 38) hx hb dX1_put_38 rfl (lv_at hl 0 rfl) ?_
  refine m_get (pc := 39) hx hb hts hown hK hP rfl 0 (by decide) q154 (v := .int (nI (c + 1))) rfl dX1_put_39 ?_
  refine z_ist (pc := 42) (ws' := wM h a d n (c + 1) (upd fi n (nI (c + 1))) (upd xs c x) (upd ys c y) col) hx hb hK hP hD hS 3 rfl n rfl (by omega) (by decide) rfl dX1_put_42 (fun H locs hP hD hS => ?_)
  exact ret () _ _ 43 _ hP hD hS trivial dX1_put_43

set_option maxHeartbeats 4000000 in
/-- clear -/
theorem tM_clear (l : Launch) (D : va_G) (d : ClassId) (h : Nat) (a : Nat → Nat) (sz n c : Nat) (fi xs ys col : Nat → Int32) : zV l D d yX1_clear cX1_clear 1 (zR 0 0) [.ref h] sz (wM h a d n c fi xs ys col) (fun (_ : Unit) => True) (fun _ => (wM h a d 0 0 fi xs ys col)) := by
  refine z_startV (by decide) (Nat.le_of_ble_eq_true rfl) ?_
  intro p e s m args below meth cd A Q ls hx hb hml hown hts hA hK hP hD hS ret hl
  have hown : s.vm.findClass RX1 = some m.cls := hown
  have hl : lv_has ls 1 [(0, .ref h)] := hl
  refine lv_aload_n (pc := 0) hx hb dX1_clear_0 rfl (lv_at hl 0 rfl) ?_
  refine lv_iconst (pc := 1) (v := 0) hx hb dX1_clear_1 (by decide) ?_
  refine m_put (pc := 2) (ws' := wM h a d n 0 fi xs ys col) hx hb hts hown hK hP hD hS rfl 0 (by decide) q154 rfl (by decide +kernel) (Nat.le_of_ble_eq_true rfl) rfl dX1_clear_2 (fun H locs hP hD hS => ?_)
  refine lv_aload_n (pc := 5) hx hb dX1_clear_5 rfl (lv_at hl 0 rfl) ?_
  refine lv_iconst (pc := 6) (v := 0) hx hb dX1_clear_6 (by decide) ?_
  refine m_put (pc := 7) (ws' := wM h a d 0 0 fi xs ys col) hx hb hts hown hK hP hD hS rfl 1 (by decide) q155 rfl (by decide +kernel) (Nat.le_of_ble_eq_true rfl) rfl dX1_clear_7 (fun H locs hP hD hS => ?_)
  exact ret () _ _ 10 _ hP hD hS trivial dX1_clear_10

set_option maxHeartbeats 4000000 in
/-- begin -/
theorem tM_begin (l : Launch) (D : va_G) (d : ClassId) (h : Nat) (a : Nat → Nat) (sz n c : Nat) (fi xs ys col : Nat → Int32) (x y : Int32) (hn : n ≤ 4) (hc : c ≤ 12) : zI l D d yX1_begin cX1_begin 3 .int (zR 1 25) [.ref h, .int x, .int y] sz (wM h a d n c fi xs ys col) (fun r (u : zShape) => r = bgR n c x y ∧ u = bgS n c fi xs ys x y) (fun u => (wM h a d u.1 u.2.1 u.2.2.1 u.2.2.2.1 u.2.2.2.2 col)) := by
  refine z_startI (by decide) (Nat.le_of_ble_eq_true rfl) ?_
  intro p e s m args below meth cd A Q ls hx hb hml hown hts hA hK hP hD hS ret hl
  have hown : s.vm.findClass RX1 = some m.cls := hown
  have hl : lv_has ls 3 [(0, .ref h), (1, .int x), (2, .int y)] := hl
  refine lv_aload_n (pc := 0) hx hb dX1_begin_0 rfl (lv_at hl 0 rfl) ?_
  refine lv_iload_n (pc := 1) hx hb dX1_begin_1 rfl (lv_at hl 1 rfl) ?_
  refine z_callI (pc := 2) (As := [.int x]) (rest := []) hx hb hml hown hts hA hK hP hD hS (tM_out l D d h a s.heap.size n c fi xs ys col x) (cwV 1 hts (lw_V q177 q179 qs8 q15 q180) rfl rfl rfl (by decide +kernel) ⟨Nat.le_of_ble_eq_true rfl, Nat.le_of_ble_eq_true rfl⟩) (va_recv hK hP (ci := 1) (q0 := 0) rfl rfl) rfl hl.1 rfl (Nat.le_of_ble_eq_true rfl) dX1_begin_2 (Nat.le_refl _) (Nat.le_refl _) (fun r_ u_ H locs hr_ hP hD hS => ?_)
  refine lv_if_ne (pc := 5) (tgt := 16) hx hb dX1_begin_5 (by decide) (fun c5 => ?_) (fun c5 => ?_)
  · have hb_ : badP x y := by rcases b_yes hr_ c5 with q | q; exact Or.inl q; exact Or.inr (Or.inl q)
    refine lv_iconst (pc := 16) (v := (-1)) hx hb dX1_begin_16 (by decide) ?_
    exact ret (-1) (n, c, fi, xs, ys) _ _ 17 _ hP hD hS ⟨by rw [bgR, if_pos hb_], by rw [bgS, if_pos hb_]⟩ dX1_begin_17
  · refine lv_aload_n (pc := 8) hx hb dX1_begin_8 rfl (lv_at hl 0 rfl) ?_
    refine lv_iload_n (pc := 9) hx hb dX1_begin_9 rfl (lv_at hl 2 rfl) ?_
    refine z_callI (pc := 10) (As := [.int y]) (rest := []) hx hb hml hown hts hA hK hP hD hS (tM_out l D d h a H.size n c fi xs ys col y) (cwV 1 hts (lw_V q177 q179 qs8 q15 q180) rfl rfl rfl (by decide +kernel) ⟨Nat.le_of_ble_eq_true rfl, Nat.le_of_ble_eq_true rfl⟩) (va_recv hK hP (ci := 1) (q0 := 0) rfl rfl) rfl hl.1 rfl (Nat.le_of_ble_eq_true rfl) dX1_begin_10 (Nat.le_refl _) (Nat.le_refl _) (fun r2_ u_ H locs hr2_ hP hD hS => ?_)
    refine lv_if_eq (pc := 13) (tgt := 18) hx hb dX1_begin_13 (by decide) (fun c13 => ?_) (fun c13 => ?_)
    · have hb_ : ¬ badP x y := by have q1 := b_no hr_ c5; have q2 := b_no hr2_ c13; intro q; rcases q with q | q | q | q; exact q1 (Or.inl q); exact q1 (Or.inr q); exact q2 (Or.inl q); exact q2 (Or.inr q)
      refine lv_aload_n (pc := 18) hx hb dX1_begin_18 rfl (lv_at hl 0 rfl) ?_
      refine m_get (pc := 19) hx hb hts hown hK hP rfl 1 (by decide) q155 (v := .int (nI n)) rfl dX1_begin_19 ?_
      refine lv_iconst (pc := 22) (v := 4) hx hb dX1_begin_22 (by decide) ?_
      refine lv_icmp_eq (pc := 23) (tgt := 35) hx hb dX1_begin_23 (by decide) (fun c23 => ?_) (fun c23 => ?_)
      · have hf_ : ¬ (n < 4 ∧ c < 12) := by have q1 := (nI_eq (a := n) (b := 4) (by omega) (by omega)).mp c23; omega
        refine lv_bipush (pc := 35) (v := (-2)) hx hb dX1_begin_35 (by decide) ?_
        exact ret (-2) (n, c, fi, xs, ys) _ _ 37 _ hP hD hS ⟨by rw [bgR, if_neg hb_, if_neg hf_], by rw [bgS, if_neg hb_, if_neg hf_]⟩ dX1_begin_37
      · refine lv_aload_n (pc := 26) hx hb dX1_begin_26 rfl (lv_at hl 0 rfl) ?_
        refine m_get (pc := 27) hx hb hts hown hK hP rfl 0 (by decide) q154 (v := .int (nI c)) rfl dX1_begin_27 ?_
        refine lv_bipush (pc := 30) (v := 12) hx hb dX1_begin_30 (by decide) ?_
        refine lv_icmp_ne (pc := 32) (tgt := 38) hx hb dX1_begin_32 (by decide) (fun c32 => ?_) (fun c32 => ?_)
        · have hf_ : n < 4 ∧ c < 12 := ⟨by rcases Nat.lt_or_ge n 4 with q | q; exact q; exact absurd (by rw [show n = 4 by omega]; rfl) c23, by rcases Nat.lt_or_ge c 12 with q | q; exact q; exact absurd (by rw [show c = 12 by omega]; rfl) c32⟩
          refine lv_aload_n (pc := 38) hx hb dX1_begin_38 rfl (lv_at hl 0 rfl) ?_
          refine m_get (pc := 39) hx hb hts hown hK hP rfl 4 (by decide) q158 (v := .ref (a 2)) rfl dX1_begin_39 ?_
          refine lv_aload_n (pc := 42) hx hb dX1_begin_42 rfl (lv_at hl 0 rfl) ?_
          refine m_get (pc := 43) hx hb hts hown hK hP rfl 1 (by decide) q155 (v := .int (nI n)) rfl dX1_begin_43 ?_
          refine lv_aload_n (pc := 46) hx hb dX1_begin_46 rfl (lv_at hl 0 rfl) ?_
          refine m_get (pc := 47) hx hb hts hown hK hP rfl 0 (by decide) q154 (v := .int (nI c)) rfl dX1_begin_47 ?_
          refine z_ist (pc := 50) (ws' := wM h a d n c (upd fi n (nI c)) xs ys col) hx hb hK hP hD hS 3 rfl n rfl (by omega) (by decide) rfl dX1_begin_50 (fun H locs hP hD hS => ?_)
          refine lv_aload_n (pc := 51) hx hb dX1_begin_51 rfl (lv_at hl 0 rfl) ?_
          refine lv_aload_n (pc := 52) hx hb dX1_begin_52 rfl (lv_at hl 0 rfl) ?_
          refine m_get (pc := 53) hx hb hts hown hK hP rfl 1 (by decide) q155 (v := .int (nI n)) rfl dX1_begin_53 ?_
          refine lv_iconst (pc := 56) (v := 1) hx hb dX1_begin_56 (by decide) ?_
          refine lv_iadd (pc := 57) hx hb dX1_begin_57 ?_
          refine z_eq (y := nI (n + 1)) (nI_1 n) ?_
          refine m_put (pc := 58) (ws' := wM h a d (n + 1) c (upd fi n (nI c)) xs ys col) hx hb hts hown hK hP hD hS rfl 1 (by decide) q155 rfl (by decide +kernel) (Nat.le_of_ble_eq_true rfl) rfl dX1_begin_58 (fun H locs hP hD hS => ?_)
          refine lv_aload_n (pc := 61) hx hb dX1_begin_61 rfl (lv_at hl 0 rfl) ?_
          refine lv_iload_n (pc := 62) hx hb dX1_begin_62 rfl (lv_at hl 1 rfl) ?_
          refine lv_iload_n (pc := 63) hx hb dX1_begin_63 rfl (lv_at hl 2 rfl) ?_
          refine z_callV (pc := 64) (As := [.int x, .int y]) (rest := []) hx hb hml hown hts hA hK hP hD hS (tM_put l D d h a H.size (n + 1) c (upd fi n (nI c)) xs ys col x y (by omega) hf_.2) (cwV 2 hts (lw_V q181 q183 qs9 q15 q184) rfl rfl rfl (by decide +kernel) ⟨Nat.le_of_ble_eq_true rfl, Nat.le_of_ble_eq_true rfl⟩) (va_recv hK hP (ci := 1) (q0 := 0) rfl rfl) rfl hl.1 rfl (Nat.le_of_ble_eq_true rfl) dX1_begin_64 (Nat.le_refl _) (Nat.le_refl _) (fun u_ H locs hu_ hP hD hS => ?_)
          have hP : va_P D vwCl (wM h a d (n + 1) (c + 1) (upd (upd fi n (nI c)) (n + 1) (nI (c + 1))) (upd xs c x) (upd ys c y) col) H := hP
          have hD : va_D A (wM h a d (n + 1) (c + 1) (upd (upd fi n (nI c)) (n + 1) (nI (c + 1))) (upd xs c x) (upd ys c y) col) := hD
          refine lv_aload_n (pc := 67) hx hb dX1_begin_67 rfl (lv_at hl 0 rfl) ?_
          refine m_get (pc := 68) hx hb hts hown hK hP rfl 1 (by decide) q155 (v := .int (nI (n + 1))) rfl dX1_begin_68 ?_
          exact ret (nI (n + 1)) (n + 1, c + 1, upd (upd fi n (nI c)) (n + 1) (nI (c + 1)), upd xs c x, upd ys c y) _ _ 71 _ hP hD hS ⟨by rw [bgR, if_neg hb_, if_pos hf_], by rw [bgS, if_neg hb_, if_pos hf_]⟩ dX1_begin_71
        · have hf_ : ¬ (n < 4 ∧ c < 12) := by have q1 := (nI_eq (a := c) (b := 12) (by omega) (by omega)).mp c32; omega
          refine lv_bipush (pc := 35) (v := (-2)) hx hb dX1_begin_35 (by decide) ?_
          exact ret (-2) (n, c, fi, xs, ys) _ _ 37 _ hP hD hS ⟨by rw [bgR, if_neg hb_, if_neg hf_], by rw [bgS, if_neg hb_, if_neg hf_]⟩ dX1_begin_37
    · have hb_ : badP x y := by rcases b_yes hr2_ c13 with q | q; exact Or.inr (Or.inr (Or.inl q)); exact Or.inr (Or.inr (Or.inr q))
      refine lv_iconst (pc := 16) (v := (-1)) hx hb dX1_begin_16 (by decide) ?_
      exact ret (-1) (n, c, fi, xs, ys) _ _ 17 _ hP hD hS ⟨by rw [bgR, if_pos hb_], by rw [bgS, if_pos hb_]⟩ dX1_begin_17

set_option maxHeartbeats 4000000 in
/-- corner -/
theorem tM_corner (l : Launch) (D : va_G) (d : ClassId) (h : Nat) (a : Nat → Nat) (sz n c : Nat) (fi xs ys col : Nat → Int32) (x y : Int32) (hn : n ≤ 4) (hc : c ≤ 12) : zI l D d yX1_corner cX1_corner 3 .int (zR 1 25) [.ref h, .int x, .int y] sz (wM h a d n c fi xs ys col) (fun r (u : zShape) => r = coR n c x y ∧ u = coS n c fi xs ys x y) (fun u => (wM h a d u.1 u.2.1 u.2.2.1 u.2.2.2.1 u.2.2.2.2 col)) := by
  refine z_startI (by decide) (Nat.le_of_ble_eq_true rfl) ?_
  intro p e s m args below meth cd A Q ls hx hb hml hown hts hA hK hP hD hS ret hl
  have hown : s.vm.findClass RX1 = some m.cls := hown
  have hl : lv_has ls 3 [(0, .ref h), (1, .int x), (2, .int y)] := hl
  refine lv_aload_n (pc := 0) hx hb dX1_corner_0 rfl (lv_at hl 0 rfl) ?_
  refine lv_iload_n (pc := 1) hx hb dX1_corner_1 rfl (lv_at hl 1 rfl) ?_
  refine z_callI (pc := 2) (As := [.int x]) (rest := []) hx hb hml hown hts hA hK hP hD hS (tM_out l D d h a s.heap.size n c fi xs ys col x) (cwV 1 hts (lw_V q177 q179 qs8 q15 q180) rfl rfl rfl (by decide +kernel) ⟨Nat.le_of_ble_eq_true rfl, Nat.le_of_ble_eq_true rfl⟩) (va_recv hK hP (ci := 1) (q0 := 0) rfl rfl) rfl hl.1 rfl (Nat.le_of_ble_eq_true rfl) dX1_corner_2 (Nat.le_refl _) (Nat.le_refl _) (fun r_ u_ H locs hr_ hP hD hS => ?_)
  refine lv_if_ne (pc := 5) (tgt := 16) hx hb dX1_corner_5 (by decide) (fun c5 => ?_) (fun c5 => ?_)
  · have hb_ : badP x y := by rcases b_yes hr_ c5 with q | q; exact Or.inl q; exact Or.inr (Or.inl q)
    refine lv_iconst (pc := 16) (v := (-1)) hx hb dX1_corner_16 (by decide) ?_
    exact ret (-1) (n, c, fi, xs, ys) _ _ 17 _ hP hD hS ⟨by rw [coR, if_pos hb_], by rw [coS, if_pos hb_]⟩ dX1_corner_17
  · refine lv_aload_n (pc := 8) hx hb dX1_corner_8 rfl (lv_at hl 0 rfl) ?_
    refine lv_iload_n (pc := 9) hx hb dX1_corner_9 rfl (lv_at hl 2 rfl) ?_
    refine z_callI (pc := 10) (As := [.int y]) (rest := []) hx hb hml hown hts hA hK hP hD hS (tM_out l D d h a H.size n c fi xs ys col y) (cwV 1 hts (lw_V q177 q179 qs8 q15 q180) rfl rfl rfl (by decide +kernel) ⟨Nat.le_of_ble_eq_true rfl, Nat.le_of_ble_eq_true rfl⟩) (va_recv hK hP (ci := 1) (q0 := 0) rfl rfl) rfl hl.1 rfl (Nat.le_of_ble_eq_true rfl) dX1_corner_10 (Nat.le_refl _) (Nat.le_refl _) (fun r2_ u_ H locs hr2_ hP hD hS => ?_)
    refine lv_if_eq (pc := 13) (tgt := 18) hx hb dX1_corner_13 (by decide) (fun c13 => ?_) (fun c13 => ?_)
    · have hb_ : ¬ badP x y := by have q1 := b_no hr_ c5; have q2 := b_no hr2_ c13; intro q; rcases q with q | q | q | q; exact q1 (Or.inl q); exact q1 (Or.inr q); exact q2 (Or.inl q); exact q2 (Or.inr q)
      refine lv_aload_n (pc := 18) hx hb dX1_corner_18 rfl (lv_at hl 0 rfl) ?_
      refine m_get (pc := 19) hx hb hts hown hK hP rfl 1 (by decide) q155 (v := .int (nI n)) rfl dX1_corner_19 ?_
      refine lv_if_eq (pc := 22) (tgt := 34) hx hb dX1_corner_22 (by decide) (fun c22 => ?_) (fun c22 => ?_)
      · have hf_ : ¬ (0 < n ∧ c < 12) := by intro q; exact nI_ne0 q.1 (by omega) c22
        refine lv_bipush (pc := 34) (v := (-2)) hx hb dX1_corner_34 (by decide) ?_
        exact ret (-2) (n, c, fi, xs, ys) _ _ 36 _ hP hD hS ⟨by rw [coR, if_neg hb_, if_neg hf_], by rw [coS, if_neg hb_, if_neg hf_]⟩ dX1_corner_36
      · refine lv_aload_n (pc := 25) hx hb dX1_corner_25 rfl (lv_at hl 0 rfl) ?_
        refine m_get (pc := 26) hx hb hts hown hK hP rfl 0 (by decide) q154 (v := .int (nI c)) rfl dX1_corner_26 ?_
        refine lv_bipush (pc := 29) (v := 12) hx hb dX1_corner_29 (by decide) ?_
        refine lv_icmp_ne (pc := 31) (tgt := 37) hx hb dX1_corner_31 (by decide) (fun c31 => ?_) (fun c31 => ?_)
        · have hf_ : 0 < n ∧ c < 12 := ⟨by rcases Nat.eq_zero_or_pos n with q | q; exact absurd (by rw [q]; rfl) c22; exact q, by rcases Nat.lt_or_ge c 12 with q | q; exact q; exact absurd (by rw [show c = 12 by omega]; rfl) c31⟩
          refine lv_aload_n (pc := 37) hx hb dX1_corner_37 rfl (lv_at hl 0 rfl) ?_
          refine lv_iload_n (pc := 38) hx hb dX1_corner_38 rfl (lv_at hl 1 rfl) ?_
          refine lv_iload_n (pc := 39) hx hb dX1_corner_39 rfl (lv_at hl 2 rfl) ?_
          refine z_callV (pc := 40) (As := [.int x, .int y]) (rest := []) hx hb hml hown hts hA hK hP hD hS (tM_put l D d h a H.size n c fi xs ys col x y (by omega) hf_.2) (cwV 2 hts (lw_V q181 q183 qs9 q15 q184) rfl rfl rfl (by decide +kernel) ⟨Nat.le_of_ble_eq_true rfl, Nat.le_of_ble_eq_true rfl⟩) (va_recv hK hP (ci := 1) (q0 := 0) rfl rfl) rfl hl.1 rfl (Nat.le_of_ble_eq_true rfl) dX1_corner_40 (Nat.le_refl _) (Nat.le_refl _) (fun u_ H locs hu_ hP hD hS => ?_)
          have hP : va_P D vwCl (wM h a d n (c + 1) (upd fi n (nI (c + 1))) (upd xs c x) (upd ys c y) col) H := hP
          have hD : va_D A (wM h a d n (c + 1) (upd fi n (nI (c + 1))) (upd xs c x) (upd ys c y) col) := hD
          refine lv_aload_n (pc := 43) hx hb dX1_corner_43 rfl (lv_at hl 0 rfl) ?_
          refine m_get (pc := 44) hx hb hts hown hK hP rfl 0 (by decide) q154 (v := .int (nI (c + 1))) rfl dX1_corner_44 ?_
          exact ret (nI (c + 1)) (n, c + 1, upd fi n (nI (c + 1)), upd xs c x, upd ys c y) _ _ 47 _ hP hD hS ⟨by rw [coR, if_neg hb_, if_pos hf_], by rw [coS, if_neg hb_, if_pos hf_]⟩ dX1_corner_47
        · have hf_ : ¬ (0 < n ∧ c < 12) := by have q1 := (nI_eq (a := c) (b := 12) (by omega) (by omega)).mp c31; omega
          refine lv_bipush (pc := 34) (v := (-2)) hx hb dX1_corner_34 (by decide) ?_
          exact ret (-2) (n, c, fi, xs, ys) _ _ 36 _ hP hD hS ⟨by rw [coR, if_neg hb_, if_neg hf_], by rw [coS, if_neg hb_, if_neg hf_]⟩ dX1_corner_36
    · have hb_ : badP x y := by rcases b_yes hr2_ c13 with q | q; exact Or.inr (Or.inr (Or.inl q)); exact Or.inr (Or.inr (Or.inr q))
      refine lv_iconst (pc := 16) (v := (-1)) hx hb dX1_corner_16 (by decide) ?_
      exact ret (-1) (n, c, fi, xs, ys) _ _ 17 _ hP hD hS ⟨by rw [coR, if_pos hb_], by rw [coS, if_pos hb_]⟩ dX1_corner_17

theorem mv_out {v dv : Int32} (hv : okC v) (h1 : ¬ dv < -64) (h2 : ¬ 64 < dv) : outC (v + dv) ↔ ¬ mvO v dv := by
  rw [p_lt, Lm64] at h1
  rw [p_lt, L64] at h2
  have a1 := hv.1
  have a2 := hv.2
  have e : (v + dv).toInt = v.toInt + dv.toInt := p_add (by omega) (by omega)
  simp only [outC, p_lt, L0, L64, e, mvO]
  omega
set_option maxHeartbeats 4000000 in
/-- move -/
theorem tM_move (l : Launch) (D : va_G) (d : ClassId) (h : Nat) (a : Nat → Nat) (sz n c : Nat) (fi xs ys col : Nat → Int32) (x y : Int32) (hc : c ≤ 12) (hok : ∀ j, j < c → okC (xs j) ∧ okC (ys j)) : zI l D d yX1_move cX1_move 4 .int (zR 1 25) [.ref h, .int x, .int y] sz (wM h a d n c fi xs ys col) (fun r (u : (Nat → Int32) × (Nat → Int32)) => (mvOK c xs ys x y → r = nI c ∧ u = (mvd xs x c, mvd ys y c)) ∧ (¬ mvOK c xs ys x y → r = -1 ∧ u = (xs, ys))) (fun u => (wM h a d n c fi u.1 u.2 col)) := by
  refine z_startI (by decide) (Nat.le_of_ble_eq_true rfl) ?_
  intro p e s m args below meth cd A Q ls hx hb hml hown hts hA hK hP hD hS ret hl
  have hown : s.vm.findClass RX1 = some m.cls := hown
  have hl : lv_has ls 4 [(0, .ref h), (1, .int x), (2, .int y)] := hl
  refine lv_iconst (pc := 0) (v := 0) hx hb dX1_move_0 (by decide) ?_
  refine lv_istore_n (pc := 1) (lv' := [(3, .int 0), (0, .ref h), (1, .int x), (2, .int y)]) hx hb dX1_move_1 rfl hl (by decide) rfl (fun ls hl => ?_)
  have second : mvOK c xs ys x y → ∀ (H : Heap) (locs : List Loc), va_P D vwCl (wM h a d n c fi xs ys col) H → va_D A (wM h a d n c fi xs ys col) → va_S A s.heap H locs → ∀ (ls : Array Slot), lv_has ls 4 [(0, .ref h), (1, .int x), (2, .int y), (3, .int 0)] → W p l e (zR 1 25) s m args below meth cd H locs 0 0 Q (F0 m 74 ls []) := by
    intro hm H locs hP hD hS ls hl
    have loop2 : ∀ (N : Nat) (i : Nat), (c < i + N) → (i ≤ c) → ∀ (H : Heap) (locs : List Loc), va_P D vwCl (wM h a d n c fi (mvd xs x i) (mvd ys y i) col) H → va_D A (wM h a d n c fi (mvd xs x i) (mvd ys y i) col) → va_S A s.heap H locs → ∀ (ls : Array Slot), lv_has ls 4 [(0, .ref h), (1, .int x), (2, .int y), (3, .int (nI i))] → W p l e (zR 1 25) s m args below meth cd H locs 0 0 Q (F0 m 74 ls []) := by
      intro N
      induction N with
      | zero => intro i hN hic; exfalso; omega
      | succ N ih =>
        intro i hN hic H locs hP hD hS ls hl
        refine lv_iload_n (pc := 74) hx hb dX1_move_74 rfl (lv_at hl 3 rfl) ?_
        refine lv_aload_n (pc := 75) hx hb dX1_move_75 rfl (lv_at hl 0 rfl) ?_
        refine m_get (pc := 76) hx hb hts hown hK hP rfl 0 (by decide) q154 (v := .int (nI c)) rfl dX1_move_76 ?_
        refine lv_icmp_ge (pc := 79) (tgt := 116) hx hb dX1_move_79 (by decide) (fun c79 => ?_) (fun c79 => ?_)
        · have hi : i = c := by rcases Nat.lt_or_ge i c with q | q; exact absurd c79 (nI_ge (b := c) q (by omega)); omega
          subst hi
          refine lv_aload_n (pc := 116) hx hb dX1_move_116 rfl (lv_at hl 0 rfl) ?_
          refine m_get (pc := 117) hx hb hts hown hK hP rfl 0 (by decide) q154 (v := .int (nI i)) rfl dX1_move_117 ?_
          exact ret (nI i) (mvd xs x i, mvd ys y i) _ _ 120 _ hP hD hS ⟨fun _ => ⟨rfl, rfl⟩, fun q => absurd hm q⟩ dX1_move_120
        · have hi : i < c := by rcases Nat.lt_or_ge i c with q | q; exact q; exact absurd (nI_le (a := c) q (by omega)) c79
          refine lv_aload_n (pc := 82) hx hb dX1_move_82 rfl (lv_at hl 0 rfl) ?_
          refine m_get (pc := 83) hx hb hts hown hK hP rfl 2 (by decide) q156 (v := .ref (a 0)) rfl dX1_move_83 ?_
          refine lv_iload_n (pc := 86) hx hb dX1_move_86 rfl (lv_at hl 3 rfl) ?_
          refine lv_aload_n (pc := 87) hx hb dX1_move_87 rfl (lv_at hl 0 rfl) ?_
          refine m_get (pc := 88) hx hb hts hown hK hP rfl 2 (by decide) q156 (v := .ref (a 0)) rfl dX1_move_88 ?_
          refine lv_iload_n (pc := 91) hx hb dX1_move_91 rfl (lv_at hl 3 rfl) ?_
          refine z_ild (pc := 92) hx hb hK hP 1 rfl i rfl (by omega) (by decide) dX1_move_92 ?_
          refine z_eq (y := xs i) (fa_fill_out (Nat.le_refl i)) ?_
          refine lv_iload_n (pc := 93) hx hb dX1_move_93 rfl (lv_at hl 1 rfl) ?_
          refine lv_iadd (pc := 94) hx hb dX1_move_94 ?_
          refine z_ist (pc := 95) (ws' := wM h a d n c fi (upd (mvd xs x i) i ((xs i) + x)) (mvd ys y i) col) hx hb hK hP hD hS 1 rfl i rfl (by omega) (by decide) rfl dX1_move_95 (fun H locs hP hD hS => ?_)
          have hw_ : upd (mvd xs x i) i ((xs i) + x) = mvd xs x (i + 1) := fa_fill_succ (fun j => xs j + x) xs i
          rw [hw_] at hP hD
          refine lv_aload_n (pc := 96) hx hb dX1_move_96 rfl (lv_at hl 0 rfl) ?_
          refine m_get (pc := 97) hx hb hts hown hK hP rfl 3 (by decide) q157 (v := .ref (a 1)) rfl dX1_move_97 ?_
          refine lv_iload_n (pc := 100) hx hb dX1_move_100 rfl (lv_at hl 3 rfl) ?_
          refine lv_aload_n (pc := 101) hx hb dX1_move_101 rfl (lv_at hl 0 rfl) ?_
          refine m_get (pc := 102) hx hb hts hown hK hP rfl 3 (by decide) q157 (v := .ref (a 1)) rfl dX1_move_102 ?_
          refine lv_iload_n (pc := 105) hx hb dX1_move_105 rfl (lv_at hl 3 rfl) ?_
          refine z_ild (pc := 106) hx hb hK hP 2 rfl i rfl (by omega) (by decide) dX1_move_106 ?_
          refine z_eq (y := ys i) (fa_fill_out (Nat.le_refl i)) ?_
          refine lv_iload_n (pc := 107) hx hb dX1_move_107 rfl (lv_at hl 2 rfl) ?_
          refine lv_iadd (pc := 108) hx hb dX1_move_108 ?_
          refine z_ist (pc := 109) (ws' := wM h a d n c fi (mvd xs x (i + 1)) (upd (mvd ys y i) i ((ys i) + y)) col) hx hb hK hP hD hS 2 rfl i rfl (by omega) (by decide) rfl dX1_move_109 (fun H locs hP hD hS => ?_)
          have hw_ : upd (mvd ys y i) i ((ys i) + y) = mvd ys y (i + 1) := fa_fill_succ (fun j => ys j + y) ys i
          rw [hw_] at hP hD
          refine lv_iinc (pc := 110) (v := nI (i + 1)) (lv' := [(3, .int (nI (i + 1))), (0, .ref h), (1, .int x), (2, .int y)]) hx hb dX1_move_110 hl (k := 3) rfl (nI_1 i) (by decide) rfl (fun ls hl => ?_)
          refine lv_goto (pc := 113) (tgt := 74) hx hb dX1_move_113 (by decide) ?_
          exact ih (i + 1) (by omega) (by omega) _ _ hP hD hS ls (lv_sub hl [1, 2, 3, 0] rfl)
    exact loop2 (c + 1) 0 (by omega) (by omega) _ _ (by rw [mvd, mvd, fa_fill_0, fa_fill_0]; exact hP) (by rw [mvd, mvd, fa_fill_0, fa_fill_0]; exact hD) hS ls hl
  have loop1 : ∀ (N : Nat) (i : Nat), (c < i + N) → (i ≤ c) → (mvOK i xs ys x y) → ∀ (H : Heap) (locs : List Loc), va_P D vwCl (wM h a d n c fi xs ys col) H → va_D A (wM h a d n c fi xs ys col) → va_S A s.heap H locs → ∀ (ls : Array Slot), lv_has ls 4 [(0, .ref h), (1, .int x), (2, .int y), (3, .int (nI i))] → W p l e (zR 1 25) s m args below meth cd H locs 0 0 Q (F0 m 2 ls []) := by
    intro N
    induction N with
    | zero => intro i hN hic hm; exfalso; omega
    | succ N ih =>
      intro i hN hic hm H locs hP hD hS ls hl
      refine lv_iload_n (pc := 2) hx hb dX1_move_2 rfl (lv_at hl 3 rfl) ?_
      refine lv_aload_n (pc := 3) hx hb dX1_move_3 rfl (lv_at hl 0 rfl) ?_
      refine m_get (pc := 4) hx hb hts hown hK hP rfl 0 (by decide) q154 (v := .int (nI c)) rfl dX1_move_4 ?_
      refine lv_icmp_ge (pc := 7) (tgt := 72) hx hb dX1_move_7 (by decide) (fun c7 => ?_) (fun c7 => ?_)
      · have hi : i = c := by rcases Nat.lt_or_ge i c with q | q; exact absurd c7 (nI_ge (b := c) q (by omega)); omega
        refine lv_iconst (pc := 72) (v := 0) hx hb dX1_move_72 (by decide) ?_
        refine lv_istore_n (pc := 73) (lv' := [(3, .int 0), (0, .ref h), (1, .int x), (2, .int y)]) hx hb dX1_move_73 rfl hl (by decide) rfl (fun ls hl => ?_)
        exact second (by rw [← hi]; exact hm) _ _ hP hD hS ls (lv_sub hl [1, 2, 3, 0] rfl)
      · have hi : i < c := by rcases Nat.lt_or_ge i c with q | q; exact q; exact absurd (nI_le (a := c) q (by omega)) c7
        obtain ⟨ox, oy⟩ := hok i hi
        refine lv_iload_n (pc := 10) hx hb dX1_move_10 rfl (lv_at hl 1 rfl) ?_
        refine lv_bipush (pc := 11) (v := (-64)) hx hb dX1_move_11 (by decide) ?_
        refine lv_icmp_lt (pc := 13) (tgt := 64) hx hb dX1_move_13 (by decide) (fun c13 => ?_) (fun c13 => ?_)
        · refine lv_iconst (pc := 64) (v := (-1)) hx hb dX1_move_64 (by decide) ?_
          exact ret (-1) (xs, ys) _ _ 65 _ hP hD hS ⟨fun q => absurd (q i hi) (by have a1 := ox.1; have a2 := ox.2; have a3 := oy.1; have a4 := oy.2; simp only [mvO, p_lt, L64, Lm64] at *; omega), fun _ => ⟨rfl, rfl⟩⟩ dX1_move_65
        · refine lv_iload_n (pc := 16) hx hb dX1_move_16 rfl (lv_at hl 1 rfl) ?_
          refine lv_bipush (pc := 17) (v := 64) hx hb dX1_move_17 (by decide) ?_
          refine lv_icmp_gt (pc := 19) (tgt := 64) hx hb dX1_move_19 (by decide) (fun c19 => ?_) (fun c19 => ?_)
          · refine lv_iconst (pc := 64) (v := (-1)) hx hb dX1_move_64 (by decide) ?_
            exact ret (-1) (xs, ys) _ _ 65 _ hP hD hS ⟨fun q => absurd (q i hi) (by have a1 := ox.1; have a2 := ox.2; have a3 := oy.1; have a4 := oy.2; simp only [mvO, p_lt, L64, Lm64] at *; omega), fun _ => ⟨rfl, rfl⟩⟩ dX1_move_65
          · refine lv_iload_n (pc := 22) hx hb dX1_move_22 rfl (lv_at hl 2 rfl) ?_
            refine lv_bipush (pc := 23) (v := (-64)) hx hb dX1_move_23 (by decide) ?_
            refine lv_icmp_lt (pc := 25) (tgt := 64) hx hb dX1_move_25 (by decide) (fun c25 => ?_) (fun c25 => ?_)
            · refine lv_iconst (pc := 64) (v := (-1)) hx hb dX1_move_64 (by decide) ?_
              exact ret (-1) (xs, ys) _ _ 65 _ hP hD hS ⟨fun q => absurd (q i hi) (by have a1 := ox.1; have a2 := ox.2; have a3 := oy.1; have a4 := oy.2; simp only [mvO, p_lt, L64, Lm64] at *; omega), fun _ => ⟨rfl, rfl⟩⟩ dX1_move_65
            · refine lv_iload_n (pc := 28) hx hb dX1_move_28 rfl (lv_at hl 2 rfl) ?_
              refine lv_bipush (pc := 29) (v := 64) hx hb dX1_move_29 (by decide) ?_
              refine lv_icmp_gt (pc := 31) (tgt := 64) hx hb dX1_move_31 (by decide) (fun c31 => ?_) (fun c31 => ?_)
              · refine lv_iconst (pc := 64) (v := (-1)) hx hb dX1_move_64 (by decide) ?_
                exact ret (-1) (xs, ys) _ _ 65 _ hP hD hS ⟨fun q => absurd (q i hi) (by have a1 := ox.1; have a2 := ox.2; have a3 := oy.1; have a4 := oy.2; simp only [mvO, p_lt, L64, Lm64] at *; omega), fun _ => ⟨rfl, rfl⟩⟩ dX1_move_65
              · refine lv_aload_n (pc := 34) hx hb dX1_move_34 rfl (lv_at hl 0 rfl) ?_
                refine lv_aload_n (pc := 35) hx hb dX1_move_35 rfl (lv_at hl 0 rfl) ?_
                refine m_get (pc := 36) hx hb hts hown hK hP rfl 2 (by decide) q156 (v := .ref (a 0)) rfl dX1_move_36 ?_
                refine lv_iload_n (pc := 39) hx hb dX1_move_39 rfl (lv_at hl 3 rfl) ?_
                refine z_ild (pc := 40) hx hb hK hP 1 rfl i rfl (by omega) (by decide) dX1_move_40 ?_
                refine lv_iload_n (pc := 41) hx hb dX1_move_41 rfl (lv_at hl 1 rfl) ?_
                refine lv_iadd (pc := 42) hx hb dX1_move_42 ?_
                refine z_callI (pc := 43) (As := [.int ((xs i) + x)]) (rest := []) hx hb hml hown hts hA hK hP hD hS (tM_out l D d h a H.size n c fi xs ys col (xs i + x)) (cwV 1 hts (lw_V q177 q179 qs8 q15 q180) rfl rfl rfl (by decide +kernel) ⟨Nat.le_of_ble_eq_true rfl, Nat.le_of_ble_eq_true rfl⟩) (va_recv hK hP (ci := 1) (q0 := 0) rfl rfl) rfl hl.1 rfl (Nat.le_of_ble_eq_true rfl) dX1_move_43 (Nat.le_refl _) (Nat.le_refl _) (fun r_ u_ H locs hr_ hP hD hS => ?_)
                refine lv_if_ne (pc := 46) (tgt := 64) hx hb dX1_move_46 (by decide) (fun c46 => ?_) (fun c46 => ?_)
                · refine lv_iconst (pc := 64) (v := (-1)) hx hb dX1_move_64 (by decide) ?_
                  exact ret (-1) (xs, ys) _ _ 65 _ hP hD hS ⟨fun q => absurd (q i hi) (by intro q; exact (mv_out ox c13 c19).mp (b_yes hr_ c46) q.1), fun _ => ⟨rfl, rfl⟩⟩ dX1_move_65
                · refine lv_aload_n (pc := 49) hx hb dX1_move_49 rfl (lv_at hl 0 rfl) ?_
                  refine lv_aload_n (pc := 50) hx hb dX1_move_50 rfl (lv_at hl 0 rfl) ?_
                  refine m_get (pc := 51) hx hb hts hown hK hP rfl 3 (by decide) q157 (v := .ref (a 1)) rfl dX1_move_51 ?_
                  refine lv_iload_n (pc := 54) hx hb dX1_move_54 rfl (lv_at hl 3 rfl) ?_
                  refine z_ild (pc := 55) hx hb hK hP 2 rfl i rfl (by omega) (by decide) dX1_move_55 ?_
                  refine lv_iload_n (pc := 56) hx hb dX1_move_56 rfl (lv_at hl 2 rfl) ?_
                  refine lv_iadd (pc := 57) hx hb dX1_move_57 ?_
                  refine z_callI (pc := 58) (As := [.int ((ys i) + y)]) (rest := []) hx hb hml hown hts hA hK hP hD hS (tM_out l D d h a H.size n c fi xs ys col (ys i + y)) (cwV 1 hts (lw_V q177 q179 qs8 q15 q180) rfl rfl rfl (by decide +kernel) ⟨Nat.le_of_ble_eq_true rfl, Nat.le_of_ble_eq_true rfl⟩) (va_recv hK hP (ci := 1) (q0 := 0) rfl rfl) rfl hl.1 rfl (Nat.le_of_ble_eq_true rfl) dX1_move_58 (Nat.le_refl _) (Nat.le_refl _) (fun r2_ u_ H locs hr2_ hP hD hS => ?_)
                  refine lv_if_eq (pc := 61) (tgt := 66) hx hb dX1_move_61 (by decide) (fun c61 => ?_) (fun c61 => ?_)
                  · have q1 := b_no hr_ c46; have q2 := b_no hr2_ c61
                    rw [mv_out ox c13 c19] at q1; rw [mv_out oy c25 c31] at q2
                    refine lv_iinc (pc := 66) (v := nI (i + 1)) (lv' := [(3, .int (nI (i + 1))), (0, .ref h), (1, .int x), (2, .int y)]) hx hb dX1_move_66 hl (k := 3) rfl (nI_1 i) (by decide) rfl (fun ls hl => ?_)
                    refine lv_goto (pc := 69) (tgt := 2) hx hb dX1_move_69 (by decide) ?_
                    exact ih (i + 1) (by omega) (by omega) (fun j hj => by rcases Nat.lt_or_ge j i with q | q; exact hm j q; rw [Nat.le_antisymm (Nat.le_of_lt_succ hj) q]; exact ⟨Classical.byContradiction q1, Classical.byContradiction q2⟩) _ _ hP hD hS ls (lv_sub hl [1, 2, 3, 0] rfl)
                  · refine lv_iconst (pc := 64) (v := (-1)) hx hb dX1_move_64 (by decide) ?_
                    exact ret (-1) (xs, ys) _ _ 65 _ hP hD hS ⟨fun q => absurd (q i hi) (by intro q; exact (mv_out oy c25 c31).mp (b_yes hr2_ c61) q.2), fun _ => ⟨rfl, rfl⟩⟩ dX1_move_65
  exact loop1 (c + 1) 0 (by omega) (by omega) (fun j hj => absurd hj (by omega)) _ _ hP hD hS ls (lv_sub hl [1, 2, 3, 0] rfl)

set_option maxHeartbeats 4000000 in
/-- mirror -/
theorem tM_mirror (l : Launch) (D : va_G) (d : ClassId) (h : Nat) (a : Nat → Nat) (sz n c : Nat) (fi xs ys col : Nat → Int32) (hc : c ≤ 12) : zV l D d yX1_mirror cX1_mirror 3 (zR 0 0) [.ref h] sz (wM h a d n c fi xs ys col) (fun (_ : Unit) => True) (fun _ => (wM h a d n c fi (fa_fill ys xs c) (fa_fill xs ys c) col)) := by
  refine z_startV (by decide) (Nat.le_of_ble_eq_true rfl) ?_
  intro p e s m args below meth cd A Q ls hx hb hml hown hts hA hK hP hD hS ret hl
  have hown : s.vm.findClass RX1 = some m.cls := hown
  have hl : lv_has ls 3 [(0, .ref h)] := hl
  refine lv_iconst (pc := 0) (v := 0) hx hb dX1_mirror_0 (by decide) ?_
  refine lv_istore_n (pc := 1) (lv' := [(1, .int 0), (0, .ref h)]) hx hb dX1_mirror_1 rfl hl (by decide) rfl (fun ls hl => ?_)
  have loop : ∀ (N : Nat) (i : Nat), (c < i + N) → (i ≤ c) → ∀ (H : Heap) (locs : List Loc), va_P D vwCl (wM h a d n c fi (fa_fill ys xs i) (fa_fill xs ys i) col) H → va_D A (wM h a d n c fi (fa_fill ys xs i) (fa_fill xs ys i) col) → va_S A s.heap H locs → ∀ (ls : Array Slot), lv_has ls 3 [(0, .ref h), (1, .int (nI i))] → W p l e (zR 0 0) s m args below meth cd H locs 0 0 Q (F0 m 2 ls []) := by
    intro N
    induction N with
    | zero => intro i hN hic; exfalso; omega
    | succ N ih =>
      intro i hN hic H locs hP hD hS ls hl
      refine lv_iload_n (pc := 2) hx hb dX1_mirror_2 rfl (lv_at hl 1 rfl) ?_
      refine lv_aload_n (pc := 3) hx hb dX1_mirror_3 rfl (lv_at hl 0 rfl) ?_
      refine m_get (pc := 4) hx hb hts hown hK hP rfl 0 (by decide) q154 (v := .int (nI c)) rfl dX1_mirror_4 ?_
      refine lv_icmp_ge (pc := 7) (tgt := 42) hx hb dX1_mirror_7 (by decide) (fun c7 => ?_) (fun c7 => ?_)
      · have hi : i = c := by rcases Nat.lt_or_ge i c with q | q; exact absurd c7 (nI_ge (b := c) q (by omega)); omega
        subst hi
        exact ret () _ _ 42 _ hP hD hS trivial dX1_mirror_42
      · have hi : i < c := by rcases Nat.lt_or_ge i c with q | q; exact q; exact absurd (nI_le (a := c) q (by omega)) c7
        refine lv_aload_n (pc := 10) hx hb dX1_mirror_10 rfl (lv_at hl 0 rfl) ?_
        refine m_get (pc := 11) hx hb hts hown hK hP rfl 2 (by decide) q156 (v := .ref (a 0)) rfl dX1_mirror_11 ?_
        refine lv_iload_n (pc := 14) hx hb dX1_mirror_14 rfl (lv_at hl 1 rfl) ?_
        refine z_ild (pc := 15) hx hb hK hP 1 rfl i rfl (by omega) (by decide) dX1_mirror_15 ?_
        refine z_eq (y := xs i) (fa_fill_out (Nat.le_refl i)) ?_
        refine lv_istore_n (pc := 16) (lv' := [(2, .int (xs i)), (0, .ref h), (1, .int (nI i))]) hx hb dX1_mirror_16 rfl hl (by decide) rfl (fun ls hl => ?_)
        refine lv_aload_n (pc := 17) hx hb dX1_mirror_17 rfl (lv_at hl 1 rfl) ?_
        refine m_get (pc := 18) hx hb hts hown hK hP rfl 2 (by decide) q156 (v := .ref (a 0)) rfl dX1_mirror_18 ?_
        refine lv_iload_n (pc := 21) hx hb dX1_mirror_21 rfl (lv_at hl 2 rfl) ?_
        refine lv_aload_n (pc := 22) hx hb dX1_mirror_22 rfl (lv_at hl 1 rfl) ?_
        refine m_get (pc := 23) hx hb hts hown hK hP rfl 3 (by decide) q157 (v := .ref (a 1)) rfl dX1_mirror_23 ?_
        refine lv_iload_n (pc := 26) hx hb dX1_mirror_26 rfl (lv_at hl 2 rfl) ?_
        refine z_ild (pc := 27) hx hb hK hP 2 rfl i rfl (by omega) (by decide) dX1_mirror_27 ?_
        refine z_eq (y := ys i) (fa_fill_out (Nat.le_refl i)) ?_
        refine z_ist (pc := 28) (ws' := wM h a d n c fi (upd (fa_fill ys xs i) i (ys i)) (fa_fill xs ys i) col) hx hb hK hP hD hS 1 rfl i rfl (by omega) (by decide) rfl dX1_mirror_28 (fun H locs hP hD hS => ?_)
        have hw_ : upd (fa_fill ys xs i) i (ys i) = fa_fill ys xs (i + 1) := fa_fill_succ ys xs i
        rw [hw_] at hP hD
        refine lv_aload_n (pc := 29) hx hb dX1_mirror_29 rfl (lv_at hl 1 rfl) ?_
        refine m_get (pc := 30) hx hb hts hown hK hP rfl 3 (by decide) q157 (v := .ref (a 1)) rfl dX1_mirror_30 ?_
        refine lv_iload_n (pc := 33) hx hb dX1_mirror_33 rfl (lv_at hl 2 rfl) ?_
        refine lv_iload_n (pc := 34) hx hb dX1_mirror_34 rfl (lv_at hl 0 rfl) ?_
        refine z_ist (pc := 35) (ws' := wM h a d n c fi (fa_fill ys xs (i + 1)) (upd (fa_fill xs ys i) i (xs i)) col) hx hb hK hP hD hS 2 rfl i rfl (by omega) (by decide) rfl dX1_mirror_35 (fun H locs hP hD hS => ?_)
        have hw_ : upd (fa_fill xs ys i) i (xs i) = fa_fill xs ys (i + 1) := fa_fill_succ xs ys i
        rw [hw_] at hP hD
        refine lv_iinc (pc := 36) (v := nI (i + 1)) (lv' := [(1, .int (nI (i + 1))), (2, .int (xs i)), (0, .ref h)]) hx hb dX1_mirror_36 hl (k := 2) rfl (nI_1 i) (by decide) rfl (fun ls hl => ?_)
        refine lv_goto (pc := 39) (tgt := 2) hx hb dX1_mirror_39 (by decide) ?_
        exact ih (i + 1) (by omega) (by omega) _ _ hP hD hS ls (lv_sub hl [2, 0] rfl)
  exact loop (c + 1) 0 (by omega) (by omega) _ _ (by rw [fa_fill_0, fa_fill_0]; exact hP) (by rw [fa_fill_0, fa_fill_0]; exact hD) hS ls (lv_sub hl [1, 0] rfl)

set_option maxHeartbeats 4000000 in
/-- wipe -/
theorem tM_wipe (l : Launch) (D : va_G) (d : ClassId) (h : Nat) (a : Nat → Nat) (sz n c : Nat) (fi xs ys col : Nat → Int32) (x : Int32) : zI l D d yX1_wipe cX1_wipe 3 .int (zR 0 0) [.ref h, .int x] sz (wM h a d n c fi xs ys col) (fun r (_ : Unit) => r = wiR x) (fun _ => (wM h a d n c fi xs ys (wiC x col))) := by
  refine z_startI (by decide) (Nat.le_of_ble_eq_true rfl) ?_
  intro p e s m args below meth cd A Q ls hx hb hml hown hts hA hK hP hD hS ret hl
  have hown : s.vm.findClass RX1 = some m.cls := hown
  have hl : lv_has ls 3 [(0, .ref h), (1, .int x)] := hl
  refine lv_iload_n (pc := 0) hx hb dX1_wipe_0 rfl (lv_at hl 1 rfl) ?_
  refine lv_if_lt (pc := 1) (tgt := 11) hx hb dX1_wipe_1 (by decide) (fun c1 => ?_) (fun c1 => ?_)
  · refine lv_bipush (pc := 11) (v := (-3)) hx hb dX1_wipe_11 (by decide) ?_
    have hbk : badK x := by simp only [badK, p_lt, p_le, L0, L255] at *; omega
    have hw_ : col = wiC x col := by rw [wiC, if_pos hbk]
    have hP : va_P D vwCl (wM h a d n c fi xs ys (wiC x col)) s.heap := by rw [← hw_]; exact hP
    have hD : va_D A (wM h a d n c fi xs ys (wiC x col)) := by rw [← hw_]; exact hD
    exact ret (-3) () _ _ 13 _ hP hD hS (by rw [wiR, if_pos hbk]) dX1_wipe_13
  · refine lv_iload_n (pc := 4) hx hb dX1_wipe_4 rfl (lv_at hl 1 rfl) ?_
    refine lv_sipush (pc := 5) (v := 255) hx hb dX1_wipe_5 (by decide) ?_
    refine lv_icmp_le (pc := 8) (tgt := 14) hx hb dX1_wipe_8 (by decide) (fun c8 => ?_) (fun c8 => ?_)
    · have hbk : ¬ badK x := by simp only [badK, p_lt, p_le, L0, L255] at *; omega
      refine lv_iconst (pc := 14) (v := 0) hx hb dX1_wipe_14 (by decide) ?_
      refine lv_istore_n (pc := 15) (lv' := [(2, .int 0), (0, .ref h), (1, .int x)]) hx hb dX1_wipe_15 rfl hl (by decide) rfl (fun ls hl => ?_)
      have loop : ∀ (N : Nat) (i : Nat), (256 < i + N) → (i ≤ 256) → ∀ (H : Heap) (locs : List Loc), va_P D vwCl (wM h a d n c fi xs ys (fa_fill (fun _ => x) col i)) H → va_D A (wM h a d n c fi xs ys (fa_fill (fun _ => x) col i)) → va_S A s.heap H locs → ∀ (ls : Array Slot), lv_has ls 3 [(0, .ref h), (1, .int x), (2, .int (nI i))] → W p l e (zR 0 0) s m args below meth cd H locs 0 0 Q (F0 m 16 ls []) := by
        intro N
        induction N with
        | zero => intro i hN hic; exfalso; omega
        | succ N ih =>
          intro i hN hic H locs hP hD hS ls hl
          refine lv_iload_n (pc := 16) hx hb dX1_wipe_16 rfl (lv_at hl 2 rfl) ?_
          refine lv_sipush (pc := 17) (v := 256) hx hb dX1_wipe_17 (by decide) ?_
          refine lv_icmp_ge (pc := 20) (tgt := 36) hx hb dX1_wipe_20 (by decide) (fun c20 => ?_) (fun c20 => ?_)
          · have hi : i = 256 := by rcases Nat.lt_or_ge i 256 with q | q; exact absurd c20 (nI_ge (b := 256) q (by omega)); omega
            subst hi
            have hw_ : fa_fill (fun _ => x) col 256 = wiC x col := by rw [wiC, if_neg hbk]
            rw [hw_] at hP hD
            refine lv_iconst (pc := 36) (v := 0) hx hb dX1_wipe_36 (by decide) ?_
            exact ret 0 () _ _ 37 _ hP hD hS (by rw [wiR, if_neg hbk]) dX1_wipe_37
          · have hi : i < 256 := by rcases Nat.lt_or_ge i 256 with q | q; exact q; exact absurd (nI_le (a := 256) q (by omega)) c20
            refine lv_aload_n (pc := 23) hx hb dX1_wipe_23 rfl (lv_at hl 0 rfl) ?_
            refine m_get (pc := 24) hx hb hts hown hK hP rfl 5 (by decide) q159 (v := .ref (a 3)) rfl dX1_wipe_24 ?_
            refine lv_iload_n (pc := 27) hx hb dX1_wipe_27 rfl (lv_at hl 2 rfl) ?_
            refine lv_iload_n (pc := 28) hx hb dX1_wipe_28 rfl (lv_at hl 1 rfl) ?_
            refine z_ist (pc := 29) (ws' := wM h a d n c fi xs ys (upd (fa_fill (fun _ => x) col i) i x)) hx hb hK hP hD hS 4 rfl i rfl (by omega) (by decide) rfl dX1_wipe_29 (fun H locs hP hD hS => ?_)
            have hw_ : upd (fa_fill (fun _ => x) col i) i x = fa_fill (fun _ => x) col (i + 1) := fa_fill_succ (fun _ => x) col i
            rw [hw_] at hP hD
            refine lv_iinc (pc := 30) (v := nI (i + 1)) (lv' := [(2, .int (nI (i + 1))), (0, .ref h), (1, .int x)]) hx hb dX1_wipe_30 hl (k := 2) rfl (nI_1 i) (by decide) rfl (fun ls hl => ?_)
            refine lv_goto (pc := 33) (tgt := 16) hx hb dX1_wipe_33 (by decide) ?_
            exact ih (i + 1) (by omega) (by omega) _ _ hP hD hS ls (lv_sub hl [1, 2, 0] rfl)
      exact loop 257 0 (by omega) (by omega) _ _ (by rw [fa_fill_0]; exact hP) (by rw [fa_fill_0]; exact hD) hS ls (lv_sub hl [1, 2, 0] rfl)
    · refine lv_bipush (pc := 11) (v := (-3)) hx hb dX1_wipe_11 (by decide) ?_
      have hbk : badK x := by simp only [badK, p_lt, p_le, L0, L255] at *; omega
      have hw_ : col = wiC x col := by rw [wiC, if_pos hbk]
      have hP : va_P D vwCl (wM h a d n c fi xs ys (wiC x col)) s.heap := by rw [← hw_]; exact hP
      have hD : va_D A (wM h a d n c fi xs ys (wiC x col)) := by rw [← hw_]; exact hD
      exact ret (-3) () _ _ 13 _ hP hD hS (by rw [wiR, if_pos hbk]) dX1_wipe_13

set_option maxHeartbeats 4000000 in
/-- pixel -/
theorem tM_pixel (l : Launch) (D : va_G) (d : ClassId) (h : Nat) (a : Nat → Nat) (sz n c : Nat) (fi xs ys col : Nat → Int32) (r q : Int32) : zI l D d yX1_pixel cX1_pixel 3 .int (zR 1 25) [.ref h, .int r, .int q] sz (wM h a d n c fi xs ys col) (fun rr (_ : Unit) => rr = pxR col r q) (fun _ => (wM h a d n c fi xs ys col)) := by
  refine z_startI (by decide) (Nat.le_of_ble_eq_true rfl) ?_
  intro p e s m args below meth cd A Q ls hx hb hml hown hts hA hK hP hD hS ret hl
  have hown : s.vm.findClass RX1 = some m.cls := hown
  have hl : lv_has ls 3 [(0, .ref h), (1, .int r), (2, .int q)] := hl
  refine lv_aload_n (pc := 0) hx hb dX1_pixel_0 rfl (lv_at hl 0 rfl) ?_
  refine lv_iload_n (pc := 1) hx hb dX1_pixel_1 rfl (lv_at hl 1 rfl) ?_
  refine lv_iload_n (pc := 2) hx hb dX1_pixel_2 rfl (lv_at hl 2 rfl) ?_
  refine z_callI (pc := 3) (As := [.int r, .int q]) (rest := []) hx hb hml hown hts hA hK hP hD hS (tM_badPixel l D d h a s.heap.size n c fi xs ys col r q) (cwV 2 hts (lw_V q209 q211 qs10 q15 q212) rfl rfl rfl (by decide +kernel) ⟨Nat.le_of_ble_eq_true rfl, Nat.le_of_ble_eq_true rfl⟩) (va_recv hK hP (ci := 1) (q0 := 0) rfl rfl) rfl hl.1 rfl (Nat.le_of_ble_eq_true rfl) dX1_pixel_3 (Nat.le_refl _) (Nat.le_refl _) (fun r_ u_ H locs hr_ hP hD hS => ?_)
  refine lv_if_eq (pc := 6) (tgt := 14) hx hb dX1_pixel_6 (by decide) (fun c6 => ?_) (fun c6 => ?_)
  · have hb_ := b_no hr_ c6
    obtain ⟨R_, C_, hR, hC, rfl, rfl⟩ := badR_no hb_
    refine lv_aload_n (pc := 14) hx hb dX1_pixel_14 rfl (lv_at hl 0 rfl) ?_
    refine m_get (pc := 15) hx hb hts hown hK hP rfl 5 (by decide) q159 (v := .ref (a 3)) rfl dX1_pixel_15 ?_
    refine lv_iload_n (pc := 18) hx hb dX1_pixel_18 rfl (lv_at hl 1 rfl) ?_
    refine lv_bipush (pc := 19) (v := 16) hx hb dX1_pixel_19 (by decide) ?_
    refine lv_imul (pc := 21) hx hb dX1_pixel_21 ?_
    refine lv_iload_n (pc := 22) hx hb dX1_pixel_22 rfl (lv_at hl 2 rfl) ?_
    refine lv_iadd (pc := 23) hx hb dX1_pixel_23 ?_
    refine z_eq (y := nI (R_ * 16 + C_)) (by rw [show (16 : Int32) = nI 16 from rfl, pk_mul, nI_add]) ?_
    refine z_ild (pc := 24) hx hb hK hP 4 rfl (R_ * 16 + C_) rfl (by omega) (by decide) dX1_pixel_24 ?_
    exact ret (col (R_ * 16 + C_)) () _ _ 25 _ hP hD hS (by rw [pxR, if_neg hb_, nI_clamp (by omega), nI_clamp (by omega)]) dX1_pixel_25
  · refine lv_bipush (pc := 9) (v := (-4)) hx hb dX1_pixel_9 (by decide) ?_
    refine lv_goto (pc := 11) (tgt := 25) hx hb dX1_pixel_11 (by decide) ?_
    exact ret (-4) () _ _ 25 _ hP hD hS (by rw [pxR, if_pos (b_yes hr_ c6)]) dX1_pixel_25

set_option maxHeartbeats 4000000 in
/-- rowSum -/
theorem tM_rowSum (l : Launch) (D : va_G) (d : ClassId) (h : Nat) (a : Nat → Nat) (sz n c : Nat) (fi xs ys col : Nat → Int32) (r : Int32) : zI l D d yX1_rowSum cX1_rowSum 4 .int (zR 0 0) [.ref h, .int r] sz (wM h a d n c fi xs ys col) (fun rr (_ : Unit) => rr = rsR col r) (fun _ => (wM h a d n c fi xs ys col)) := by
  refine z_startI (by decide) (Nat.le_of_ble_eq_true rfl) ?_
  intro p e s m args below meth cd A Q ls hx hb hml hown hts hA hK hP hD hS ret hl
  have hown : s.vm.findClass RX1 = some m.cls := hown
  have hl : lv_has ls 4 [(0, .ref h), (1, .int r)] := hl
  refine lv_iload_n (pc := 0) hx hb dX1_rowSum_0 rfl (lv_at hl 1 rfl) ?_
  refine lv_if_lt (pc := 1) (tgt := 10) hx hb dX1_rowSum_1 (by decide) (fun c1 => ?_) (fun c1 => ?_)
  · refine lv_bipush (pc := 10) (v := (-4)) hx hb dX1_rowSum_10 (by decide) ?_
    exact ret (-4) () _ _ 12 _ hP hD hS (by rw [rsR, if_pos (by simp only [badL, p_lt, p_le, L0, L15, L16, L64, Lm64, L255] at *; omega)]) dX1_rowSum_12
  · refine lv_iload_n (pc := 4) hx hb dX1_rowSum_4 rfl (lv_at hl 1 rfl) ?_
    refine lv_bipush (pc := 5) (v := 15) hx hb dX1_rowSum_5 (by decide) ?_
    refine lv_icmp_le (pc := 7) (tgt := 13) hx hb dX1_rowSum_7 (by decide) (fun c7 => ?_) (fun c7 => ?_)
    · have hb_ : ¬ badL r := by simp only [badL, p_lt, p_le, L0, L15, L16, L64, Lm64, L255] at *; omega
      obtain ⟨R_, hR, rfl⟩ := badL_no hb_
      refine lv_iconst (pc := 13) (v := 0) hx hb dX1_rowSum_13 (by decide) ?_
      refine lv_istore_n (pc := 14) (lv' := [(2, .int 0), (0, .ref h), (1, .int (nI R_))]) hx hb dX1_rowSum_14 rfl hl (by decide) rfl (fun ls hl => ?_)
      refine lv_iconst (pc := 15) (v := 0) hx hb dX1_rowSum_15 (by decide) ?_
      refine lv_istore_n (pc := 16) (lv' := [(3, .int 0), (2, .int 0), (0, .ref h), (1, .int (nI R_))]) hx hb dX1_rowSum_16 rfl hl (by decide) rfl (fun ls hl => ?_)
      have loop : ∀ (N : Nat) (i : Nat), (16 < i + N) → (i ≤ 16) → ∀ (H : Heap) (locs : List Loc), va_P D vwCl (wM h a d n c fi xs ys col) H → va_D A (wM h a d n c fi xs ys col) → va_S A s.heap H locs → ∀ (ls : Array Slot), lv_has ls 4 [(0, .ref h), (1, .int (nI R_)), (2, .int (rsm col R_ i)), (3, .int (nI i))] → W p l e (zR 0 0) s m args below meth cd H locs 0 0 Q (F0 m 17 ls []) := by
        intro N
        induction N with
        | zero => intro i hN hic; exfalso; omega
        | succ N ih =>
          intro i hN hic H locs hP hD hS ls hl
          refine lv_iload_n (pc := 17) hx hb dX1_rowSum_17 rfl (lv_at hl 3 rfl) ?_
          refine lv_bipush (pc := 18) (v := 16) hx hb dX1_rowSum_18 (by decide) ?_
          refine lv_icmp_ge (pc := 20) (tgt := 43) hx hb dX1_rowSum_20 (by decide) (fun c20 => ?_) (fun c20 => ?_)
          · have hi : i = 16 := by rcases Nat.lt_or_ge i 16 with q | q; exact absurd c20 (nI_ge (b := 16) q (by omega)); omega
            subst hi
            refine lv_iload_n (pc := 43) hx hb dX1_rowSum_43 rfl (lv_at hl 2 rfl) ?_
            exact ret (rsm col R_ 16) () _ _ 44 _ hP hD hS (by rw [rsR, if_neg hb_, nI_clamp (by omega)]) dX1_rowSum_44
          · have hi : i < 16 := by rcases Nat.lt_or_ge i 16 with q | q; exact q; exact absurd (nI_le (a := 16) q (by omega)) c20
            refine lv_iload_n (pc := 23) hx hb dX1_rowSum_23 rfl (lv_at hl 2 rfl) ?_
            refine lv_aload_n (pc := 24) hx hb dX1_rowSum_24 rfl (lv_at hl 0 rfl) ?_
            refine m_get (pc := 25) hx hb hts hown hK hP rfl 5 (by decide) q159 (v := .ref (a 3)) rfl dX1_rowSum_25 ?_
            refine lv_iload_n (pc := 28) hx hb dX1_rowSum_28 rfl (lv_at hl 1 rfl) ?_
            refine lv_bipush (pc := 29) (v := 16) hx hb dX1_rowSum_29 (by decide) ?_
            refine lv_imul (pc := 31) hx hb dX1_rowSum_31 ?_
            refine lv_iload_n (pc := 32) hx hb dX1_rowSum_32 rfl (lv_at hl 3 rfl) ?_
            refine lv_iadd (pc := 33) hx hb dX1_rowSum_33 ?_
            refine z_eq (y := nI (R_ * 16 + i)) (by rw [show (16 : Int32) = nI 16 from rfl, pk_mul, nI_add]) ?_
            refine z_ild (pc := 34) hx hb hK hP 4 rfl (R_ * 16 + i) rfl (by omega) (by decide) dX1_rowSum_34 ?_
            refine lv_iadd (pc := 35) hx hb dX1_rowSum_35 ?_
            refine lv_istore_n (pc := 36) (lv' := [(2, .int ((rsm col R_ i) + (col (R_ * 16 + i)))), (0, .ref h), (1, .int (nI R_)), (3, .int (nI i))]) hx hb dX1_rowSum_36 rfl hl (by decide) rfl (fun ls hl => ?_)
            refine lv_iinc (pc := 37) (v := nI (i + 1)) (lv' := [(3, .int (nI (i + 1))), (2, .int ((rsm col R_ i) + (col (R_ * 16 + i)))), (0, .ref h), (1, .int (nI R_))]) hx hb dX1_rowSum_37 hl (k := 3) rfl (nI_1 i) (by decide) rfl (fun ls hl => ?_)
            refine lv_goto (pc := 40) (tgt := 17) hx hb dX1_rowSum_40 (by decide) ?_
            exact ih (i + 1) (by omega) (by omega) _ _ hP hD hS ls (lv_sub hl [2, 3, 1, 0] rfl)
      exact loop 17 0 (by omega) (by omega) _ _ hP hD hS ls (lv_sub hl [2, 3, 1, 0] rfl)
    · refine lv_bipush (pc := 10) (v := (-4)) hx hb dX1_rowSum_10 (by decide) ?_
      exact ret (-4) () _ _ 12 _ hP hD hS (by rw [rsR, if_pos (by simp only [badL, p_lt, p_le, L0, L15, L16, L64, Lm64, L255] at *; omega)]) dX1_rowSum_12
end
section
/-! PolygonFillModel: winding, coverage, paint -/
set_option maxRecDepth 100000
set_option maxHeartbeats 4000000 in
/-- edge -/
theorem tM_edge (l : Launch) (D : va_G) (d : ClassId) (h : Nat) (a : Nat → Nat) (sz n c : Nat) (fi xs ys col : Nat → Int32) (i j : Nat) (x y : Int32) (hi : i < 12) (hj : j < 12) : zI l D d yX1_edge cX1_edge 5 .int (zR 0 0) [.ref h, .int (nI i), .int (nI j), .int x, .int y] sz (wM h a d n c fi xs ys col) (fun r (_ : Unit) => r = eI (xs i) (ys i) (xs j) (ys j) x y) (fun _ => (wM h a d n c fi xs ys col)) := by
  refine z_startI (by decide) (Nat.le_of_ble_eq_true rfl) ?_
  intro p e s m args below meth cd A Q ls hx hb hml hown hts hA hK hP hD hS ret hl
  have hown : s.vm.findClass RX1 = some m.cls := hown
  have hl : lv_has ls 5 [(0, .ref h), (1, .int (nI i)), (2, .int (nI j)), (3, .int x), (4, .int y)] := hl
  refine lv_aload_n (pc := 0) hx hb dX1_edge_0 rfl (lv_at hl 0 rfl) ?_
  refine m_get (pc := 1) hx hb hts hown hK hP rfl 3 (by decide) q157 (v := .ref (a 1)) rfl dX1_edge_1 ?_
  refine lv_iload_n (pc := 4) hx hb dX1_edge_4 rfl (lv_at hl 1 rfl) ?_
  refine z_ild (pc := 5) hx hb hK hP 2 rfl i rfl (by omega) (by decide) dX1_edge_5 ?_
  refine lv_iload (pc := 6) hx hb dX1_edge_6 (lv_at hl 4 rfl) ?_
  refine lv_icmp_gt (pc := 8) (tgt := 76) hx hb dX1_edge_8 (by decide) (fun c8 => ?_) (fun c8 => ?_)
  · have hn_ : ¬ (ys i ≤ y ∧ y < ys j) := by simp only [p_lt, p_le] at *; omega
    refine lv_aload_n (pc := 76) hx hb dX1_edge_76 rfl (lv_at hl 0 rfl) ?_
    refine m_get (pc := 77) hx hb hts hown hK hP rfl 3 (by decide) q157 (v := .ref (a 1)) rfl dX1_edge_77 ?_
    refine lv_iload_n (pc := 80) hx hb dX1_edge_80 rfl (lv_at hl 2 rfl) ?_
    refine z_ild (pc := 81) hx hb hK hP 2 rfl j rfl (by omega) (by decide) dX1_edge_81 ?_
    refine lv_iload (pc := 82) hx hb dX1_edge_82 (lv_at hl 4 rfl) ?_
    refine lv_icmp_gt (pc := 84) (tgt := 152) hx hb dX1_edge_84 (by decide) (fun c84 => ?_) (fun c84 => ?_)
    · have hn2_ : ¬ (ys j ≤ y ∧ y < ys i) := by simp only [p_lt, p_le] at *; omega
      refine lv_iconst (pc := 152) (v := 0) hx hb dX1_edge_152 (by decide) ?_
      exact ret 0 () _ _ 153 _ hP hD hS (by rw [eI, if_neg hn_, if_neg hn2_]) dX1_edge_153
    · refine lv_iload (pc := 87) hx hb dX1_edge_87 (lv_at hl 4 rfl) ?_
      refine lv_aload_n (pc := 89) hx hb dX1_edge_89 rfl (lv_at hl 0 rfl) ?_
      refine m_get (pc := 90) hx hb hts hown hK hP rfl 3 (by decide) q157 (v := .ref (a 1)) rfl dX1_edge_90 ?_
      refine lv_iload_n (pc := 93) hx hb dX1_edge_93 rfl (lv_at hl 1 rfl) ?_
      refine z_ild (pc := 94) hx hb hK hP 2 rfl i rfl (by omega) (by decide) dX1_edge_94 ?_
      refine lv_icmp_ge (pc := 95) (tgt := 152) hx hb dX1_edge_95 (by decide) (fun c95 => ?_) (fun c95 => ?_)
      · have hn2_ : ¬ (ys j ≤ y ∧ y < ys i) := by simp only [p_lt, p_le] at *; omega
        refine lv_iconst (pc := 152) (v := 0) hx hb dX1_edge_152 (by decide) ?_
        exact ret 0 () _ _ 153 _ hP hD hS (by rw [eI, if_neg hn_, if_neg hn2_]) dX1_edge_153
      · have hp_ : ys j ≤ y ∧ y < ys i := by simp only [p_lt, p_le] at *; omega
        refine lv_aload_n (pc := 98) hx hb dX1_edge_98 rfl (lv_at hl 0 rfl) ?_
        refine m_get (pc := 99) hx hb hts hown hK hP rfl 2 (by decide) q156 (v := .ref (a 0)) rfl dX1_edge_99 ?_
        refine lv_iload_n (pc := 102) hx hb dX1_edge_102 rfl (lv_at hl 1 rfl) ?_
        refine z_ild (pc := 103) hx hb hK hP 1 rfl i rfl (by omega) (by decide) dX1_edge_103 ?_
        refine lv_aload_n (pc := 104) hx hb dX1_edge_104 rfl (lv_at hl 0 rfl) ?_
        refine m_get (pc := 105) hx hb hts hown hK hP rfl 2 (by decide) q156 (v := .ref (a 0)) rfl dX1_edge_105 ?_
        refine lv_iload_n (pc := 108) hx hb dX1_edge_108 rfl (lv_at hl 2 rfl) ?_
        refine z_ild (pc := 109) hx hb hK hP 1 rfl j rfl (by omega) (by decide) dX1_edge_109 ?_
        refine lv_isub (pc := 110) hx hb dX1_edge_110 ?_
        refine lv_iload (pc := 111) hx hb dX1_edge_111 (lv_at hl 4 rfl) ?_
        refine lv_aload_n (pc := 113) hx hb dX1_edge_113 rfl (lv_at hl 0 rfl) ?_
        refine m_get (pc := 114) hx hb hts hown hK hP rfl 3 (by decide) q157 (v := .ref (a 1)) rfl dX1_edge_114 ?_
        refine lv_iload_n (pc := 117) hx hb dX1_edge_117 rfl (lv_at hl 2 rfl) ?_
        refine z_ild (pc := 118) hx hb hK hP 2 rfl j rfl (by omega) (by decide) dX1_edge_118 ?_
        refine lv_isub (pc := 119) hx hb dX1_edge_119 ?_
        refine lv_imul (pc := 120) hx hb dX1_edge_120 ?_
        refine lv_iload_n (pc := 121) hx hb dX1_edge_121 rfl (lv_at hl 3 rfl) ?_
        refine lv_aload_n (pc := 122) hx hb dX1_edge_122 rfl (lv_at hl 0 rfl) ?_
        refine m_get (pc := 123) hx hb hts hown hK hP rfl 2 (by decide) q156 (v := .ref (a 0)) rfl dX1_edge_123 ?_
        refine lv_iload_n (pc := 126) hx hb dX1_edge_126 rfl (lv_at hl 2 rfl) ?_
        refine z_ild (pc := 127) hx hb hK hP 1 rfl j rfl (by omega) (by decide) dX1_edge_127 ?_
        refine lv_isub (pc := 128) hx hb dX1_edge_128 ?_
        refine lv_aload_n (pc := 129) hx hb dX1_edge_129 rfl (lv_at hl 0 rfl) ?_
        refine m_get (pc := 130) hx hb hts hown hK hP rfl 3 (by decide) q157 (v := .ref (a 1)) rfl dX1_edge_130 ?_
        refine lv_iload_n (pc := 133) hx hb dX1_edge_133 rfl (lv_at hl 1 rfl) ?_
        refine z_ild (pc := 134) hx hb hK hP 2 rfl i rfl (by omega) (by decide) dX1_edge_134 ?_
        refine lv_aload_n (pc := 135) hx hb dX1_edge_135 rfl (lv_at hl 0 rfl) ?_
        refine m_get (pc := 136) hx hb hts hown hK hP rfl 3 (by decide) q157 (v := .ref (a 1)) rfl dX1_edge_136 ?_
        refine lv_iload_n (pc := 139) hx hb dX1_edge_139 rfl (lv_at hl 2 rfl) ?_
        refine z_ild (pc := 140) hx hb hK hP 2 rfl j rfl (by omega) (by decide) dX1_edge_140 ?_
        refine lv_isub (pc := 141) hx hb dX1_edge_141 ?_
        refine lv_imul (pc := 142) hx hb dX1_edge_142 ?_
        refine lv_icmp_le (pc := 143) (tgt := 150) hx hb dX1_edge_143 (by decide) (fun c143 => ?_) (fun c143 => ?_)
        · refine lv_iconst (pc := 150) (v := 0) hx hb dX1_edge_150 (by decide) ?_
          exact ret 0 () _ _ 151 _ hP hD hS (by rw [eI, if_neg hn_, if_pos hp_, if_neg (by simp only [p_lt, p_le] at *; omega)]) dX1_edge_151
        · refine lv_iconst (pc := 146) (v := (-1)) hx hb dX1_edge_146 (by decide) ?_
          refine lv_goto (pc := 147) (tgt := 151) hx hb dX1_edge_147 (by decide) ?_
          exact ret (-1) () _ _ 151 _ hP hD hS (by rw [eI, if_neg hn_, if_pos hp_, if_pos (by simp only [p_lt, p_le] at *; omega)]) dX1_edge_151
  · refine lv_iload (pc := 11) hx hb dX1_edge_11 (lv_at hl 4 rfl) ?_
    refine lv_aload_n (pc := 13) hx hb dX1_edge_13 rfl (lv_at hl 0 rfl) ?_
    refine m_get (pc := 14) hx hb hts hown hK hP rfl 3 (by decide) q157 (v := .ref (a 1)) rfl dX1_edge_14 ?_
    refine lv_iload_n (pc := 17) hx hb dX1_edge_17 rfl (lv_at hl 2 rfl) ?_
    refine z_ild (pc := 18) hx hb hK hP 2 rfl j rfl (by omega) (by decide) dX1_edge_18 ?_
    refine lv_icmp_ge (pc := 19) (tgt := 76) hx hb dX1_edge_19 (by decide) (fun c19 => ?_) (fun c19 => ?_)
    · have hn_ : ¬ (ys i ≤ y ∧ y < ys j) := by simp only [p_lt, p_le] at *; omega
      refine lv_aload_n (pc := 76) hx hb dX1_edge_76 rfl (lv_at hl 0 rfl) ?_
      refine m_get (pc := 77) hx hb hts hown hK hP rfl 3 (by decide) q157 (v := .ref (a 1)) rfl dX1_edge_77 ?_
      refine lv_iload_n (pc := 80) hx hb dX1_edge_80 rfl (lv_at hl 2 rfl) ?_
      refine z_ild (pc := 81) hx hb hK hP 2 rfl j rfl (by omega) (by decide) dX1_edge_81 ?_
      refine lv_iload (pc := 82) hx hb dX1_edge_82 (lv_at hl 4 rfl) ?_
      refine lv_icmp_gt (pc := 84) (tgt := 152) hx hb dX1_edge_84 (by decide) (fun c84 => ?_) (fun c84 => ?_)
      · have hn2_ : ¬ (ys j ≤ y ∧ y < ys i) := by simp only [p_lt, p_le] at *; omega
        refine lv_iconst (pc := 152) (v := 0) hx hb dX1_edge_152 (by decide) ?_
        exact ret 0 () _ _ 153 _ hP hD hS (by rw [eI, if_neg hn_, if_neg hn2_]) dX1_edge_153
      · refine lv_iload (pc := 87) hx hb dX1_edge_87 (lv_at hl 4 rfl) ?_
        refine lv_aload_n (pc := 89) hx hb dX1_edge_89 rfl (lv_at hl 0 rfl) ?_
        refine m_get (pc := 90) hx hb hts hown hK hP rfl 3 (by decide) q157 (v := .ref (a 1)) rfl dX1_edge_90 ?_
        refine lv_iload_n (pc := 93) hx hb dX1_edge_93 rfl (lv_at hl 1 rfl) ?_
        refine z_ild (pc := 94) hx hb hK hP 2 rfl i rfl (by omega) (by decide) dX1_edge_94 ?_
        refine lv_icmp_ge (pc := 95) (tgt := 152) hx hb dX1_edge_95 (by decide) (fun c95 => ?_) (fun c95 => ?_)
        · have hn2_ : ¬ (ys j ≤ y ∧ y < ys i) := by simp only [p_lt, p_le] at *; omega
          refine lv_iconst (pc := 152) (v := 0) hx hb dX1_edge_152 (by decide) ?_
          exact ret 0 () _ _ 153 _ hP hD hS (by rw [eI, if_neg hn_, if_neg hn2_]) dX1_edge_153
        · have hp_ : ys j ≤ y ∧ y < ys i := by simp only [p_lt, p_le] at *; omega
          refine lv_aload_n (pc := 98) hx hb dX1_edge_98 rfl (lv_at hl 0 rfl) ?_
          refine m_get (pc := 99) hx hb hts hown hK hP rfl 2 (by decide) q156 (v := .ref (a 0)) rfl dX1_edge_99 ?_
          refine lv_iload_n (pc := 102) hx hb dX1_edge_102 rfl (lv_at hl 1 rfl) ?_
          refine z_ild (pc := 103) hx hb hK hP 1 rfl i rfl (by omega) (by decide) dX1_edge_103 ?_
          refine lv_aload_n (pc := 104) hx hb dX1_edge_104 rfl (lv_at hl 0 rfl) ?_
          refine m_get (pc := 105) hx hb hts hown hK hP rfl 2 (by decide) q156 (v := .ref (a 0)) rfl dX1_edge_105 ?_
          refine lv_iload_n (pc := 108) hx hb dX1_edge_108 rfl (lv_at hl 2 rfl) ?_
          refine z_ild (pc := 109) hx hb hK hP 1 rfl j rfl (by omega) (by decide) dX1_edge_109 ?_
          refine lv_isub (pc := 110) hx hb dX1_edge_110 ?_
          refine lv_iload (pc := 111) hx hb dX1_edge_111 (lv_at hl 4 rfl) ?_
          refine lv_aload_n (pc := 113) hx hb dX1_edge_113 rfl (lv_at hl 0 rfl) ?_
          refine m_get (pc := 114) hx hb hts hown hK hP rfl 3 (by decide) q157 (v := .ref (a 1)) rfl dX1_edge_114 ?_
          refine lv_iload_n (pc := 117) hx hb dX1_edge_117 rfl (lv_at hl 2 rfl) ?_
          refine z_ild (pc := 118) hx hb hK hP 2 rfl j rfl (by omega) (by decide) dX1_edge_118 ?_
          refine lv_isub (pc := 119) hx hb dX1_edge_119 ?_
          refine lv_imul (pc := 120) hx hb dX1_edge_120 ?_
          refine lv_iload_n (pc := 121) hx hb dX1_edge_121 rfl (lv_at hl 3 rfl) ?_
          refine lv_aload_n (pc := 122) hx hb dX1_edge_122 rfl (lv_at hl 0 rfl) ?_
          refine m_get (pc := 123) hx hb hts hown hK hP rfl 2 (by decide) q156 (v := .ref (a 0)) rfl dX1_edge_123 ?_
          refine lv_iload_n (pc := 126) hx hb dX1_edge_126 rfl (lv_at hl 2 rfl) ?_
          refine z_ild (pc := 127) hx hb hK hP 1 rfl j rfl (by omega) (by decide) dX1_edge_127 ?_
          refine lv_isub (pc := 128) hx hb dX1_edge_128 ?_
          refine lv_aload_n (pc := 129) hx hb dX1_edge_129 rfl (lv_at hl 0 rfl) ?_
          refine m_get (pc := 130) hx hb hts hown hK hP rfl 3 (by decide) q157 (v := .ref (a 1)) rfl dX1_edge_130 ?_
          refine lv_iload_n (pc := 133) hx hb dX1_edge_133 rfl (lv_at hl 1 rfl) ?_
          refine z_ild (pc := 134) hx hb hK hP 2 rfl i rfl (by omega) (by decide) dX1_edge_134 ?_
          refine lv_aload_n (pc := 135) hx hb dX1_edge_135 rfl (lv_at hl 0 rfl) ?_
          refine m_get (pc := 136) hx hb hts hown hK hP rfl 3 (by decide) q157 (v := .ref (a 1)) rfl dX1_edge_136 ?_
          refine lv_iload_n (pc := 139) hx hb dX1_edge_139 rfl (lv_at hl 2 rfl) ?_
          refine z_ild (pc := 140) hx hb hK hP 2 rfl j rfl (by omega) (by decide) dX1_edge_140 ?_
          refine lv_isub (pc := 141) hx hb dX1_edge_141 ?_
          refine lv_imul (pc := 142) hx hb dX1_edge_142 ?_
          refine lv_icmp_le (pc := 143) (tgt := 150) hx hb dX1_edge_143 (by decide) (fun c143 => ?_) (fun c143 => ?_)
          · refine lv_iconst (pc := 150) (v := 0) hx hb dX1_edge_150 (by decide) ?_
            exact ret 0 () _ _ 151 _ hP hD hS (by rw [eI, if_neg hn_, if_pos hp_, if_neg (by simp only [p_lt, p_le] at *; omega)]) dX1_edge_151
          · refine lv_iconst (pc := 146) (v := (-1)) hx hb dX1_edge_146 (by decide) ?_
            refine lv_goto (pc := 147) (tgt := 151) hx hb dX1_edge_147 (by decide) ?_
            exact ret (-1) () _ _ 151 _ hP hD hS (by rw [eI, if_neg hn_, if_pos hp_, if_pos (by simp only [p_lt, p_le] at *; omega)]) dX1_edge_151
    · have hp_ : ys i ≤ y ∧ y < ys j := by simp only [p_lt, p_le] at *; omega
      refine lv_aload_n (pc := 22) hx hb dX1_edge_22 rfl (lv_at hl 0 rfl) ?_
      refine m_get (pc := 23) hx hb hts hown hK hP rfl 2 (by decide) q156 (v := .ref (a 0)) rfl dX1_edge_23 ?_
      refine lv_iload_n (pc := 26) hx hb dX1_edge_26 rfl (lv_at hl 2 rfl) ?_
      refine z_ild (pc := 27) hx hb hK hP 1 rfl j rfl (by omega) (by decide) dX1_edge_27 ?_
      refine lv_aload_n (pc := 28) hx hb dX1_edge_28 rfl (lv_at hl 0 rfl) ?_
      refine m_get (pc := 29) hx hb hts hown hK hP rfl 2 (by decide) q156 (v := .ref (a 0)) rfl dX1_edge_29 ?_
      refine lv_iload_n (pc := 32) hx hb dX1_edge_32 rfl (lv_at hl 1 rfl) ?_
      refine z_ild (pc := 33) hx hb hK hP 1 rfl i rfl (by omega) (by decide) dX1_edge_33 ?_
      refine lv_isub (pc := 34) hx hb dX1_edge_34 ?_
      refine lv_iload (pc := 35) hx hb dX1_edge_35 (lv_at hl 4 rfl) ?_
      refine lv_aload_n (pc := 37) hx hb dX1_edge_37 rfl (lv_at hl 0 rfl) ?_
      refine m_get (pc := 38) hx hb hts hown hK hP rfl 3 (by decide) q157 (v := .ref (a 1)) rfl dX1_edge_38 ?_
      refine lv_iload_n (pc := 41) hx hb dX1_edge_41 rfl (lv_at hl 1 rfl) ?_
      refine z_ild (pc := 42) hx hb hK hP 2 rfl i rfl (by omega) (by decide) dX1_edge_42 ?_
      refine lv_isub (pc := 43) hx hb dX1_edge_43 ?_
      refine lv_imul (pc := 44) hx hb dX1_edge_44 ?_
      refine lv_iload_n (pc := 45) hx hb dX1_edge_45 rfl (lv_at hl 3 rfl) ?_
      refine lv_aload_n (pc := 46) hx hb dX1_edge_46 rfl (lv_at hl 0 rfl) ?_
      refine m_get (pc := 47) hx hb hts hown hK hP rfl 2 (by decide) q156 (v := .ref (a 0)) rfl dX1_edge_47 ?_
      refine lv_iload_n (pc := 50) hx hb dX1_edge_50 rfl (lv_at hl 1 rfl) ?_
      refine z_ild (pc := 51) hx hb hK hP 1 rfl i rfl (by omega) (by decide) dX1_edge_51 ?_
      refine lv_isub (pc := 52) hx hb dX1_edge_52 ?_
      refine lv_aload_n (pc := 53) hx hb dX1_edge_53 rfl (lv_at hl 0 rfl) ?_
      refine m_get (pc := 54) hx hb hts hown hK hP rfl 3 (by decide) q157 (v := .ref (a 1)) rfl dX1_edge_54 ?_
      refine lv_iload_n (pc := 57) hx hb dX1_edge_57 rfl (lv_at hl 2 rfl) ?_
      refine z_ild (pc := 58) hx hb hK hP 2 rfl j rfl (by omega) (by decide) dX1_edge_58 ?_
      refine lv_aload_n (pc := 59) hx hb dX1_edge_59 rfl (lv_at hl 0 rfl) ?_
      refine m_get (pc := 60) hx hb hts hown hK hP rfl 3 (by decide) q157 (v := .ref (a 1)) rfl dX1_edge_60 ?_
      refine lv_iload_n (pc := 63) hx hb dX1_edge_63 rfl (lv_at hl 1 rfl) ?_
      refine z_ild (pc := 64) hx hb hK hP 2 rfl i rfl (by omega) (by decide) dX1_edge_64 ?_
      refine lv_isub (pc := 65) hx hb dX1_edge_65 ?_
      refine lv_imul (pc := 66) hx hb dX1_edge_66 ?_
      refine lv_icmp_le (pc := 67) (tgt := 74) hx hb dX1_edge_67 (by decide) (fun c67 => ?_) (fun c67 => ?_)
      · refine lv_iconst (pc := 74) (v := 0) hx hb dX1_edge_74 (by decide) ?_
        exact ret 0 () _ _ 75 _ hP hD hS (by rw [eI, if_pos hp_, if_neg (by simp only [p_lt, p_le] at *; omega)]) dX1_edge_75
      · refine lv_iconst (pc := 70) (v := 1) hx hb dX1_edge_70 (by decide) ?_
        refine lv_goto (pc := 71) (tgt := 75) hx hb dX1_edge_71 (by decide) ?_
        exact ret 1 () _ _ 75 _ hP hD hS (by rw [eI, if_pos hp_, if_pos (by simp only [p_lt, p_le] at *; omega)]) dX1_edge_75

set_option maxHeartbeats 4000000 in
/-- winding -/
theorem tM_winding (l : Launch) (D : va_G) (d : ClassId) (h : Nat) (a : Nat → Nat) (sz n c : Nat) (fi xs ys col : Nat → Int32) (x y : Int32) (hsh : shp n c fi xs ys) : zI l D d yX1_winding cX1_winding 8 .int (zR 1 30) [.ref h, .int x, .int y] sz (wM h a d n c fi xs ys col) (fun r (_ : Unit) => r = wdR n fi xs ys x y) (fun _ => (wM h a d n c fi xs ys col)) := by
  refine z_startI (by decide) (Nat.le_of_ble_eq_true rfl) ?_
  intro p e s m args below meth cd A Q ls hx hb hml hown hts hA hK hP hD hS ret hl
  have hown : s.vm.findClass RX1 = some m.cls := hown
  have hl : lv_has ls 8 [(0, .ref h), (1, .int x), (2, .int y)] := hl
  obtain ⟨hn4, hc12, hF, hF0, hFn, hFm, hok⟩ := hsh
  refine lv_aload_n (pc := 0) hx hb dX1_winding_0 rfl (lv_at hl 0 rfl) ?_
  refine lv_iload_n (pc := 1) hx hb dX1_winding_1 rfl (lv_at hl 1 rfl) ?_
  refine z_callI (pc := 2) (As := [.int x]) (rest := []) hx hb hml hown hts hA hK hP hD hS (tM_out l D d h a s.heap.size n c fi xs ys col x) (cwV 1 hts (lw_V q177 q179 qs8 q15 q180) rfl rfl rfl (by decide +kernel) ⟨Nat.le_of_ble_eq_true rfl, Nat.le_of_ble_eq_true rfl⟩) (va_recv hK hP (ci := 1) (q0 := 0) rfl rfl) rfl hl.1 rfl (Nat.le_of_ble_eq_true rfl) dX1_winding_2 (Nat.le_refl _) (Nat.le_refl _) (fun r_ u_ H locs hr_ hP hD hS => ?_)
  refine lv_if_ne (pc := 5) (tgt := 16) hx hb dX1_winding_5 (by decide) (fun c5 => ?_) (fun c5 => ?_)
  · have hb_ : badP x y := by rcases b_yes hr_ c5 with q | q; exact Or.inl q; exact Or.inr (Or.inl q)
    refine lv_iconst (pc := 16) (v := 0) hx hb dX1_winding_16 (by decide) ?_
    exact ret 0 () _ _ 17 _ hP hD hS (by rw [wdR, if_pos hb_]) dX1_winding_17
  · refine lv_aload_n (pc := 8) hx hb dX1_winding_8 rfl (lv_at hl 0 rfl) ?_
    refine lv_iload_n (pc := 9) hx hb dX1_winding_9 rfl (lv_at hl 2 rfl) ?_
    refine z_callI (pc := 10) (As := [.int y]) (rest := []) hx hb hml hown hts hA hK hP hD hS (tM_out l D d h a H.size n c fi xs ys col y) (cwV 1 hts (lw_V q177 q179 qs8 q15 q180) rfl rfl rfl (by decide +kernel) ⟨Nat.le_of_ble_eq_true rfl, Nat.le_of_ble_eq_true rfl⟩) (va_recv hK hP (ci := 1) (q0 := 0) rfl rfl) rfl hl.1 rfl (Nat.le_of_ble_eq_true rfl) dX1_winding_10 (Nat.le_refl _) (Nat.le_refl _) (fun r2_ u_ H locs hr2_ hP hD hS => ?_)
    refine lv_if_eq (pc := 13) (tgt := 18) hx hb dX1_winding_13 (by decide) (fun c13 => ?_) (fun c13 => ?_)
    · have hb_ : ¬ badP x y := by have q1 := b_no hr_ c5; have q2 := b_no hr2_ c13; intro q; rcases q with q | q | q | q; exact q1 (Or.inl q); exact q1 (Or.inr q); exact q2 (Or.inl q); exact q2 (Or.inr q)
      refine lv_iconst (pc := 18) (v := 0) hx hb dX1_winding_18 (by decide) ?_
      refine lv_istore_n (pc := 19) (lv' := [(3, .int 0), (0, .ref h), (1, .int x), (2, .int y)]) hx hb dX1_winding_19 rfl hl (by decide) rfl (fun ls hl => ?_)
      refine lv_iconst (pc := 20) (v := 0) hx hb dX1_winding_20 (by decide) ?_
      refine lv_istore (pc := 21) (lv' := [(4, .int 0), (3, .int 0), (0, .ref h), (1, .int x), (2, .int y)]) hx hb dX1_winding_21 hl (by decide) rfl (fun ls hl => ?_)
      have loop : ∀ (N : Nat) (i : Nat), (n < i + N) → (i ≤ n) → ∀ (H : Heap) (locs : List Loc), va_P D vwCl (wM h a d n c fi xs ys col) H → va_D A (wM h a d n c fi xs ys col) → va_S A s.heap H locs → ∀ (ls : Array Slot), lv_has ls 8 [(0, .ref h), (1, .int x), (2, .int y), (3, .int (wOut fi xs ys x y i)), (4, .int (nI i))] → W p l e (zR 1 30) s m args below meth cd H locs 0 0 Q (F0 m 23 ls []) := by
        intro N
        induction N with
        | zero => intro i hN hin; exfalso; omega
        | succ N ih =>
          intro i hN hin H locs hP hD hS ls hl
          refine lv_iload (pc := 23) hx hb dX1_winding_23 (lv_at hl 4 rfl) ?_
          refine lv_aload_n (pc := 25) hx hb dX1_winding_25 rfl (lv_at hl 0 rfl) ?_
          refine m_get (pc := 26) hx hb hts hown hK hP rfl 1 (by decide) q155 (v := .int (nI n)) rfl dX1_winding_26 ?_
          refine lv_icmp_ge (pc := 29) (tgt := 116) hx hb dX1_winding_29 (by decide) (fun c29 => ?_) (fun c29 => ?_)
          · have hi : i = n := by rcases Nat.lt_or_ge i n with q | q; exact absurd c29 (nI_ge (b := n) q (by omega)); omega
            subst hi
            refine lv_iload_n (pc := 116) hx hb dX1_winding_116 rfl (lv_at hl 3 rfl) ?_
            exact ret (wOut fi xs ys x y i) () _ _ 117 _ hP hD hS (by rw [wdR, if_neg hb_]) dX1_winding_117
          · have hi : i < n := by rcases Nat.lt_or_ge i n with q | q; exact q; exact absurd (nI_le (a := n) q (by omega)) c29
            have hF1 := hF i (by omega)
            have hF2 := hF (i + 1) (by omega)
            have hFm1 := hFm i hi
            refine lv_aload_n (pc := 32) hx hb dX1_winding_32 rfl (lv_at hl 0 rfl) ?_
            refine m_get (pc := 33) hx hb hts hown hK hP rfl 4 (by decide) q158 (v := .ref (a 2)) rfl dX1_winding_33 ?_
            refine lv_iload (pc := 36) hx hb dX1_winding_36 (lv_at hl 4 rfl) ?_
            refine z_ild (pc := 38) hx hb hK hP 3 rfl i rfl (by omega) (by decide) dX1_winding_38 ?_
            refine z_eq (y := nI (F_ fi i)) hF1.1 ?_
            refine lv_istore (pc := 39) (lv' := [(5, .int (nI (F_ fi i))), (0, .ref h), (1, .int x), (2, .int y), (3, .int (wOut fi xs ys x y i)), (4, .int (nI i))]) hx hb dX1_winding_39 hl (by decide) rfl (fun ls hl => ?_)
            have inner : ∀ (M : Nat) (j : Nat), (F_ fi (i + 1) < j + M) → (F_ fi i ≤ j) → (j ≤ F_ fi (i + 1)) → ∀ (H : Heap) (locs : List Loc), va_P D vwCl (wM h a d n c fi xs ys col) H → va_D A (wM h a d n c fi xs ys col) → va_S A s.heap H locs → ∀ (ls : Array Slot), lv_has ls 8 [(0, .ref h), (1, .int x), (2, .int y), (3, .int (wOut fi xs ys x y i + wIn fi xs ys x y i (j - F_ fi i))), (4, .int (nI i)), (5, .int (nI j))] → W p l e (zR 1 30) s m args below meth cd H locs 0 0 Q (F0 m 41 ls []) := by
              intro M
              induction M with
              | zero => intro j hN2 hj1 hj2; exfalso; omega
              | succ M ihj =>
                intro j hN2 hj1 hj2 H locs hP hD hS ls hl
                refine lv_iload (pc := 41) hx hb dX1_winding_41 (lv_at hl 5 rfl) ?_
                refine lv_aload_n (pc := 43) hx hb dX1_winding_43 rfl (lv_at hl 0 rfl) ?_
                refine m_get (pc := 44) hx hb hts hown hK hP rfl 4 (by decide) q158 (v := .ref (a 2)) rfl dX1_winding_44 ?_
                refine lv_iload (pc := 47) hx hb dX1_winding_47 (lv_at hl 4 rfl) ?_
                refine lv_iconst (pc := 49) (v := 1) hx hb dX1_winding_49 (by decide) ?_
                refine lv_iadd (pc := 50) hx hb dX1_winding_50 ?_
                refine z_eq (y := nI (i + 1)) (nI_1 i) ?_
                refine z_ild (pc := 51) hx hb hK hP 3 rfl (i + 1) rfl (by omega) (by decide) dX1_winding_51 ?_
                refine z_eq (y := nI (F_ fi (i + 1))) hF2.1 ?_
                refine lv_icmp_ge (pc := 52) (tgt := 110) hx hb dX1_winding_52 (by decide) (fun c52 => ?_) (fun c52 => ?_)
                · have hj : j = F_ fi (i + 1) := by rcases Nat.lt_or_ge j (F_ fi (i + 1)) with q | q; exact absurd c52 (nI_ge (b := F_ fi (i + 1)) q (by omega)); omega
                  have he : wOut fi xs ys x y i + wIn fi xs ys x y i (j - F_ fi i) = wOut fi xs ys x y (i + 1) := by rw [hj]; rfl
                  rw [he] at hl
                  refine lv_iinc (pc := 110) (v := nI (i + 1)) (lv' := [(4, .int (nI (i + 1))), (0, .ref h), (1, .int x), (2, .int y), (3, .int (wOut fi xs ys x y (i + 1))), (5, .int (nI j))]) hx hb dX1_winding_110 hl (k := 4) rfl (nI_1 i) (by decide) rfl (fun ls hl => ?_)
                  refine lv_goto (pc := 113) (tgt := 23) hx hb dX1_winding_113 (by decide) ?_
                  exact ih (i + 1) (by omega) (by omega) _ _ hP hD hS ls (lv_sub hl [1, 2, 3, 4, 0] rfl)
                · have hj : j < F_ fi (i + 1) := by rcases Nat.lt_or_ge j (F_ fi (i + 1)) with q | q; exact q; exact absurd (nI_le (a := F_ fi (i + 1)) q (by omega)) c52
                  have J85 : ∀ (nx : Int32) (H : Heap) (locs : List Loc), (nx = nI (nxt fi i j)) → va_P D vwCl (wM h a d n c fi xs ys col) H → va_D A (wM h a d n c fi xs ys col) → va_S A s.heap H locs → ∀ (ls : Array Slot), lv_has ls 8 [(0, .ref h), (1, .int x), (2, .int y), (3, .int (wOut fi xs ys x y i + wIn fi xs ys x y i (j - F_ fi i))), (4, .int (nI i)), (5, .int (nI j))] → W p l e (zR 1 30) s m args below meth cd H locs 0 0 Q (F0 m 85 ls [.int nx]) := by
                    intro nx H locs hnx hP hD hS ls hl
                    subst hnx
                    obtain ⟨hnx1, hnx2⟩ := nxt_lt ⟨hn4, hc12, hF, hF0, hFn, hFm, hok⟩ hi hj1 hj
                    refine lv_istore (pc := 85) (lv' := [(6, .int (nI (nxt fi i j))), (0, .ref h), (1, .int x), (2, .int y), (3, .int (wOut fi xs ys x y i + wIn fi xs ys x y i (j - F_ fi i))), (4, .int (nI i)), (5, .int (nI j))]) hx hb dX1_winding_85 hl (by decide) rfl (fun ls hl => ?_)
                    refine lv_aload_n (pc := 87) hx hb dX1_winding_87 rfl (lv_at hl 1 rfl) ?_
                    refine lv_iload (pc := 88) hx hb dX1_winding_88 (lv_at hl 6 rfl) ?_
                    refine lv_iload (pc := 90) hx hb dX1_winding_90 (lv_at hl 0 rfl) ?_
                    refine lv_iload_n (pc := 92) hx hb dX1_winding_92 rfl (lv_at hl 2 rfl) ?_
                    refine lv_iload_n (pc := 93) hx hb dX1_winding_93 rfl (lv_at hl 3 rfl) ?_
                    refine z_callI (pc := 94) (As := [.int (nI j), .int (nI (nxt fi i j)), .int x, .int y]) (rest := []) hx hb hml hown hts hA hK hP hD hS (tM_edge l D d h a H.size n c fi xs ys col j (nxt fi i j) x y (by omega) (by omega)) (cwV 4 hts (lw_V q221 q223 qs12 q15 q224) rfl rfl rfl (by decide +kernel) ⟨Nat.le_of_ble_eq_true rfl, Nat.le_of_ble_eq_true rfl⟩) (va_recv hK hP (ci := 1) (q0 := 0) rfl rfl) rfl hl.1 rfl (Nat.le_of_ble_eq_true rfl) dX1_winding_94 (Nat.le_refl _) (Nat.le_refl _) (fun r_ u_ H locs hr_ hP hD hS => ?_)
                    refine lv_istore (pc := 97) (lv' := [(7, .int r_), (6, .int (nI (nxt fi i j))), (0, .ref h), (1, .int x), (2, .int y), (3, .int (wOut fi xs ys x y i + wIn fi xs ys x y i (j - F_ fi i))), (4, .int (nI i)), (5, .int (nI j))]) hx hb dX1_winding_97 hl (by decide) rfl (fun ls hl => ?_)
                    refine lv_iload_n (pc := 99) hx hb dX1_winding_99 rfl (lv_at hl 5 rfl) ?_
                    refine lv_iload (pc := 100) hx hb dX1_winding_100 (lv_at hl 0 rfl) ?_
                    refine lv_iadd (pc := 102) hx hb dX1_winding_102 ?_
                    refine z_eq (y := wOut fi xs ys x y i + wIn fi xs ys x y i (j + 1 - F_ fi i)) (by rw [hr_]; exact wIn_step hj1 _) ?_
                    refine lv_istore_n (pc := 103) (lv' := [(3, .int (wOut fi xs ys x y i + wIn fi xs ys x y i (j + 1 - F_ fi i))), (7, .int r_), (6, .int (nI (nxt fi i j))), (0, .ref h), (1, .int x), (2, .int y), (4, .int (nI i)), (5, .int (nI j))]) hx hb dX1_winding_103 rfl hl (by decide) rfl (fun ls hl => ?_)
                    refine lv_iinc (pc := 104) (v := nI (j + 1)) (lv' := [(5, .int (nI (j + 1))), (3, .int (wOut fi xs ys x y i + wIn fi xs ys x y i (j + 1 - F_ fi i))), (7, .int r_), (6, .int (nI (nxt fi i j))), (0, .ref h), (1, .int x), (2, .int y), (4, .int (nI i))]) hx hb dX1_winding_104 hl (k := 7) rfl (nI_1 j) (by decide) rfl (fun ls hl => ?_)
                    refine lv_goto (pc := 107) (tgt := 41) hx hb dX1_winding_107 (by decide) ?_
                    exact ihj (j + 1) (by omega) (by omega) (by omega) _ _ hP hD hS ls (lv_sub hl [4, 5, 6, 1, 7, 0] rfl)
                  refine lv_iload (pc := 55) hx hb dX1_winding_55 (lv_at hl 5 rfl) ?_
                  refine lv_iconst (pc := 57) (v := 1) hx hb dX1_winding_57 (by decide) ?_
                  refine lv_iadd (pc := 58) hx hb dX1_winding_58 ?_
                  refine z_eq (y := nI (j + 1)) (nI_1 j) ?_
                  refine lv_aload_n (pc := 59) hx hb dX1_winding_59 rfl (lv_at hl 0 rfl) ?_
                  refine m_get (pc := 60) hx hb hts hown hK hP rfl 4 (by decide) q158 (v := .ref (a 2)) rfl dX1_winding_60 ?_
                  refine lv_iload (pc := 63) hx hb dX1_winding_63 (lv_at hl 4 rfl) ?_
                  refine lv_iconst (pc := 65) (v := 1) hx hb dX1_winding_65 (by decide) ?_
                  refine lv_iadd (pc := 66) hx hb dX1_winding_66 ?_
                  refine z_eq (y := nI (i + 1)) (nI_1 i) ?_
                  refine z_ild (pc := 67) hx hb hK hP 3 rfl (i + 1) rfl (by omega) (by decide) dX1_winding_67 ?_
                  refine z_eq (y := nI (F_ fi (i + 1))) hF2.1 ?_
                  refine lv_icmp_ge (pc := 68) (tgt := 78) hx hb dX1_winding_68 (by decide) (fun c68 => ?_) (fun c68 => ?_)
                  · refine lv_aload_n (pc := 78) hx hb dX1_winding_78 rfl (lv_at hl 0 rfl) ?_
                    refine m_get (pc := 79) hx hb hts hown hK hP rfl 4 (by decide) q158 (v := .ref (a 2)) rfl dX1_winding_79 ?_
                    refine lv_iload (pc := 82) hx hb dX1_winding_82 (lv_at hl 4 rfl) ?_
                    refine z_ild (pc := 84) hx hb hK hP 3 rfl i rfl (by omega) (by decide) dX1_winding_84 ?_
                    refine z_eq (y := nI (F_ fi i)) hF1.1 ?_
                    exact J85 _ _ _ (by rw [nxt, if_neg (fun q => nI_ge q (by omega) c68)]) hP hD hS ls (lv_sub hl [0, 1, 2, 3, 4, 5] rfl)
                  · refine lv_iload (pc := 71) hx hb dX1_winding_71 (lv_at hl 5 rfl) ?_
                    refine lv_iconst (pc := 73) (v := 1) hx hb dX1_winding_73 (by decide) ?_
                    refine lv_iadd (pc := 74) hx hb dX1_winding_74 ?_
                    refine z_eq (y := nI (j + 1)) (nI_1 j) ?_
                    refine lv_goto (pc := 75) (tgt := 85) hx hb dX1_winding_75 (by decide) ?_
                    exact J85 _ _ _ (by rw [nxt, if_pos (by rcases Nat.lt_or_ge (j + 1) (F_ fi (i + 1)) with q | q; exact q; exact absurd (nI_le q (by omega)) c68)]) hP hD hS ls (lv_sub hl [0, 1, 2, 3, 4, 5] rfl)
            have he : wOut fi xs ys x y i + wIn fi xs ys x y i (F_ fi i - F_ fi i) = wOut fi xs ys x y i := by rw [Nat.sub_self]; show _ + 0 = _; grind
            exact inner (F_ fi (i + 1) + 1) (F_ fi i) (by omega) (Nat.le_refl _) hFm1 _ _ hP hD hS ls (by rw [he]; exact lv_sub hl [1, 2, 3, 4, 5, 0] rfl)
      exact loop (n + 1) 0 (by omega) (Nat.zero_le _) _ _ hP hD hS ls (lv_sub hl [2, 3, 4, 1, 0] rfl)
    · have hb_ : badP x y := by rcases b_yes hr2_ c13 with q | q; exact Or.inr (Or.inr (Or.inl q)); exact Or.inr (Or.inr (Or.inr q))
      refine lv_iconst (pc := 16) (v := 0) hx hb dX1_winding_16 (by decide) ?_
      exact ret 0 () _ _ 17 _ hP hD hS (by rw [wdR, if_pos hb_]) dX1_winding_17

set_option maxHeartbeats 4000000 in
/-- inside -/
theorem tM_inside (l : Launch) (D : va_G) (d : ClassId) (h : Nat) (a : Nat → Nat) (sz n c : Nat) (fi xs ys col : Nat → Int32) (x y o : Int32) (hsh : shp n c fi xs ys) : zI l D d yX1_inside cX1_inside 5 .boolean (zR 2 57) [.ref h, .int x, .int y, .int o] sz (wM h a d n c fi xs ys col) (fun r (_ : Unit) => r = insI (wdR n fi xs ys x y) o) (fun _ => (wM h a d n c fi xs ys col)) := by
  refine z_startZ (by decide) (Nat.le_of_ble_eq_true rfl) ?_
  intro p e s m args below meth cd A Q ls hx hb hml hown hts hA hK hP hD hS ret hl
  have hown : s.vm.findClass RX1 = some m.cls := hown
  have hl : lv_has ls 5 [(0, .ref h), (1, .int x), (2, .int y), (3, .int o)] := hl
  refine lv_aload_n (pc := 0) hx hb dX1_inside_0 rfl (lv_at hl 0 rfl) ?_
  refine lv_iload_n (pc := 1) hx hb dX1_inside_1 rfl (lv_at hl 1 rfl) ?_
  refine lv_iload_n (pc := 2) hx hb dX1_inside_2 rfl (lv_at hl 2 rfl) ?_
  refine z_callI (pc := 3) (As := [.int x, .int y]) (rest := []) hx hb hml hown hts hA hK hP hD hS (tM_winding l D d h a s.heap.size n c fi xs ys col x y hsh) (cwV 2 hts (lw_V q217 q218 q219 q15 q220) rfl rfl rfl (by decide +kernel) ⟨Nat.le_of_ble_eq_true rfl, Nat.le_of_ble_eq_true rfl⟩) (va_recv hK hP (ci := 1) (q0 := 0) rfl rfl) rfl hl.1 rfl (Nat.le_of_ble_eq_true rfl) dX1_inside_3 (Nat.le_refl _) (Nat.le_refl _) (fun r_ u_ H locs hr_ hP hD hS => ?_)
  rw [← hr_] at ret
  refine lv_istore (pc := 6) (lv' := [(4, .int r_), (0, .ref h), (1, .int x), (2, .int y), (3, .int o)]) hx hb dX1_inside_6 hl (by decide) rfl (fun ls hl => ?_)
  refine lv_iload_n (pc := 8) hx hb dX1_inside_8 rfl (lv_at hl 4 rfl) ?_
  refine lv_if_eq (pc := 9) (tgt := 28) hx hb dX1_inside_9 (by decide) (fun c9 => ?_) (fun c9 => ?_)
  · refine lv_iload (pc := 28) hx hb dX1_inside_28 (lv_at hl 0 rfl) ?_
    refine lv_if_eq (pc := 30) (tgt := 37) hx hb dX1_inside_30 (by decide) (fun c30 => ?_) (fun c30 => ?_)
    · refine lv_iconst (pc := 37) (v := 0) hx hb dX1_inside_37 (by decide) ?_
      exact ret 0 () _ _ 38 _ hP hD hS (by rw [insI, if_pos c9, if_pos c30]) dX1_inside_38 (Or.inl rfl)
    · refine lv_iconst (pc := 33) (v := 1) hx hb dX1_inside_33 (by decide) ?_
      refine lv_goto (pc := 34) (tgt := 38) hx hb dX1_inside_34 (by decide) ?_
      exact ret 1 () _ _ 38 _ hP hD hS (by rw [insI, if_pos c9, if_neg c30]) dX1_inside_38 (Or.inr rfl)
  · refine lv_iload (pc := 12) hx hb dX1_inside_12 (lv_at hl 0 rfl) ?_
    refine lv_iconst (pc := 14) (v := 1) hx hb dX1_inside_14 (by decide) ?_
    refine lv_iand (pc := 15) hx hb dX1_inside_15 ?_
    refine lv_iconst (pc := 16) (v := 1) hx hb dX1_inside_16 (by decide) ?_
    refine lv_icmp_ne (pc := 17) (tgt := 24) hx hb dX1_inside_17 (by decide) (fun c17 => ?_) (fun c17 => ?_)
    · refine lv_iconst (pc := 24) (v := 0) hx hb dX1_inside_24 (by decide) ?_
      refine lv_goto (pc := 25) (tgt := 38) hx hb dX1_inside_25 (by decide) ?_
      exact ret 0 () _ _ 38 _ hP hD hS (by rw [insI, if_neg c9, if_neg c17]) dX1_inside_38 (Or.inl rfl)
    · refine lv_iconst (pc := 20) (v := 1) hx hb dX1_inside_20 (by decide) ?_
      refine lv_goto (pc := 21) (tgt := 38) hx hb dX1_inside_21 (by decide) ?_
      exact ret 1 () _ _ 38 _ hP hD hS (by rw [insI, if_neg c9, if_pos c17]) dX1_inside_38 (Or.inr rfl)

theorem smp_wd {n : Nat} {fi xs ys : Nat → Int32} {o : Int32} {L s : Nat} (hL : L < 32) (hs : s < 32) : insI (wdR n fi xs ys (nI (2 * s + 1)) (nI (2 * L + 1))) o = smp n fi xs ys o L s := by
  have e1 : (nI (2 * s + 1)).toInt = (2 * s + 1 : Nat) := nI_toInt (by omega)
  have e2 : (nI (2 * L + 1)).toInt = (2 * L + 1 : Nat) := nI_toInt (by omega)
  rw [wdR, if_neg (by simp only [badP, p_lt, L0, L64, e1, e2]; omega)]
  rfl
theorem cgR_Kp {n : Nat} {fi xs ys : Nat → Int32} {o : Int32} {i : Nat} (hi : i < 256) : cgR n fi xs ys (nI (i / 16)) (nI (i % 16)) o = Kp n fi xs ys o i := by
  rw [cgR, if_neg (badR_nI (by omega) (by omega)), nI_clamp (by omega), nI_clamp (by omega)]
  rfl
set_option maxHeartbeats 4000000 in
/-- coverage -/
theorem tM_coverage (l : Launch) (D : va_G) (d : ClassId) (h : Nat) (a : Nat → Nat) (sz n c : Nat) (fi xs ys col : Nat → Int32) (r q o : Int32) (hsh : shp n c fi xs ys) : zI l D d yX1_coverage cX1_coverage 6 .int (zR 3 81) [.ref h, .int r, .int q, .int o] sz (wM h a d n c fi xs ys col) (fun rr (_ : Unit) => rr = cgR n fi xs ys r q o) (fun _ => (wM h a d n c fi xs ys col)) := by
  refine z_startI (by decide) (Nat.le_of_ble_eq_true rfl) ?_
  intro p e s m args below meth cd A Q ls hx hb hml hown hts hA hK hP hD hS ret hl
  have hown : s.vm.findClass RX1 = some m.cls := hown
  have hl : lv_has ls 6 [(0, .ref h), (1, .int r), (2, .int q), (3, .int o)] := hl
  refine lv_aload_n (pc := 0) hx hb dX1_coverage_0 rfl (lv_at hl 0 rfl) ?_
  refine lv_iload_n (pc := 1) hx hb dX1_coverage_1 rfl (lv_at hl 1 rfl) ?_
  refine lv_iload_n (pc := 2) hx hb dX1_coverage_2 rfl (lv_at hl 2 rfl) ?_
  refine z_callI (pc := 3) (As := [.int r, .int q]) (rest := []) hx hb hml hown hts hA hK hP hD hS (tM_badPixel l D d h a s.heap.size n c fi xs ys col r q) (cwV 2 hts (lw_V q209 q211 qs10 q15 q212) rfl rfl rfl (by decide +kernel) ⟨Nat.le_of_ble_eq_true rfl, Nat.le_of_ble_eq_true rfl⟩) (va_recv hK hP (ci := 1) (q0 := 0) rfl rfl) rfl hl.1 rfl (Nat.le_of_ble_eq_true rfl) dX1_coverage_3 (Nat.le_refl _) (Nat.le_refl _) (fun r_ u_ H locs hr_ hP hD hS => ?_)
  refine lv_if_eq (pc := 6) (tgt := 12) hx hb dX1_coverage_6 (by decide) (fun c6 => ?_) (fun c6 => ?_)
  · have hb_ := b_no hr_ c6
    obtain ⟨R_, C_, hR, hC, rfl, rfl⟩ := badR_no hb_
    refine lv_iconst (pc := 12) (v := 0) hx hb dX1_coverage_12 (by decide) ?_
    refine lv_istore (pc := 13) (lv' := [(4, .int 0), (0, .ref h), (1, .int (nI R_)), (2, .int (nI C_)), (3, .int o)]) hx hb dX1_coverage_13 hl (by decide) rfl (fun ls hl => ?_)
    refine lv_iconst (pc := 15) (v := 0) hx hb dX1_coverage_15 (by decide) ?_
    refine lv_istore (pc := 16) (lv' := [(5, .int 0), (4, .int 0), (0, .ref h), (1, .int (nI R_)), (2, .int (nI C_)), (3, .int o)]) hx hb dX1_coverage_16 hl (by decide) rfl (fun ls hl => ?_)
    have loop : ∀ (N : Nat) (i : Nat), (4 < i + N) → (i ≤ 4) → ∀ (H : Heap) (locs : List Loc), va_P D vwCl (wM h a d n c fi xs ys col) H → va_D A (wM h a d n c fi xs ys col) → va_S A s.heap H locs → ∀ (ls : Array Slot), lv_has ls 6 [(0, .ref h), (1, .int (nI R_)), (2, .int (nI C_)), (3, .int o), (4, .int (kap (smp n fi xs ys o) R_ C_ i)), (5, .int (nI i))] → W p l e (zR 3 81) s m args below meth cd H locs 0 0 Q (F0 m 18 ls []) := by
      intro N
      induction N with
      | zero => intro i hN hi4; exfalso; omega
      | succ N ih =>
        intro i hN hi4 H locs hP hD hS ls hl
        refine lv_iload (pc := 18) hx hb dX1_coverage_18 (lv_at hl 5 rfl) ?_
        refine lv_iconst (pc := 20) (v := 4) hx hb dX1_coverage_20 (by decide) ?_
        refine lv_icmp_ge (pc := 21) (tgt := 65) hx hb dX1_coverage_21 (by decide) (fun c21 => ?_) (fun c21 => ?_)
        · have hi : i = 4 := by rcases Nat.lt_or_ge i 4 with q | q; exact absurd c21 (nI_ge (b := 4) q (by omega)); omega
          subst hi
          refine lv_iload (pc := 65) hx hb dX1_coverage_65 (lv_at hl 4 rfl) ?_
          exact ret (kap (smp n fi xs ys o) R_ C_ 4) () _ _ 67 _ hP hD hS (by rw [cgR, if_neg hb_, nI_clamp (by omega), nI_clamp (by omega)]) dX1_coverage_67
        · have hi : i < 4 := by rcases Nat.lt_or_ge i 4 with q | q; exact q; exact absurd (nI_le (a := 4) q (by omega)) c21
          refine lv_aload_n (pc := 24) hx hb dX1_coverage_24 rfl (lv_at hl 0 rfl) ?_
          refine lv_iconst (pc := 25) (v := 4) hx hb dX1_coverage_25 (by decide) ?_
          refine lv_iload_n (pc := 26) hx hb dX1_coverage_26 rfl (lv_at hl 2 rfl) ?_
          refine lv_imul (pc := 27) hx hb dX1_coverage_27 ?_
          refine lv_iconst (pc := 28) (v := 1) hx hb dX1_coverage_28 (by decide) ?_
          refine lv_iadd (pc := 29) hx hb dX1_coverage_29 ?_
          refine lv_iconst (pc := 30) (v := 2) hx hb dX1_coverage_30 (by decide) ?_
          refine lv_iload (pc := 31) hx hb dX1_coverage_31 (lv_at hl 5 rfl) ?_
          refine lv_iconst (pc := 33) (v := 2) hx hb dX1_coverage_33 (by decide) ?_
          refine lv_irem (pc := 34) hx hb dX1_coverage_34 (by decide) ?_
          refine lv_imul (pc := 35) hx hb dX1_coverage_35 ?_
          refine lv_iadd (pc := 36) hx hb dX1_coverage_36 ?_
          refine z_eq (y := nI (2 * (2 * C_ + i % 2) + 1)) (by rw [show (4 : Int32) = nI 4 from rfl, show (2 : Int32) = nI 2 from rfl, show (1 : Int32) = nI 1 from rfl, pk_rem (by omega) (by decide) (by decide), pk_mul, pk_mul, nI_add, nI_add]; congr 1; omega) ?_
          refine lv_iconst (pc := 37) (v := 4) hx hb dX1_coverage_37 (by decide) ?_
          refine lv_iload_n (pc := 38) hx hb dX1_coverage_38 rfl (lv_at hl 1 rfl) ?_
          refine lv_imul (pc := 39) hx hb dX1_coverage_39 ?_
          refine lv_iconst (pc := 40) (v := 1) hx hb dX1_coverage_40 (by decide) ?_
          refine lv_iadd (pc := 41) hx hb dX1_coverage_41 ?_
          refine lv_iconst (pc := 42) (v := 2) hx hb dX1_coverage_42 (by decide) ?_
          refine lv_iload (pc := 43) hx hb dX1_coverage_43 (lv_at hl 5 rfl) ?_
          refine lv_iconst (pc := 45) (v := 2) hx hb dX1_coverage_45 (by decide) ?_
          refine lv_idiv (pc := 46) hx hb dX1_coverage_46 (by decide) ?_
          refine lv_imul (pc := 47) hx hb dX1_coverage_47 ?_
          refine lv_iadd (pc := 48) hx hb dX1_coverage_48 ?_
          refine z_eq (y := nI (2 * (2 * R_ + i / 2) + 1)) (by rw [show (4 : Int32) = nI 4 from rfl, show (2 : Int32) = nI 2 from rfl, show (1 : Int32) = nI 1 from rfl, pk_div (by omega) (by decide) (by decide), pk_mul, pk_mul, nI_add, nI_add]; congr 1; omega) ?_
          refine lv_iload_n (pc := 49) hx hb dX1_coverage_49 rfl (lv_at hl 3 rfl) ?_
          refine z_callI (pc := 50) (As := [.int (nI (2 * (2 * C_ + i % 2) + 1)), .int (nI (2 * (2 * R_ + i / 2) + 1)), .int o]) (rest := []) hx hb hml hown hts hA hK hP hD hS (tM_inside l D d h a H.size n c fi xs ys col (nI (2 * (2 * C_ + i % 2) + 1)) (nI (2 * (2 * R_ + i / 2) + 1)) o hsh) (cwV 3 hts (lw_V q213 q215 qs11 q15 q216) rfl rfl rfl (by decide +kernel) ⟨Nat.le_of_ble_eq_true rfl, Nat.le_of_ble_eq_true rfl⟩) (va_recv hK hP (ci := 1) (q0 := 0) rfl rfl) rfl hl.1 rfl (Nat.le_of_ble_eq_true rfl) dX1_coverage_50 (Nat.le_refl _) (Nat.le_refl _) (fun r2_ u_ H locs hr2_ hP hD hS => ?_)
          have hsm : smp n fi xs ys o (2 * R_ + i / 2) (2 * C_ + i % 2) = r2_ := by rw [hr2_, smp_wd (by omega) (by omega)]
          refine lv_if_eq (pc := 53) (tgt := 59) hx hb dX1_coverage_53 (by decide) (fun c53 => ?_) (fun c53 => ?_)
          · refine lv_iinc (pc := 59) (v := nI (i + 1)) (lv' := [(5, .int (nI (i + 1))), (0, .ref h), (1, .int (nI R_)), (2, .int (nI C_)), (3, .int o), (4, .int (kap (smp n fi xs ys o) R_ C_ i))]) hx hb dX1_coverage_59 hl (k := 5) rfl (nI_1 i) (by decide) rfl (fun ls hl => ?_)
            refine lv_goto (pc := 62) (tgt := 18) hx hb dX1_coverage_62 (by decide) ?_
            exact ih (i + 1) (by omega) (by omega) _ _ hP hD hS ls (by have hq : kap (smp n fi xs ys o) R_ C_ (i + 1) = kap (smp n fi xs ys o) R_ C_ i := by { rw [kap, hsm, c53]; grind }; rw [hq]; exact lv_sub hl [1, 2, 3, 4, 5, 0] rfl)
          · have h1 : r2_ = 1 := by rcases insI_01 (wdR n fi xs ys (nI (2 * (2 * C_ + i % 2) + 1)) (nI (2 * (2 * R_ + i / 2) + 1))) o with q | q; exact absurd (hr2_.trans q) c53; exact hr2_.trans q
            refine lv_iinc (pc := 56) (v := (kap (smp n fi xs ys o) R_ C_ i) + 1) (lv' := [(4, .int ((kap (smp n fi xs ys o) R_ C_ i) + 1)), (0, .ref h), (1, .int (nI R_)), (2, .int (nI C_)), (3, .int o), (5, .int (nI i))]) hx hb dX1_coverage_56 hl (k := 4) rfl rfl (by decide) rfl (fun ls hl => ?_)
            refine lv_iinc (pc := 59) (v := nI (i + 1)) (lv' := [(5, .int (nI (i + 1))), (4, .int ((kap (smp n fi xs ys o) R_ C_ i) + 1)), (0, .ref h), (1, .int (nI R_)), (2, .int (nI C_)), (3, .int o)]) hx hb dX1_coverage_59 hl (k := 5) rfl (nI_1 i) (by decide) rfl (fun ls hl => ?_)
            refine lv_goto (pc := 62) (tgt := 18) hx hb dX1_coverage_62 (by decide) ?_
            exact ih (i + 1) (by omega) (by omega) _ _ hP hD hS ls (by have hq : kap (smp n fi xs ys o) R_ C_ (i + 1) = kap (smp n fi xs ys o) R_ C_ i + 1 := by { rw [kap, hsm, h1] }; rw [hq]; exact lv_sub hl [2, 3, 4, 5, 1, 0] rfl)
    exact loop 5 0 (by omega) (by omega) _ _ hP hD hS ls (lv_sub hl [2, 3, 4, 5, 1, 0] rfl)
  · refine lv_bipush (pc := 9) (v := (-4)) hx hb dX1_coverage_9 (by decide) ?_
    exact ret (-4) () _ _ 11 _ hP hD hS (by rw [cgR, if_pos (b_yes hr_ c6)]) dX1_coverage_11

set_option maxHeartbeats 4000000 in
/-- paint -/
theorem tM_paint (l : Launch) (D : va_G) (d : ClassId) (h : Nat) (a : Nat → Nat) (sz n c : Nat) (fi xs ys col : Nat → Int32) (x o : Int32) (hsh : shp n c fi xs ys) : zI l D d yX1_paint cX1_paint 6 .int (zR 4 108) [.ref h, .int x, .int o] sz (wM h a d n c fi xs ys col) (fun r (_ : Unit) => r = paR n fi xs ys x o) (fun _ => (wM h a d n c fi xs ys (paC n fi xs ys col x o))) := by
  refine z_startI (by decide) (Nat.le_of_ble_eq_true rfl) ?_
  intro p e s m args below meth cd A Q ls hx hb hml hown hts hA hK hP hD hS ret hl
  have hown : s.vm.findClass RX1 = some m.cls := hown
  have hl : lv_has ls 6 [(0, .ref h), (1, .int x), (2, .int o)] := hl
  refine lv_iload_n (pc := 0) hx hb dX1_paint_0 rfl (lv_at hl 1 rfl) ?_
  refine lv_if_lt (pc := 1) (tgt := 11) hx hb dX1_paint_1 (by decide) (fun c1 => ?_) (fun c1 => ?_)
  · refine lv_bipush (pc := 11) (v := (-3)) hx hb dX1_paint_11 (by decide) ?_
    have hbk : badK x := by simp only [badK, p_lt, p_le, L0, L255] at *; omega
    have hw_ : col = paC n fi xs ys col x o := by rw [paC, if_pos hbk]
    have hP : va_P D vwCl (wM h a d n c fi xs ys (paC n fi xs ys col x o)) s.heap := by rw [← hw_]; exact hP
    have hD : va_D A (wM h a d n c fi xs ys (paC n fi xs ys col x o)) := by rw [← hw_]; exact hD
    exact ret (-3) () _ _ 13 _ hP hD hS (by rw [paR, if_pos hbk]) dX1_paint_13
  · refine lv_iload_n (pc := 4) hx hb dX1_paint_4 rfl (lv_at hl 1 rfl) ?_
    refine lv_sipush (pc := 5) (v := 255) hx hb dX1_paint_5 (by decide) ?_
    refine lv_icmp_le (pc := 8) (tgt := 14) hx hb dX1_paint_8 (by decide) (fun c8 => ?_) (fun c8 => ?_)
    · have hbk : ¬ badK x := by simp only [badK, p_lt, p_le, L0, L255] at *; omega
      refine lv_iconst (pc := 14) (v := 0) hx hb dX1_paint_14 (by decide) ?_
      refine lv_istore_n (pc := 15) (lv' := [(3, .int 0), (0, .ref h), (1, .int x), (2, .int o)]) hx hb dX1_paint_15 rfl hl (by decide) rfl (fun ls hl => ?_)
      refine lv_iconst (pc := 16) (v := 0) hx hb dX1_paint_16 (by decide) ?_
      refine lv_istore (pc := 17) (lv' := [(4, .int 0), (3, .int 0), (0, .ref h), (1, .int x), (2, .int o)]) hx hb dX1_paint_17 hl (by decide) rfl (fun ls hl => ?_)
      have loop : ∀ (N : Nat) (i : Nat), (256 < i + N) → (i ≤ 256) → ∀ (H : Heap) (locs : List Loc), va_P D vwCl (wM h a d n c fi xs ys (fa_fill (pnt x (Kp n fi xs ys o) col) col i)) H → va_D A (wM h a d n c fi xs ys (fa_fill (pnt x (Kp n fi xs ys o) col) col i)) → va_S A s.heap H locs → ∀ (ls : Array Slot), lv_has ls 6 [(0, .ref h), (1, .int x), (2, .int o), (3, .int (cntK (Kp n fi xs ys o) i)), (4, .int (nI i))] → W p l e (zR 4 108) s m args below meth cd H locs 0 0 Q (F0 m 19 ls []) := by
        intro N
        induction N with
        | zero => intro i hN hi32; exfalso; omega
        | succ N ih =>
          intro i hN hi32 H locs hP hD hS ls hl
          refine lv_iload (pc := 19) hx hb dX1_paint_19 (lv_at hl 4 rfl) ?_
          refine lv_sipush (pc := 21) (v := 256) hx hb dX1_paint_21 (by decide) ?_
          refine lv_icmp_ge (pc := 24) (tgt := 84) hx hb dX1_paint_24 (by decide) (fun c24 => ?_) (fun c24 => ?_)
          · have hi : i = 256 := by rcases Nat.lt_or_ge i 256 with q | q; exact absurd c24 (nI_ge (b := 256) q (by omega)); omega
            subst hi
            have hw_ : fa_fill (pnt x (Kp n fi xs ys o) col) col 256 = paC n fi xs ys col x o := by rw [paC, if_neg hbk]
            rw [hw_] at hP hD
            refine lv_iload_n (pc := 84) hx hb dX1_paint_84 rfl (lv_at hl 3 rfl) ?_
            exact ret (cntK (Kp n fi xs ys o) 256) () _ _ 85 _ hP hD hS (by rw [paR, if_neg hbk]) dX1_paint_85
          · have hi : i < 256 := by rcases Nat.lt_or_ge i 256 with q | q; exact q; exact absurd (nI_le (a := 256) q (by omega)) c24
            refine lv_aload_n (pc := 27) hx hb dX1_paint_27 rfl (lv_at hl 0 rfl) ?_
            refine lv_iload (pc := 28) hx hb dX1_paint_28 (lv_at hl 4 rfl) ?_
            refine lv_bipush (pc := 30) (v := 16) hx hb dX1_paint_30 (by decide) ?_
            refine lv_idiv (pc := 32) hx hb dX1_paint_32 (by decide) ?_
            refine z_eq (y := nI (i / 16)) (by rw [show (16 : Int32) = nI 16 from rfl, pk_div (by omega) (by decide) (by decide)]) ?_
            refine lv_iload (pc := 33) hx hb dX1_paint_33 (lv_at hl 4 rfl) ?_
            refine lv_bipush (pc := 35) (v := 16) hx hb dX1_paint_35 (by decide) ?_
            refine lv_irem (pc := 37) hx hb dX1_paint_37 (by decide) ?_
            refine z_eq (y := nI (i % 16)) (by rw [show (16 : Int32) = nI 16 from rfl, pk_rem (by omega) (by decide) (by decide)]) ?_
            refine lv_iload_n (pc := 38) hx hb dX1_paint_38 rfl (lv_at hl 2 rfl) ?_
            refine z_callI (pc := 39) (As := [.int (nI (i / 16)), .int (nI (i % 16)), .int o]) (rest := []) hx hb hml hown hts hA hK hP hD hS (tM_coverage l D d h a H.size n c fi xs ys (fa_fill (pnt x (Kp n fi xs ys o) col) col i) (nI (i / 16)) (nI (i % 16)) o hsh) (cwV 3 hts (lw_V q205 q206 q207 q15 q208) rfl rfl rfl (by decide +kernel) ⟨Nat.le_of_ble_eq_true rfl, Nat.le_of_ble_eq_true rfl⟩) (va_recv hK hP (ci := 1) (q0 := 0) rfl rfl) rfl hl.1 rfl (Nat.le_of_ble_eq_true rfl) dX1_paint_39 (Nat.le_refl _) (Nat.le_refl _) (fun r_ u_ H locs hr_ hP hD hS => ?_)
            refine z_eq (y := Kp n fi xs ys o i) (hr_.trans (cgR_Kp hi)) ?_
            refine lv_istore (pc := 42) (lv' := [(5, .int (Kp n fi xs ys o i)), (0, .ref h), (1, .int x), (2, .int o), (3, .int (cntK (Kp n fi xs ys o) i)), (4, .int (nI i))]) hx hb dX1_paint_42 hl (by decide) rfl (fun ls hl => ?_)
            refine lv_iload (pc := 44) hx hb dX1_paint_44 (lv_at hl 0 rfl) ?_
            refine lv_if_le (pc := 46) (tgt := 52) hx hb dX1_paint_46 (by decide) (fun c46 => ?_) (fun c46 => ?_)
            · refine lv_aload_n (pc := 52) hx hb dX1_paint_52 rfl (lv_at hl 1 rfl) ?_
              refine m_get (pc := 53) hx hb hts hown hK hP rfl 5 (by decide) q159 (v := .ref (a 3)) rfl dX1_paint_53 ?_
              refine lv_iload (pc := 56) hx hb dX1_paint_56 (lv_at hl 5 rfl) ?_
              refine lv_aload_n (pc := 58) hx hb dX1_paint_58 rfl (lv_at hl 1 rfl) ?_
              refine m_get (pc := 59) hx hb hts hown hK hP rfl 5 (by decide) q159 (v := .ref (a 3)) rfl dX1_paint_59 ?_
              refine lv_iload (pc := 62) hx hb dX1_paint_62 (lv_at hl 5 rfl) ?_
              refine z_ild (pc := 64) hx hb hK hP 4 rfl i rfl (by omega) (by decide) dX1_paint_64 ?_
              refine z_eq (y := col i) (fa_fill_out (Nat.le_refl i)) ?_
              refine lv_iconst (pc := 65) (v := 4) hx hb dX1_paint_65 (by decide) ?_
              refine lv_iload (pc := 66) hx hb dX1_paint_66 (lv_at hl 0 rfl) ?_
              refine lv_isub (pc := 68) hx hb dX1_paint_68 ?_
              refine lv_imul (pc := 69) hx hb dX1_paint_69 ?_
              refine lv_iload_n (pc := 70) hx hb dX1_paint_70 rfl (lv_at hl 2 rfl) ?_
              refine lv_iload (pc := 71) hx hb dX1_paint_71 (lv_at hl 0 rfl) ?_
              refine lv_imul (pc := 73) hx hb dX1_paint_73 ?_
              refine lv_iadd (pc := 74) hx hb dX1_paint_74 ?_
              refine lv_iconst (pc := 75) (v := 4) hx hb dX1_paint_75 (by decide) ?_
              refine lv_idiv (pc := 76) hx hb dX1_paint_76 (by decide) ?_
              refine z_ist (pc := 77) (ws' := wM h a d n c fi xs ys (upd (fa_fill (pnt x (Kp n fi xs ys o) col) col i) i ((((col i) * (4 - (Kp n fi xs ys o i))) + (x * (Kp n fi xs ys o i))) / 4))) hx hb hK hP hD hS 4 rfl i rfl (by omega) (by decide) rfl dX1_paint_77 (fun H locs hP hD hS => ?_)
              have hw_ : upd (fa_fill (pnt x (Kp n fi xs ys o) col) col i) i ((((col i) * (4 - (Kp n fi xs ys o i))) + (x * (Kp n fi xs ys o i))) / 4) = fa_fill (pnt x (Kp n fi xs ys o) col) col (i + 1) := fa_fill_succ (pnt x (Kp n fi xs ys o) col) col i
              rw [hw_] at hP hD
              refine lv_iinc (pc := 78) (v := nI (i + 1)) (lv' := [(4, .int (nI (i + 1))), (5, .int (Kp n fi xs ys o i)), (0, .ref h), (1, .int x), (2, .int o), (3, .int (cntK (Kp n fi xs ys o) i))]) hx hb dX1_paint_78 hl (k := 5) rfl (nI_1 i) (by decide) rfl (fun ls hl => ?_)
              refine lv_goto (pc := 81) (tgt := 19) hx hb dX1_paint_81 (by decide) ?_
              exact ih (i + 1) (by omega) (by omega) _ _ hP hD hS ls (by have hq : cntK (Kp n fi xs ys o) (i + 1) = cntK (Kp n fi xs ys o) i := by { rw [cntK, if_neg (by simp only [p_lt, p_le] at *; omega)] }; rw [hq]; exact lv_sub hl [2, 3, 4, 5, 0] rfl)
            · refine lv_iinc (pc := 49) (v := (cntK (Kp n fi xs ys o) i) + 1) (lv' := [(3, .int ((cntK (Kp n fi xs ys o) i) + 1)), (5, .int (Kp n fi xs ys o i)), (0, .ref h), (1, .int x), (2, .int o), (4, .int (nI i))]) hx hb dX1_paint_49 hl (k := 4) rfl rfl (by decide) rfl (fun ls hl => ?_)
              refine lv_aload_n (pc := 52) hx hb dX1_paint_52 rfl (lv_at hl 2 rfl) ?_
              refine m_get (pc := 53) hx hb hts hown hK hP rfl 5 (by decide) q159 (v := .ref (a 3)) rfl dX1_paint_53 ?_
              refine lv_iload (pc := 56) hx hb dX1_paint_56 (lv_at hl 5 rfl) ?_
              refine lv_aload_n (pc := 58) hx hb dX1_paint_58 rfl (lv_at hl 2 rfl) ?_
              refine m_get (pc := 59) hx hb hts hown hK hP rfl 5 (by decide) q159 (v := .ref (a 3)) rfl dX1_paint_59 ?_
              refine lv_iload (pc := 62) hx hb dX1_paint_62 (lv_at hl 5 rfl) ?_
              refine z_ild (pc := 64) hx hb hK hP 4 rfl i rfl (by omega) (by decide) dX1_paint_64 ?_
              refine z_eq (y := col i) (fa_fill_out (Nat.le_refl i)) ?_
              refine lv_iconst (pc := 65) (v := 4) hx hb dX1_paint_65 (by decide) ?_
              refine lv_iload (pc := 66) hx hb dX1_paint_66 (lv_at hl 1 rfl) ?_
              refine lv_isub (pc := 68) hx hb dX1_paint_68 ?_
              refine lv_imul (pc := 69) hx hb dX1_paint_69 ?_
              refine lv_iload_n (pc := 70) hx hb dX1_paint_70 rfl (lv_at hl 3 rfl) ?_
              refine lv_iload (pc := 71) hx hb dX1_paint_71 (lv_at hl 1 rfl) ?_
              refine lv_imul (pc := 73) hx hb dX1_paint_73 ?_
              refine lv_iadd (pc := 74) hx hb dX1_paint_74 ?_
              refine lv_iconst (pc := 75) (v := 4) hx hb dX1_paint_75 (by decide) ?_
              refine lv_idiv (pc := 76) hx hb dX1_paint_76 (by decide) ?_
              refine z_ist (pc := 77) (ws' := wM h a d n c fi xs ys (upd (fa_fill (pnt x (Kp n fi xs ys o) col) col i) i ((((col i) * (4 - (Kp n fi xs ys o i))) + (x * (Kp n fi xs ys o i))) / 4))) hx hb hK hP hD hS 4 rfl i rfl (by omega) (by decide) rfl dX1_paint_77 (fun H locs hP hD hS => ?_)
              have hw_ : upd (fa_fill (pnt x (Kp n fi xs ys o) col) col i) i ((((col i) * (4 - (Kp n fi xs ys o i))) + (x * (Kp n fi xs ys o i))) / 4) = fa_fill (pnt x (Kp n fi xs ys o) col) col (i + 1) := fa_fill_succ (pnt x (Kp n fi xs ys o) col) col i
              rw [hw_] at hP hD
              refine lv_iinc (pc := 78) (v := nI (i + 1)) (lv' := [(4, .int (nI (i + 1))), (3, .int ((cntK (Kp n fi xs ys o) i) + 1)), (5, .int (Kp n fi xs ys o i)), (0, .ref h), (1, .int x), (2, .int o)]) hx hb dX1_paint_78 hl (k := 5) rfl (nI_1 i) (by decide) rfl (fun ls hl => ?_)
              refine lv_goto (pc := 81) (tgt := 19) hx hb dX1_paint_81 (by decide) ?_
              exact ih (i + 1) (by omega) (by omega) _ _ hP hD hS ls (by have hq : cntK (Kp n fi xs ys o) (i + 1) = cntK (Kp n fi xs ys o) i + 1 := by { rw [cntK, if_pos (by simp only [p_lt, p_le] at *; omega)] }; rw [hq]; exact lv_sub hl [3, 4, 5, 1, 0] rfl)
      exact loop 257 0 (by omega) (by omega) _ _ (by rw [fa_fill_0]; exact hP) (by rw [fa_fill_0]; exact hD) hS ls (lv_sub hl [2, 3, 4, 1, 0] rfl)
    · refine lv_bipush (pc := 11) (v := (-3)) hx hb dX1_paint_11 (by decide) ?_
      have hbk : badK x := by simp only [badK, p_lt, p_le, L0, L255] at *; omega
      have hw_ : col = paC n fi xs ys col x o := by rw [paC, if_pos hbk]
      have hP : va_P D vwCl (wM h a d n c fi xs ys (paC n fi xs ys col x o)) s.heap := by rw [← hw_]; exact hP
      have hD : va_D A (wM h a d n c fi xs ys (paC n fi xs ys col x o)) := by rw [← hw_]; exact hD
      exact ret (-3) () _ _ 13 _ hP hD hS (by rw [paR, if_pos hbk]) dX1_paint_13

set_option maxHeartbeats 4000000 in
/-- area -/
theorem tM_area (l : Launch) (D : va_G) (d : ClassId) (h : Nat) (a : Nat → Nat) (sz n c : Nat) (fi xs ys col : Nat → Int32) (o : Int32) (hsh : shp n c fi xs ys) : zI l D d yX1_area cX1_area 5 .int (zR 4 108) [.ref h, .int o] sz (wM h a d n c fi xs ys col) (fun r (_ : Unit) => r = arR n fi xs ys o) (fun _ => (wM h a d n c fi xs ys col)) := by
  refine z_startI (by decide) (Nat.le_of_ble_eq_true rfl) ?_
  intro p e s m args below meth cd A Q ls hx hb hml hown hts hA hK hP hD hS ret hl
  have hown : s.vm.findClass RX1 = some m.cls := hown
  have hl : lv_has ls 5 [(0, .ref h), (1, .int o)] := hl
  refine lv_iconst (pc := 0) (v := 0) hx hb dX1_area_0 (by decide) ?_
  refine lv_istore_n (pc := 1) (lv' := [(2, .int 0), (0, .ref h), (1, .int o)]) hx hb dX1_area_1 rfl hl (by decide) rfl (fun ls hl => ?_)
  refine lv_iconst (pc := 2) (v := 0) hx hb dX1_area_2 (by decide) ?_
  refine lv_istore_n (pc := 3) (lv' := [(3, .int 0), (2, .int 0), (0, .ref h), (1, .int o)]) hx hb dX1_area_3 rfl hl (by decide) rfl (fun ls hl => ?_)
  have loop : ∀ (N : Nat) (i : Nat), (256 < i + N) → (i ≤ 256) → ∀ (H : Heap) (locs : List Loc), va_P D vwCl (wM h a d n c fi xs ys col) H → va_D A (wM h a d n c fi xs ys col) → va_S A s.heap H locs → ∀ (ls : Array Slot), lv_has ls 5 [(0, .ref h), (1, .int o), (2, .int (bx_sum (Kp n fi xs ys o) i)), (3, .int (nI i))] → W p l e (zR 4 108) s m args below meth cd H locs 0 0 Q (F0 m 4 ls []) := by
    intro N
    induction N with
    | zero => intro i hN hi32; exfalso; omega
    | succ N ih =>
      intro i hN hi32 H locs hP hD hS ls hl
      refine lv_iload_n (pc := 4) hx hb dX1_area_4 rfl (lv_at hl 3 rfl) ?_
      refine lv_sipush (pc := 5) (v := 256) hx hb dX1_area_5 (by decide) ?_
      refine lv_icmp_ge (pc := 8) (tgt := 37) hx hb dX1_area_8 (by decide) (fun c8 => ?_) (fun c8 => ?_)
      · have hi : i = 256 := by rcases Nat.lt_or_ge i 256 with q | q; exact absurd c8 (nI_ge (b := 256) q (by omega)); omega
        subst hi
        refine lv_iload_n (pc := 37) hx hb dX1_area_37 rfl (lv_at hl 2 rfl) ?_
        exact ret (bx_sum (Kp n fi xs ys o) 256) () _ _ 38 _ hP hD hS rfl dX1_area_38
      · have hi : i < 256 := by rcases Nat.lt_or_ge i 256 with q | q; exact q; exact absurd (nI_le (a := 256) q (by omega)) c8
        refine lv_aload_n (pc := 11) hx hb dX1_area_11 rfl (lv_at hl 0 rfl) ?_
        refine lv_iload_n (pc := 12) hx hb dX1_area_12 rfl (lv_at hl 3 rfl) ?_
        refine lv_bipush (pc := 13) (v := 16) hx hb dX1_area_13 (by decide) ?_
        refine lv_idiv (pc := 15) hx hb dX1_area_15 (by decide) ?_
        refine z_eq (y := nI (i / 16)) (by rw [show (16 : Int32) = nI 16 from rfl, pk_div (by omega) (by decide) (by decide)]) ?_
        refine lv_iload_n (pc := 16) hx hb dX1_area_16 rfl (lv_at hl 3 rfl) ?_
        refine lv_bipush (pc := 17) (v := 16) hx hb dX1_area_17 (by decide) ?_
        refine lv_irem (pc := 19) hx hb dX1_area_19 (by decide) ?_
        refine z_eq (y := nI (i % 16)) (by rw [show (16 : Int32) = nI 16 from rfl, pk_rem (by omega) (by decide) (by decide)]) ?_
        refine lv_iload_n (pc := 20) hx hb dX1_area_20 rfl (lv_at hl 1 rfl) ?_
        refine z_callI (pc := 21) (As := [.int (nI (i / 16)), .int (nI (i % 16)), .int o]) (rest := []) hx hb hml hown hts hA hK hP hD hS (tM_coverage l D d h a H.size n c fi xs ys col (nI (i / 16)) (nI (i % 16)) o hsh) (cwV 3 hts (lw_V q205 q206 q207 q15 q208) rfl rfl rfl (by decide +kernel) ⟨Nat.le_of_ble_eq_true rfl, Nat.le_of_ble_eq_true rfl⟩) (va_recv hK hP (ci := 1) (q0 := 0) rfl rfl) rfl hl.1 rfl (Nat.le_of_ble_eq_true rfl) dX1_area_21 (Nat.le_refl _) (Nat.le_refl _) (fun r_ u_ H locs hr_ hP hD hS => ?_)
        refine z_eq (y := Kp n fi xs ys o i) (hr_.trans (cgR_Kp hi)) ?_
        refine lv_istore (pc := 24) (lv' := [(4, .int (Kp n fi xs ys o i)), (0, .ref h), (1, .int o), (2, .int (bx_sum (Kp n fi xs ys o) i)), (3, .int (nI i))]) hx hb dX1_area_24 hl (by decide) rfl (fun ls hl => ?_)
        refine lv_iload_n (pc := 26) hx hb dX1_area_26 rfl (lv_at hl 3 rfl) ?_
        refine lv_iload (pc := 27) hx hb dX1_area_27 (lv_at hl 0 rfl) ?_
        refine lv_iadd (pc := 29) hx hb dX1_area_29 ?_
        refine lv_istore_n (pc := 30) (lv' := [(2, .int ((bx_sum (Kp n fi xs ys o) i) + (Kp n fi xs ys o i))), (4, .int (Kp n fi xs ys o i)), (0, .ref h), (1, .int o), (3, .int (nI i))]) hx hb dX1_area_30 rfl hl (by decide) rfl (fun ls hl => ?_)
        refine lv_iinc (pc := 31) (v := nI (i + 1)) (lv' := [(3, .int (nI (i + 1))), (2, .int ((bx_sum (Kp n fi xs ys o) i) + (Kp n fi xs ys o i))), (4, .int (Kp n fi xs ys o i)), (0, .ref h), (1, .int o)]) hx hb dX1_area_31 hl (k := 4) rfl (nI_1 i) (by decide) rfl (fun ls hl => ?_)
        refine lv_goto (pc := 34) (tgt := 4) hx hb dX1_area_34 (by decide) ?_
        exact ih (i + 1) (by omega) (by omega) _ _ hP hD hS ls (lv_sub hl [3, 4, 1, 0] rfl)
  exact loop 257 0 (by omega) (by omega) _ _ hP hD hS ls (lv_sub hl [2, 3, 1, 0] rfl)
end
section
/-! the constructors -/
set_option maxRecDepth 100000
def wX0 (h : Nat) : va_W := [(h, .inr (0, [.null, .int 0, .int 0, .null, .null, .null, .int 0, .null, .null, .null, .null]))]
def wM0 (h : Nat) : va_W := [(h, .inr (1, [.int 0, .int 0, .null, .null, .null, .null]))]
abbrev zZ : Nat → Int32 := fun _ => 0
theorem z_newa {p : Program} {l : Launch} {e : Env} {R : Room} {s : State} {m : MethodId} {args : Array Value} {below : List Frame} {meth : Method} {c : Code} {H : Heap} {locs : List Loc} {cells slots : Nat} {Q : State → Prop} {cc : ByteArray} {pc : Nat} {ls : Array Slot} {rest : List Value} {D : va_G} {A : Nat → Prop} {tys : List (ClassId × FieldType)} {ws : va_W}
    (hx : p.tables.exec = Jvm.exec) (hb : c.code = cc) (harr : (Cond.arrayClass .int).before args s = true) (hK : va_K D vwCl tys s) (hP : va_P D vwCl ws H) (hD : va_D A ws) (hS : va_S A s.heap H locs) (hA : ∀ q : Nat, s.heap.size ≤ q → A q) {n : Int32} (N : Nat) (hn : ¬ n < 0) (hN : n.toNatClampNeg = N) (hbytes : N * componentBytes .int ≤ 536870912) (hcells : cells + 1 ≤ R.cells) (hslots : slots + N ≤ R.slots) (hdg : decode cc pc = .ok (.newarray .int, 2))
    (kk : ∀ (q : Nat) (cA : ClassId) (H1 : Heap), va_K D vwCl (tys ++ [(cA, .int)]) s → va_P D vwCl (ws ++ [(q, .inl (cA, N, .inl zZ))]) H1 → va_D A (ws ++ [(q, .inl (cA, N, .inl zZ))]) → va_S A s.heap H1 locs →
      W p l e R s m args below meth c H1 locs (cells + 1) (slots + N) Q (F0 m (pc + 2) ls (.ref q :: rest))) : W p l e R s m args below meth c H locs cells slots Q (F0 m pc ls (.int n :: rest)) :=
  va_newa (atype := .int) (ty := .int) (a0 := (N, .inl zZ)) hx hb harr rfl hK hP hD hS hA (fun cA => rfl) hn hN hbytes hcells hslots hdg kk
set_option maxHeartbeats 4000000 in
theorem tX_init (l : Launch) (D : va_G) (h sz : Nat) : Met l yX0_init (ws_ yX0_init cX0_init 1 none) ({ frames := 1, cells := 8, slots := 577, locals := 12 } : Room) (va_Pc [.ref h] (fun U => U.heap.size = sz ∧ va_P D vwCl (wX0 h) U.heap ∧ va_K D vwCl [] U ∧ va_D (fun _ => True) (wX0 h))) (va_Qv (fun (u : (Nat → Nat) × ClassId) => True) (fun u => zB D u.2 (va_A (wX0 h) sz) (wX h u.1 u.2 0 0 0 zZ zZ zZ zZ zZ zZ zZ zZ)) (va_A (wX0 h) sz)) 8 577 (va_A (wX0 h) sz) := by
  refine Met.ofW (cc := cX0_init) (maxL := 1) (ret := none) (by decide) rfl ?_
  intro p e s m args below meth c s₁ B hml hv
  obtain ⟨rfl, hsz, hP, hK, hD0⟩ := hv
  have hx := B.exec
  have hb := B.bytes
  have hr := B.returns
  have hts := atoms_spec (ws := ws_ yX0_init cX0_init 1 none) B.pre
  have hts : ∀ w ∈ lw_all, w.before _ s = true := fun w h => hts w (List.mem_cons_of_mem _ h)
  have hown : s.vm.findClass RX0 = some m.cls := findClass_of_methodNamed B.named
  have hlocks := B.notSynchronized
  have hin : meth.name = "<init>" := (name_of_methodNamed B.named B.method).1
  subst hsz
  have hD := hD0.self (sz := s.heap.size)
  generalize hAe : va_A (wX0 h) s.heap.size = A at hD ⊢
  have hA : ∀ q : Nat, s.heap.size ≤ q → A q := fun q h => by rw [← hAe]; exact Or.inr h
  have hS : va_S A s.heap s.heap [] := va_S.rf
  have hl := lv_entry ([.ref h]) (n := 1) (Nat.le_of_ble_eq_true rfl)
  rw [lg_entry_eq]
  generalize (lg_sl ([.ref h]) ++ List.replicate (1 - (lg_sl ([.ref h])).length) Slot.unset).toArray = ls at hl ⊢
  have hl : lv_has ls 1 [(0, .ref h)] := hl
  refine lv_aload_n (pc := 0) hx hb dX0_init_0 rfl (lv_at hl 0 rfl) ?_
  refine W.objInit hx hb hown (hts _ q21) (hts _ q22) (hts _ q23) rfl (by rw [hml]; exact hl.1) rfl dX0_init_1 (Nat.le_of_ble_eq_true rfl) (Nat.le_of_ble_eq_true rfl) ?_
  refine W.eq (g2 := F0 m 4 ls []) rfl ?_
  refine lv_aload_n (pc := 4) hx hb dX0_init_4 rfl (lv_at hl 0 rfl) ?_
  refine lv_sipush (pc := 5) (v := 256) hx hb dX0_init_5 (by decide) ?_
  refine z_newa (pc := 8) hx hb (hts _ q58) hK hP hD hS hA 256 (by decide) (by decide) (by decide) (Nat.le_of_ble_eq_true rfl) (Nat.le_of_ble_eq_true rfl) dX0_init_8 (fun q0 d H hK hP hD hS => ?_)
  have hK : va_K D vwCl [(d, .int)] s := hK.sub [0] rfl
  have hP : va_P D vwCl [(h, .inr (0, [.null, .int 0, .int 0, .null, .null, .null, .int 0, .null, .null, .null, .null])), (q0, .inl (d, 256, .inl zZ))] H := hP
  have hD : va_D A [(h, .inr (0, [.null, .int 0, .int 0, .null, .null, .null, .int 0, .null, .null, .null, .null])), (q0, .inl (d, 256, .inl zZ))] := hD
  refine W.widen (k := 1) (n := 256) (Nat.le_of_ble_eq_true rfl) (Nat.le_of_ble_eq_true rfl) ?_
  refine va_putF (pc := 10) (ci := 0) (v := .ref q0) (ty := .array .int) (C := RX0) (T := TX0) (N := 11) hx hb hts in_X0 tyX0 tyX0_ok nmX0 hown hK hP hD hS 0 rfl rfl 0 (by decide) (hts _ q24) (fun _ h9 => h9) rfl hin rfl (by decide +kernel) rfl rfl (Nat.le_of_ble_eq_true rfl) dX0_init_10 (fun H locs hP hD hS => ?_)
  have hP : va_P D vwCl [(h, .inr (0, [.ref q0, .int 0, .int 0, .null, .null, .null, .int 0, .null, .null, .null, .null])), (q0, .inl (d, 256, .inl zZ))] H := hP
  have hD : va_D A [(h, .inr (0, [.ref q0, .int 0, .int 0, .null, .null, .null, .int 0, .null, .null, .null, .null])), (q0, .inl (d, 256, .inl zZ))] := hD
  refine lv_aload_n (pc := 13) hx hb dX0_init_13 rfl (lv_at hl 0 rfl) ?_
  refine lv_iconst (pc := 14) (v := 5) hx hb dX0_init_14 (by decide) ?_
  refine z_newa (pc := 15) hx hb (hts _ q58) hK hP hD hS hA 5 (by decide) (by decide) (by decide) (Nat.le_of_ble_eq_true rfl) (Nat.le_of_ble_eq_true rfl) dX0_init_15 (fun q1 d2 H hK hP hD hS => ?_)
  have e_ : d = d2 := by
    have z1 : s.vm.findClass ("[" ++ FieldType.int.toString) = some d := (hK.2 0 (d, .int) rfl).2
    have z2 : s.vm.findClass ("[" ++ FieldType.int.toString) = some d2 := (hK.2 1 (d2, .int) rfl).2
    exact Option.some.inj (z1.symm.trans z2)
  subst e_
  have hK : va_K D vwCl [(d, .int)] s := hK.sub [0] rfl
  have hP : va_P D vwCl [(h, .inr (0, [.ref q0, .int 0, .int 0, .null, .null, .null, .int 0, .null, .null, .null, .null])), (q0, .inl (d, 256, .inl zZ)), (q1, .inl (d, 5, .inl zZ))] H := hP
  have hD : va_D A [(h, .inr (0, [.ref q0, .int 0, .int 0, .null, .null, .null, .int 0, .null, .null, .null, .null])), (q0, .inl (d, 256, .inl zZ)), (q1, .inl (d, 5, .inl zZ))] := hD
  refine W.widen (k := 2) (n := 261) (Nat.le_of_ble_eq_true rfl) (Nat.le_of_ble_eq_true rfl) ?_
  refine va_putF (pc := 17) (ci := 0) (v := .ref q1) (ty := .array .int) (C := RX0) (T := TX0) (N := 11) hx hb hts in_X0 tyX0 tyX0_ok nmX0 hown hK hP hD hS 0 rfl rfl 3 (by decide) (hts _ q27) (fun _ h9 => h9) rfl hin rfl (by decide +kernel) rfl rfl (Nat.le_of_ble_eq_true rfl) dX0_init_17 (fun H locs hP hD hS => ?_)
  have hP : va_P D vwCl [(h, .inr (0, [.ref q0, .int 0, .int 0, .ref q1, .null, .null, .int 0, .null, .null, .null, .null])), (q0, .inl (d, 256, .inl zZ)), (q1, .inl (d, 5, .inl zZ))] H := hP
  have hD : va_D A [(h, .inr (0, [.ref q0, .int 0, .int 0, .ref q1, .null, .null, .int 0, .null, .null, .null, .null])), (q0, .inl (d, 256, .inl zZ)), (q1, .inl (d, 5, .inl zZ))] := hD
  refine lv_aload_n (pc := 20) hx hb dX0_init_20 rfl (lv_at hl 0 rfl) ?_
  refine lv_bipush (pc := 21) (v := 12) hx hb dX0_init_21 (by decide) ?_
  refine z_newa (pc := 23) hx hb (hts _ q58) hK hP hD hS hA 12 (by decide) (by decide) (by decide) (Nat.le_of_ble_eq_true rfl) (Nat.le_of_ble_eq_true rfl) dX0_init_23 (fun q2 d2 H hK hP hD hS => ?_)
  have e_ : d = d2 := by
    have z1 : s.vm.findClass ("[" ++ FieldType.int.toString) = some d := (hK.2 0 (d, .int) rfl).2
    have z2 : s.vm.findClass ("[" ++ FieldType.int.toString) = some d2 := (hK.2 1 (d2, .int) rfl).2
    exact Option.some.inj (z1.symm.trans z2)
  subst e_
  have hK : va_K D vwCl [(d, .int)] s := hK.sub [0] rfl
  have hP : va_P D vwCl [(h, .inr (0, [.ref q0, .int 0, .int 0, .ref q1, .null, .null, .int 0, .null, .null, .null, .null])), (q0, .inl (d, 256, .inl zZ)), (q1, .inl (d, 5, .inl zZ)), (q2, .inl (d, 12, .inl zZ))] H := hP
  have hD : va_D A [(h, .inr (0, [.ref q0, .int 0, .int 0, .ref q1, .null, .null, .int 0, .null, .null, .null, .null])), (q0, .inl (d, 256, .inl zZ)), (q1, .inl (d, 5, .inl zZ)), (q2, .inl (d, 12, .inl zZ))] := hD
  refine W.widen (k := 3) (n := 273) (Nat.le_of_ble_eq_true rfl) (Nat.le_of_ble_eq_true rfl) ?_
  refine va_putF (pc := 25) (ci := 0) (v := .ref q2) (ty := .array .int) (C := RX0) (T := TX0) (N := 11) hx hb hts in_X0 tyX0 tyX0_ok nmX0 hown hK hP hD hS 0 rfl rfl 4 (by decide) (hts _ q28) (fun _ h9 => h9) rfl hin rfl (by decide +kernel) rfl rfl (Nat.le_of_ble_eq_true rfl) dX0_init_25 (fun H locs hP hD hS => ?_)
  have hP : va_P D vwCl [(h, .inr (0, [.ref q0, .int 0, .int 0, .ref q1, .ref q2, .null, .int 0, .null, .null, .null, .null])), (q0, .inl (d, 256, .inl zZ)), (q1, .inl (d, 5, .inl zZ)), (q2, .inl (d, 12, .inl zZ))] H := hP
  have hD : va_D A [(h, .inr (0, [.ref q0, .int 0, .int 0, .ref q1, .ref q2, .null, .int 0, .null, .null, .null, .null])), (q0, .inl (d, 256, .inl zZ)), (q1, .inl (d, 5, .inl zZ)), (q2, .inl (d, 12, .inl zZ))] := hD
  refine lv_aload_n (pc := 28) hx hb dX0_init_28 rfl (lv_at hl 0 rfl) ?_
  refine lv_bipush (pc := 29) (v := 12) hx hb dX0_init_29 (by decide) ?_
  refine z_newa (pc := 31) hx hb (hts _ q58) hK hP hD hS hA 12 (by decide) (by decide) (by decide) (Nat.le_of_ble_eq_true rfl) (Nat.le_of_ble_eq_true rfl) dX0_init_31 (fun q3 d2 H hK hP hD hS => ?_)
  have e_ : d = d2 := by
    have z1 : s.vm.findClass ("[" ++ FieldType.int.toString) = some d := (hK.2 0 (d, .int) rfl).2
    have z2 : s.vm.findClass ("[" ++ FieldType.int.toString) = some d2 := (hK.2 1 (d2, .int) rfl).2
    exact Option.some.inj (z1.symm.trans z2)
  subst e_
  have hK : va_K D vwCl [(d, .int)] s := hK.sub [0] rfl
  have hP : va_P D vwCl [(h, .inr (0, [.ref q0, .int 0, .int 0, .ref q1, .ref q2, .null, .int 0, .null, .null, .null, .null])), (q0, .inl (d, 256, .inl zZ)), (q1, .inl (d, 5, .inl zZ)), (q2, .inl (d, 12, .inl zZ)), (q3, .inl (d, 12, .inl zZ))] H := hP
  have hD : va_D A [(h, .inr (0, [.ref q0, .int 0, .int 0, .ref q1, .ref q2, .null, .int 0, .null, .null, .null, .null])), (q0, .inl (d, 256, .inl zZ)), (q1, .inl (d, 5, .inl zZ)), (q2, .inl (d, 12, .inl zZ)), (q3, .inl (d, 12, .inl zZ))] := hD
  refine W.widen (k := 4) (n := 285) (Nat.le_of_ble_eq_true rfl) (Nat.le_of_ble_eq_true rfl) ?_
  refine va_putF (pc := 33) (ci := 0) (v := .ref q3) (ty := .array .int) (C := RX0) (T := TX0) (N := 11) hx hb hts in_X0 tyX0 tyX0_ok nmX0 hown hK hP hD hS 0 rfl rfl 5 (by decide) (hts _ q29) (fun _ h9 => h9) rfl hin rfl (by decide +kernel) rfl rfl (Nat.le_of_ble_eq_true rfl) dX0_init_33 (fun H locs hP hD hS => ?_)
  have hP : va_P D vwCl [(h, .inr (0, [.ref q0, .int 0, .int 0, .ref q1, .ref q2, .ref q3, .int 0, .null, .null, .null, .null])), (q0, .inl (d, 256, .inl zZ)), (q1, .inl (d, 5, .inl zZ)), (q2, .inl (d, 12, .inl zZ)), (q3, .inl (d, 12, .inl zZ))] H := hP
  have hD : va_D A [(h, .inr (0, [.ref q0, .int 0, .int 0, .ref q1, .ref q2, .ref q3, .int 0, .null, .null, .null, .null])), (q0, .inl (d, 256, .inl zZ)), (q1, .inl (d, 5, .inl zZ)), (q2, .inl (d, 12, .inl zZ)), (q3, .inl (d, 12, .inl zZ))] := hD
  refine lv_aload_n (pc := 36) hx hb dX0_init_36 rfl (lv_at hl 0 rfl) ?_
  refine lv_bipush (pc := 37) (v := 12) hx hb dX0_init_37 (by decide) ?_
  refine z_newa (pc := 39) hx hb (hts _ q58) hK hP hD hS hA 12 (by decide) (by decide) (by decide) (Nat.le_of_ble_eq_true rfl) (Nat.le_of_ble_eq_true rfl) dX0_init_39 (fun q4 d2 H hK hP hD hS => ?_)
  have e_ : d = d2 := by
    have z1 : s.vm.findClass ("[" ++ FieldType.int.toString) = some d := (hK.2 0 (d, .int) rfl).2
    have z2 : s.vm.findClass ("[" ++ FieldType.int.toString) = some d2 := (hK.2 1 (d2, .int) rfl).2
    exact Option.some.inj (z1.symm.trans z2)
  subst e_
  have hK : va_K D vwCl [(d, .int)] s := hK.sub [0] rfl
  have hP : va_P D vwCl [(h, .inr (0, [.ref q0, .int 0, .int 0, .ref q1, .ref q2, .ref q3, .int 0, .null, .null, .null, .null])), (q0, .inl (d, 256, .inl zZ)), (q1, .inl (d, 5, .inl zZ)), (q2, .inl (d, 12, .inl zZ)), (q3, .inl (d, 12, .inl zZ)), (q4, .inl (d, 12, .inl zZ))] H := hP
  have hD : va_D A [(h, .inr (0, [.ref q0, .int 0, .int 0, .ref q1, .ref q2, .ref q3, .int 0, .null, .null, .null, .null])), (q0, .inl (d, 256, .inl zZ)), (q1, .inl (d, 5, .inl zZ)), (q2, .inl (d, 12, .inl zZ)), (q3, .inl (d, 12, .inl zZ)), (q4, .inl (d, 12, .inl zZ))] := hD
  refine W.widen (k := 5) (n := 297) (Nat.le_of_ble_eq_true rfl) (Nat.le_of_ble_eq_true rfl) ?_
  refine va_putF (pc := 41) (ci := 0) (v := .ref q4) (ty := .array .int) (C := RX0) (T := TX0) (N := 11) hx hb hts in_X0 tyX0 tyX0_ok nmX0 hown hK hP hD hS 0 rfl rfl 7 (by decide) (hts _ q31) (fun _ h9 => h9) rfl hin rfl (by decide +kernel) rfl rfl (Nat.le_of_ble_eq_true rfl) dX0_init_41 (fun H locs hP hD hS => ?_)
  have hP : va_P D vwCl [(h, .inr (0, [.ref q0, .int 0, .int 0, .ref q1, .ref q2, .ref q3, .int 0, .ref q4, .null, .null, .null])), (q0, .inl (d, 256, .inl zZ)), (q1, .inl (d, 5, .inl zZ)), (q2, .inl (d, 12, .inl zZ)), (q3, .inl (d, 12, .inl zZ)), (q4, .inl (d, 12, .inl zZ))] H := hP
  have hD : va_D A [(h, .inr (0, [.ref q0, .int 0, .int 0, .ref q1, .ref q2, .ref q3, .int 0, .ref q4, .null, .null, .null])), (q0, .inl (d, 256, .inl zZ)), (q1, .inl (d, 5, .inl zZ)), (q2, .inl (d, 12, .inl zZ)), (q3, .inl (d, 12, .inl zZ)), (q4, .inl (d, 12, .inl zZ))] := hD
  refine lv_aload_n (pc := 44) hx hb dX0_init_44 rfl (lv_at hl 0 rfl) ?_
  refine lv_bipush (pc := 45) (v := 12) hx hb dX0_init_45 (by decide) ?_
  refine z_newa (pc := 47) hx hb (hts _ q58) hK hP hD hS hA 12 (by decide) (by decide) (by decide) (Nat.le_of_ble_eq_true rfl) (Nat.le_of_ble_eq_true rfl) dX0_init_47 (fun q5 d2 H hK hP hD hS => ?_)
  have e_ : d = d2 := by
    have z1 : s.vm.findClass ("[" ++ FieldType.int.toString) = some d := (hK.2 0 (d, .int) rfl).2
    have z2 : s.vm.findClass ("[" ++ FieldType.int.toString) = some d2 := (hK.2 1 (d2, .int) rfl).2
    exact Option.some.inj (z1.symm.trans z2)
  subst e_
  have hK : va_K D vwCl [(d, .int)] s := hK.sub [0] rfl
  have hP : va_P D vwCl [(h, .inr (0, [.ref q0, .int 0, .int 0, .ref q1, .ref q2, .ref q3, .int 0, .ref q4, .null, .null, .null])), (q0, .inl (d, 256, .inl zZ)), (q1, .inl (d, 5, .inl zZ)), (q2, .inl (d, 12, .inl zZ)), (q3, .inl (d, 12, .inl zZ)), (q4, .inl (d, 12, .inl zZ)), (q5, .inl (d, 12, .inl zZ))] H := hP
  have hD : va_D A [(h, .inr (0, [.ref q0, .int 0, .int 0, .ref q1, .ref q2, .ref q3, .int 0, .ref q4, .null, .null, .null])), (q0, .inl (d, 256, .inl zZ)), (q1, .inl (d, 5, .inl zZ)), (q2, .inl (d, 12, .inl zZ)), (q3, .inl (d, 12, .inl zZ)), (q4, .inl (d, 12, .inl zZ)), (q5, .inl (d, 12, .inl zZ))] := hD
  refine W.widen (k := 6) (n := 309) (Nat.le_of_ble_eq_true rfl) (Nat.le_of_ble_eq_true rfl) ?_
  refine va_putF (pc := 49) (ci := 0) (v := .ref q5) (ty := .array .int) (C := RX0) (T := TX0) (N := 11) hx hb hts in_X0 tyX0 tyX0_ok nmX0 hown hK hP hD hS 0 rfl rfl 8 (by decide) (hts _ q32) (fun _ h9 => h9) rfl hin rfl (by decide +kernel) rfl rfl (Nat.le_of_ble_eq_true rfl) dX0_init_49 (fun H locs hP hD hS => ?_)
  have hP : va_P D vwCl [(h, .inr (0, [.ref q0, .int 0, .int 0, .ref q1, .ref q2, .ref q3, .int 0, .ref q4, .ref q5, .null, .null])), (q0, .inl (d, 256, .inl zZ)), (q1, .inl (d, 5, .inl zZ)), (q2, .inl (d, 12, .inl zZ)), (q3, .inl (d, 12, .inl zZ)), (q4, .inl (d, 12, .inl zZ)), (q5, .inl (d, 12, .inl zZ))] H := hP
  have hD : va_D A [(h, .inr (0, [.ref q0, .int 0, .int 0, .ref q1, .ref q2, .ref q3, .int 0, .ref q4, .ref q5, .null, .null])), (q0, .inl (d, 256, .inl zZ)), (q1, .inl (d, 5, .inl zZ)), (q2, .inl (d, 12, .inl zZ)), (q3, .inl (d, 12, .inl zZ)), (q4, .inl (d, 12, .inl zZ)), (q5, .inl (d, 12, .inl zZ))] := hD
  refine lv_aload_n (pc := 52) hx hb dX0_init_52 rfl (lv_at hl 0 rfl) ?_
  refine lv_bipush (pc := 53) (v := 12) hx hb dX0_init_53 (by decide) ?_
  refine z_newa (pc := 55) hx hb (hts _ q58) hK hP hD hS hA 12 (by decide) (by decide) (by decide) (Nat.le_of_ble_eq_true rfl) (Nat.le_of_ble_eq_true rfl) dX0_init_55 (fun q6 d2 H hK hP hD hS => ?_)
  have e_ : d = d2 := by
    have z1 : s.vm.findClass ("[" ++ FieldType.int.toString) = some d := (hK.2 0 (d, .int) rfl).2
    have z2 : s.vm.findClass ("[" ++ FieldType.int.toString) = some d2 := (hK.2 1 (d2, .int) rfl).2
    exact Option.some.inj (z1.symm.trans z2)
  subst e_
  have hK : va_K D vwCl [(d, .int)] s := hK.sub [0] rfl
  have hP : va_P D vwCl [(h, .inr (0, [.ref q0, .int 0, .int 0, .ref q1, .ref q2, .ref q3, .int 0, .ref q4, .ref q5, .null, .null])), (q0, .inl (d, 256, .inl zZ)), (q1, .inl (d, 5, .inl zZ)), (q2, .inl (d, 12, .inl zZ)), (q3, .inl (d, 12, .inl zZ)), (q4, .inl (d, 12, .inl zZ)), (q5, .inl (d, 12, .inl zZ)), (q6, .inl (d, 12, .inl zZ))] H := hP
  have hD : va_D A [(h, .inr (0, [.ref q0, .int 0, .int 0, .ref q1, .ref q2, .ref q3, .int 0, .ref q4, .ref q5, .null, .null])), (q0, .inl (d, 256, .inl zZ)), (q1, .inl (d, 5, .inl zZ)), (q2, .inl (d, 12, .inl zZ)), (q3, .inl (d, 12, .inl zZ)), (q4, .inl (d, 12, .inl zZ)), (q5, .inl (d, 12, .inl zZ)), (q6, .inl (d, 12, .inl zZ))] := hD
  refine W.widen (k := 7) (n := 321) (Nat.le_of_ble_eq_true rfl) (Nat.le_of_ble_eq_true rfl) ?_
  refine va_putF (pc := 57) (ci := 0) (v := .ref q6) (ty := .array .int) (C := RX0) (T := TX0) (N := 11) hx hb hts in_X0 tyX0 tyX0_ok nmX0 hown hK hP hD hS 0 rfl rfl 9 (by decide) (hts _ q33) (fun _ h9 => h9) rfl hin rfl (by decide +kernel) rfl rfl (Nat.le_of_ble_eq_true rfl) dX0_init_57 (fun H locs hP hD hS => ?_)
  have hP : va_P D vwCl [(h, .inr (0, [.ref q0, .int 0, .int 0, .ref q1, .ref q2, .ref q3, .int 0, .ref q4, .ref q5, .ref q6, .null])), (q0, .inl (d, 256, .inl zZ)), (q1, .inl (d, 5, .inl zZ)), (q2, .inl (d, 12, .inl zZ)), (q3, .inl (d, 12, .inl zZ)), (q4, .inl (d, 12, .inl zZ)), (q5, .inl (d, 12, .inl zZ)), (q6, .inl (d, 12, .inl zZ))] H := hP
  have hD : va_D A [(h, .inr (0, [.ref q0, .int 0, .int 0, .ref q1, .ref q2, .ref q3, .int 0, .ref q4, .ref q5, .ref q6, .null])), (q0, .inl (d, 256, .inl zZ)), (q1, .inl (d, 5, .inl zZ)), (q2, .inl (d, 12, .inl zZ)), (q3, .inl (d, 12, .inl zZ)), (q4, .inl (d, 12, .inl zZ)), (q5, .inl (d, 12, .inl zZ)), (q6, .inl (d, 12, .inl zZ))] := hD
  refine lv_aload_n (pc := 60) hx hb dX0_init_60 rfl (lv_at hl 0 rfl) ?_
  refine lv_sipush (pc := 61) (v := 256) hx hb dX0_init_61 (by decide) ?_
  refine z_newa (pc := 64) hx hb (hts _ q58) hK hP hD hS hA 256 (by decide) (by decide) (by decide) (Nat.le_of_ble_eq_true rfl) (Nat.le_of_ble_eq_true rfl) dX0_init_64 (fun q7 d2 H hK hP hD hS => ?_)
  have e_ : d = d2 := by
    have z1 : s.vm.findClass ("[" ++ FieldType.int.toString) = some d := (hK.2 0 (d, .int) rfl).2
    have z2 : s.vm.findClass ("[" ++ FieldType.int.toString) = some d2 := (hK.2 1 (d2, .int) rfl).2
    exact Option.some.inj (z1.symm.trans z2)
  subst e_
  have hK : va_K D vwCl [(d, .int)] s := hK.sub [0] rfl
  have hP : va_P D vwCl [(h, .inr (0, [.ref q0, .int 0, .int 0, .ref q1, .ref q2, .ref q3, .int 0, .ref q4, .ref q5, .ref q6, .null])), (q0, .inl (d, 256, .inl zZ)), (q1, .inl (d, 5, .inl zZ)), (q2, .inl (d, 12, .inl zZ)), (q3, .inl (d, 12, .inl zZ)), (q4, .inl (d, 12, .inl zZ)), (q5, .inl (d, 12, .inl zZ)), (q6, .inl (d, 12, .inl zZ)), (q7, .inl (d, 256, .inl zZ))] H := hP
  have hD : va_D A [(h, .inr (0, [.ref q0, .int 0, .int 0, .ref q1, .ref q2, .ref q3, .int 0, .ref q4, .ref q5, .ref q6, .null])), (q0, .inl (d, 256, .inl zZ)), (q1, .inl (d, 5, .inl zZ)), (q2, .inl (d, 12, .inl zZ)), (q3, .inl (d, 12, .inl zZ)), (q4, .inl (d, 12, .inl zZ)), (q5, .inl (d, 12, .inl zZ)), (q6, .inl (d, 12, .inl zZ)), (q7, .inl (d, 256, .inl zZ))] := hD
  refine W.widen (k := 8) (n := 577) (Nat.le_of_ble_eq_true rfl) (Nat.le_of_ble_eq_true rfl) ?_
  refine va_putF (pc := 66) (ci := 0) (v := .ref q7) (ty := .array .int) (C := RX0) (T := TX0) (N := 11) hx hb hts in_X0 tyX0 tyX0_ok nmX0 hown hK hP hD hS 0 rfl rfl 10 (by decide) (hts _ q34) (fun _ h9 => h9) rfl hin rfl (by decide +kernel) rfl rfl (Nat.le_of_ble_eq_true rfl) dX0_init_66 (fun H locs hP hD hS => ?_)
  have hP : va_P D vwCl [(h, .inr (0, [.ref q0, .int 0, .int 0, .ref q1, .ref q2, .ref q3, .int 0, .ref q4, .ref q5, .ref q6, .ref q7])), (q0, .inl (d, 256, .inl zZ)), (q1, .inl (d, 5, .inl zZ)), (q2, .inl (d, 12, .inl zZ)), (q3, .inl (d, 12, .inl zZ)), (q4, .inl (d, 12, .inl zZ)), (q5, .inl (d, 12, .inl zZ)), (q6, .inl (d, 12, .inl zZ)), (q7, .inl (d, 256, .inl zZ))] H := hP
  have hD : va_D A [(h, .inr (0, [.ref q0, .int 0, .int 0, .ref q1, .ref q2, .ref q3, .int 0, .ref q4, .ref q5, .ref q6, .ref q7])), (q0, .inl (d, 256, .inl zZ)), (q1, .inl (d, 5, .inl zZ)), (q2, .inl (d, 12, .inl zZ)), (q3, .inl (d, 12, .inl zZ)), (q4, .inl (d, 12, .inl zZ)), (q5, .inl (d, 12, .inl zZ)), (q6, .inl (d, 12, .inl zZ)), (q7, .inl (d, 256, .inl zZ))] := hD
  refine lv_aload_n (pc := 69) hx hb dX0_init_69 rfl (lv_at hl 0 rfl) ?_
  refine lv_iconst (pc := 70) (v := 0) hx hb dX0_init_70 (by decide) ?_
  refine va_put (pc := 71) (ci := 0) (v := .int 0) (ty := .int) (C := RX0) (T := TX0) (N := 11) hx hb hts in_X0 tyX0 tyX0_ok nmX0 hown hK hP hD hS 0 rfl rfl 1 (by decide) (hts _ q25) (fun _ h9 => h9) rfl (by decide +kernel) rfl rfl (Nat.le_of_ble_eq_true rfl) dX0_init_71 (fun H locs hP hD hS => ?_)
  have hP : va_P D vwCl [(h, .inr (0, [.ref q0, .int 0, .int 0, .ref q1, .ref q2, .ref q3, .int 0, .ref q4, .ref q5, .ref q6, .ref q7])), (q0, .inl (d, 256, .inl zZ)), (q1, .inl (d, 5, .inl zZ)), (q2, .inl (d, 12, .inl zZ)), (q3, .inl (d, 12, .inl zZ)), (q4, .inl (d, 12, .inl zZ)), (q5, .inl (d, 12, .inl zZ)), (q6, .inl (d, 12, .inl zZ)), (q7, .inl (d, 256, .inl zZ))] H := hP
  have hD : va_D A [(h, .inr (0, [.ref q0, .int 0, .int 0, .ref q1, .ref q2, .ref q3, .int 0, .ref q4, .ref q5, .ref q6, .ref q7])), (q0, .inl (d, 256, .inl zZ)), (q1, .inl (d, 5, .inl zZ)), (q2, .inl (d, 12, .inl zZ)), (q3, .inl (d, 12, .inl zZ)), (q4, .inl (d, 12, .inl zZ)), (q5, .inl (d, 12, .inl zZ)), (q6, .inl (d, 12, .inl zZ)), (q7, .inl (d, 256, .inl zZ))] := hD
  exact W.vret hx hb hr (fun t ht hW => ⟨⟨((fun k => match k with | 0 => q0 | 1 => q1 | 2 => q2 | 3 => q3 | 4 => q4 | 5 => q5 | 6 => q6 | _ => q7 : Nat → Nat), d), rfl, trivial, by rw [ht]; exact hP, va_K.moved hW.alike hK, hD⟩, hS.F ht⟩) hS.2.2 dX0_init_74 hlocks

set_option maxHeartbeats 4000000 in
theorem tM_init (l : Launch) (D : va_G) (h sz : Nat) : Met l yX1_init (ws_ yX1_init cX1_init 1 none) ({ frames := 1, cells := 4, slots := 285, locals := 12 } : Room) (va_Pc [.ref h] (fun U => U.heap.size = sz ∧ va_P D vwCl (wM0 h) U.heap ∧ va_K D vwCl [] U ∧ va_D (fun _ => True) (wM0 h))) (va_Qv (fun (u : (Nat → Nat) × ClassId) => True) (fun u => zB D u.2 (va_A (wM0 h) sz) (wM h u.1 u.2 0 0 zZ zZ zZ zZ)) (va_A (wM0 h) sz)) 4 285 (va_A (wM0 h) sz) := by
  refine Met.ofW (cc := cX1_init) (maxL := 1) (ret := none) (by decide) rfl ?_
  intro p e s m args below meth c s₁ B hml hv
  obtain ⟨rfl, hsz, hP, hK, hD0⟩ := hv
  have hx := B.exec
  have hb := B.bytes
  have hr := B.returns
  have hts := atoms_spec (ws := ws_ yX1_init cX1_init 1 none) B.pre
  have hts : ∀ w ∈ lw_all, w.before _ s = true := fun w h => hts w (List.mem_cons_of_mem _ h)
  have hown : s.vm.findClass RX1 = some m.cls := findClass_of_methodNamed B.named
  have hlocks := B.notSynchronized
  have hin : meth.name = "<init>" := (name_of_methodNamed B.named B.method).1
  subst hsz
  have hD := hD0.self (sz := s.heap.size)
  generalize hAe : va_A (wM0 h) s.heap.size = A at hD ⊢
  have hA : ∀ q : Nat, s.heap.size ≤ q → A q := fun q h => by rw [← hAe]; exact Or.inr h
  have hS : va_S A s.heap s.heap [] := va_S.rf
  have hl := lv_entry ([.ref h]) (n := 1) (Nat.le_of_ble_eq_true rfl)
  rw [lg_entry_eq]
  generalize (lg_sl ([.ref h]) ++ List.replicate (1 - (lg_sl ([.ref h])).length) Slot.unset).toArray = ls at hl ⊢
  have hl : lv_has ls 1 [(0, .ref h)] := hl
  refine lv_aload_n (pc := 0) hx hb dX1_init_0 rfl (lv_at hl 0 rfl) ?_
  refine W.objInit hx hb hown (hts _ q153) (hts _ q22) (hts _ q23) rfl (by rw [hml]; exact hl.1) rfl dX1_init_1 (Nat.le_of_ble_eq_true rfl) (Nat.le_of_ble_eq_true rfl) ?_
  refine W.eq (g2 := F0 m 4 ls []) rfl ?_
  refine lv_aload_n (pc := 4) hx hb dX1_init_4 rfl (lv_at hl 0 rfl) ?_
  refine lv_bipush (pc := 5) (v := 12) hx hb dX1_init_5 (by decide) ?_
  refine z_newa (pc := 7) hx hb (hts _ q58) hK hP hD hS hA 12 (by decide) (by decide) (by decide) (Nat.le_of_ble_eq_true rfl) (Nat.le_of_ble_eq_true rfl) dX1_init_7 (fun q0 d H hK hP hD hS => ?_)
  have hK : va_K D vwCl [(d, .int)] s := hK.sub [0] rfl
  have hP : va_P D vwCl [(h, .inr (1, [.int 0, .int 0, .null, .null, .null, .null])), (q0, .inl (d, 12, .inl zZ))] H := hP
  have hD : va_D A [(h, .inr (1, [.int 0, .int 0, .null, .null, .null, .null])), (q0, .inl (d, 12, .inl zZ))] := hD
  refine W.widen (k := 1) (n := 12) (Nat.le_of_ble_eq_true rfl) (Nat.le_of_ble_eq_true rfl) ?_
  refine va_putF (pc := 9) (ci := 1) (v := .ref q0) (ty := .array .int) (C := RX1) (T := TX1) (N := 6) hx hb hts in_X1 tyX1 tyX1_ok nmX1 hown hK hP hD hS 0 rfl rfl 2 (by decide) (hts _ q156) (fun _ h9 => h9) rfl hin rfl (by decide +kernel) rfl rfl (Nat.le_of_ble_eq_true rfl) dX1_init_9 (fun H locs hP hD hS => ?_)
  have hP : va_P D vwCl [(h, .inr (1, [.int 0, .int 0, .ref q0, .null, .null, .null])), (q0, .inl (d, 12, .inl zZ))] H := hP
  have hD : va_D A [(h, .inr (1, [.int 0, .int 0, .ref q0, .null, .null, .null])), (q0, .inl (d, 12, .inl zZ))] := hD
  refine lv_aload_n (pc := 12) hx hb dX1_init_12 rfl (lv_at hl 0 rfl) ?_
  refine lv_bipush (pc := 13) (v := 12) hx hb dX1_init_13 (by decide) ?_
  refine z_newa (pc := 15) hx hb (hts _ q58) hK hP hD hS hA 12 (by decide) (by decide) (by decide) (Nat.le_of_ble_eq_true rfl) (Nat.le_of_ble_eq_true rfl) dX1_init_15 (fun q1 d2 H hK hP hD hS => ?_)
  have e_ : d = d2 := by
    have z1 : s.vm.findClass ("[" ++ FieldType.int.toString) = some d := (hK.2 0 (d, .int) rfl).2
    have z2 : s.vm.findClass ("[" ++ FieldType.int.toString) = some d2 := (hK.2 1 (d2, .int) rfl).2
    exact Option.some.inj (z1.symm.trans z2)
  subst e_
  have hK : va_K D vwCl [(d, .int)] s := hK.sub [0] rfl
  have hP : va_P D vwCl [(h, .inr (1, [.int 0, .int 0, .ref q0, .null, .null, .null])), (q0, .inl (d, 12, .inl zZ)), (q1, .inl (d, 12, .inl zZ))] H := hP
  have hD : va_D A [(h, .inr (1, [.int 0, .int 0, .ref q0, .null, .null, .null])), (q0, .inl (d, 12, .inl zZ)), (q1, .inl (d, 12, .inl zZ))] := hD
  refine W.widen (k := 2) (n := 24) (Nat.le_of_ble_eq_true rfl) (Nat.le_of_ble_eq_true rfl) ?_
  refine va_putF (pc := 17) (ci := 1) (v := .ref q1) (ty := .array .int) (C := RX1) (T := TX1) (N := 6) hx hb hts in_X1 tyX1 tyX1_ok nmX1 hown hK hP hD hS 0 rfl rfl 3 (by decide) (hts _ q157) (fun _ h9 => h9) rfl hin rfl (by decide +kernel) rfl rfl (Nat.le_of_ble_eq_true rfl) dX1_init_17 (fun H locs hP hD hS => ?_)
  have hP : va_P D vwCl [(h, .inr (1, [.int 0, .int 0, .ref q0, .ref q1, .null, .null])), (q0, .inl (d, 12, .inl zZ)), (q1, .inl (d, 12, .inl zZ))] H := hP
  have hD : va_D A [(h, .inr (1, [.int 0, .int 0, .ref q0, .ref q1, .null, .null])), (q0, .inl (d, 12, .inl zZ)), (q1, .inl (d, 12, .inl zZ))] := hD
  refine lv_aload_n (pc := 20) hx hb dX1_init_20 rfl (lv_at hl 0 rfl) ?_
  refine lv_iconst (pc := 21) (v := 5) hx hb dX1_init_21 (by decide) ?_
  refine z_newa (pc := 22) hx hb (hts _ q58) hK hP hD hS hA 5 (by decide) (by decide) (by decide) (Nat.le_of_ble_eq_true rfl) (Nat.le_of_ble_eq_true rfl) dX1_init_22 (fun q2 d2 H hK hP hD hS => ?_)
  have e_ : d = d2 := by
    have z1 : s.vm.findClass ("[" ++ FieldType.int.toString) = some d := (hK.2 0 (d, .int) rfl).2
    have z2 : s.vm.findClass ("[" ++ FieldType.int.toString) = some d2 := (hK.2 1 (d2, .int) rfl).2
    exact Option.some.inj (z1.symm.trans z2)
  subst e_
  have hK : va_K D vwCl [(d, .int)] s := hK.sub [0] rfl
  have hP : va_P D vwCl [(h, .inr (1, [.int 0, .int 0, .ref q0, .ref q1, .null, .null])), (q0, .inl (d, 12, .inl zZ)), (q1, .inl (d, 12, .inl zZ)), (q2, .inl (d, 5, .inl zZ))] H := hP
  have hD : va_D A [(h, .inr (1, [.int 0, .int 0, .ref q0, .ref q1, .null, .null])), (q0, .inl (d, 12, .inl zZ)), (q1, .inl (d, 12, .inl zZ)), (q2, .inl (d, 5, .inl zZ))] := hD
  refine W.widen (k := 3) (n := 29) (Nat.le_of_ble_eq_true rfl) (Nat.le_of_ble_eq_true rfl) ?_
  refine va_putF (pc := 24) (ci := 1) (v := .ref q2) (ty := .array .int) (C := RX1) (T := TX1) (N := 6) hx hb hts in_X1 tyX1 tyX1_ok nmX1 hown hK hP hD hS 0 rfl rfl 4 (by decide) (hts _ q158) (fun _ h9 => h9) rfl hin rfl (by decide +kernel) rfl rfl (Nat.le_of_ble_eq_true rfl) dX1_init_24 (fun H locs hP hD hS => ?_)
  have hP : va_P D vwCl [(h, .inr (1, [.int 0, .int 0, .ref q0, .ref q1, .ref q2, .null])), (q0, .inl (d, 12, .inl zZ)), (q1, .inl (d, 12, .inl zZ)), (q2, .inl (d, 5, .inl zZ))] H := hP
  have hD : va_D A [(h, .inr (1, [.int 0, .int 0, .ref q0, .ref q1, .ref q2, .null])), (q0, .inl (d, 12, .inl zZ)), (q1, .inl (d, 12, .inl zZ)), (q2, .inl (d, 5, .inl zZ))] := hD
  refine lv_aload_n (pc := 27) hx hb dX1_init_27 rfl (lv_at hl 0 rfl) ?_
  refine lv_sipush (pc := 28) (v := 256) hx hb dX1_init_28 (by decide) ?_
  refine z_newa (pc := 31) hx hb (hts _ q58) hK hP hD hS hA 256 (by decide) (by decide) (by decide) (Nat.le_of_ble_eq_true rfl) (Nat.le_of_ble_eq_true rfl) dX1_init_31 (fun q3 d2 H hK hP hD hS => ?_)
  have e_ : d = d2 := by
    have z1 : s.vm.findClass ("[" ++ FieldType.int.toString) = some d := (hK.2 0 (d, .int) rfl).2
    have z2 : s.vm.findClass ("[" ++ FieldType.int.toString) = some d2 := (hK.2 1 (d2, .int) rfl).2
    exact Option.some.inj (z1.symm.trans z2)
  subst e_
  have hK : va_K D vwCl [(d, .int)] s := hK.sub [0] rfl
  have hP : va_P D vwCl [(h, .inr (1, [.int 0, .int 0, .ref q0, .ref q1, .ref q2, .null])), (q0, .inl (d, 12, .inl zZ)), (q1, .inl (d, 12, .inl zZ)), (q2, .inl (d, 5, .inl zZ)), (q3, .inl (d, 256, .inl zZ))] H := hP
  have hD : va_D A [(h, .inr (1, [.int 0, .int 0, .ref q0, .ref q1, .ref q2, .null])), (q0, .inl (d, 12, .inl zZ)), (q1, .inl (d, 12, .inl zZ)), (q2, .inl (d, 5, .inl zZ)), (q3, .inl (d, 256, .inl zZ))] := hD
  refine W.widen (k := 4) (n := 285) (Nat.le_of_ble_eq_true rfl) (Nat.le_of_ble_eq_true rfl) ?_
  refine va_putF (pc := 33) (ci := 1) (v := .ref q3) (ty := .array .int) (C := RX1) (T := TX1) (N := 6) hx hb hts in_X1 tyX1 tyX1_ok nmX1 hown hK hP hD hS 0 rfl rfl 5 (by decide) (hts _ q159) (fun _ h9 => h9) rfl hin rfl (by decide +kernel) rfl rfl (Nat.le_of_ble_eq_true rfl) dX1_init_33 (fun H locs hP hD hS => ?_)
  have hP : va_P D vwCl [(h, .inr (1, [.int 0, .int 0, .ref q0, .ref q1, .ref q2, .ref q3])), (q0, .inl (d, 12, .inl zZ)), (q1, .inl (d, 12, .inl zZ)), (q2, .inl (d, 5, .inl zZ)), (q3, .inl (d, 256, .inl zZ))] H := hP
  have hD : va_D A [(h, .inr (1, [.int 0, .int 0, .ref q0, .ref q1, .ref q2, .ref q3])), (q0, .inl (d, 12, .inl zZ)), (q1, .inl (d, 12, .inl zZ)), (q2, .inl (d, 5, .inl zZ)), (q3, .inl (d, 256, .inl zZ))] := hD
  exact W.vret hx hb hr (fun t ht hW => ⟨⟨((fun k => match k with | 0 => q0 | 1 => q1 | 2 => q2 | _ => q3 : Nat → Nat), d), rfl, trivial, by rw [ht]; exact hP, va_K.moved hW.alike hK, hD⟩, hS.F ht⟩) hS.2.2 dX1_init_36 hlocks
end
section
/-! rows for the law; the first lines out of kit/laws/SKELETON.whole -/
set_option maxRecDepth 100000
/-! THE CLAIM OUT OF ONE WALK OF THE LAW'S BODY. Your part is whole_start (and what it stands on); all else here is the same for every law, but numbers. -/
def R_law : String := "PolygonFillLaw"
def lw_P (b : Addr) (xs : List Int32) (args : Array Value) (s : State) : Prop := args = #[.ref b] ∧ s.IntsAt b xs ∧ xs.length ≤ 256 ∧ (Jvm.Cond.and given_1 narrow_1).before args s = true
def lw_Q (_ : Array Value) (s : State) (o : Outcome) (t : State) : Prop := o = .returned (some (.int 1)) ∧ Framed s o t [] 600000 7290000
def lw_Z (below : List Frame) (a : Array Value) (s : State) : State → Prop := fun t => ∃ o, t.status = .running ∧ Ended t below o ∧ lw_Q a s o t
/-- the law's own end, with 1 on the stack, nothing written that was there before, its room as the claim has it -/
theorem lw_ret {p : Program} {l : Launch} {e : Env} {s : State} {m : MethodId} {below : List Frame} {meth : Method} {c : Code} {b : Nat} (hx : p.tables.exec = Jvm.exec) (hb : c.code = code) (hr : meth.sig.returnType = ret) (hlocks : meth.locks = false) {pc : Nat} {H : Heap} {ls : Array Slot} (hdg : decode code pc = .ok (.ireturn, 1)) : W p l e room_1 s m #[Value.ref b] below meth c H [] 600000 7290000 (lw_Z below #[Value.ref b] s) (F0 m pc ls [.int 1]) := by
  intro T hT X
  obtain ⟨fs, hret, hrun, hended, hW, hframe⟩ := X.leave (v := some (.int 1)) (hlocks := hlocks) (fun h => by rw [hr] at h; cases h)
  have hmeth' : T.vm.method? m = some meth := X.method'
  refine ⟨T.setFrames fs, ?_, .returned (some (.int 1)), hrun, hended, rfl, ⟨_, rfl⟩, hW, hframe⟩
  jvm_step X.here [X.here.top, hx, hb, hdg, hmeth', hr, ret, narrow_b1]
  (try refine ⟨rfl, ?_⟩); (try refine ⟨rfl, ?_⟩)
  first | (intro acts; rw [hret _ acts rfl rfl rfl]) | rw [hret _ _ rfl rfl rfl]
  exact Steps.refl _
/-- what holds at the law's entry: the machine, the code, the tables' words (any of lw_tbl by 'hts w (by decide +kernel)'), the script of L ints xs at the cell b, what the Statement gives of the start (any of its parts by flat_of_before) -/
def lw_At (p : Program) (s : State) (m : MethodId) (meth : Method) (c : Code) (b L : Nat) (xs : Nat → Int32) : Prop :=
  p.tables.exec = Jvm.exec ∧ c.code = code ∧ meth.sig.returnType = ret ∧ c.maxLocals = 4 ∧ s.vm.findClass R_law = some m.cls ∧ (∀ w ∈ lw_tbl, w.before #[Value.ref b] s = true) ∧ va_X b L xs s s.heap ∧ b < s.heap.size ∧ meth.locks = false ∧ (Jvm.Cond.and given_1 narrow_1).before #[Value.ref b] s = true
theorem z_splitP {D : va_G} {w w2 : va_W} {H : Heap} (h : va_P D vwCl (w ++ w2) H) : va_P D vwCl w H ∧ va_P D vwCl w2 H := by
  refine ⟨fun k q hq => h k q ?_, fun k q hq => h (w.length + k) q ?_⟩
  · rw [List.getElem?_append_left (List.getElem?_eq_some_iff.mp hq).1]; exact hq
  · rw [List.getElem?_append_right (by omega), show w.length + k - w.length = k by omega]; exact hq
theorem z_splitD {A : Nat → Prop} {w w2 : va_W} (h : va_D A (w ++ w2)) : va_D A w ∧ va_D A w2 ∧ zX w w2 := by
  have g1 : ∀ (k : Nat) (q : Nat × va_E), w[k]? = some q → (w ++ w2)[k]? = some q := fun k q hq => by
    rw [List.getElem?_append_left (List.getElem?_eq_some_iff.mp hq).1]; exact hq
  have g2 : ∀ (k : Nat) (q : Nat × va_E), w2[k]? = some q → (w ++ w2)[w.length + k]? = some q := fun k q hq => by
    rw [List.getElem?_append_right (by omega), show w.length + k - w.length = k by omega]; exact hq
  refine ⟨⟨fun i j p q hp hq e => h.1 i j p q (g1 i p hp) (g1 j q hq) e, fun k q hq => h.2 k q (g1 k q hq)⟩, ⟨fun i j p q hp hq e => ?_, fun k q hq => h.2 _ q (g2 k q hq)⟩, fun i j p q hp hq e => ?_⟩
  · have := h.1 _ _ p q (g2 i p hp) (g2 j q hq) e
    omega
  · have h1 := h.1 _ _ p q (g1 i p hp) (g2 j q hq) e
    have h2 := (List.getElem?_eq_some_iff.mp hp).1
    omega
section ZN
variable {p : Program} {l : Launch} {e : Env} {R : Room} {s : State} {m : MethodId} {args : Array Value} {below : List Frame} {meth : Method} {c : Code} {H : Heap} {locs : List Loc} {cells slots : Nat} {Q : State → Prop}
variable {cc : ByteArray} {pc : Nat} {ls : Array Slot} {rest st0 : List Value} {D : va_G} {A : Nat → Prop} {w w2 : va_W} {S : Type} {y : MethodName} {bytes : ByteArray} {maxL nL n index mc ms : Nat} {rm : Room} {own : String} {b : Addr}
/-- a constructor's call: the other world stays -/
theorem z_callC {tys : List (ClassId × FieldType)} {post : S → Prop} {w' : S → va_W} {dd : S → ClassId} (hx : p.tables.exec = Jvm.exec) (hb : c.code = cc) (hml : c.maxLocals = nL) (hown : s.vm.findClass own = some m.cls) (hts : ∀ w ∈ lw_all, w.before args s = true) (hA : ∀ q : Nat, s.heap.size ≤ q → A q) (hK : va_K D vwCl tys s) (hP : va_P D vwCl w H) (hD : va_D A w) (hS : va_S A s.heap H locs) (hP2 : va_P D vwCl w2 H) (hX : zX w w2)
    (hM : Met l y (ws_ y bytes maxL none) rm (va_Pc [.ref b] (fun U => U.heap.size = H.size ∧ va_P D vwCl w U.heap ∧ va_K D vwCl [] U ∧ va_D (fun _ => True) w)) (va_Qv post (fun u => zB D (dd u) (va_A w H.size) (w' u)) (va_A w H.size)) mc ms (va_A w H.size))
    (cw : CallB R s args own index y bytes maxL none (ws_ y bytes maxL none) rm mc ms 0 ∧ y.name = "<init>" ∧ (Cond.instanceMethod y).before args s = true) (hsize : ls.size = nL) (hst : st0 = .ref b :: rest) (hroom : (rest.map fun v => v.category).sum ≤ 8) (hdg : decode cc pc = .ok (.invokespecial index, 3)) (hcl : cells + mc ≤ R.cells) (hsl : slots + ms ≤ R.slots)
    (kk : ∀ (u : S) (H1 : Heap) (locs1 : List Loc), va_K D vwCl [(dd u, .int)] s → va_P D vwCl (w' u) H1 → va_D A (w' u) → va_P D vwCl w2 H1 → zX (w' u) w2 → va_S A s.heap H1 locs1 → W p l e R s m args below meth c H1 locs1 (cells + mc) (slots + ms) Q (F0 m (pc + 3) ls rest)) : W p l e R s m args below meth c H locs cells slots Q (F0 m pc ls st0) := by
  have hF := z_F hA hD hS
  have hK0 : va_K D vwCl [] s := hK.sub (tys' := []) [] rfl
  refine va_callv (va_runI (As := []) (rest := rest) ⟨hx, hb, hml, hown, hts⟩ hM cw ⟨fun a U g mk q => by obtain ⟨q0, q1, qP, qK, qD⟩ := q; exact ⟨q0, q1, qP, va_K.moved (u := U) (U := U.calling g mk a) (Vm.Alike.refl U.vm) qK, qD⟩, fun U hU hW => ⟨rfl, by rw [hU], by rw [hU]; exact hP, va_K.moved hW.alike hK0, hD.weaken (fun _ _ _ _ => trivial)⟩⟩ rfl rfl hsize hst (lv_room hroom) hdg ⟨hcl, hsl⟩) hS (fun q _ h => hF q h) hF (fun u t H1 locs1 ht hvm hpost hB hz hk hS1 => ?_)
  obtain ⟨hP1, hK1, hD1⟩ := hB
  rw [ht] at hP1
  exact kk u H1 locs1 (va_K.moved hvm.symm hK1) hP1 (hD1.weaken (fun k q _ h => hF q.1 h)) (z_keep hP2 (fun j q hq i r hr => hX i j r q hr hq) hk) (hX.of hP2 hD1) hS1
/-- the script's int at the place j -/
theorem z_sld {b L : Nat} {sc : Nat → Int32} (hx : p.tables.exec = Jvm.exec) (hb : c.code = cc) (hX : va_X b L sc s s.heap) (hbl : b < s.heap.size) (hbA : ¬ A b) (hS : va_S A s.heap H locs) {i : Int32} (j : Nat) (hi : i = nI j) (hj : j < L) (hL : L ≤ 256) (hdg : decode cc pc = .ok (.iaload, 1))
    (kk : W p l e R s m args below meth c H locs cells slots Q (F0 m (pc + 1) ls (.int (sc j) :: rest))) : W p l e R s m args below meth c H locs cells slots Q (F0 m pc ls (.int i :: .ref b :: rest)) := by
  subst hi
  refine va_sld hx hb hX hbl hbA hS (vp_in_nI hj (by omega)) hdg ?_
  rw [nI_clamp (by omega)]
  exact kk
end ZN
/-- the two classes, known at the claim's start -/
theorem law_classes {s0 : State} {b0 : Addr} (ht0 : ∀ w ∈ lw_tbl, w.before #[Value.ref b0] s0 = true) : ∃ D : va_G, va_K D vwCl [] s0 := by
  obtain ⟨c0_, iS0, hKn0⟩ := u_known (C := RX0) (T := TX0) (N := 11) (n := 11) ht0 (fun w h => lw_all_tbl (in_X0 w h)) (ht0 _ (lw_all_tbl q17))
  obtain ⟨c1_, iS1, hKn1⟩ := u_known (C := RX1) (T := TX1) (N := 6) (n := 6) ht0 (fun w h => lw_all_tbl (in_X1 w h)) (ht0 _ (lw_all_tbl q149))
  refine ⟨(fun k => if k = 0 then c0_ else c1_, fun k => if k = 0 then iS0 else iS1), fun k q hq => ?_, fun k q hq => by simp at hq⟩
  match k, hq with
  | 0, hq => cases hq; exact hKn0
  | 1, hq => cases hq; exact hKn1
  | k + 2, hq => simp [vwCl] at hq
end
section
/-! the law: its loop -/
set_option maxRecDepth 100000
set_option maxHeartbeats 8000000 in
theorem law_loop {p : Program} {l : Launch} {e : Env} {s : State} {m : MethodId} {below : List Frame} {meth : Method} {cd : Code} {b L : Nat} {sc : Nat → Int32} {D : va_G} {d : ClassId} {A : Nat → Prop} {h1 h2 : Nat} {a1 a2 : Nat → Nat} (hL : L ≤ 256) (hx : p.tables.exec = Jvm.exec) (hb : cd.code = code) (hr : meth.sig.returnType = ret) (hlocks : meth.locks = false) (hml : cd.maxLocals = 4) (hown : s.vm.findClass R_law = some m.cls) (hts : ∀ w ∈ lw_all, w.before #[Value.ref b] s = true) (hX : va_X b L sc s s.heap) (hbl : b < s.heap.size) (hbA : ¬ A b) (hA : ∀ q : Nat, s.heap.size ≤ q → A q) (hA2 : ∀ q : Nat, A q → s.heap.size ≤ q) (hK : va_K D vwCl [(d, .int)] s) :
    ∀ (N i : Nat) (n c k : Nat) (fi xs ys col tp bt wy cv : Nat → Int32), i ≤ L → L < i + N → shp n c fi xs ys → ∀ (H : Heap) (locs : List Loc), va_P D vwCl (wX h1 a1 d n c k fi xs ys col tp bt wy cv) H → va_D A (wX h1 a1 d n c k fi xs ys col tp bt wy cv) → va_P D vwCl (wM h2 a2 d n c fi xs ys col) H → va_D A (wM h2 a2 d n c fi xs ys col) → zX (wX h1 a1 d n c k fi xs ys col tp bt wy cv) (wM h2 a2 d n c fi xs ys col) → va_S A s.heap H locs → ∀ (ls : Array Slot), lv_has ls 4 [(0, .ref b), (1, .ref h1), (2, .ref h2), (3, .int (nI i))] → W p l e room_1 s m #[Value.ref b] below meth cd H locs 14 879 (lw_Z below #[Value.ref b] s) (F0 m 18 ls []) := by
  intro N
  induction N with
  | zero => intro i n c k fi xs ys col tp bt wy cv hiL hN; exfalso; omega
  | succ N ih =>
    intro i n c k fi xs ys col tp bt wy cv hiL hN hsh H locs hP hD hQ hE hXX hS ls hl
    refine lv_iload_n (pc := 18) hx hb dL_law_18 rfl (lv_at hl 3 rfl) ?_
    refine lv_aload_n (pc := 19) hx hb dL_law_19 rfl (lv_at hl 0 rfl) ?_
    refine va_slen (pc := 20) hx hb hX hbl hbA hS dL_law_20 ?_
    refine lv_iconst (pc := 21) (v := 4) hx hb dL_law_21 (by decide) ?_
    refine lv_isub (pc := 22) hx hb dL_law_22 ?_
    refine lv_icmp_gt (pc := 23) (tgt := 482) hx hb dL_law_23 (by decide) (fun c23 => ?_) (fun c23 => ?_)
    · refine lv_iconst (pc := 482) (v := 1) hx hb dL_law_482 (by decide) ?_
      refine va_forget (fun q hq => hA2 _ (hS.2.2 q hq)) ?_
      refine W.widen (k := 600000) (n := 7290000) (by decide) (by decide) ?_
      exact lw_ret hx hb hr hlocks dL_law_483
    · have hi4 : i + 4 ≤ L := by have z1 : (Int32.ofNat L).toInt = L := nI_toInt (by omega); have z2 : (nI i).toInt = i := nI_toInt (by omega); rw [p_lt, p_sub (by rw [z1, L4]; omega) (by rw [z1, L4]; omega), z1, z2, L4] at c23; omega
      have next : ∀ (n c k : Nat) (fi xs ys col tp bt wy cv : Nat → Int32) (H : Heap) (locs : List Loc), shp n c fi xs ys → va_P D vwCl (wX h1 a1 d n c k fi xs ys col tp bt wy cv) H → va_D A (wX h1 a1 d n c k fi xs ys col tp bt wy cv) → va_P D vwCl (wM h2 a2 d n c fi xs ys col) H → va_D A (wM h2 a2 d n c fi xs ys col) → zX (wX h1 a1 d n c k fi xs ys col tp bt wy cv) (wM h2 a2 d n c fi xs ys col) → va_S A s.heap H locs → ∀ (ls : Array Slot), lv_has ls 4 [(0, .ref b), (1, .ref h1), (2, .ref h2), (3, .int (nI i))] → W p l e room_1 s m #[Value.ref b] below meth cd H locs 14 879 (lw_Z below #[Value.ref b] s) (F0 m 476 ls []) := by
        intro n c k fi xs ys col tp bt wy cv H locs hsh hP hD hQ hE hXX hS ls hl
        refine lv_iinc (pc := 476) (v := nI (i + 4)) (lv' := [(3, .int (nI (i + 4))), (0, .ref b), (1, .ref h1), (2, .ref h2)]) hx hb dL_law_476 hl (k := 3) rfl (nI_add i 4) (by decide) rfl (fun ls hl => ?_)
        refine lv_goto (pc := 479) (tgt := 18) hx hb dL_law_479 (by decide) ?_
        exact ih (i + 4) n c k fi xs ys col tp bt wy cv (by omega) (by omega) hsh _ _ hP hD hQ hE hXX hS ls (lv_sub hl [1, 2, 3, 0] rfl)
      refine lv_aload_n (pc := 26) hx hb dL_law_26 rfl (lv_at hl 0 rfl) ?_
      refine lv_iload_n (pc := 27) hx hb dL_law_27 rfl (lv_at hl 3 rfl) ?_
      refine z_sld (pc := 28) hx hb hX hbl hbA hS i rfl (by omega) hL dL_law_28 ?_
      refine lv_bipush (pc := 29) (v := 15) hx hb dL_law_29 (by decide) ?_
      refine lv_iand (pc := 31) hx hb dL_law_31 ?_
      obtain ⟨j, hj, ej⟩ := pk_andE (sc i) (m := 15) 4 rfl
      refine z_eq (y := nI j) ej ?_
      have hj12 : j = 0 ∨ j = 1 ∨ j = 2 ∨ j = 3 ∨ j = 4 ∨ j = 5 ∨ j = 6 ∨ j = 7 ∨ j = 8 ∨ j = 9 ∨ j = 10 ∨ j = 11 ∨ 12 ≤ j := by omega
      rcases hj12 with rfl | rfl | rfl | rfl | rfl | rfl | rfl | rfl | rfl | rfl | rfl | rfl | hj12
      · refine lv_tableIn (pc := 32) (tgt := 96) hx hb dL_law_32 (by decide) (by decide) rfl (by decide) ?_
        refine lv_aload_n (pc := 96) hx hb dL_law_96 rfl (lv_at hl 1 rfl) ?_
        refine lv_aload_n (pc := 97) hx hb dL_law_97 rfl (lv_at hl 0 rfl) ?_
        refine lv_iload_n (pc := 98) hx hb dL_law_98 rfl (lv_at hl 3 rfl) ?_
        refine lv_iconst (pc := 99) (v := 1) hx hb dL_law_99 (by decide) ?_
        refine lv_iadd (pc := 100) hx hb dL_law_100 ?_
        refine z_eq (y := nI (i + 1)) (nI_1 i) ?_
        refine z_sld (pc := 101) hx hb hX hbl hbA hS (i + 1) rfl (by omega) hL dL_law_101 ?_
        refine lv_aload_n (pc := 102) hx hb dL_law_102 rfl (lv_at hl 0 rfl) ?_
        refine lv_iload_n (pc := 103) hx hb dL_law_103 rfl (lv_at hl 3 rfl) ?_
        refine lv_iconst (pc := 104) (v := 2) hx hb dL_law_104 (by decide) ?_
        refine lv_iadd (pc := 105) hx hb dL_law_105 ?_
        refine z_eq (y := nI (i + 2)) (nI_add i 2) ?_
        refine z_sld (pc := 106) hx hb hX hbl hbA hS (i + 2) rfl (by omega) hL dL_law_106 ?_
        refine z_callIF (pc := 107) (As := [.int (sc (i + 1)), .int (sc (i + 2))]) (rest := []) hx hb hml hown hts hA hK hP hD hS hQ hXX (tX_begin l D d h1 a1 H.size n c k fi xs ys col tp bt wy cv (sc (i + 1)) (sc (i + 2)) hsh.1 hsh.2.1) (cwV 2 hts (lw_V q59 q60 q61 q14 q62) rfl rfl rfl (by decide +kernel) ⟨Nat.le_of_ble_eq_true rfl, Nat.le_of_ble_eq_true rfl⟩) (va_recv hK hP (ci := 0) (q0 := 0) rfl rfl) rfl hl.1 rfl (Nat.le_of_ble_eq_true rfl) dL_law_107 (Nat.le_of_ble_eq_true rfl) (Nat.le_of_ble_eq_true rfl) (fun r_ u_ H locs hr_ hP hD hQ hXX hS => ?_)
        obtain ⟨hr_, hu_⟩ := hr_
        subst hu_
        refine lv_aload_n (pc := 110) hx hb dL_law_110 rfl (lv_at hl 2 rfl) ?_
        refine lv_aload_n (pc := 111) hx hb dL_law_111 rfl (lv_at hl 0 rfl) ?_
        refine lv_iload_n (pc := 112) hx hb dL_law_112 rfl (lv_at hl 3 rfl) ?_
        refine lv_iconst (pc := 113) (v := 1) hx hb dL_law_113 (by decide) ?_
        refine lv_iadd (pc := 114) hx hb dL_law_114 ?_
        refine z_eq (y := nI (i + 1)) (nI_1 i) ?_
        refine z_sld (pc := 115) hx hb hX hbl hbA hS (i + 1) rfl (by omega) hL dL_law_115 ?_
        refine lv_aload_n (pc := 116) hx hb dL_law_116 rfl (lv_at hl 0 rfl) ?_
        refine lv_iload_n (pc := 117) hx hb dL_law_117 rfl (lv_at hl 3 rfl) ?_
        refine lv_iconst (pc := 118) (v := 2) hx hb dL_law_118 (by decide) ?_
        refine lv_iadd (pc := 119) hx hb dL_law_119 ?_
        refine z_eq (y := nI (i + 2)) (nI_add i 2) ?_
        refine z_sld (pc := 120) hx hb hX hbl hbA hS (i + 2) rfl (by omega) hL dL_law_120 ?_
        refine z_callIF (pc := 121) (As := [.int (sc (i + 1)), .int (sc (i + 2))]) (rest := [.int r_]) hx hb hml hown hts hA hK hQ hE hS hP hXX.symm (tM_begin l D d h2 a2 H.size n c fi xs ys col (sc (i + 1)) (sc (i + 2)) hsh.1 hsh.2.1) (cwV 2 hts (lw_V q173 q174 q175 q15 q176) rfl rfl rfl (by decide +kernel) ⟨Nat.le_of_ble_eq_true rfl, Nat.le_of_ble_eq_true rfl⟩) (va_recv hK hQ (ci := 1) (q0 := 0) rfl rfl) rfl hl.1 rfl (Nat.le_of_ble_eq_true rfl) dL_law_121 (Nat.le_of_ble_eq_true rfl) (Nat.le_of_ble_eq_true rfl) (fun r2_ u_ H locs hr2_ hQ hE hP hXX hS => ?_)
        obtain ⟨hr2_, hu_⟩ := hr2_
        subst hu_
        refine lv_icmp_eq (pc := 124) (tgt := 476) hx hb dL_law_124 (by decide) (fun c124 => ?_) (fun c124 => ?_)
        · exact next _ _ k _ _ _ col tp bt wy cv _ _ (shp_begin hsh (sc (i + 1)) (sc (i + 2))) hP hD hQ hE hXX.symm hS ls hl
        · exact absurd (hr_.trans hr2_.symm) c124
      · refine lv_tableIn (pc := 32) (tgt := 129) hx hb dL_law_32 (by decide) (by decide) rfl (by decide) ?_
        refine lv_aload_n (pc := 129) hx hb dL_law_129 rfl (lv_at hl 1 rfl) ?_
        refine lv_aload_n (pc := 130) hx hb dL_law_130 rfl (lv_at hl 0 rfl) ?_
        refine lv_iload_n (pc := 131) hx hb dL_law_131 rfl (lv_at hl 3 rfl) ?_
        refine lv_iconst (pc := 132) (v := 1) hx hb dL_law_132 (by decide) ?_
        refine lv_iadd (pc := 133) hx hb dL_law_133 ?_
        refine z_eq (y := nI (i + 1)) (nI_1 i) ?_
        refine z_sld (pc := 134) hx hb hX hbl hbA hS (i + 1) rfl (by omega) hL dL_law_134 ?_
        refine lv_aload_n (pc := 135) hx hb dL_law_135 rfl (lv_at hl 0 rfl) ?_
        refine lv_iload_n (pc := 136) hx hb dL_law_136 rfl (lv_at hl 3 rfl) ?_
        refine lv_iconst (pc := 137) (v := 2) hx hb dL_law_137 (by decide) ?_
        refine lv_iadd (pc := 138) hx hb dL_law_138 ?_
        refine z_eq (y := nI (i + 2)) (nI_add i 2) ?_
        refine z_sld (pc := 139) hx hb hX hbl hbA hS (i + 2) rfl (by omega) hL dL_law_139 ?_
        refine z_callIF (pc := 140) (As := [.int (sc (i + 1)), .int (sc (i + 2))]) (rest := []) hx hb hml hown hts hA hK hP hD hS hQ hXX (tX_corner l D d h1 a1 H.size n c k fi xs ys col tp bt wy cv (sc (i + 1)) (sc (i + 2)) hsh.1 hsh.2.1) (cwV 2 hts (lw_V q70 q71 q72 q14 q73) rfl rfl rfl (by decide +kernel) ⟨Nat.le_of_ble_eq_true rfl, Nat.le_of_ble_eq_true rfl⟩) (va_recv hK hP (ci := 0) (q0 := 0) rfl rfl) rfl hl.1 rfl (Nat.le_of_ble_eq_true rfl) dL_law_140 (Nat.le_of_ble_eq_true rfl) (Nat.le_of_ble_eq_true rfl) (fun r_ u_ H locs hr_ hP hD hQ hXX hS => ?_)
        obtain ⟨hr_, hu_⟩ := hr_
        subst hu_
        refine lv_aload_n (pc := 143) hx hb dL_law_143 rfl (lv_at hl 2 rfl) ?_
        refine lv_aload_n (pc := 144) hx hb dL_law_144 rfl (lv_at hl 0 rfl) ?_
        refine lv_iload_n (pc := 145) hx hb dL_law_145 rfl (lv_at hl 3 rfl) ?_
        refine lv_iconst (pc := 146) (v := 1) hx hb dL_law_146 (by decide) ?_
        refine lv_iadd (pc := 147) hx hb dL_law_147 ?_
        refine z_eq (y := nI (i + 1)) (nI_1 i) ?_
        refine z_sld (pc := 148) hx hb hX hbl hbA hS (i + 1) rfl (by omega) hL dL_law_148 ?_
        refine lv_aload_n (pc := 149) hx hb dL_law_149 rfl (lv_at hl 0 rfl) ?_
        refine lv_iload_n (pc := 150) hx hb dL_law_150 rfl (lv_at hl 3 rfl) ?_
        refine lv_iconst (pc := 151) (v := 2) hx hb dL_law_151 (by decide) ?_
        refine lv_iadd (pc := 152) hx hb dL_law_152 ?_
        refine z_eq (y := nI (i + 2)) (nI_add i 2) ?_
        refine z_sld (pc := 153) hx hb hX hbl hbA hS (i + 2) rfl (by omega) hL dL_law_153 ?_
        refine z_callIF (pc := 154) (As := [.int (sc (i + 1)), .int (sc (i + 2))]) (rest := [.int r_]) hx hb hml hown hts hA hK hQ hE hS hP hXX.symm (tM_corner l D d h2 a2 H.size n c fi xs ys col (sc (i + 1)) (sc (i + 2)) hsh.1 hsh.2.1) (cwV 2 hts (lw_V q185 q186 q187 q15 q188) rfl rfl rfl (by decide +kernel) ⟨Nat.le_of_ble_eq_true rfl, Nat.le_of_ble_eq_true rfl⟩) (va_recv hK hQ (ci := 1) (q0 := 0) rfl rfl) rfl hl.1 rfl (Nat.le_of_ble_eq_true rfl) dL_law_154 (Nat.le_of_ble_eq_true rfl) (Nat.le_of_ble_eq_true rfl) (fun r2_ u_ H locs hr2_ hQ hE hP hXX hS => ?_)
        obtain ⟨hr2_, hu_⟩ := hr2_
        subst hu_
        refine lv_icmp_eq (pc := 157) (tgt := 476) hx hb dL_law_157 (by decide) (fun c157 => ?_) (fun c157 => ?_)
        · exact next _ _ k _ _ _ col tp bt wy cv _ _ (shp_corner hsh (sc (i + 1)) (sc (i + 2))) hP hD hQ hE hXX.symm hS ls hl
        · exact absurd (hr_.trans hr2_.symm) c157
      · refine lv_tableIn (pc := 32) (tgt := 162) hx hb dL_law_32 (by decide) (by decide) rfl (by decide) ?_
        refine lv_aload_n (pc := 162) hx hb dL_law_162 rfl (lv_at hl 1 rfl) ?_
        refine lv_aload_n (pc := 163) hx hb dL_law_163 rfl (lv_at hl 0 rfl) ?_
        refine lv_iload_n (pc := 164) hx hb dL_law_164 rfl (lv_at hl 3 rfl) ?_
        refine lv_iconst (pc := 165) (v := 1) hx hb dL_law_165 (by decide) ?_
        refine lv_iadd (pc := 166) hx hb dL_law_166 ?_
        refine z_eq (y := nI (i + 1)) (nI_1 i) ?_
        refine z_sld (pc := 167) hx hb hX hbl hbA hS (i + 1) rfl (by omega) hL dL_law_167 ?_
        refine lv_aload_n (pc := 168) hx hb dL_law_168 rfl (lv_at hl 0 rfl) ?_
        refine lv_iload_n (pc := 169) hx hb dL_law_169 rfl (lv_at hl 3 rfl) ?_
        refine lv_iconst (pc := 170) (v := 2) hx hb dL_law_170 (by decide) ?_
        refine lv_iadd (pc := 171) hx hb dL_law_171 ?_
        refine z_eq (y := nI (i + 2)) (nI_add i 2) ?_
        refine z_sld (pc := 172) hx hb hX hbl hbA hS (i + 2) rfl (by omega) hL dL_law_172 ?_
        refine z_callIF (pc := 173) (As := [.int (sc (i + 1)), .int (sc (i + 2))]) (rest := []) hx hb hml hown hts hA hK hP hD hS hQ hXX (tX_move l D d h1 a1 H.size n c k fi xs ys col tp bt wy cv (sc (i + 1)) (sc (i + 2)) hsh.2.1 hsh.2.2.2.2.2.2) (cwV 2 hts (lw_V q74 q75 q76 q14 q77) rfl rfl rfl (by decide +kernel) ⟨Nat.le_of_ble_eq_true rfl, Nat.le_of_ble_eq_true rfl⟩) (va_recv hK hP (ci := 0) (q0 := 0) rfl rfl) rfl hl.1 rfl (Nat.le_of_ble_eq_true rfl) dL_law_173 (Nat.le_of_ble_eq_true rfl) (Nat.le_of_ble_eq_true rfl) (fun r_ u_ H locs hr_ hP hD hQ hXX hS => ?_)
        refine lv_aload_n (pc := 176) hx hb dL_law_176 rfl (lv_at hl 2 rfl) ?_
        refine lv_aload_n (pc := 177) hx hb dL_law_177 rfl (lv_at hl 0 rfl) ?_
        refine lv_iload_n (pc := 178) hx hb dL_law_178 rfl (lv_at hl 3 rfl) ?_
        refine lv_iconst (pc := 179) (v := 1) hx hb dL_law_179 (by decide) ?_
        refine lv_iadd (pc := 180) hx hb dL_law_180 ?_
        refine z_eq (y := nI (i + 1)) (nI_1 i) ?_
        refine z_sld (pc := 181) hx hb hX hbl hbA hS (i + 1) rfl (by omega) hL dL_law_181 ?_
        refine lv_aload_n (pc := 182) hx hb dL_law_182 rfl (lv_at hl 0 rfl) ?_
        refine lv_iload_n (pc := 183) hx hb dL_law_183 rfl (lv_at hl 3 rfl) ?_
        refine lv_iconst (pc := 184) (v := 2) hx hb dL_law_184 (by decide) ?_
        refine lv_iadd (pc := 185) hx hb dL_law_185 ?_
        refine z_eq (y := nI (i + 2)) (nI_add i 2) ?_
        refine z_sld (pc := 186) hx hb hX hbl hbA hS (i + 2) rfl (by omega) hL dL_law_186 ?_
        refine z_callIF (pc := 187) (As := [.int (sc (i + 1)), .int (sc (i + 2))]) (rest := [.int r_]) hx hb hml hown hts hA hK hQ hE hS hP hXX.symm (tM_move l D d h2 a2 H.size n c fi xs ys col (sc (i + 1)) (sc (i + 2)) hsh.2.1 hsh.2.2.2.2.2.2) (cwV 2 hts (lw_V q189 q190 q191 q15 q192) rfl rfl rfl (by decide +kernel) ⟨Nat.le_of_ble_eq_true rfl, Nat.le_of_ble_eq_true rfl⟩) (va_recv hK hQ (ci := 1) (q0 := 0) rfl rfl) rfl hl.1 rfl (Nat.le_of_ble_eq_true rfl) dL_law_187 (Nat.le_of_ble_eq_true rfl) (Nat.le_of_ble_eq_true rfl) (fun r2_ u2_ H locs hr2_ hQ hE hP hXX hS => ?_)
        have hmv : r_ = r2_ ∧ u_ = u2_ ∧ shp n c fi u_.1 u_.2 := by
          by_cases hm : mvOK c xs ys (sc (i + 1)) (sc (i + 2))
          · obtain ⟨x1, x2⟩ := hr_.1 hm; obtain ⟨y1, y2⟩ := hr2_.1 hm; exact ⟨x1.trans y1.symm, x2.trans y2.symm, by rw [x2]; exact shp_move hsh hm⟩
          · obtain ⟨x1, x2⟩ := hr_.2 hm; obtain ⟨y1, y2⟩ := hr2_.2 hm; exact ⟨x1.trans y1.symm, x2.trans y2.symm, by rw [x2]; exact hsh⟩
        obtain ⟨hm1, hm2, hm3⟩ := hmv
        subst hm2
        refine lv_icmp_eq (pc := 190) (tgt := 476) hx hb dL_law_190 (by decide) (fun c190 => ?_) (fun c190 => ?_)
        · exact next n c k fi _ _ col tp bt wy cv _ _ hm3 hP hD hQ hE hXX.symm hS ls hl
        · exact absurd hm1 c190
      · refine lv_tableIn (pc := 32) (tgt := 195) hx hb dL_law_32 (by decide) (by decide) rfl (by decide) ?_
        refine lv_aload_n (pc := 195) hx hb dL_law_195 rfl (lv_at hl 1 rfl) ?_
        refine z_callVF (pc := 196) (As := []) (rest := []) hx hb hml hown hts hA hK hP hD hS hQ hXX (tX_mirror l D d h1 a1 H.size n c k fi xs ys col tp bt wy cv hsh.2.1) (cwV 0 hts (lw_V q78 q79 q80 q14 q81) rfl rfl rfl (by decide +kernel) ⟨Nat.le_of_ble_eq_true rfl, Nat.le_of_ble_eq_true rfl⟩) (va_recv hK hP (ci := 0) (q0 := 0) rfl rfl) rfl hl.1 rfl (Nat.le_of_ble_eq_true rfl) dL_law_196 (Nat.le_of_ble_eq_true rfl) (Nat.le_of_ble_eq_true rfl) (fun u_ H locs hu_ hP hD hQ hXX hS => ?_)
        refine lv_aload_n (pc := 199) hx hb dL_law_199 rfl (lv_at hl 2 rfl) ?_
        refine z_callVF (pc := 200) (As := []) (rest := []) hx hb hml hown hts hA hK hQ hE hS hP hXX.symm (tM_mirror l D d h2 a2 H.size n c fi xs ys col hsh.2.1) (cwV 0 hts (lw_V q193 q194 q195 q15 q196) rfl rfl rfl (by decide +kernel) ⟨Nat.le_of_ble_eq_true rfl, Nat.le_of_ble_eq_true rfl⟩) (va_recv hK hQ (ci := 1) (q0 := 0) rfl rfl) rfl hl.1 rfl (Nat.le_of_ble_eq_true rfl) dL_law_200 (Nat.le_of_ble_eq_true rfl) (Nat.le_of_ble_eq_true rfl) (fun u_ H locs hu_ hQ hE hP hXX hS => ?_)
        refine lv_goto (pc := 203) (tgt := 476) hx hb dL_law_203 (by decide) ?_
        exact next _ _ k _ _ _ col tp bt wy cv _ _ (shp_mirror hsh) hP hD hQ hE hXX.symm hS ls hl
      · refine lv_tableIn (pc := 32) (tgt := 206) hx hb dL_law_32 (by decide) (by decide) rfl (by decide) ?_
        refine lv_aload_n (pc := 206) hx hb dL_law_206 rfl (lv_at hl 1 rfl) ?_
        refine z_callVF (pc := 207) (As := []) (rest := []) hx hb hml hown hts hA hK hP hD hS hQ hXX (tX_clear l D d h1 a1 H.size n c k fi xs ys col tp bt wy cv) (cwV 0 hts (lw_V q82 q83 q84 q14 q85) rfl rfl rfl (by decide +kernel) ⟨Nat.le_of_ble_eq_true rfl, Nat.le_of_ble_eq_true rfl⟩) (va_recv hK hP (ci := 0) (q0 := 0) rfl rfl) rfl hl.1 rfl (Nat.le_of_ble_eq_true rfl) dL_law_207 (Nat.le_of_ble_eq_true rfl) (Nat.le_of_ble_eq_true rfl) (fun u_ H locs hu_ hP hD hQ hXX hS => ?_)
        refine lv_aload_n (pc := 210) hx hb dL_law_210 rfl (lv_at hl 2 rfl) ?_
        refine z_callVF (pc := 211) (As := []) (rest := []) hx hb hml hown hts hA hK hQ hE hS hP hXX.symm (tM_clear l D d h2 a2 H.size n c fi xs ys col) (cwV 0 hts (lw_V q197 q198 q199 q15 q200) rfl rfl rfl (by decide +kernel) ⟨Nat.le_of_ble_eq_true rfl, Nat.le_of_ble_eq_true rfl⟩) (va_recv hK hQ (ci := 1) (q0 := 0) rfl rfl) rfl hl.1 rfl (Nat.le_of_ble_eq_true rfl) dL_law_211 (Nat.le_of_ble_eq_true rfl) (Nat.le_of_ble_eq_true rfl) (fun u_ H locs hu_ hQ hE hP hXX hS => ?_)
        refine lv_goto (pc := 214) (tgt := 476) hx hb dL_law_214 (by decide) ?_
        exact next _ _ k _ _ _ col tp bt wy cv _ _ (shp_clear hsh) hP hD hQ hE hXX.symm hS ls hl
      · refine lv_tableIn (pc := 32) (tgt := 217) hx hb dL_law_32 (by decide) (by decide) rfl (by decide) ?_
        refine lv_aload_n (pc := 217) hx hb dL_law_217 rfl (lv_at hl 1 rfl) ?_
        refine lv_aload_n (pc := 218) hx hb dL_law_218 rfl (lv_at hl 0 rfl) ?_
        refine lv_iload_n (pc := 219) hx hb dL_law_219 rfl (lv_at hl 3 rfl) ?_
        refine lv_iconst (pc := 220) (v := 1) hx hb dL_law_220 (by decide) ?_
        refine lv_iadd (pc := 221) hx hb dL_law_221 ?_
        refine z_eq (y := nI (i + 1)) (nI_1 i) ?_
        refine z_sld (pc := 222) hx hb hX hbl hbA hS (i + 1) rfl (by omega) hL dL_law_222 ?_
        refine lv_aload_n (pc := 223) hx hb dL_law_223 rfl (lv_at hl 0 rfl) ?_
        refine lv_iload_n (pc := 224) hx hb dL_law_224 rfl (lv_at hl 3 rfl) ?_
        refine lv_iconst (pc := 225) (v := 2) hx hb dL_law_225 (by decide) ?_
        refine lv_iadd (pc := 226) hx hb dL_law_226 ?_
        refine z_eq (y := nI (i + 2)) (nI_add i 2) ?_
        refine z_sld (pc := 227) hx hb hX hbl hbA hS (i + 2) rfl (by omega) hL dL_law_227 ?_
        refine lv_if_eq (pc := 228) (tgt := 235) hx hb dL_law_228 (by decide) (fun c228 => ?_) (fun c228 => ?_)
        · refine lv_iconst (pc := 235) (v := 0) hx hb dL_law_235 (by decide) ?_
          refine z_callIF (pc := 236) (As := [.int (sc (i + 1)), .int 0]) (rest := []) hx hb hml hown hts hA hK hP hD hS hQ hXX (tX_paint l D d h1 a1 H.size n c k fi xs ys col tp bt wy cv (sc (i + 1)) 0 hsh) (cwV 2 hts (lw_V q86 q87 q88 q14 q89) rfl rfl rfl (by decide +kernel) ⟨Nat.le_of_ble_eq_true rfl, Nat.le_of_ble_eq_true rfl⟩) (va_recv hK hP (ci := 0) (q0 := 0) rfl rfl) rfl hl.1 rfl (Nat.le_of_ble_eq_true rfl) dL_law_236 (Nat.le_of_ble_eq_true rfl) (Nat.le_of_ble_eq_true rfl) (fun r_ u_ H locs hr_ hP hD hQ hXX hS => ?_)
          obtain ⟨k, tp, bt, wy, cv⟩ := u_
          refine lv_aload_n (pc := 239) hx hb dL_law_239 rfl (lv_at hl 2 rfl) ?_
          refine lv_aload_n (pc := 240) hx hb dL_law_240 rfl (lv_at hl 0 rfl) ?_
          refine lv_iload_n (pc := 241) hx hb dL_law_241 rfl (lv_at hl 3 rfl) ?_
          refine lv_iconst (pc := 242) (v := 1) hx hb dL_law_242 (by decide) ?_
          refine lv_iadd (pc := 243) hx hb dL_law_243 ?_
          refine z_eq (y := nI (i + 1)) (nI_1 i) ?_
          refine z_sld (pc := 244) hx hb hX hbl hbA hS (i + 1) rfl (by omega) hL dL_law_244 ?_
          refine lv_aload_n (pc := 245) hx hb dL_law_245 rfl (lv_at hl 0 rfl) ?_
          refine lv_iload_n (pc := 246) hx hb dL_law_246 rfl (lv_at hl 3 rfl) ?_
          refine lv_iconst (pc := 247) (v := 2) hx hb dL_law_247 (by decide) ?_
          refine lv_iadd (pc := 248) hx hb dL_law_248 ?_
          refine z_eq (y := nI (i + 2)) (nI_add i 2) ?_
          refine z_sld (pc := 249) hx hb hX hbl hbA hS (i + 2) rfl (by omega) hL dL_law_249 ?_
          refine lv_if_eq (pc := 250) (tgt := 257) hx hb dL_law_250 (by decide) (fun c250 => ?_) (fun c250 => ?_)
          · refine lv_iconst (pc := 257) (v := 0) hx hb dL_law_257 (by decide) ?_
            refine z_callIF (pc := 258) (As := [.int (sc (i + 1)), .int 0]) (rest := [.int r_]) hx hb hml hown hts hA hK hQ hE hS hP hXX.symm (tM_paint l D d h2 a2 H.size n c fi xs ys col (sc (i + 1)) 0 hsh) (cwV 2 hts (lw_V q201 q202 q203 q15 q204) rfl rfl rfl (by decide +kernel) ⟨Nat.le_of_ble_eq_true rfl, Nat.le_of_ble_eq_true rfl⟩) (va_recv hK hQ (ci := 1) (q0 := 0) rfl rfl) rfl hl.1 rfl (Nat.le_of_ble_eq_true rfl) dL_law_258 (Nat.le_of_ble_eq_true rfl) (Nat.le_of_ble_eq_true rfl) (fun r2_ u_ H locs hr2_ hQ hE hP hXX hS => ?_)
            refine lv_icmp_eq (pc := 261) (tgt := 476) hx hb dL_law_261 (by decide) (fun c261 => ?_) (fun c261 => ?_)
            · exact next n c k fi xs ys _ tp bt wy cv _ _ hsh hP hD hQ hE hXX.symm hS ls hl
            · exact absurd (hr_.trans hr2_.symm) c261
          · exact absurd c228 c250
        · refine lv_iconst (pc := 231) (v := 1) hx hb dL_law_231 (by decide) ?_
          refine lv_goto (pc := 232) (tgt := 236) hx hb dL_law_232 (by decide) ?_
          refine z_callIF (pc := 236) (As := [.int (sc (i + 1)), .int 1]) (rest := []) hx hb hml hown hts hA hK hP hD hS hQ hXX (tX_paint l D d h1 a1 H.size n c k fi xs ys col tp bt wy cv (sc (i + 1)) 1 hsh) (cwV 2 hts (lw_V q86 q87 q88 q14 q89) rfl rfl rfl (by decide +kernel) ⟨Nat.le_of_ble_eq_true rfl, Nat.le_of_ble_eq_true rfl⟩) (va_recv hK hP (ci := 0) (q0 := 0) rfl rfl) rfl hl.1 rfl (Nat.le_of_ble_eq_true rfl) dL_law_236 (Nat.le_of_ble_eq_true rfl) (Nat.le_of_ble_eq_true rfl) (fun r_ u_ H locs hr_ hP hD hQ hXX hS => ?_)
          obtain ⟨k, tp, bt, wy, cv⟩ := u_
          refine lv_aload_n (pc := 239) hx hb dL_law_239 rfl (lv_at hl 2 rfl) ?_
          refine lv_aload_n (pc := 240) hx hb dL_law_240 rfl (lv_at hl 0 rfl) ?_
          refine lv_iload_n (pc := 241) hx hb dL_law_241 rfl (lv_at hl 3 rfl) ?_
          refine lv_iconst (pc := 242) (v := 1) hx hb dL_law_242 (by decide) ?_
          refine lv_iadd (pc := 243) hx hb dL_law_243 ?_
          refine z_eq (y := nI (i + 1)) (nI_1 i) ?_
          refine z_sld (pc := 244) hx hb hX hbl hbA hS (i + 1) rfl (by omega) hL dL_law_244 ?_
          refine lv_aload_n (pc := 245) hx hb dL_law_245 rfl (lv_at hl 0 rfl) ?_
          refine lv_iload_n (pc := 246) hx hb dL_law_246 rfl (lv_at hl 3 rfl) ?_
          refine lv_iconst (pc := 247) (v := 2) hx hb dL_law_247 (by decide) ?_
          refine lv_iadd (pc := 248) hx hb dL_law_248 ?_
          refine z_eq (y := nI (i + 2)) (nI_add i 2) ?_
          refine z_sld (pc := 249) hx hb hX hbl hbA hS (i + 2) rfl (by omega) hL dL_law_249 ?_
          refine lv_if_eq (pc := 250) (tgt := 257) hx hb dL_law_250 (by decide) (fun c250 => ?_) (fun c250 => ?_)
          · exact absurd c250 c228
          · refine lv_iconst (pc := 253) (v := 1) hx hb dL_law_253 (by decide) ?_
            refine lv_goto (pc := 254) (tgt := 258) hx hb dL_law_254 (by decide) ?_
            refine z_callIF (pc := 258) (As := [.int (sc (i + 1)), .int 1]) (rest := [.int r_]) hx hb hml hown hts hA hK hQ hE hS hP hXX.symm (tM_paint l D d h2 a2 H.size n c fi xs ys col (sc (i + 1)) 1 hsh) (cwV 2 hts (lw_V q201 q202 q203 q15 q204) rfl rfl rfl (by decide +kernel) ⟨Nat.le_of_ble_eq_true rfl, Nat.le_of_ble_eq_true rfl⟩) (va_recv hK hQ (ci := 1) (q0 := 0) rfl rfl) rfl hl.1 rfl (Nat.le_of_ble_eq_true rfl) dL_law_258 (Nat.le_of_ble_eq_true rfl) (Nat.le_of_ble_eq_true rfl) (fun r2_ u_ H locs hr2_ hQ hE hP hXX hS => ?_)
            refine lv_icmp_eq (pc := 261) (tgt := 476) hx hb dL_law_261 (by decide) (fun c261 => ?_) (fun c261 => ?_)
            · exact next n c k fi xs ys _ tp bt wy cv _ _ hsh hP hD hQ hE hXX.symm hS ls hl
            · exact absurd (hr_.trans hr2_.symm) c261
      · refine lv_tableIn (pc := 32) (tgt := 266) hx hb dL_law_32 (by decide) (by decide) rfl (by decide) ?_
        refine lv_aload_n (pc := 266) hx hb dL_law_266 rfl (lv_at hl 1 rfl) ?_
        refine lv_aload_n (pc := 267) hx hb dL_law_267 rfl (lv_at hl 0 rfl) ?_
        refine lv_iload_n (pc := 268) hx hb dL_law_268 rfl (lv_at hl 3 rfl) ?_
        refine lv_iconst (pc := 269) (v := 1) hx hb dL_law_269 (by decide) ?_
        refine lv_iadd (pc := 270) hx hb dL_law_270 ?_
        refine z_eq (y := nI (i + 1)) (nI_1 i) ?_
        refine z_sld (pc := 271) hx hb hX hbl hbA hS (i + 1) rfl (by omega) hL dL_law_271 ?_
        refine z_callIF (pc := 272) (As := [.int (sc (i + 1))]) (rest := []) hx hb hml hown hts hA hK hP hD hS hQ hXX (tX_wipe l D d h1 a1 H.size n c k fi xs ys col tp bt wy cv (sc (i + 1))) (cwV 1 hts (lw_V q121 q122 q123 q14 q124) rfl rfl rfl (by decide +kernel) ⟨Nat.le_of_ble_eq_true rfl, Nat.le_of_ble_eq_true rfl⟩) (va_recv hK hP (ci := 0) (q0 := 0) rfl rfl) rfl hl.1 rfl (Nat.le_of_ble_eq_true rfl) dL_law_272 (Nat.le_of_ble_eq_true rfl) (Nat.le_of_ble_eq_true rfl) (fun r_ u_ H locs hr_ hP hD hQ hXX hS => ?_)
        refine lv_aload_n (pc := 275) hx hb dL_law_275 rfl (lv_at hl 2 rfl) ?_
        refine lv_aload_n (pc := 276) hx hb dL_law_276 rfl (lv_at hl 0 rfl) ?_
        refine lv_iload_n (pc := 277) hx hb dL_law_277 rfl (lv_at hl 3 rfl) ?_
        refine lv_iconst (pc := 278) (v := 1) hx hb dL_law_278 (by decide) ?_
        refine lv_iadd (pc := 279) hx hb dL_law_279 ?_
        refine z_eq (y := nI (i + 1)) (nI_1 i) ?_
        refine z_sld (pc := 280) hx hb hX hbl hbA hS (i + 1) rfl (by omega) hL dL_law_280 ?_
        refine z_callIF (pc := 281) (As := [.int (sc (i + 1))]) (rest := [.int r_]) hx hb hml hown hts hA hK hQ hE hS hP hXX.symm (tM_wipe l D d h2 a2 H.size n c fi xs ys col (sc (i + 1))) (cwV 1 hts (lw_V q225 q226 q227 q15 q228) rfl rfl rfl (by decide +kernel) ⟨Nat.le_of_ble_eq_true rfl, Nat.le_of_ble_eq_true rfl⟩) (va_recv hK hQ (ci := 1) (q0 := 0) rfl rfl) rfl hl.1 rfl (Nat.le_of_ble_eq_true rfl) dL_law_281 (Nat.le_of_ble_eq_true rfl) (Nat.le_of_ble_eq_true rfl) (fun r2_ u_ H locs hr2_ hQ hE hP hXX hS => ?_)
        refine lv_icmp_eq (pc := 284) (tgt := 476) hx hb dL_law_284 (by decide) (fun c284 => ?_) (fun c284 => ?_)
        · exact next n c k fi xs ys _ tp bt wy cv _ _ hsh hP hD hQ hE hXX.symm hS ls hl
        · exact absurd (hr_.trans hr2_.symm) c284
      · refine lv_tableIn (pc := 32) (tgt := 289) hx hb dL_law_32 (by decide) (by decide) rfl (by decide) ?_
        refine lv_aload_n (pc := 289) hx hb dL_law_289 rfl (lv_at hl 1 rfl) ?_
        refine lv_aload_n (pc := 290) hx hb dL_law_290 rfl (lv_at hl 0 rfl) ?_
        refine lv_iload_n (pc := 291) hx hb dL_law_291 rfl (lv_at hl 3 rfl) ?_
        refine lv_iconst (pc := 292) (v := 1) hx hb dL_law_292 (by decide) ?_
        refine lv_iadd (pc := 293) hx hb dL_law_293 ?_
        refine z_eq (y := nI (i + 1)) (nI_1 i) ?_
        refine z_sld (pc := 294) hx hb hX hbl hbA hS (i + 1) rfl (by omega) hL dL_law_294 ?_
        refine lv_aload_n (pc := 295) hx hb dL_law_295 rfl (lv_at hl 0 rfl) ?_
        refine lv_iload_n (pc := 296) hx hb dL_law_296 rfl (lv_at hl 3 rfl) ?_
        refine lv_iconst (pc := 297) (v := 2) hx hb dL_law_297 (by decide) ?_
        refine lv_iadd (pc := 298) hx hb dL_law_298 ?_
        refine z_eq (y := nI (i + 2)) (nI_add i 2) ?_
        refine z_sld (pc := 299) hx hb hX hbl hbA hS (i + 2) rfl (by omega) hL dL_law_299 ?_
        refine z_callIF (pc := 300) (As := [.int (sc (i + 1)), .int (sc (i + 2))]) (rest := []) hx hb hml hown hts hA hK hP hD hS hQ hXX (tX_pixel l D d h1 a1 H.size n c k fi xs ys col tp bt wy cv (sc (i + 1)) (sc (i + 2))) (cwV 2 hts (lw_V q125 q126 q127 q14 q128) rfl rfl rfl (by decide +kernel) ⟨Nat.le_of_ble_eq_true rfl, Nat.le_of_ble_eq_true rfl⟩) (va_recv hK hP (ci := 0) (q0 := 0) rfl rfl) rfl hl.1 rfl (Nat.le_of_ble_eq_true rfl) dL_law_300 (Nat.le_of_ble_eq_true rfl) (Nat.le_of_ble_eq_true rfl) (fun r_ u_ H locs hr_ hP hD hQ hXX hS => ?_)
        refine lv_aload_n (pc := 303) hx hb dL_law_303 rfl (lv_at hl 2 rfl) ?_
        refine lv_aload_n (pc := 304) hx hb dL_law_304 rfl (lv_at hl 0 rfl) ?_
        refine lv_iload_n (pc := 305) hx hb dL_law_305 rfl (lv_at hl 3 rfl) ?_
        refine lv_iconst (pc := 306) (v := 1) hx hb dL_law_306 (by decide) ?_
        refine lv_iadd (pc := 307) hx hb dL_law_307 ?_
        refine z_eq (y := nI (i + 1)) (nI_1 i) ?_
        refine z_sld (pc := 308) hx hb hX hbl hbA hS (i + 1) rfl (by omega) hL dL_law_308 ?_
        refine lv_aload_n (pc := 309) hx hb dL_law_309 rfl (lv_at hl 0 rfl) ?_
        refine lv_iload_n (pc := 310) hx hb dL_law_310 rfl (lv_at hl 3 rfl) ?_
        refine lv_iconst (pc := 311) (v := 2) hx hb dL_law_311 (by decide) ?_
        refine lv_iadd (pc := 312) hx hb dL_law_312 ?_
        refine z_eq (y := nI (i + 2)) (nI_add i 2) ?_
        refine z_sld (pc := 313) hx hb hX hbl hbA hS (i + 2) rfl (by omega) hL dL_law_313 ?_
        refine z_callIF (pc := 314) (As := [.int (sc (i + 1)), .int (sc (i + 2))]) (rest := [.int r_]) hx hb hml hown hts hA hK hQ hE hS hP hXX.symm (tM_pixel l D d h2 a2 H.size n c fi xs ys col (sc (i + 1)) (sc (i + 2))) (cwV 2 hts (lw_V q229 q230 q231 q15 q232) rfl rfl rfl (by decide +kernel) ⟨Nat.le_of_ble_eq_true rfl, Nat.le_of_ble_eq_true rfl⟩) (va_recv hK hQ (ci := 1) (q0 := 0) rfl rfl) rfl hl.1 rfl (Nat.le_of_ble_eq_true rfl) dL_law_314 (Nat.le_of_ble_eq_true rfl) (Nat.le_of_ble_eq_true rfl) (fun r2_ u_ H locs hr2_ hQ hE hP hXX hS => ?_)
        refine lv_icmp_eq (pc := 317) (tgt := 476) hx hb dL_law_317 (by decide) (fun c317 => ?_) (fun c317 => ?_)
        · exact next n c k fi xs ys col tp bt wy cv _ _ hsh hP hD hQ hE hXX.symm hS ls hl
        · exact absurd (hr_.trans hr2_.symm) c317
      · refine lv_tableIn (pc := 32) (tgt := 322) hx hb dL_law_32 (by decide) (by decide) rfl (by decide) ?_
        refine lv_aload_n (pc := 322) hx hb dL_law_322 rfl (lv_at hl 1 rfl) ?_
        refine lv_aload_n (pc := 323) hx hb dL_law_323 rfl (lv_at hl 0 rfl) ?_
        refine lv_iload_n (pc := 324) hx hb dL_law_324 rfl (lv_at hl 3 rfl) ?_
        refine lv_iconst (pc := 325) (v := 1) hx hb dL_law_325 (by decide) ?_
        refine lv_iadd (pc := 326) hx hb dL_law_326 ?_
        refine z_eq (y := nI (i + 1)) (nI_1 i) ?_
        refine z_sld (pc := 327) hx hb hX hbl hbA hS (i + 1) rfl (by omega) hL dL_law_327 ?_
        refine lv_aload_n (pc := 328) hx hb dL_law_328 rfl (lv_at hl 0 rfl) ?_
        refine lv_iload_n (pc := 329) hx hb dL_law_329 rfl (lv_at hl 3 rfl) ?_
        refine lv_iconst (pc := 330) (v := 2) hx hb dL_law_330 (by decide) ?_
        refine lv_iadd (pc := 331) hx hb dL_law_331 ?_
        refine z_eq (y := nI (i + 2)) (nI_add i 2) ?_
        refine z_sld (pc := 332) hx hb hX hbl hbA hS (i + 2) rfl (by omega) hL dL_law_332 ?_
        refine lv_aload_n (pc := 333) hx hb dL_law_333 rfl (lv_at hl 0 rfl) ?_
        refine lv_iload_n (pc := 334) hx hb dL_law_334 rfl (lv_at hl 3 rfl) ?_
        refine lv_iconst (pc := 335) (v := 3) hx hb dL_law_335 (by decide) ?_
        refine lv_iadd (pc := 336) hx hb dL_law_336 ?_
        refine z_eq (y := nI (i + 3)) (nI_add i 3) ?_
        refine z_sld (pc := 337) hx hb hX hbl hbA hS (i + 3) rfl (by omega) hL dL_law_337 ?_
        refine lv_if_eq (pc := 338) (tgt := 345) hx hb dL_law_338 (by decide) (fun c338 => ?_) (fun c338 => ?_)
        · refine lv_iconst (pc := 345) (v := 0) hx hb dL_law_345 (by decide) ?_
          refine z_callIF (pc := 346) (As := [.int (sc (i + 1)), .int (sc (i + 2)), .int 0]) (rest := []) hx hb hml hown hts hA hK hP hD hS hQ hXX (tX_coverage l D d h1 a1 H.size n c k fi xs ys col tp bt wy cv (sc (i + 1)) (sc (i + 2)) 0 hsh) (cwV 3 hts (lw_V q132 q133 q134 q14 q135) rfl rfl rfl (by decide +kernel) ⟨Nat.le_of_ble_eq_true rfl, Nat.le_of_ble_eq_true rfl⟩) (va_recv hK hP (ci := 0) (q0 := 0) rfl rfl) rfl hl.1 rfl (Nat.le_of_ble_eq_true rfl) dL_law_346 (Nat.le_of_ble_eq_true rfl) (Nat.le_of_ble_eq_true rfl) (fun r_ u_ H locs hr_ hP hD hQ hXX hS => ?_)
          obtain ⟨k, tp, bt, wy, cv⟩ := u_
          refine lv_aload_n (pc := 349) hx hb dL_law_349 rfl (lv_at hl 2 rfl) ?_
          refine lv_aload_n (pc := 350) hx hb dL_law_350 rfl (lv_at hl 0 rfl) ?_
          refine lv_iload_n (pc := 351) hx hb dL_law_351 rfl (lv_at hl 3 rfl) ?_
          refine lv_iconst (pc := 352) (v := 1) hx hb dL_law_352 (by decide) ?_
          refine lv_iadd (pc := 353) hx hb dL_law_353 ?_
          refine z_eq (y := nI (i + 1)) (nI_1 i) ?_
          refine z_sld (pc := 354) hx hb hX hbl hbA hS (i + 1) rfl (by omega) hL dL_law_354 ?_
          refine lv_aload_n (pc := 355) hx hb dL_law_355 rfl (lv_at hl 0 rfl) ?_
          refine lv_iload_n (pc := 356) hx hb dL_law_356 rfl (lv_at hl 3 rfl) ?_
          refine lv_iconst (pc := 357) (v := 2) hx hb dL_law_357 (by decide) ?_
          refine lv_iadd (pc := 358) hx hb dL_law_358 ?_
          refine z_eq (y := nI (i + 2)) (nI_add i 2) ?_
          refine z_sld (pc := 359) hx hb hX hbl hbA hS (i + 2) rfl (by omega) hL dL_law_359 ?_
          refine lv_aload_n (pc := 360) hx hb dL_law_360 rfl (lv_at hl 0 rfl) ?_
          refine lv_iload_n (pc := 361) hx hb dL_law_361 rfl (lv_at hl 3 rfl) ?_
          refine lv_iconst (pc := 362) (v := 3) hx hb dL_law_362 (by decide) ?_
          refine lv_iadd (pc := 363) hx hb dL_law_363 ?_
          refine z_eq (y := nI (i + 3)) (nI_add i 3) ?_
          refine z_sld (pc := 364) hx hb hX hbl hbA hS (i + 3) rfl (by omega) hL dL_law_364 ?_
          refine lv_if_eq (pc := 365) (tgt := 372) hx hb dL_law_365 (by decide) (fun c365 => ?_) (fun c365 => ?_)
          · refine lv_iconst (pc := 372) (v := 0) hx hb dL_law_372 (by decide) ?_
            refine z_callIF (pc := 373) (As := [.int (sc (i + 1)), .int (sc (i + 2)), .int 0]) (rest := [.int r_]) hx hb hml hown hts hA hK hQ hE hS hP hXX.symm (tM_coverage l D d h2 a2 H.size n c fi xs ys col (sc (i + 1)) (sc (i + 2)) 0 hsh) (cwV 3 hts (lw_V q233 q206 q207 q15 q208) rfl rfl rfl (by decide +kernel) ⟨Nat.le_of_ble_eq_true rfl, Nat.le_of_ble_eq_true rfl⟩) (va_recv hK hQ (ci := 1) (q0 := 0) rfl rfl) rfl hl.1 rfl (Nat.le_of_ble_eq_true rfl) dL_law_373 (Nat.le_of_ble_eq_true rfl) (Nat.le_of_ble_eq_true rfl) (fun r2_ u_ H locs hr2_ hQ hE hP hXX hS => ?_)
            refine lv_icmp_eq (pc := 376) (tgt := 476) hx hb dL_law_376 (by decide) (fun c376 => ?_) (fun c376 => ?_)
            · exact next n c k fi xs ys col tp bt wy cv _ _ hsh hP hD hQ hE hXX.symm hS ls hl
            · exact absurd (hr_.trans hr2_.symm) c376
          · exact absurd c338 c365
        · refine lv_iconst (pc := 341) (v := 1) hx hb dL_law_341 (by decide) ?_
          refine lv_goto (pc := 342) (tgt := 346) hx hb dL_law_342 (by decide) ?_
          refine z_callIF (pc := 346) (As := [.int (sc (i + 1)), .int (sc (i + 2)), .int 1]) (rest := []) hx hb hml hown hts hA hK hP hD hS hQ hXX (tX_coverage l D d h1 a1 H.size n c k fi xs ys col tp bt wy cv (sc (i + 1)) (sc (i + 2)) 1 hsh) (cwV 3 hts (lw_V q132 q133 q134 q14 q135) rfl rfl rfl (by decide +kernel) ⟨Nat.le_of_ble_eq_true rfl, Nat.le_of_ble_eq_true rfl⟩) (va_recv hK hP (ci := 0) (q0 := 0) rfl rfl) rfl hl.1 rfl (Nat.le_of_ble_eq_true rfl) dL_law_346 (Nat.le_of_ble_eq_true rfl) (Nat.le_of_ble_eq_true rfl) (fun r_ u_ H locs hr_ hP hD hQ hXX hS => ?_)
          obtain ⟨k, tp, bt, wy, cv⟩ := u_
          refine lv_aload_n (pc := 349) hx hb dL_law_349 rfl (lv_at hl 2 rfl) ?_
          refine lv_aload_n (pc := 350) hx hb dL_law_350 rfl (lv_at hl 0 rfl) ?_
          refine lv_iload_n (pc := 351) hx hb dL_law_351 rfl (lv_at hl 3 rfl) ?_
          refine lv_iconst (pc := 352) (v := 1) hx hb dL_law_352 (by decide) ?_
          refine lv_iadd (pc := 353) hx hb dL_law_353 ?_
          refine z_eq (y := nI (i + 1)) (nI_1 i) ?_
          refine z_sld (pc := 354) hx hb hX hbl hbA hS (i + 1) rfl (by omega) hL dL_law_354 ?_
          refine lv_aload_n (pc := 355) hx hb dL_law_355 rfl (lv_at hl 0 rfl) ?_
          refine lv_iload_n (pc := 356) hx hb dL_law_356 rfl (lv_at hl 3 rfl) ?_
          refine lv_iconst (pc := 357) (v := 2) hx hb dL_law_357 (by decide) ?_
          refine lv_iadd (pc := 358) hx hb dL_law_358 ?_
          refine z_eq (y := nI (i + 2)) (nI_add i 2) ?_
          refine z_sld (pc := 359) hx hb hX hbl hbA hS (i + 2) rfl (by omega) hL dL_law_359 ?_
          refine lv_aload_n (pc := 360) hx hb dL_law_360 rfl (lv_at hl 0 rfl) ?_
          refine lv_iload_n (pc := 361) hx hb dL_law_361 rfl (lv_at hl 3 rfl) ?_
          refine lv_iconst (pc := 362) (v := 3) hx hb dL_law_362 (by decide) ?_
          refine lv_iadd (pc := 363) hx hb dL_law_363 ?_
          refine z_eq (y := nI (i + 3)) (nI_add i 3) ?_
          refine z_sld (pc := 364) hx hb hX hbl hbA hS (i + 3) rfl (by omega) hL dL_law_364 ?_
          refine lv_if_eq (pc := 365) (tgt := 372) hx hb dL_law_365 (by decide) (fun c365 => ?_) (fun c365 => ?_)
          · exact absurd c365 c338
          · refine lv_iconst (pc := 368) (v := 1) hx hb dL_law_368 (by decide) ?_
            refine lv_goto (pc := 369) (tgt := 373) hx hb dL_law_369 (by decide) ?_
            refine z_callIF (pc := 373) (As := [.int (sc (i + 1)), .int (sc (i + 2)), .int 1]) (rest := [.int r_]) hx hb hml hown hts hA hK hQ hE hS hP hXX.symm (tM_coverage l D d h2 a2 H.size n c fi xs ys col (sc (i + 1)) (sc (i + 2)) 1 hsh) (cwV 3 hts (lw_V q233 q206 q207 q15 q208) rfl rfl rfl (by decide +kernel) ⟨Nat.le_of_ble_eq_true rfl, Nat.le_of_ble_eq_true rfl⟩) (va_recv hK hQ (ci := 1) (q0 := 0) rfl rfl) rfl hl.1 rfl (Nat.le_of_ble_eq_true rfl) dL_law_373 (Nat.le_of_ble_eq_true rfl) (Nat.le_of_ble_eq_true rfl) (fun r2_ u_ H locs hr2_ hQ hE hP hXX hS => ?_)
            refine lv_icmp_eq (pc := 376) (tgt := 476) hx hb dL_law_376 (by decide) (fun c376 => ?_) (fun c376 => ?_)
            · exact next n c k fi xs ys col tp bt wy cv _ _ hsh hP hD hQ hE hXX.symm hS ls hl
            · exact absurd (hr_.trans hr2_.symm) c376
      · refine lv_tableIn (pc := 32) (tgt := 381) hx hb dL_law_32 (by decide) (by decide) rfl (by decide) ?_
        refine lv_aload_n (pc := 381) hx hb dL_law_381 rfl (lv_at hl 1 rfl) ?_
        refine lv_aload_n (pc := 382) hx hb dL_law_382 rfl (lv_at hl 0 rfl) ?_
        refine lv_iload_n (pc := 383) hx hb dL_law_383 rfl (lv_at hl 3 rfl) ?_
        refine lv_iconst (pc := 384) (v := 1) hx hb dL_law_384 (by decide) ?_
        refine lv_iadd (pc := 385) hx hb dL_law_385 ?_
        refine z_eq (y := nI (i + 1)) (nI_1 i) ?_
        refine z_sld (pc := 386) hx hb hX hbl hbA hS (i + 1) rfl (by omega) hL dL_law_386 ?_
        refine lv_if_eq (pc := 387) (tgt := 394) hx hb dL_law_387 (by decide) (fun c387 => ?_) (fun c387 => ?_)
        · refine lv_iconst (pc := 394) (v := 0) hx hb dL_law_394 (by decide) ?_
          refine z_callIF (pc := 395) (As := [.int 0]) (rest := []) hx hb hml hown hts hA hK hP hD hS hQ hXX (tX_area l D d h1 a1 H.size n c k fi xs ys col tp bt wy cv 0 hsh) (cwV 1 hts (lw_V q136 q137 q138 q14 q139) rfl rfl rfl (by decide +kernel) ⟨Nat.le_of_ble_eq_true rfl, Nat.le_of_ble_eq_true rfl⟩) (va_recv hK hP (ci := 0) (q0 := 0) rfl rfl) rfl hl.1 rfl (Nat.le_of_ble_eq_true rfl) dL_law_395 (Nat.le_of_ble_eq_true rfl) (Nat.le_of_ble_eq_true rfl) (fun r_ u_ H locs hr_ hP hD hQ hXX hS => ?_)
          obtain ⟨k, tp, bt, wy, cv⟩ := u_
          refine lv_aload_n (pc := 398) hx hb dL_law_398 rfl (lv_at hl 2 rfl) ?_
          refine lv_aload_n (pc := 399) hx hb dL_law_399 rfl (lv_at hl 0 rfl) ?_
          refine lv_iload_n (pc := 400) hx hb dL_law_400 rfl (lv_at hl 3 rfl) ?_
          refine lv_iconst (pc := 401) (v := 1) hx hb dL_law_401 (by decide) ?_
          refine lv_iadd (pc := 402) hx hb dL_law_402 ?_
          refine z_eq (y := nI (i + 1)) (nI_1 i) ?_
          refine z_sld (pc := 403) hx hb hX hbl hbA hS (i + 1) rfl (by omega) hL dL_law_403 ?_
          refine lv_if_eq (pc := 404) (tgt := 411) hx hb dL_law_404 (by decide) (fun c404 => ?_) (fun c404 => ?_)
          · refine lv_iconst (pc := 411) (v := 0) hx hb dL_law_411 (by decide) ?_
            refine z_callIF (pc := 412) (As := [.int 0]) (rest := [.int r_]) hx hb hml hown hts hA hK hQ hE hS hP hXX.symm (tM_area l D d h2 a2 H.size n c fi xs ys col 0 hsh) (cwV 1 hts (lw_V q234 q235 q236 q15 q237) rfl rfl rfl (by decide +kernel) ⟨Nat.le_of_ble_eq_true rfl, Nat.le_of_ble_eq_true rfl⟩) (va_recv hK hQ (ci := 1) (q0 := 0) rfl rfl) rfl hl.1 rfl (Nat.le_of_ble_eq_true rfl) dL_law_412 (Nat.le_of_ble_eq_true rfl) (Nat.le_of_ble_eq_true rfl) (fun r2_ u_ H locs hr2_ hQ hE hP hXX hS => ?_)
            refine lv_icmp_eq (pc := 415) (tgt := 476) hx hb dL_law_415 (by decide) (fun c415 => ?_) (fun c415 => ?_)
            · exact next n c k fi xs ys col tp bt wy cv _ _ hsh hP hD hQ hE hXX.symm hS ls hl
            · exact absurd (hr_.trans hr2_.symm) c415
          · exact absurd c387 c404
        · refine lv_iconst (pc := 390) (v := 1) hx hb dL_law_390 (by decide) ?_
          refine lv_goto (pc := 391) (tgt := 395) hx hb dL_law_391 (by decide) ?_
          refine z_callIF (pc := 395) (As := [.int 1]) (rest := []) hx hb hml hown hts hA hK hP hD hS hQ hXX (tX_area l D d h1 a1 H.size n c k fi xs ys col tp bt wy cv 1 hsh) (cwV 1 hts (lw_V q136 q137 q138 q14 q139) rfl rfl rfl (by decide +kernel) ⟨Nat.le_of_ble_eq_true rfl, Nat.le_of_ble_eq_true rfl⟩) (va_recv hK hP (ci := 0) (q0 := 0) rfl rfl) rfl hl.1 rfl (Nat.le_of_ble_eq_true rfl) dL_law_395 (Nat.le_of_ble_eq_true rfl) (Nat.le_of_ble_eq_true rfl) (fun r_ u_ H locs hr_ hP hD hQ hXX hS => ?_)
          obtain ⟨k, tp, bt, wy, cv⟩ := u_
          refine lv_aload_n (pc := 398) hx hb dL_law_398 rfl (lv_at hl 2 rfl) ?_
          refine lv_aload_n (pc := 399) hx hb dL_law_399 rfl (lv_at hl 0 rfl) ?_
          refine lv_iload_n (pc := 400) hx hb dL_law_400 rfl (lv_at hl 3 rfl) ?_
          refine lv_iconst (pc := 401) (v := 1) hx hb dL_law_401 (by decide) ?_
          refine lv_iadd (pc := 402) hx hb dL_law_402 ?_
          refine z_eq (y := nI (i + 1)) (nI_1 i) ?_
          refine z_sld (pc := 403) hx hb hX hbl hbA hS (i + 1) rfl (by omega) hL dL_law_403 ?_
          refine lv_if_eq (pc := 404) (tgt := 411) hx hb dL_law_404 (by decide) (fun c404 => ?_) (fun c404 => ?_)
          · exact absurd c404 c387
          · refine lv_iconst (pc := 407) (v := 1) hx hb dL_law_407 (by decide) ?_
            refine lv_goto (pc := 408) (tgt := 412) hx hb dL_law_408 (by decide) ?_
            refine z_callIF (pc := 412) (As := [.int 1]) (rest := [.int r_]) hx hb hml hown hts hA hK hQ hE hS hP hXX.symm (tM_area l D d h2 a2 H.size n c fi xs ys col 1 hsh) (cwV 1 hts (lw_V q234 q235 q236 q15 q237) rfl rfl rfl (by decide +kernel) ⟨Nat.le_of_ble_eq_true rfl, Nat.le_of_ble_eq_true rfl⟩) (va_recv hK hQ (ci := 1) (q0 := 0) rfl rfl) rfl hl.1 rfl (Nat.le_of_ble_eq_true rfl) dL_law_412 (Nat.le_of_ble_eq_true rfl) (Nat.le_of_ble_eq_true rfl) (fun r2_ u_ H locs hr2_ hQ hE hP hXX hS => ?_)
            refine lv_icmp_eq (pc := 415) (tgt := 476) hx hb dL_law_415 (by decide) (fun c415 => ?_) (fun c415 => ?_)
            · exact next n c k fi xs ys col tp bt wy cv _ _ hsh hP hD hQ hE hXX.symm hS ls hl
            · exact absurd (hr_.trans hr2_.symm) c415
      · refine lv_tableIn (pc := 32) (tgt := 420) hx hb dL_law_32 (by decide) (by decide) rfl (by decide) ?_
        refine lv_aload_n (pc := 420) hx hb dL_law_420 rfl (lv_at hl 1 rfl) ?_
        refine lv_aload_n (pc := 421) hx hb dL_law_421 rfl (lv_at hl 0 rfl) ?_
        refine lv_iload_n (pc := 422) hx hb dL_law_422 rfl (lv_at hl 3 rfl) ?_
        refine lv_iconst (pc := 423) (v := 1) hx hb dL_law_423 (by decide) ?_
        refine lv_iadd (pc := 424) hx hb dL_law_424 ?_
        refine z_eq (y := nI (i + 1)) (nI_1 i) ?_
        refine z_sld (pc := 425) hx hb hX hbl hbA hS (i + 1) rfl (by omega) hL dL_law_425 ?_
        refine lv_aload_n (pc := 426) hx hb dL_law_426 rfl (lv_at hl 0 rfl) ?_
        refine lv_iload_n (pc := 427) hx hb dL_law_427 rfl (lv_at hl 3 rfl) ?_
        refine lv_iconst (pc := 428) (v := 2) hx hb dL_law_428 (by decide) ?_
        refine lv_iadd (pc := 429) hx hb dL_law_429 ?_
        refine z_eq (y := nI (i + 2)) (nI_add i 2) ?_
        refine z_sld (pc := 430) hx hb hX hbl hbA hS (i + 2) rfl (by omega) hL dL_law_430 ?_
        refine z_callIF (pc := 431) (As := [.int (sc (i + 1)), .int (sc (i + 2))]) (rest := []) hx hb hml hown hts hA hK hP hD hS hQ hXX (tX_winding l D d h1 a1 H.size n c k fi xs ys col tp bt wy cv (sc (i + 1)) (sc (i + 2)) hsh) (cwV 2 hts (lw_V q140 q141 q142 q14 q143) rfl rfl rfl (by decide +kernel) ⟨Nat.le_of_ble_eq_true rfl, Nat.le_of_ble_eq_true rfl⟩) (va_recv hK hP (ci := 0) (q0 := 0) rfl rfl) rfl hl.1 rfl (Nat.le_of_ble_eq_true rfl) dL_law_431 (Nat.le_of_ble_eq_true rfl) (Nat.le_of_ble_eq_true rfl) (fun r_ u_ H locs hr_ hP hD hQ hXX hS => ?_)
        obtain ⟨k, tp, bt, wy⟩ := u_
        refine lv_aload_n (pc := 434) hx hb dL_law_434 rfl (lv_at hl 2 rfl) ?_
        refine lv_aload_n (pc := 435) hx hb dL_law_435 rfl (lv_at hl 0 rfl) ?_
        refine lv_iload_n (pc := 436) hx hb dL_law_436 rfl (lv_at hl 3 rfl) ?_
        refine lv_iconst (pc := 437) (v := 1) hx hb dL_law_437 (by decide) ?_
        refine lv_iadd (pc := 438) hx hb dL_law_438 ?_
        refine z_eq (y := nI (i + 1)) (nI_1 i) ?_
        refine z_sld (pc := 439) hx hb hX hbl hbA hS (i + 1) rfl (by omega) hL dL_law_439 ?_
        refine lv_aload_n (pc := 440) hx hb dL_law_440 rfl (lv_at hl 0 rfl) ?_
        refine lv_iload_n (pc := 441) hx hb dL_law_441 rfl (lv_at hl 3 rfl) ?_
        refine lv_iconst (pc := 442) (v := 2) hx hb dL_law_442 (by decide) ?_
        refine lv_iadd (pc := 443) hx hb dL_law_443 ?_
        refine z_eq (y := nI (i + 2)) (nI_add i 2) ?_
        refine z_sld (pc := 444) hx hb hX hbl hbA hS (i + 2) rfl (by omega) hL dL_law_444 ?_
        refine z_callIF (pc := 445) (As := [.int (sc (i + 1)), .int (sc (i + 2))]) (rest := [.int r_]) hx hb hml hown hts hA hK hQ hE hS hP hXX.symm (tM_winding l D d h2 a2 H.size n c fi xs ys col (sc (i + 1)) (sc (i + 2)) hsh) (cwV 2 hts (lw_V q238 q218 q219 q15 q220) rfl rfl rfl (by decide +kernel) ⟨Nat.le_of_ble_eq_true rfl, Nat.le_of_ble_eq_true rfl⟩) (va_recv hK hQ (ci := 1) (q0 := 0) rfl rfl) rfl hl.1 rfl (Nat.le_of_ble_eq_true rfl) dL_law_445 (Nat.le_of_ble_eq_true rfl) (Nat.le_of_ble_eq_true rfl) (fun r2_ u_ H locs hr2_ hQ hE hP hXX hS => ?_)
        refine lv_icmp_eq (pc := 448) (tgt := 476) hx hb dL_law_448 (by decide) (fun c448 => ?_) (fun c448 => ?_)
        · exact next n c k fi xs ys col tp bt wy cv _ _ hsh hP hD hQ hE hXX.symm hS ls hl
        · exact absurd (hr_.trans hr2_.symm) c448
      · refine lv_tableIn (pc := 32) (tgt := 453) hx hb dL_law_32 (by decide) (by decide) rfl (by decide) ?_
        refine lv_aload_n (pc := 453) hx hb dL_law_453 rfl (lv_at hl 1 rfl) ?_
        refine lv_aload_n (pc := 454) hx hb dL_law_454 rfl (lv_at hl 0 rfl) ?_
        refine lv_iload_n (pc := 455) hx hb dL_law_455 rfl (lv_at hl 3 rfl) ?_
        refine lv_iconst (pc := 456) (v := 1) hx hb dL_law_456 (by decide) ?_
        refine lv_iadd (pc := 457) hx hb dL_law_457 ?_
        refine z_eq (y := nI (i + 1)) (nI_1 i) ?_
        refine z_sld (pc := 458) hx hb hX hbl hbA hS (i + 1) rfl (by omega) hL dL_law_458 ?_
        refine z_callIF (pc := 459) (As := [.int (sc (i + 1))]) (rest := []) hx hb hml hown hts hA hK hP hD hS hQ hXX (tX_rowSum l D d h1 a1 H.size n c k fi xs ys col tp bt wy cv (sc (i + 1))) (cwV 1 hts (lw_V q144 q145 q146 q14 q147) rfl rfl rfl (by decide +kernel) ⟨Nat.le_of_ble_eq_true rfl, Nat.le_of_ble_eq_true rfl⟩) (va_recv hK hP (ci := 0) (q0 := 0) rfl rfl) rfl hl.1 rfl (Nat.le_of_ble_eq_true rfl) dL_law_459 (Nat.le_of_ble_eq_true rfl) (Nat.le_of_ble_eq_true rfl) (fun r_ u_ H locs hr_ hP hD hQ hXX hS => ?_)
        refine lv_aload_n (pc := 462) hx hb dL_law_462 rfl (lv_at hl 2 rfl) ?_
        refine lv_aload_n (pc := 463) hx hb dL_law_463 rfl (lv_at hl 0 rfl) ?_
        refine lv_iload_n (pc := 464) hx hb dL_law_464 rfl (lv_at hl 3 rfl) ?_
        refine lv_iconst (pc := 465) (v := 1) hx hb dL_law_465 (by decide) ?_
        refine lv_iadd (pc := 466) hx hb dL_law_466 ?_
        refine z_eq (y := nI (i + 1)) (nI_1 i) ?_
        refine z_sld (pc := 467) hx hb hX hbl hbA hS (i + 1) rfl (by omega) hL dL_law_467 ?_
        refine z_callIF (pc := 468) (As := [.int (sc (i + 1))]) (rest := [.int r_]) hx hb hml hown hts hA hK hQ hE hS hP hXX.symm (tM_rowSum l D d h2 a2 H.size n c fi xs ys col (sc (i + 1))) (cwV 1 hts (lw_V q239 q240 q241 q15 q242) rfl rfl rfl (by decide +kernel) ⟨Nat.le_of_ble_eq_true rfl, Nat.le_of_ble_eq_true rfl⟩) (va_recv hK hQ (ci := 1) (q0 := 0) rfl rfl) rfl hl.1 rfl (Nat.le_of_ble_eq_true rfl) dL_law_468 (Nat.le_of_ble_eq_true rfl) (Nat.le_of_ble_eq_true rfl) (fun r2_ u_ H locs hr2_ hQ hE hP hXX hS => ?_)
        refine lv_icmp_eq (pc := 471) (tgt := 476) hx hb dL_law_471 (by decide) (fun c471 => ?_) (fun c471 => ?_)
        · exact next n c k fi xs ys col tp bt wy cv _ _ hsh hP hD hQ hE hXX.symm hS ls hl
        · exact absurd (hr_.trans hr2_.symm) c471
      · have ejt : (nI j).toInt = j := nI_toInt (by omega)
        refine lv_tableOut (pc := 32) (tgt := 476) hx hb dL_law_32 (Or.inr (by rw [ejt]; omega)) (by decide) ?_
        exact next n c k fi xs ys col tp bt wy cv _ _ hsh hP hD hQ hE hXX hS ls hl
end
section
/-! the law from its entry; the rest out of kit/laws/SKELETON.whole -/
set_option maxRecDepth 100000
set_option maxHeartbeats 4000000 in
/-- YOUR PART: from the entry, for every script of at most 256 ints, the law comes to its end with true -/
theorem whole_start {p : Program} {e : Env} {s : State} {m : MethodId} {below : List Frame} {meth : Method} {c : Code} (l : Launch) {b L : Nat} {xs : Nat → Int32} (hL : L ≤ 256) (C0 : lw_At p s m meth c b L xs) : W p l e room_1 s m #[Value.ref b] below meth c s.heap [] 0 0 (lw_Z below #[Value.ref b] s) (entryFrame m ([Value.ref b] : List Value).toArray 4) := by
  obtain ⟨hx, hb, hr, hml, hown, hts0, hX, hbl, hlocks, hgv⟩ := C0
  have hts : ∀ w ∈ lw_all, w.before #[Value.ref b] s = true := fun w h => hts0 w (lw_all_tbl h)
  obtain ⟨D, hK⟩ := law_classes hts0
  obtain ⟨A, hAe⟩ : ∃ A : Nat → Prop, A = fun q => s.heap.size ≤ q := ⟨_, rfl⟩
  have hA : ∀ q : Nat, s.heap.size ≤ q → A q := fun q h => by rw [hAe]; exact h
  have hA2 : ∀ q : Nat, A q → s.heap.size ≤ q := fun q h => by rw [hAe] at h; exact h
  have hbA : ¬ A b := fun h => absurd (hA2 b h) (by omega)
  have hP : va_P D vwCl [] s.heap := fun k q h => by simp at h
  have hD : va_D A [] := ⟨fun i j p q h => by simp at h, fun k q h => by simp at h⟩
  have hS : va_S A s.heap s.heap [] := va_S.rf
  have hl := lv_entry ([.ref b]) (n := 4) (Nat.le_of_ble_eq_true rfl)
  rw [lg_entry_eq]
  generalize (lg_sl ([.ref b]) ++ List.replicate (4 - (lg_sl ([.ref b])).length) Slot.unset).toArray = ls at hl ⊢
  have hl : lv_has ls 4 [(0, .ref b)] := hl
  refine va_new (pc := 0) (ci := 0) (fs := [.null, .int 0, .int 0, .null, .null, .null, .int 0, .null, .null, .null, .null]) (C := RX0) (T := TX0) (N := 11) hx hb hts in_X0 tyX0 tyX0_ok hown (hts _ q16) (hts _ q17) (hts _ q14) hK hP hD hS hA rfl (fun j hj => by rcases (show j = 0 ∨ j = 1 ∨ j = 2 ∨ j = 3 ∨ j = 4 ∨ j = 5 ∨ j = 6 ∨ j = 7 ∨ j = 8 ∨ j = 9 ∨ j = 10 by omega) with rfl | rfl | rfl | rfl | rfl | rfl | rfl | rfl | rfl | rfl | rfl <;> rfl) (Nat.le_of_ble_eq_true rfl) (Nat.le_of_ble_eq_true rfl) dL_law_0 (fun h1 H hP hD hS => ?_)
  have hP : va_P D vwCl (wX0 h1) H := hP
  have hD : va_D A (wX0 h1) := hD
  refine W.widen (k := 1) (n := 11) (Nat.le_of_ble_eq_true rfl) (Nat.le_of_ble_eq_true rfl) ?_
  refine lv_dup (pc := 3) hx hb dL_law_3 rfl ?_
  refine z_callC (pc := 4) (w2 := []) (rest := [.ref h1]) hx hb hml hown hts hA hK hP hD hS (fun k q h => by simp at h) (fun i j p q hp hq => by simp at hq) (tX_init l D h1 H.size) (cwI 0 hts (lw_meth q20) rfl rfl rfl (hts _ q14) (hts _ q18) (hts _ q19) rfl (by decide +kernel) ⟨Nat.le_of_ble_eq_true rfl, Nat.le_of_ble_eq_true rfl⟩) hl.1 rfl (Nat.le_of_ble_eq_true rfl) dL_law_4 (Nat.le_of_ble_eq_true rfl) (Nat.le_of_ble_eq_true rfl) (fun u H locs hK hP hD _ _ hS => ?_)
  obtain ⟨a1, d⟩ := u
  have hK : va_K D vwCl [(d, .int)] s := hK
  have hP : va_P D vwCl (wX h1 a1 d 0 0 0 zZ zZ zZ zZ zZ zZ zZ zZ) H := hP
  have hD : va_D A (wX h1 a1 d 0 0 0 zZ zZ zZ zZ zZ zZ zZ zZ) := hD
  refine W.widen (k := 9) (n := 588) (Nat.le_of_ble_eq_true rfl) (Nat.le_of_ble_eq_true rfl) ?_
  refine lv_astore_n (pc := 7) (lv' := [(1, .ref h1), (0, .ref b)]) hx hb dL_law_7 rfl hl (by decide) rfl (fun ls hl => ?_)
  refine va_new (pc := 8) (ci := 1) (fs := [.int 0, .int 0, .null, .null, .null, .null]) (C := RX1) (T := TX1) (N := 6) hx hb hts in_X1 tyX1 tyX1_ok hown (hts _ q148) (hts _ q149) (hts _ q15) hK hP hD hS hA rfl (fun j hj => by rcases (show j = 0 ∨ j = 1 ∨ j = 2 ∨ j = 3 ∨ j = 4 ∨ j = 5 by omega) with rfl | rfl | rfl | rfl | rfl | rfl <;> rfl) (Nat.le_of_ble_eq_true rfl) (Nat.le_of_ble_eq_true rfl) dL_law_8 (fun h2 H hP hD hS => ?_)
  obtain ⟨hP, hQ⟩ := z_splitP hP
  obtain ⟨hD, hE, hXX⟩ := z_splitD hD
  have hQ : va_P D vwCl (wM0 h2) H := hQ
  have hE : va_D A (wM0 h2) := hE
  have hXX : zX (wX h1 a1 d 0 0 0 zZ zZ zZ zZ zZ zZ zZ zZ) (wM0 h2) := hXX
  refine W.widen (k := 10) (n := 594) (Nat.le_of_ble_eq_true rfl) (Nat.le_of_ble_eq_true rfl) ?_
  refine lv_dup (pc := 11) hx hb dL_law_11 rfl ?_
  refine z_callC (pc := 12) (w2 := wX h1 a1 d 0 0 0 zZ zZ zZ zZ zZ zZ zZ zZ) (rest := [.ref h2]) hx hb hml hown hts hA hK hQ hE hS hP hXX.symm (tM_init l D h2 H.size) (cwI 0 hts (lw_meth q152) rfl rfl rfl (hts _ q15) (hts _ q150) (hts _ q151) rfl (by decide +kernel) ⟨Nat.le_of_ble_eq_true rfl, Nat.le_of_ble_eq_true rfl⟩) hl.1 rfl (Nat.le_of_ble_eq_true rfl) dL_law_12 (Nat.le_of_ble_eq_true rfl) (Nat.le_of_ble_eq_true rfl) (fun u H locs hK2 hQ hE hP hXX hS => ?_)
  obtain ⟨a2, d2⟩ := u
  have e_ : d = d2 := by
    have z1 : s.vm.findClass ("[" ++ FieldType.int.toString) = some d := (hK.2 0 (d, .int) rfl).2
    have z2 : s.vm.findClass ("[" ++ FieldType.int.toString) = some d2 := (hK2.2 0 (d2, .int) rfl).2
    exact Option.some.inj (z1.symm.trans z2)
  subst e_
  have hQ : va_P D vwCl (wM h2 a2 d 0 0 zZ zZ zZ zZ) H := hQ
  have hE : va_D A (wM h2 a2 d 0 0 zZ zZ zZ zZ) := hE
  have hXX : zX (wM h2 a2 d 0 0 zZ zZ zZ zZ) (wX h1 a1 d 0 0 0 zZ zZ zZ zZ zZ zZ zZ zZ) := hXX
  refine W.widen (k := 14) (n := 879) (Nat.le_of_ble_eq_true rfl) (Nat.le_of_ble_eq_true rfl) ?_
  refine lv_astore_n (pc := 15) (lv' := [(2, .ref h2), (1, .ref h1), (0, .ref b)]) hx hb dL_law_15 rfl hl (by decide) rfl (fun ls hl => ?_)
  refine lv_iconst (pc := 16) (v := 0) hx hb dL_law_16 (by decide) ?_
  refine lv_istore_n (pc := 17) (lv' := [(3, .int 0), (2, .ref h2), (1, .ref h1), (0, .ref b)]) hx hb dL_law_17 rfl hl (by decide) rfl (fun ls hl => ?_)
  exact law_loop hL hx hb hr hlocks hml hown hts hX hbl hbA hA hA2 hK (L + 1) 0 0 0 0 zZ zZ zZ zZ zZ zZ zZ zZ (Nat.zero_le _) (by omega) shp_zero _ _ hP hD hQ hE hXX.symm hS ls (lv_sub hl [3, 2, 1, 0] rfl)
set_option maxHeartbeats 4000000 in
theorem lw_walk (l : Launch) (b : Addr) (xs : List Int32) : MetFree l x (headSpec (Jvm.Cond.code x code maxLocals ret :: tables_1) room_1) (lw_P b xs) (fun _ _ _ _ _ => True) lw_Q := by
  refine MetFree.of_bodyS (code := code) (maxLocals := maxLocals) (ret := ret) (by decide) ?_ ?_
  · intro args s m h hn
    obtain ⟨meth, c, h1, h2, h3, h4, h5, h6, -, -⟩ := Cond.code_spec hn (atoms_spec (ws := Jvm.Cond.code x code maxLocals ret :: tables_1) h _ List.mem_cons_self)
    exact ⟨meth, c, h1, h2, h3, h4, h5, h6⟩
  · intro p e s m args below meth c s₁ B hml0 hP _
    obtain ⟨rfl, hx, hbd, hgv⟩ := hP
    obtain ⟨scr, harrAt, hlist, hof, hsmall⟩ := hx
    obtain ⟨hcb, hkn, -, -⟩ := State.arrayAt?_spec harrAt
    have hown : s.vm.findClass R_law = some m.cls := findClass_of_methodNamed B.named
    have hts0 : ∀ c ∈ (Jvm.Cond.code x code maxLocals ret :: tables_1), c.before #[Value.ref b] s = true := atoms_spec (ws := Jvm.Cond.code x code maxLocals ret :: tables_1) B.pre
    have hts : ∀ w ∈ lw_tbl, w.before #[Value.ref b] s = true := k2_hts_sels lw_privs (fun w hw => hts0 w (List.mem_cons_of_mem _ hw)) lw_privs_ok
    have hml : c.maxLocals = 4 := B.maxLocals_eq (hts0 _ List.mem_cons_self)
    have X₀ : Stand p l e room_1 s m #[Value.ref b] below meth c s₁ [] 0 0 := Stand.of_body B
    have hh0 : s₁.heap = s.heap := by rw [B.state]; rfl
    have hsz : scr.slots.size = xs.length := by rw [← Array.length_toList, hlist, List.length_map]
    have hval : ∀ j : Nat, j < xs.length → scr.slots[j]? = some (.int (xs.getD j 0)) := fun j hj => by
      rw [← Array.getElem?_toList, hlist]
      simp [hj]
    have hbl : b < s.heap.size := (Array.getElem?_eq_some_iff.mp hcb).1
    have hX : va_X b xs.length (fun j => xs.getD j 0) s s.heap := ⟨scr, hcb, hof, hkn, hsz, hval⟩
    have K : W p l e room_1 s m #[Value.ref b] below meth c s₁.heap [] 0 0 (lw_Z below #[Value.ref b] s) (entryFrame m ([Value.ref b] : List Value).toArray 4) := by
      rw [hh0]
      exact whole_start l hbd ⟨B.exec, B.bytes, B.returns, hml, hown, hts, hX, hbl, B.notSynchronized, hgv⟩
    obtain ⟨t, a1, o, b1, b2, b3⟩ := K s₁ rfl X₀
    exact ⟨t, o, a1, b1, b2, b3⟩
theorem lw_pre_spec {args : Array Value} {s : State} (h : (Jvm.Cond.and given_1 narrow_1).before args s = true) (hr : rest_1_c.before args s = true) : ∃ (b : Addr) (xs : List Int32), lw_P b xs args s := by
  have hs := flat_of_before _ h
  have hq := flat_of_before _ hr
  have hc : (Cond.count 1).before args s = true := hs _ (by decide +kernel)
  have harr : (Cond.arrayOf (.arg 0) .int).before args s = true := hs _ (by decide +kernel)
  have hle : (Cond.le (.length (.arg 0)) (.int 256)).before args s = true := hs _ (by decide +kernel)
  have hlen : (Cond.isInt (.length (.arg 0))).before args s = true := hq _ (by decide +kernel)
  have hall : (Cond.all (.arg 0) (.isInt (.elem (.arg 0) (.index 0)))).before args s = true := hq _ (by decide +kernel)
  obtain ⟨b, xs, hb, hx⟩ := State.ints_of_pre rfl harr hlen hall
  have hsm : xs.length < 2 ^ 31 := hx.choose_spec.2.2.2
  have hev : (Term.length (.arg 0)).eval args s none [] s = some (.int xs.length.toInt32) := hx.length_eval hb
  have hv := Cond.le_ints hev (show (Term.int 256).eval args s none [] s = some (.int 256) from rfl)
  have hd : xs.length.toInt32 ≤ 256 := by
    simpa [Cond.before, Cond.holds, hv] using hle
  have hN : xs.length ≤ 256 := (Int32.ofNat_le_ofNat hsm (by decide)).mp (show Int32.ofNat xs.length ≤ Int32.ofNat 256 from hd)
  exact ⟨b, xs, Cond.one_arg hc (show args[0]? = some (.ref b) from hb), hx, hN, h⟩
theorem lw_comes (l : Launch) : Comes l x (Jvm.Cond.code x code maxLocals ret :: tables_1) room_1 (fun tb e args s => Calls_1 tb e args s ∧ rest_1 tb e args s ∧ Pre_1 tb e args s)
    (fun _ _ args s o t => lw_Q args s o t) := by
  intro p e ha hc hk s m args below hf hfit hheap happ hpre
  obtain ⟨b, xs, hP⟩ := lw_pre_spec hpre.2.2 hpre.2.1
  obtain ⟨k, o, h1, h2, h3, hQ⟩ := lw_walk l b xs p e ha hc hk s m args below hf ((Spec.applies_iff_loose hf).mp happ).1 hP trivial
  exact ⟨k, o, h1, h2, h3, hQ⟩
theorem lw_frame {s t : State} {o : Outcome} {args : Array Value} (h : Framed s o t [] 600000 7290000) :
    Framed s o t (fieldLocs frame_1_writes args s ++ arrayLocs frame_1_arrays args s ++ staticLocs frame_1_statics s) 600000 7290000 := h
theorem lw_limb (L : Cond) (hL : ∀ (args : Array Value) (s t : State), L.after args s (.returned (some (.int 1))) t = true) :
    ArmFor flags0 classFile x code maxLocals ret World_1 tables_1 room_1 Calls_1 rest_1 Pre_1
      (fun tb e a s o t => postC L tb e a s o t ∧ Framed s o t (fieldLocs frame_1_writes a s ++ arrayLocs frame_1_arrays a s ++ staticLocs frame_1_statics s) 600000 7290000) := by
  intro l _ _ _ p e ha hc hk s m args below hf hfit hheap happ hpre
  obtain ⟨k, o, h1, h2, h3, rfl, hF⟩ := lw_comes l p e ha hc hk s m args below hf hfit hheap happ hpre
  exact ⟨k, _, h1, h2, h3, hL args s _, lw_frame hF⟩
theorem i_vc : Claimed_1_1 ∧ Claimed_1_2 := ⟨lw_limb limb_1_1 (fun args s t => by simp [limb_1_1, Cond.after, Cond.holds, Cond.value]), lw_limb limb_1_2 (fun args s t => Cond.after_iff.mpr (by
  first | (rw [show limb_1_2 = Cond.eq .result (.int 1) from rfl, Cond.eq_ints (x := 1) (y := 1) rfl rfl]; simp; done) | (simp [limb_1_2, Cond.value, Term.eval]; done)))⟩
end
