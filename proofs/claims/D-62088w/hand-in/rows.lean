section
/-- a private method of a class that the tables say can be made, by its rows of tables_1 -/
def lw_okq (q : MethodName × Nat) : Prop := (q.1.cls ≠ "java/lang/invoke/MethodHandle" ∧ q.1.cls ≠ "java/lang/invoke/VarHandle") ∧ Cond.instantiable q.1.cls q.2 ∈ tables_1 ∧ Cond.privateMethod q.1 ∈ tables_1 ∧ Cond.instanceMethod q.1 ∈ tables_1
set_option maxRecDepth 100000
theorem lw_t1 {w : Cond} (h : w ∈ tables_1_1) : w ∈ tables_1 := List.mem_append_left _ h
theorem lw_t2 {w : Cond} (h : w ∈ tables_1_2) : w ∈ tables_1 := List.mem_append_right _ h
theorem lw_p0 : lw_okq (⟨"ConvKernels", "power", "(II)I"⟩, 18) := ⟨⟨by decide +kernel, by decide +kernel⟩, lw_t1 (List.mem_of_getElem? (i := 4) rfl), lw_t1 (List.mem_of_getElem? (i := 12) rfl), lw_t1 (List.mem_of_getElem? (i := 13) rfl)⟩
theorem lw_p1 : lw_okq (⟨"ConvKernels", "clamp", "(I)I"⟩, 18) := ⟨⟨by decide +kernel, by decide +kernel⟩, lw_t1 (List.mem_of_getElem? (i := 4) rfl), lw_t1 (List.mem_of_getElem? (i := 81) rfl), lw_t1 (List.mem_of_getElem? (i := 82) rfl)⟩
theorem lw_p2 : lw_okq (⟨"ConvKernels", "widthNow", "()I"⟩, 18) := ⟨⟨by decide +kernel, by decide +kernel⟩, lw_t1 (List.mem_of_getElem? (i := 4) rfl), lw_t1 (List.mem_of_getElem? (i := 97) rfl), lw_t1 (List.mem_of_getElem? (i := 98) rfl)⟩
theorem lw_p3 : lw_okq (⟨"ConvKernels", "moveByTiles", "()V"⟩, 18) := ⟨⟨by decide +kernel, by decide +kernel⟩, lw_t1 (List.mem_of_getElem? (i := 4) rfl), lw_t1 (List.mem_of_getElem? (i := 105) rfl), lw_t1 (List.mem_of_getElem? (i := 106) rfl)⟩
theorem lw_p4 : lw_okq (⟨"ConvKernels", "shapeKernel", "(I)V"⟩, 18) := ⟨⟨by decide +kernel, by decide +kernel⟩, lw_t1 (List.mem_of_getElem? (i := 4) rfl), lw_t1 (List.mem_of_getElem? (i := 109) rfl), lw_t1 (List.mem_of_getElem? (i := 110) rfl)⟩
theorem lw_p5 : lw_okq (⟨"ConvKernels", "addTile", "(III)V"⟩, 18) := ⟨⟨by decide +kernel, by decide +kernel⟩, lw_t1 (List.mem_of_getElem? (i := 4) rfl), lw_t1 (List.mem_of_getElem? (i := 113) rfl), lw_t1 (List.mem_of_getElem? (i := 114) rfl)⟩
theorem lw_p6 : lw_okq (⟨"ConvKernels", "at", "(III)I"⟩, 18) := ⟨⟨by decide +kernel, by decide +kernel⟩, lw_t1 (List.mem_of_getElem? (i := 4) rfl), lw_t1 (List.mem_of_getElem? (i := 117) rfl), lw_t1 (List.mem_of_getElem? (i := 118) rfl)⟩
theorem lw_p7 : lw_okq (⟨"ConvKernels", "shapeFour", "(II)V"⟩, 18) := ⟨⟨by decide +kernel, by decide +kernel⟩, lw_t1 (List.mem_of_getElem? (i := 4) rfl), lw_t1 (List.mem_of_getElem? (i := 121) rfl), lw_t1 (List.mem_of_getElem? (i := 122) rfl)⟩
theorem lw_p8 : lw_okq (⟨"ConvKernels", "add", "(III)V"⟩, 18) := ⟨⟨by decide +kernel, by decide +kernel⟩, lw_t1 (List.mem_of_getElem? (i := 4) rfl), lw_t1 (List.mem_of_getElem? (i := 125) rfl), lw_t1 (List.mem_of_getElem? (i := 126) rfl)⟩
theorem lw_p9 : lw_okq (⟨"ConvKernels", "moveByTransforms", "()V"⟩, 18) := ⟨⟨by decide +kernel, by decide +kernel⟩, lw_t1 (List.mem_of_getElem? (i := 4) rfl), lw_t1 (List.mem_of_getElem? (i := 129) rfl), lw_t1 (List.mem_of_getElem? (i := 130) rfl)⟩
theorem lw_p10 : lw_okq (⟨"ConvKernels", "addTransformed", "(I)V"⟩, 18) := ⟨⟨by decide +kernel, by decide +kernel⟩, lw_t1 (List.mem_of_getElem? (i := 4) rfl), lw_t1 (List.mem_of_getElem? (i := 133) rfl), lw_t1 (List.mem_of_getElem? (i := 134) rfl)⟩
theorem lw_p11 : lw_okq (⟨"ConvKernels", "clearPlane", "()V"⟩, 18) := ⟨⟨by decide +kernel, by decide +kernel⟩, lw_t1 (List.mem_of_getElem? (i := 4) rfl), lw_t1 (List.mem_of_getElem? (i := 137) rfl), lw_t1 (List.mem_of_getElem? (i := 138) rfl)⟩
theorem lw_p12 : lw_okq (⟨"ConvKernels", "reduce", "(I)I"⟩, 18) := ⟨⟨by decide +kernel, by decide +kernel⟩, lw_t1 (List.mem_of_getElem? (i := 4) rfl), lw_t1 (List.mem_of_getElem? (i := 141) rfl), lw_t1 (List.mem_of_getElem? (i := 142) rfl)⟩
theorem lw_p13 : lw_okq (⟨"ConvKernels", "transform", "(Z)V"⟩, 18) := ⟨⟨by decide +kernel, by decide +kernel⟩, lw_t1 (List.mem_of_getElem? (i := 4) rfl), lw_t1 (List.mem_of_getElem? (i := 145) rfl), lw_t1 (List.mem_of_getElem? (i := 146) rfl)⟩
theorem lw_p14 : lw_okq (⟨"ConvKernels", "transformLine", "(IIZ)V"⟩, 18) := ⟨⟨by decide +kernel, by decide +kernel⟩, lw_t1 (List.mem_of_getElem? (i := 4) rfl), lw_t1 (List.mem_of_getElem? (i := 149) rfl), lw_t1 (List.mem_of_getElem? (i := 150) rfl)⟩
theorem lw_p15 : lw_okq (⟨"ConvKernels", "moveByWindows", "()V"⟩, 18) := ⟨⟨by decide +kernel, by decide +kernel⟩, lw_t1 (List.mem_of_getElem? (i := 4) rfl), lw_t1 (List.mem_of_getElem? (i := 153) rfl), lw_t1 (List.mem_of_getElem? (i := 154) rfl)⟩
def lw_privs_1 : List (MethodName × Nat) := [(⟨"ConvKernels", "power", "(II)I"⟩, 18), (⟨"ConvKernels", "clamp", "(I)I"⟩, 18), (⟨"ConvKernels", "widthNow", "()I"⟩, 18), (⟨"ConvKernels", "moveByTiles", "()V"⟩, 18), (⟨"ConvKernels", "shapeKernel", "(I)V"⟩, 18), (⟨"ConvKernels", "addTile", "(III)V"⟩, 18), (⟨"ConvKernels", "at", "(III)I"⟩, 18), (⟨"ConvKernels", "shapeFour", "(II)V"⟩, 18), (⟨"ConvKernels", "add", "(III)V"⟩, 18), (⟨"ConvKernels", "moveByTransforms", "()V"⟩, 18), (⟨"ConvKernels", "addTransformed", "(I)V"⟩, 18), (⟨"ConvKernels", "clearPlane", "()V"⟩, 18), (⟨"ConvKernels", "reduce", "(I)I"⟩, 18), (⟨"ConvKernels", "transform", "(Z)V"⟩, 18), (⟨"ConvKernels", "transformLine", "(IIZ)V"⟩, 18), (⟨"ConvKernels", "moveByWindows", "()V"⟩, 18)]
theorem lw_r1 : ∀ q ∈ lw_privs_1, lw_okq q := List.forall_mem_cons.mpr ⟨lw_p0, List.forall_mem_cons.mpr ⟨lw_p1, List.forall_mem_cons.mpr ⟨lw_p2, List.forall_mem_cons.mpr ⟨lw_p3, List.forall_mem_cons.mpr ⟨lw_p4, List.forall_mem_cons.mpr ⟨lw_p5, List.forall_mem_cons.mpr ⟨lw_p6, List.forall_mem_cons.mpr ⟨lw_p7, List.forall_mem_cons.mpr ⟨lw_p8, List.forall_mem_cons.mpr ⟨lw_p9, List.forall_mem_cons.mpr ⟨lw_p10, List.forall_mem_cons.mpr ⟨lw_p11, List.forall_mem_cons.mpr ⟨lw_p12, List.forall_mem_cons.mpr ⟨lw_p13, List.forall_mem_cons.mpr ⟨lw_p14, List.forall_mem_cons.mpr ⟨lw_p15, fun _ h => absurd h List.not_mem_nil⟩⟩⟩⟩⟩⟩⟩⟩⟩⟩⟩⟩⟩⟩⟩⟩
theorem lw_p16 : lw_okq (⟨"ConvKernels", "stretch", "(III)V"⟩, 18) := ⟨⟨by decide +kernel, by decide +kernel⟩, lw_t1 (List.mem_of_getElem? (i := 4) rfl), lw_t1 (List.mem_of_getElem? (i := 157) rfl), lw_t1 (List.mem_of_getElem? (i := 158) rfl)⟩
theorem lw_p17 : lw_okq (⟨"ConvKernels", "addColumn", "(II)V"⟩, 18) := ⟨⟨by decide +kernel, by decide +kernel⟩, lw_t1 (List.mem_of_getElem? (i := 4) rfl), lw_t1 (List.mem_of_getElem? (i := 161) rfl), lw_t1 (List.mem_of_getElem? (i := 162) rfl)⟩
theorem lw_p18 : lw_okq (⟨"ConvKernels", "greater", "(II)I"⟩, 18) := ⟨⟨by decide +kernel, by decide +kernel⟩, lw_t1 (List.mem_of_getElem? (i := 4) rfl), lw_t1 (List.mem_of_getElem? (i := 181) rfl), lw_t1 (List.mem_of_getElem? (i := 182) rfl)⟩
theorem lw_p19 : lw_okq (⟨"ConvKernelsModel", "cut", "(I)I"⟩, 6) := ⟨⟨by decide +kernel, by decide +kernel⟩, lw_t1 (List.mem_of_getElem? (i := 206) rfl), lw_t2 (List.mem_of_getElem? (i := 0) rfl), lw_t2 (List.mem_of_getElem? (i := 1) rfl)⟩
theorem lw_p20 : lw_okq (⟨"ConvKernelsModel", "widthAfter", "()I"⟩, 6) := ⟨⟨by decide +kernel, by decide +kernel⟩, lw_t1 (List.mem_of_getElem? (i := 206) rfl), lw_t2 (List.mem_of_getElem? (i := 16) rfl), lw_t2 (List.mem_of_getElem? (i := 17) rfl)⟩
theorem lw_p21 : lw_okq (⟨"ConvKernelsModel", "product", "(II)I"⟩, 6) := ⟨⟨by decide +kernel, by decide +kernel⟩, lw_t1 (List.mem_of_getElem? (i := 206) rfl), lw_t2 (List.mem_of_getElem? (i := 24) rfl), lw_t2 (List.mem_of_getElem? (i := 25) rfl)⟩
theorem lw_p22 : lw_okq (⟨"ConvKernelsModel", "pixelAt", "(III)I"⟩, 6) := ⟨⟨by decide +kernel, by decide +kernel⟩, lw_t1 (List.mem_of_getElem? (i := 206) rfl), lw_t2 (List.mem_of_getElem? (i := 28) rfl), lw_t2 (List.mem_of_getElem? (i := 29) rfl)⟩
theorem lw_p23 : lw_okq (⟨"ConvKernelsModel", "greatestOf", "(II)I"⟩, 6) := ⟨⟨by decide +kernel, by decide +kernel⟩, lw_t1 (List.mem_of_getElem? (i := 206) rfl), lw_t2 (List.mem_of_getElem? (i := 48) rfl), lw_t2 (List.mem_of_getElem? (i := 49) rfl)⟩
def lw_privs_2 : List (MethodName × Nat) := [(⟨"ConvKernels", "stretch", "(III)V"⟩, 18), (⟨"ConvKernels", "addColumn", "(II)V"⟩, 18), (⟨"ConvKernels", "greater", "(II)I"⟩, 18), (⟨"ConvKernelsModel", "cut", "(I)I"⟩, 6), (⟨"ConvKernelsModel", "widthAfter", "()I"⟩, 6), (⟨"ConvKernelsModel", "product", "(II)I"⟩, 6), (⟨"ConvKernelsModel", "pixelAt", "(III)I"⟩, 6), (⟨"ConvKernelsModel", "greatestOf", "(II)I"⟩, 6)]
theorem lw_r2 : ∀ q ∈ lw_privs_2, lw_okq q := List.forall_mem_cons.mpr ⟨lw_p16, List.forall_mem_cons.mpr ⟨lw_p17, List.forall_mem_cons.mpr ⟨lw_p18, List.forall_mem_cons.mpr ⟨lw_p19, List.forall_mem_cons.mpr ⟨lw_p20, List.forall_mem_cons.mpr ⟨lw_p21, List.forall_mem_cons.mpr ⟨lw_p22, List.forall_mem_cons.mpr ⟨lw_p23, fun _ h => absurd h List.not_mem_nil⟩⟩⟩⟩⟩⟩⟩⟩
def lw_privs : List (MethodName × Nat) := lw_privs_1 ++ (lw_privs_2)
def lw_tbl : List Cond := k2_sels lw_privs ++ tables_1
theorem lw_privs_ok : ∀ q ∈ lw_privs, lw_okq q := by
  show ∀ q ∈ lw_privs_1 ++ (lw_privs_2), lw_okq q
  exact List.forall_mem_append.mpr ⟨lw_r1, lw_r2⟩
-- ===== ONE list of words for every method: the tables' words that hold all through a run =====
def lw_all : List Cond := lw_tbl.filter goodWord
/-- a word of the tables by its place: claim/WORDS.tsv -/
theorem lw_w {w : Cond} (i : Nat) (h : lw_tbl[i]? = some w) (g : goodWord w = true) : w ∈ lw_all := List.mem_filter.mpr ⟨List.mem_of_getElem? h, g⟩
theorem lw_all_tbl {w : Cond} (h : w ∈ lw_all) : w ∈ lw_tbl := (List.mem_filter.mp h).1
theorem lw_self : GoodIn lw_all lw_all := fun w h => ⟨h, good_of_word (List.mem_filter.mp h).2⟩
/-- a class's field words, by their places -/
theorem lw_in (ws : List Cond) (ps : List Nat) (hp : ws = ps.filterMap (fun i => lw_tbl[i]?)) (hg : ws.all goodWord = true) : ∀ w ∈ ws, w ∈ lw_all := by
  intro w h
  have h1 := List.all_eq_true.mp hg w h
  rw [hp] at h
  obtain ⟨i, -, hi⟩ := List.mem_filterMap.mp h
  exact lw_w i hi h1
/-- the words of a contract for the method y with code b, L locals, answer r -/
abbrev ws_ (y : MethodName) (b : ByteArray) (L : Nat) (r : Option FieldType) : List Cond := Cond.code y b L r :: lw_all
theorem lw_meth {y : MethodName} {b : ByteArray} {L : Nat} {r : Option FieldType} (h : Cond.code y b L r ∈ lw_all) : GoodIn lw_all (ws_ y b L r) := by
  intro w hw
  rcases List.mem_cons.mp hw with e | e
  · rw [e]
    exact lw_self _ h
  · exact lw_self _ e
theorem lw_app {a c : List Cond} (ha : ∀ w ∈ a, w ∈ lw_all) (hc : GoodIn lw_all c) : GoodIn lw_all (a ++ c) := by
  intro w hw
  rcases List.mem_append.mp hw with e | e
  · exact lw_self w (ha w e)
  · exact hc w e
/-- what a call through an object asks: cwV n hts (lw_V ..) -/
theorem lw_V {own : String} {idx : Nat} {C : String} {y : MethodName} {b : ByteArray} {L : Nat} {r : Option FieldType} (h1 : Cond.methodLink own idx y ∈ lw_all) (h2 : Cond.instanceMethod y ∈ lw_all) (h3 : Cond.selects C y y ∈ lw_all) (h4 : Cond.initialized C ∈ lw_all) (h5 : Cond.code y b L r ∈ lw_all) : GoodIn lw_all (wsV own idx C y (ws_ y b L r)) := by
  refine lw_app ?_ (lw_meth h5)
  intro w hw
  simp only [List.mem_cons, List.not_mem_nil, or_false] at hw
  rcases hw with e | e | e | e
  · rw [e]; exact h1
  · rw [e]; exact h2
  · rw [e]; exact h3
  · rw [e]; exact h4
/-- what a static call asks: va_cwS n hts (lw_S ..) -/
theorem lw_S {own : String} {idx : Nat} {y : MethodName} {b : ByteArray} {L : Nat} {r : Option FieldType} (h1 : Cond.methodLink own idx y ∈ lw_all) (h2 : Cond.static y ∈ lw_all) (h3 : Cond.initialized y.cls ∈ lw_all) (h4 : Cond.code y b L r ∈ lw_all) : GoodIn lw_all (va_wsS own idx y (ws_ y b L r)) := by
  refine lw_app ?_ (lw_meth h4)
  intro w hw
  simp only [List.mem_cons, List.not_mem_nil, or_false] at hw
  rcases hw with e | e | e
  · rw [e]; exact h1
  · rw [e]; exact h2
  · rw [e]; exact h3
/-- the words of a contract for a method WITH HANDLERS (hh: its table) -/
abbrev wsW_ (y : MethodName) (b : ByteArray) (L : Nat) (r : Option FieldType) (hh : List (Nat × Nat × Nat × Nat)) : List Cond := Cond.codeWith y b L r hh :: lw_all
theorem lw_methW {y : MethodName} {b : ByteArray} {L : Nat} {r : Option FieldType} {hh : List (Nat × Nat × Nat × Nat)} (h : Cond.codeWith y b L r hh ∈ lw_all) : GoodIn lw_all (wsW_ y b L r hh) := by
  intro w hw
  rcases List.mem_cons.mp hw with e | e
  · rw [e]
    exact lw_self _ h
  · exact lw_self _ e
/-- any list of words by their places (lw_in), good -/
theorem lw_good {ws : List Cond} (h : ∀ w ∈ ws, w ∈ lw_all) : GoodIn lw_all ws := fun w hw => lw_self w (h w hw)
/-- what a call of a method with handlers asks: vx_cwVW n hts (lw_VW ..), vx_cwSW n hts (lw_SW ..) -/
theorem lw_VW {own : String} {idx : Nat} {C : String} {y : MethodName} {b : ByteArray} {L : Nat} {r : Option FieldType} {hh : List (Nat × Nat × Nat × Nat)} (h1 : Cond.methodLink own idx y ∈ lw_all) (h2 : Cond.instanceMethod y ∈ lw_all) (h3 : Cond.selects C y y ∈ lw_all) (h4 : Cond.initialized C ∈ lw_all) (h5 : Cond.codeWith y b L r hh ∈ lw_all) : GoodIn lw_all (wsV own idx C y (wsW_ y b L r hh)) := by
  refine lw_app ?_ (lw_methW h5)
  intro w hw
  simp only [List.mem_cons, List.not_mem_nil, or_false] at hw
  rcases hw with e | e | e | e
  · rw [e]; exact h1
  · rw [e]; exact h2
  · rw [e]; exact h3
  · rw [e]; exact h4
theorem lw_SW {own : String} {idx : Nat} {y : MethodName} {b : ByteArray} {L : Nat} {r : Option FieldType} {hh : List (Nat × Nat × Nat × Nat)} (h1 : Cond.methodLink own idx y ∈ lw_all) (h2 : Cond.static y ∈ lw_all) (h3 : Cond.initialized y.cls ∈ lw_all) (h4 : Cond.codeWith y b L r hh ∈ lw_all) : GoodIn lw_all (va_wsS own idx y (wsW_ y b L r hh)) := by
  refine lw_app ?_ (lw_methW h4)
  intro w hw
  simp only [List.mem_cons, List.not_mem_nil, or_false] at hw
  rcases hw with e | e | e
  · rw [e]; exact h1
  · rw [e]; exact h2
  · rw [e]; exact h3
/-- a word by its place in its run of the tables -/
theorem lw_at {r : List Cond} (hr : ∀ w ∈ r, w ∈ lw_tbl) {w : Cond} (i : Nat) (h : r[i]? = some w) : w ∈ lw_tbl := hr w (List.mem_of_getElem? h)
theorem lw_g {w : Cond} (h : w ∈ lw_tbl) (g : goodWord w = true) : w ∈ lw_all := List.mem_filter.mpr ⟨h, g⟩
theorem lw_ms : ∀ w ∈ k2_sels lw_privs, w ∈ lw_tbl := fun w h => show w ∈ k2_sels lw_privs ++ tables_1 from List.mem_append_left _ h
theorem lw_m1 : ∀ w ∈ tables_1_1, w ∈ lw_tbl := fun w h => show w ∈ k2_sels lw_privs ++ tables_1 from List.mem_append_right (k2_sels lw_privs) (show w ∈ tables_1 from List.mem_append_left _ h)
theorem lw_m2 : ∀ w ∈ tables_1_2, w ∈ lw_tbl := fun w h => show w ∈ k2_sels lw_privs ++ tables_1 from List.mem_append_right (k2_sels lw_privs) (show w ∈ tables_1 from List.mem_append_right _ h)
theorem qs0 : (Cond.selects "ConvKernels" ⟨"ConvKernels", "power", "(II)I"⟩ ⟨"ConvKernels", "power", "(II)I"⟩) ∈ lw_all := lw_g (lw_at lw_ms 0 rfl) rfl
theorem qs1 : (Cond.selects "ConvKernels" ⟨"ConvKernels", "clamp", "(I)I"⟩ ⟨"ConvKernels", "clamp", "(I)I"⟩) ∈ lw_all := lw_g (lw_at lw_ms 1 rfl) rfl
theorem qs2 : (Cond.selects "ConvKernels" ⟨"ConvKernels", "widthNow", "()I"⟩ ⟨"ConvKernels", "widthNow", "()I"⟩) ∈ lw_all := lw_g (lw_at lw_ms 2 rfl) rfl
theorem qs3 : (Cond.selects "ConvKernels" ⟨"ConvKernels", "moveByTiles", "()V"⟩ ⟨"ConvKernels", "moveByTiles", "()V"⟩) ∈ lw_all := lw_g (lw_at lw_ms 3 rfl) rfl
theorem qs4 : (Cond.selects "ConvKernels" ⟨"ConvKernels", "shapeKernel", "(I)V"⟩ ⟨"ConvKernels", "shapeKernel", "(I)V"⟩) ∈ lw_all := lw_g (lw_at lw_ms 4 rfl) rfl
theorem qs5 : (Cond.selects "ConvKernels" ⟨"ConvKernels", "addTile", "(III)V"⟩ ⟨"ConvKernels", "addTile", "(III)V"⟩) ∈ lw_all := lw_g (lw_at lw_ms 5 rfl) rfl
theorem qs6 : (Cond.selects "ConvKernels" ⟨"ConvKernels", "at", "(III)I"⟩ ⟨"ConvKernels", "at", "(III)I"⟩) ∈ lw_all := lw_g (lw_at lw_ms 6 rfl) rfl
theorem qs7 : (Cond.selects "ConvKernels" ⟨"ConvKernels", "shapeFour", "(II)V"⟩ ⟨"ConvKernels", "shapeFour", "(II)V"⟩) ∈ lw_all := lw_g (lw_at lw_ms 7 rfl) rfl
theorem qs8 : (Cond.selects "ConvKernels" ⟨"ConvKernels", "add", "(III)V"⟩ ⟨"ConvKernels", "add", "(III)V"⟩) ∈ lw_all := lw_g (lw_at lw_ms 8 rfl) rfl
theorem qs9 : (Cond.selects "ConvKernels" ⟨"ConvKernels", "moveByTransforms", "()V"⟩ ⟨"ConvKernels", "moveByTransforms", "()V"⟩) ∈ lw_all := lw_g (lw_at lw_ms 9 rfl) rfl
theorem qs10 : (Cond.selects "ConvKernels" ⟨"ConvKernels", "addTransformed", "(I)V"⟩ ⟨"ConvKernels", "addTransformed", "(I)V"⟩) ∈ lw_all := lw_g (lw_at lw_ms 10 rfl) rfl
theorem qs11 : (Cond.selects "ConvKernels" ⟨"ConvKernels", "clearPlane", "()V"⟩ ⟨"ConvKernels", "clearPlane", "()V"⟩) ∈ lw_all := lw_g (lw_at lw_ms 11 rfl) rfl
theorem qs12 : (Cond.selects "ConvKernels" ⟨"ConvKernels", "reduce", "(I)I"⟩ ⟨"ConvKernels", "reduce", "(I)I"⟩) ∈ lw_all := lw_g (lw_at lw_ms 12 rfl) rfl
theorem qs13 : (Cond.selects "ConvKernels" ⟨"ConvKernels", "transform", "(Z)V"⟩ ⟨"ConvKernels", "transform", "(Z)V"⟩) ∈ lw_all := lw_g (lw_at lw_ms 13 rfl) rfl
theorem qs14 : (Cond.selects "ConvKernels" ⟨"ConvKernels", "transformLine", "(IIZ)V"⟩ ⟨"ConvKernels", "transformLine", "(IIZ)V"⟩) ∈ lw_all := lw_g (lw_at lw_ms 14 rfl) rfl
theorem qs15 : (Cond.selects "ConvKernels" ⟨"ConvKernels", "moveByWindows", "()V"⟩ ⟨"ConvKernels", "moveByWindows", "()V"⟩) ∈ lw_all := lw_g (lw_at lw_ms 15 rfl) rfl
theorem qs16 : (Cond.selects "ConvKernels" ⟨"ConvKernels", "stretch", "(III)V"⟩ ⟨"ConvKernels", "stretch", "(III)V"⟩) ∈ lw_all := lw_g (lw_at lw_ms 16 rfl) rfl
theorem qs17 : (Cond.selects "ConvKernels" ⟨"ConvKernels", "addColumn", "(II)V"⟩ ⟨"ConvKernels", "addColumn", "(II)V"⟩) ∈ lw_all := lw_g (lw_at lw_ms 17 rfl) rfl
theorem qs18 : (Cond.selects "ConvKernels" ⟨"ConvKernels", "greater", "(II)I"⟩ ⟨"ConvKernels", "greater", "(II)I"⟩) ∈ lw_all := lw_g (lw_at lw_ms 18 rfl) rfl
theorem qs19 : (Cond.selects "ConvKernelsModel" ⟨"ConvKernelsModel", "cut", "(I)I"⟩ ⟨"ConvKernelsModel", "cut", "(I)I"⟩) ∈ lw_all := lw_g (lw_at lw_ms 19 rfl) rfl
theorem qs20 : (Cond.selects "ConvKernelsModel" ⟨"ConvKernelsModel", "widthAfter", "()I"⟩ ⟨"ConvKernelsModel", "widthAfter", "()I"⟩) ∈ lw_all := lw_g (lw_at lw_ms 20 rfl) rfl
theorem qs21 : (Cond.selects "ConvKernelsModel" ⟨"ConvKernelsModel", "product", "(II)I"⟩ ⟨"ConvKernelsModel", "product", "(II)I"⟩) ∈ lw_all := lw_g (lw_at lw_ms 21 rfl) rfl
theorem qs22 : (Cond.selects "ConvKernelsModel" ⟨"ConvKernelsModel", "pixelAt", "(III)I"⟩ ⟨"ConvKernelsModel", "pixelAt", "(III)I"⟩) ∈ lw_all := lw_g (lw_at lw_ms 22 rfl) rfl
theorem qs23 : (Cond.selects "ConvKernelsModel" ⟨"ConvKernelsModel", "greatestOf", "(II)I"⟩ ⟨"ConvKernelsModel", "greatestOf", "(II)I"⟩) ∈ lw_all := lw_g (lw_at lw_ms 23 rfl) rfl
end
section
set_option maxRecDepth 100000
/-! java/lang/Object -/
def RJ0 : String := "java/lang/Object"
abbrev cJ0_init : ByteArray := object_method_1_code
def yJ0_init : MethodName := ⟨RJ0, "<init>", "()V"⟩
theorem q33 : (Jvm.Cond.instanceMethod ({ cls := "java/lang/Object", name := "<init>", desc := "()V" } : Jvm.MethodName)) ∈ lw_all := lw_g (lw_at lw_m1 9 rfl) rfl
theorem q34 : (Jvm.Cond.code ({ cls := "java/lang/Object", name := "<init>", desc := "()V" } : Jvm.MethodName) object_method_1_code (1 : Nat) (Option.none : Option Jvm.ClassFile.FieldType)) ∈ lw_all := lw_g (lw_at lw_m1 10 rfl) rfl
theorem q94 : (Jvm.Cond.arrayClass Jvm.ClassFile.FieldType.int) ∈ lw_all := lw_g (lw_at lw_m1 70 rfl) rfl
theorem q24 : (Jvm.Cond.initialized "ConvKernelsLaw") ∈ lw_all := lw_g (lw_at lw_m1 0 rfl) rfl
theorem q27 : (Jvm.Cond.classLink "ConvKernelsLaw" (7 : Nat) "ConvKernels") ∈ lw_all := lw_g (lw_at lw_m1 3 rfl) rfl
theorem q29 : (Jvm.Cond.methodLink "ConvKernelsLaw" (9 : Nat) ({ cls := "ConvKernels", name := "<init>", desc := "()V" } : Jvm.MethodName)) ∈ lw_all := lw_g (lw_at lw_m1 5 rfl) rfl
theorem q95 : (Jvm.Cond.methodLink "ConvKernelsLaw" (13 : Nat) ({ cls := "ConvKernels", name := "put", desc := "(II)I" } : Jvm.MethodName)) ∈ lw_all := lw_g (lw_at lw_m1 71 rfl) rfl
theorem q100 : (Jvm.Cond.methodLink "ConvKernelsLaw" (18 : Nat) ({ cls := "ConvKernels", name := "fill", desc := "(IIII)I" } : Jvm.MethodName)) ∈ lw_all := lw_g (lw_at lw_m1 76 rfl) rfl
theorem q108 : (Jvm.Cond.methodLink "ConvKernelsLaw" (23 : Nat) ({ cls := "ConvKernels", name := "kernel", desc := "(II)I" } : Jvm.MethodName)) ∈ lw_all := lw_g (lw_at lw_m1 84 rfl) rfl
theorem q112 : (Jvm.Cond.methodLink "ConvKernelsLaw" (27 : Nat) ({ cls := "ConvKernels", name := "pixel", desc := "(I)I" } : Jvm.MethodName)) ∈ lw_all := lw_g (lw_at lw_m1 88 rfl) rfl
theorem q116 : (Jvm.Cond.methodLink "ConvKernelsLaw" (32 : Nat) ({ cls := "ConvKernels", name := "shape", desc := "(II)I" } : Jvm.MethodName)) ∈ lw_all := lw_g (lw_at lw_m1 92 rfl) rfl
theorem q124 : (Jvm.Cond.methodLink "ConvKernelsLaw" (36 : Nat) ({ cls := "ConvKernels", name := "move", desc := "()I" } : Jvm.MethodName)) ∈ lw_all := lw_g (lw_at lw_m1 100 rfl) rfl
theorem q188 : (Jvm.Cond.methodLink "ConvKernelsLaw" (41 : Nat) ({ cls := "ConvKernels", name := "width", desc := "()I" } : Jvm.MethodName)) ∈ lw_all := lw_g (lw_at lw_m1 164 rfl) rfl
theorem q192 : (Jvm.Cond.methodLink "ConvKernelsLaw" (45 : Nat) ({ cls := "ConvKernels", name := "result", desc := "(II)I" } : Jvm.MethodName)) ∈ lw_all := lw_g (lw_at lw_m1 168 rfl) rfl
theorem q196 : (Jvm.Cond.methodLink "ConvKernelsLaw" (49 : Nat) ({ cls := "ConvKernels", name := "floor", desc := "()I" } : Jvm.MethodName)) ∈ lw_all := lw_g (lw_at lw_m1 172 rfl) rfl
theorem q200 : (Jvm.Cond.methodLink "ConvKernelsLaw" (53 : Nat) ({ cls := "ConvKernels", name := "thin", desc := "()I" } : Jvm.MethodName)) ∈ lw_all := lw_g (lw_at lw_m1 176 rfl) rfl
theorem q208 : (Jvm.Cond.methodLink "ConvKernelsLaw" (57 : Nat) ({ cls := "ConvKernels", name := "divide", desc := "(I)I" } : Jvm.MethodName)) ∈ lw_all := lw_g (lw_at lw_m1 184 rfl) rfl
theorem q212 : (Jvm.Cond.methodLink "ConvKernelsLaw" (61 : Nat) ({ cls := "ConvKernels", name := "take", desc := "(I)I" } : Jvm.MethodName)) ∈ lw_all := lw_g (lw_at lw_m1 188 rfl) rfl
theorem q217 : (Jvm.Cond.methodLink "ConvKernelsLaw" (65 : Nat) ({ cls := "ConvKernels", name := "sum", desc := "()I" } : Jvm.MethodName)) ∈ lw_all := lw_g (lw_at lw_m1 193 rfl) rfl
theorem q221 : (Jvm.Cond.methodLink "ConvKernelsLaw" (69 : Nat) ({ cls := "ConvKernels", name := "peak", desc := "()I" } : Jvm.MethodName)) ∈ lw_all := lw_g (lw_at lw_m1 197 rfl) rfl
theorem q225 : (Jvm.Cond.methodLink "ConvKernelsLaw" (73 : Nat) ({ cls := "ConvKernels", name := "way", desc := "(I)I" } : Jvm.MethodName)) ∈ lw_all := lw_g (lw_at lw_m1 201 rfl) rfl
theorem q229 : (Jvm.Cond.classLink "ConvKernelsLaw" (10 : Nat) "ConvKernelsModel") ∈ lw_all := lw_g (lw_at lw_m1 205 rfl) rfl
theorem q231 : (Jvm.Cond.methodLink "ConvKernelsLaw" (12 : Nat) ({ cls := "ConvKernelsModel", name := "<init>", desc := "()V" } : Jvm.MethodName)) ∈ lw_all := lw_g (lw_at lw_m1 207 rfl) rfl
theorem q254 : (Jvm.Cond.methodLink "ConvKernelsLaw" (17 : Nat) ({ cls := "ConvKernelsModel", name := "put", desc := "(II)I" } : Jvm.MethodName)) ∈ lw_all := lw_g (lw_at lw_m1 230 rfl) rfl
theorem q259 : (Jvm.Cond.methodLink "ConvKernelsLaw" (22 : Nat) ({ cls := "ConvKernelsModel", name := "fill", desc := "(IIII)I" } : Jvm.MethodName)) ∈ lw_all := lw_g (lw_at lw_m1 235 rfl) rfl
theorem q267 : (Jvm.Cond.methodLink "ConvKernelsLaw" (26 : Nat) ({ cls := "ConvKernelsModel", name := "kernel", desc := "(II)I" } : Jvm.MethodName)) ∈ lw_all := lw_g (lw_at lw_m2 3 rfl) rfl
theorem q271 : (Jvm.Cond.methodLink "ConvKernelsLaw" (31 : Nat) ({ cls := "ConvKernelsModel", name := "pixel", desc := "(I)I" } : Jvm.MethodName)) ∈ lw_all := lw_g (lw_at lw_m2 7 rfl) rfl
theorem q275 : (Jvm.Cond.methodLink "ConvKernelsLaw" (35 : Nat) ({ cls := "ConvKernelsModel", name := "shape", desc := "(II)I" } : Jvm.MethodName)) ∈ lw_all := lw_g (lw_at lw_m2 11 rfl) rfl
theorem q283 : (Jvm.Cond.methodLink "ConvKernelsLaw" (40 : Nat) ({ cls := "ConvKernelsModel", name := "move", desc := "()I" } : Jvm.MethodName)) ∈ lw_all := lw_g (lw_at lw_m2 19 rfl) rfl
theorem q295 : (Jvm.Cond.methodLink "ConvKernelsLaw" (44 : Nat) ({ cls := "ConvKernelsModel", name := "width", desc := "()I" } : Jvm.MethodName)) ∈ lw_all := lw_g (lw_at lw_m2 31 rfl) rfl
theorem q299 : (Jvm.Cond.methodLink "ConvKernelsLaw" (48 : Nat) ({ cls := "ConvKernelsModel", name := "result", desc := "(II)I" } : Jvm.MethodName)) ∈ lw_all := lw_g (lw_at lw_m2 35 rfl) rfl
theorem q303 : (Jvm.Cond.methodLink "ConvKernelsLaw" (52 : Nat) ({ cls := "ConvKernelsModel", name := "floor", desc := "()I" } : Jvm.MethodName)) ∈ lw_all := lw_g (lw_at lw_m2 39 rfl) rfl
theorem q307 : (Jvm.Cond.methodLink "ConvKernelsLaw" (56 : Nat) ({ cls := "ConvKernelsModel", name := "thin", desc := "()I" } : Jvm.MethodName)) ∈ lw_all := lw_g (lw_at lw_m2 43 rfl) rfl
theorem q315 : (Jvm.Cond.methodLink "ConvKernelsLaw" (60 : Nat) ({ cls := "ConvKernelsModel", name := "divide", desc := "(I)I" } : Jvm.MethodName)) ∈ lw_all := lw_g (lw_at lw_m2 51 rfl) rfl
theorem q319 : (Jvm.Cond.methodLink "ConvKernelsLaw" (64 : Nat) ({ cls := "ConvKernelsModel", name := "take", desc := "(I)I" } : Jvm.MethodName)) ∈ lw_all := lw_g (lw_at lw_m2 55 rfl) rfl
theorem q324 : (Jvm.Cond.methodLink "ConvKernelsLaw" (68 : Nat) ({ cls := "ConvKernelsModel", name := "sum", desc := "()I" } : Jvm.MethodName)) ∈ lw_all := lw_g (lw_at lw_m2 60 rfl) rfl
theorem q328 : (Jvm.Cond.methodLink "ConvKernelsLaw" (72 : Nat) ({ cls := "ConvKernelsModel", name := "peak", desc := "()I" } : Jvm.MethodName)) ∈ lw_all := lw_g (lw_at lw_m2 64 rfl) rfl
theorem q332 : (Jvm.Cond.methodLink "ConvKernelsLaw" (76 : Nat) ({ cls := "ConvKernelsModel", name := "way", desc := "(I)I" } : Jvm.MethodName)) ∈ lw_all := lw_g (lw_at lw_m2 68 rfl) rfl
/-! ConvKernels -/
def RX0 : String := "ConvKernels"
def TX0 : u_T := fun k => match k with
  | 0 => ("ConvKernels", "picture", "[I", true)
  | 1 => ("ConvKernels", "kernels", "[I", true)
  | 2 => ("ConvKernels", "stride", "I", false)
  | 3 => ("ConvKernels", "margin", "I", false)
  | 4 => ("ConvKernels", "chosen", "I", false)
  | 5 => ("ConvKernels", "wide", "I", false)
  | 6 => ("ConvKernels", "out", "[I", true)
  | 7 => ("ConvKernels", "piece", "[I", true)
  | 8 => ("ConvKernels", "half", "[I", true)
  | 9 => ("ConvKernels", "shaped", "[I", true)
  | 10 => ("ConvKernels", "product", "[I", true)
  | 11 => ("ConvKernels", "plane", "[I", true)
  | 12 => ("ConvKernels", "other", "[I", true)
  | 13 => ("ConvKernels", "total", "[I", true)
  | 14 => ("ConvKernels", "line", "[I", true)
  | 15 => ("ConvKernels", "root", "[I", true)
  | 16 => ("ConvKernels", "back", "[I", true)
  | _ => ("ConvKernels", "window", "[I", true)
def tyX0 : Nat → FieldType := fun k => match k with
  | 0 => .array .int
  | 1 => .array .int
  | 2 => .int
  | 3 => .int
  | 4 => .int
  | 5 => .int
  | 6 => .array .int
  | 7 => .array .int
  | 8 => .array .int
  | 9 => .array .int
  | 10 => .array .int
  | 11 => .array .int
  | 12 => .array .int
  | 13 => .array .int
  | 14 => .array .int
  | 15 => .array .int
  | 16 => .array .int
  | _ => .array .int
abbrev wsX00 : List Cond := u_ws RX0 TX0 18
set_option maxRecDepth 100000 in
theorem nmX0 : ∀ a, a < 18 → ∀ b, b < 18 → a ≠ b → (TX0 a).2.1 ≠ (TX0 b).2.1 := by decide +kernel
set_option maxRecDepth 100000 in
theorem tyX0_ok : ∀ k, k < 18 → parseFieldDescriptor (TX0 k).2.2.1 = some (tyX0 k) := by decide +kernel
abbrev cX0_init : ByteArray := prog_1_method_1_code
def yX0_init : MethodName := ⟨RX0, "<init>", "()V"⟩
abbrev cX0_power : ByteArray := prog_1_method_2_code
def yX0_power : MethodName := ⟨RX0, "power", "(II)I"⟩
abbrev cX0_put : ByteArray := prog_1_method_4_code
def yX0_put : MethodName := ⟨RX0, "put", "(II)I"⟩
abbrev cX0_fill : ByteArray := prog_1_method_5_code
def yX0_fill : MethodName := ⟨RX0, "fill", "(IIII)I"⟩
abbrev cX0_clamp : ByteArray := prog_1_method_3_code
def yX0_clamp : MethodName := ⟨RX0, "clamp", "(I)I"⟩
abbrev cX0_kernel : ByteArray := prog_1_method_6_code
def yX0_kernel : MethodName := ⟨RX0, "kernel", "(II)I"⟩
abbrev cX0_pixel : ByteArray := prog_1_method_7_code
def yX0_pixel : MethodName := ⟨RX0, "pixel", "(I)I"⟩
abbrev cX0_shape : ByteArray := prog_1_method_9_code
def yX0_shape : MethodName := ⟨RX0, "shape", "(II)I"⟩
abbrev cX0_widthNow : ByteArray := prog_1_method_8_code
def yX0_widthNow : MethodName := ⟨RX0, "widthNow", "()I"⟩
abbrev cX0_move : ByteArray := prog_1_method_25_code
def yX0_move : MethodName := ⟨RX0, "move", "()I"⟩
abbrev cX0_moveByTiles : ByteArray := prog_1_method_15_code
def yX0_moveByTiles : MethodName := ⟨RX0, "moveByTiles", "()V"⟩
abbrev cX0_shapeKernel : ByteArray := prog_1_method_12_code
def yX0_shapeKernel : MethodName := ⟨RX0, "shapeKernel", "(I)V"⟩
abbrev cX0_addTile : ByteArray := prog_1_method_13_code
def yX0_addTile : MethodName := ⟨RX0, "addTile", "(III)V"⟩
abbrev cX0_at : ByteArray := prog_1_method_10_code
def yX0_at : MethodName := ⟨RX0, "at", "(III)I"⟩
abbrev cX0_shapeFour : ByteArray := prog_1_method_11_code
def yX0_shapeFour : MethodName := ⟨RX0, "shapeFour", "(II)V"⟩
abbrev cX0_add : ByteArray := prog_1_method_14_code
def yX0_add : MethodName := ⟨RX0, "add", "(III)V"⟩
abbrev cX0_moveByTransforms : ByteArray := prog_1_method_21_code
def yX0_moveByTransforms : MethodName := ⟨RX0, "moveByTransforms", "()V"⟩
abbrev cX0_addTransformed : ByteArray := prog_1_method_20_code
def yX0_addTransformed : MethodName := ⟨RX0, "addTransformed", "(I)V"⟩
abbrev cX0_clearPlane : ByteArray := prog_1_method_19_code
def yX0_clearPlane : MethodName := ⟨RX0, "clearPlane", "()V"⟩
abbrev cX0_reduce : ByteArray := prog_1_method_16_code
def yX0_reduce : MethodName := ⟨RX0, "reduce", "(I)I"⟩
abbrev cX0_transform : ByteArray := prog_1_method_18_code
def yX0_transform : MethodName := ⟨RX0, "transform", "(Z)V"⟩
abbrev cX0_transformLine : ByteArray := prog_1_method_17_code
def yX0_transformLine : MethodName := ⟨RX0, "transformLine", "(IIZ)V"⟩
abbrev cX0_moveByWindows : ByteArray := prog_1_method_22_code
def yX0_moveByWindows : MethodName := ⟨RX0, "moveByWindows", "()V"⟩
abbrev cX0_stretch : ByteArray := prog_1_method_23_code
def yX0_stretch : MethodName := ⟨RX0, "stretch", "(III)V"⟩
abbrev cX0_addColumn : ByteArray := prog_1_method_24_code
def yX0_addColumn : MethodName := ⟨RX0, "addColumn", "(II)V"⟩
abbrev cX0_width : ByteArray := prog_1_method_26_code
def yX0_width : MethodName := ⟨RX0, "width", "()I"⟩
abbrev cX0_result : ByteArray := prog_1_method_27_code
def yX0_result : MethodName := ⟨RX0, "result", "(II)I"⟩
abbrev cX0_floor : ByteArray := prog_1_method_28_code
def yX0_floor : MethodName := ⟨RX0, "floor", "()I"⟩
abbrev cX0_thin : ByteArray := prog_1_method_30_code
def yX0_thin : MethodName := ⟨RX0, "thin", "()I"⟩
abbrev cX0_greater : ByteArray := prog_1_method_29_code
def yX0_greater : MethodName := ⟨RX0, "greater", "(II)I"⟩
abbrev cX0_divide : ByteArray := prog_1_method_31_code
def yX0_divide : MethodName := ⟨RX0, "divide", "(I)I"⟩
abbrev cX0_take : ByteArray := prog_1_method_32_code
def yX0_take : MethodName := ⟨RX0, "take", "(I)I"⟩
abbrev cX0_sum : ByteArray := prog_1_method_33_code
def yX0_sum : MethodName := ⟨RX0, "sum", "()I"⟩
abbrev cX0_peak : ByteArray := prog_1_method_34_code
def yX0_peak : MethodName := ⟨RX0, "peak", "()I"⟩
abbrev cX0_way : ByteArray := prog_1_method_35_code
def yX0_way : MethodName := ⟨RX0, "way", "(I)I"⟩
theorem q25 : (Jvm.Cond.initialized "ConvKernels") ∈ lw_all := lw_g (lw_at lw_m1 1 rfl) rfl
theorem q28 : (Jvm.Cond.instantiable "ConvKernels" (18 : Nat)) ∈ lw_all := lw_g (lw_at lw_m1 4 rfl) rfl
theorem q30 : (Jvm.Cond.instanceMethod ({ cls := "ConvKernels", name := "<init>", desc := "()V" } : Jvm.MethodName)) ∈ lw_all := lw_g (lw_at lw_m1 6 rfl) rfl
theorem q31 : (Jvm.Cond.code ({ cls := "ConvKernels", name := "<init>", desc := "()V" } : Jvm.MethodName) prog_1_method_1_code (4 : Nat) (Option.none : Option Jvm.ClassFile.FieldType)) ∈ lw_all := lw_g (lw_at lw_m1 7 rfl) rfl
theorem q32 : (Jvm.Cond.methodLink "ConvKernels" (1 : Nat) ({ cls := "java/lang/Object", name := "<init>", desc := "()V" } : Jvm.MethodName)) ∈ lw_all := lw_g (lw_at lw_m1 8 rfl) rfl
theorem q35 : (Jvm.Cond.methodLink "ConvKernels" (59 : Nat) ({ cls := "ConvKernels", name := "power", desc := "(II)I" } : Jvm.MethodName)) ∈ lw_all := lw_g (lw_at lw_m1 11 rfl) rfl
theorem q36 : (Jvm.Cond.privateMethod ({ cls := "ConvKernels", name := "power", desc := "(II)I" } : Jvm.MethodName)) ∈ lw_tbl := lw_at lw_m1 12 rfl
theorem q37 : (Jvm.Cond.instanceMethod ({ cls := "ConvKernels", name := "power", desc := "(II)I" } : Jvm.MethodName)) ∈ lw_all := lw_g (lw_at lw_m1 13 rfl) rfl
theorem q38 : (Jvm.Cond.code ({ cls := "ConvKernels", name := "power", desc := "(II)I" } : Jvm.MethodName) prog_1_method_2_code (6 : Nat) (Option.some Jvm.ClassFile.FieldType.int)) ∈ lw_all := lw_g (lw_at lw_m1 14 rfl) rfl
theorem q39 : (Jvm.Cond.fieldLink "ConvKernels" (7 : Nat) "ConvKernels" "picture" "[I") ∈ lw_all := lw_g (lw_at lw_m1 15 rfl) rfl
theorem q40 : (Jvm.Cond.fieldLink "ConvKernels" (13 : Nat) "ConvKernels" "kernels" "[I") ∈ lw_all := lw_g (lw_at lw_m1 16 rfl) rfl
theorem q41 : (Jvm.Cond.fieldLink "ConvKernels" (52 : Nat) "ConvKernels" "stride" "I") ∈ lw_all := lw_g (lw_at lw_m1 17 rfl) rfl
theorem q42 : (Jvm.Cond.fieldLink "ConvKernels" (56 : Nat) "ConvKernels" "margin" "I") ∈ lw_all := lw_g (lw_at lw_m1 18 rfl) rfl
theorem q43 : (Jvm.Cond.fieldLink "ConvKernels" (117 : Nat) "ConvKernels" "chosen" "I") ∈ lw_all := lw_g (lw_at lw_m1 19 rfl) rfl
theorem q44 : (Jvm.Cond.fieldLink "ConvKernels" (84 : Nat) "ConvKernels" "wide" "I") ∈ lw_all := lw_g (lw_at lw_m1 20 rfl) rfl
theorem q45 : (Jvm.Cond.fieldLink "ConvKernels" (16 : Nat) "ConvKernels" "out" "[I") ∈ lw_all := lw_g (lw_at lw_m1 21 rfl) rfl
theorem q46 : (Jvm.Cond.fieldLink "ConvKernels" (19 : Nat) "ConvKernels" "piece" "[I") ∈ lw_all := lw_g (lw_at lw_m1 22 rfl) rfl
theorem q47 : (Jvm.Cond.fieldLink "ConvKernels" (22 : Nat) "ConvKernels" "half" "[I") ∈ lw_all := lw_g (lw_at lw_m1 23 rfl) rfl
theorem q48 : (Jvm.Cond.fieldLink "ConvKernels" (25 : Nat) "ConvKernels" "shaped" "[I") ∈ lw_all := lw_g (lw_at lw_m1 24 rfl) rfl
theorem q49 : (Jvm.Cond.fieldLink "ConvKernels" (28 : Nat) "ConvKernels" "product" "[I") ∈ lw_all := lw_g (lw_at lw_m1 25 rfl) rfl
theorem q50 : (Jvm.Cond.fieldLink "ConvKernels" (31 : Nat) "ConvKernels" "plane" "[I") ∈ lw_all := lw_g (lw_at lw_m1 26 rfl) rfl
theorem q51 : (Jvm.Cond.fieldLink "ConvKernels" (34 : Nat) "ConvKernels" "other" "[I") ∈ lw_all := lw_g (lw_at lw_m1 27 rfl) rfl
theorem q52 : (Jvm.Cond.fieldLink "ConvKernels" (37 : Nat) "ConvKernels" "total" "[I") ∈ lw_all := lw_g (lw_at lw_m1 28 rfl) rfl
theorem q53 : (Jvm.Cond.fieldLink "ConvKernels" (40 : Nat) "ConvKernels" "line" "[I") ∈ lw_all := lw_g (lw_at lw_m1 29 rfl) rfl
theorem q54 : (Jvm.Cond.fieldLink "ConvKernels" (43 : Nat) "ConvKernels" "root" "[I") ∈ lw_all := lw_g (lw_at lw_m1 30 rfl) rfl
theorem q55 : (Jvm.Cond.fieldLink "ConvKernels" (46 : Nat) "ConvKernels" "back" "[I") ∈ lw_all := lw_g (lw_at lw_m1 31 rfl) rfl
theorem q56 : (Jvm.Cond.fieldLink "ConvKernels" (49 : Nat) "ConvKernels" "window" "[I") ∈ lw_all := lw_g (lw_at lw_m1 32 rfl) rfl
theorem q57 : (Jvm.Cond.laysFinal "ConvKernels" "ConvKernels" "picture" "[I") ∈ lw_all := lw_g (lw_at lw_m1 33 rfl) rfl
theorem q58 : (Jvm.Cond.soleField "ConvKernels" "picture") ∈ lw_all := lw_g (lw_at lw_m1 34 rfl) rfl
theorem q59 : (Jvm.Cond.laysFinal "ConvKernels" "ConvKernels" "kernels" "[I") ∈ lw_all := lw_g (lw_at lw_m1 35 rfl) rfl
theorem q60 : (Jvm.Cond.soleField "ConvKernels" "kernels") ∈ lw_all := lw_g (lw_at lw_m1 36 rfl) rfl
theorem q61 : (Jvm.Cond.lays "ConvKernels" "ConvKernels" "stride" "I") ∈ lw_all := lw_g (lw_at lw_m1 37 rfl) rfl
theorem q62 : (Jvm.Cond.soleField "ConvKernels" "stride") ∈ lw_all := lw_g (lw_at lw_m1 38 rfl) rfl
theorem q63 : (Jvm.Cond.lays "ConvKernels" "ConvKernels" "margin" "I") ∈ lw_all := lw_g (lw_at lw_m1 39 rfl) rfl
theorem q64 : (Jvm.Cond.soleField "ConvKernels" "margin") ∈ lw_all := lw_g (lw_at lw_m1 40 rfl) rfl
theorem q65 : (Jvm.Cond.lays "ConvKernels" "ConvKernels" "chosen" "I") ∈ lw_all := lw_g (lw_at lw_m1 41 rfl) rfl
theorem q66 : (Jvm.Cond.soleField "ConvKernels" "chosen") ∈ lw_all := lw_g (lw_at lw_m1 42 rfl) rfl
theorem q67 : (Jvm.Cond.lays "ConvKernels" "ConvKernels" "wide" "I") ∈ lw_all := lw_g (lw_at lw_m1 43 rfl) rfl
theorem q68 : (Jvm.Cond.soleField "ConvKernels" "wide") ∈ lw_all := lw_g (lw_at lw_m1 44 rfl) rfl
theorem q69 : (Jvm.Cond.laysFinal "ConvKernels" "ConvKernels" "out" "[I") ∈ lw_all := lw_g (lw_at lw_m1 45 rfl) rfl
theorem q70 : (Jvm.Cond.soleField "ConvKernels" "out") ∈ lw_all := lw_g (lw_at lw_m1 46 rfl) rfl
theorem q71 : (Jvm.Cond.laysFinal "ConvKernels" "ConvKernels" "piece" "[I") ∈ lw_all := lw_g (lw_at lw_m1 47 rfl) rfl
theorem q72 : (Jvm.Cond.soleField "ConvKernels" "piece") ∈ lw_all := lw_g (lw_at lw_m1 48 rfl) rfl
theorem q73 : (Jvm.Cond.laysFinal "ConvKernels" "ConvKernels" "half" "[I") ∈ lw_all := lw_g (lw_at lw_m1 49 rfl) rfl
theorem q74 : (Jvm.Cond.soleField "ConvKernels" "half") ∈ lw_all := lw_g (lw_at lw_m1 50 rfl) rfl
theorem q75 : (Jvm.Cond.laysFinal "ConvKernels" "ConvKernels" "shaped" "[I") ∈ lw_all := lw_g (lw_at lw_m1 51 rfl) rfl
theorem q76 : (Jvm.Cond.soleField "ConvKernels" "shaped") ∈ lw_all := lw_g (lw_at lw_m1 52 rfl) rfl
theorem q77 : (Jvm.Cond.laysFinal "ConvKernels" "ConvKernels" "product" "[I") ∈ lw_all := lw_g (lw_at lw_m1 53 rfl) rfl
theorem q78 : (Jvm.Cond.soleField "ConvKernels" "product") ∈ lw_all := lw_g (lw_at lw_m1 54 rfl) rfl
theorem q79 : (Jvm.Cond.laysFinal "ConvKernels" "ConvKernels" "plane" "[I") ∈ lw_all := lw_g (lw_at lw_m1 55 rfl) rfl
theorem q80 : (Jvm.Cond.soleField "ConvKernels" "plane") ∈ lw_all := lw_g (lw_at lw_m1 56 rfl) rfl
theorem q81 : (Jvm.Cond.laysFinal "ConvKernels" "ConvKernels" "other" "[I") ∈ lw_all := lw_g (lw_at lw_m1 57 rfl) rfl
theorem q82 : (Jvm.Cond.soleField "ConvKernels" "other") ∈ lw_all := lw_g (lw_at lw_m1 58 rfl) rfl
theorem q83 : (Jvm.Cond.laysFinal "ConvKernels" "ConvKernels" "total" "[I") ∈ lw_all := lw_g (lw_at lw_m1 59 rfl) rfl
theorem q84 : (Jvm.Cond.soleField "ConvKernels" "total") ∈ lw_all := lw_g (lw_at lw_m1 60 rfl) rfl
theorem q85 : (Jvm.Cond.laysFinal "ConvKernels" "ConvKernels" "line" "[I") ∈ lw_all := lw_g (lw_at lw_m1 61 rfl) rfl
theorem q86 : (Jvm.Cond.soleField "ConvKernels" "line") ∈ lw_all := lw_g (lw_at lw_m1 62 rfl) rfl
theorem q87 : (Jvm.Cond.laysFinal "ConvKernels" "ConvKernels" "root" "[I") ∈ lw_all := lw_g (lw_at lw_m1 63 rfl) rfl
theorem q88 : (Jvm.Cond.soleField "ConvKernels" "root") ∈ lw_all := lw_g (lw_at lw_m1 64 rfl) rfl
theorem q89 : (Jvm.Cond.laysFinal "ConvKernels" "ConvKernels" "back" "[I") ∈ lw_all := lw_g (lw_at lw_m1 65 rfl) rfl
theorem q90 : (Jvm.Cond.soleField "ConvKernels" "back") ∈ lw_all := lw_g (lw_at lw_m1 66 rfl) rfl
theorem q91 : (Jvm.Cond.laysFinal "ConvKernels" "ConvKernels" "window" "[I") ∈ lw_all := lw_g (lw_at lw_m1 67 rfl) rfl
theorem q92 : (Jvm.Cond.soleField "ConvKernels" "window") ∈ lw_all := lw_g (lw_at lw_m1 68 rfl) rfl
theorem q93 : (Jvm.Cond.superclass "ConvKernels" "java/lang/Object") ∈ lw_all := lw_g (lw_at lw_m1 69 rfl) rfl
theorem q96 : (Jvm.Cond.instanceMethod ({ cls := "ConvKernels", name := "put", desc := "(II)I" } : Jvm.MethodName)) ∈ lw_all := lw_g (lw_at lw_m1 72 rfl) rfl
theorem q97 : (Jvm.Cond.selects "ConvKernels" ({ cls := "ConvKernels", name := "put", desc := "(II)I" } : Jvm.MethodName) ({ cls := "ConvKernels", name := "put", desc := "(II)I" } : Jvm.MethodName)) ∈ lw_all := lw_g (lw_at lw_m1 73 rfl) rfl
theorem q98 : (Jvm.Cond.code ({ cls := "ConvKernels", name := "put", desc := "(II)I" } : Jvm.MethodName) prog_1_method_4_code (4 : Nat) (Option.some Jvm.ClassFile.FieldType.int)) ∈ lw_all := lw_g (lw_at lw_m1 74 rfl) rfl
theorem q99 : (Jvm.Cond.constant "ConvKernels" (63 : Nat) (-1000000 : Int32)) ∈ lw_all := lw_g (lw_at lw_m1 75 rfl) rfl
theorem q101 : (Jvm.Cond.instanceMethod ({ cls := "ConvKernels", name := "fill", desc := "(IIII)I" } : Jvm.MethodName)) ∈ lw_all := lw_g (lw_at lw_m1 77 rfl) rfl
theorem q102 : (Jvm.Cond.selects "ConvKernels" ({ cls := "ConvKernels", name := "fill", desc := "(IIII)I" } : Jvm.MethodName) ({ cls := "ConvKernels", name := "fill", desc := "(IIII)I" } : Jvm.MethodName)) ∈ lw_all := lw_g (lw_at lw_m1 78 rfl) rfl
theorem q103 : (Jvm.Cond.code ({ cls := "ConvKernels", name := "fill", desc := "(IIII)I" } : Jvm.MethodName) prog_1_method_5_code (9 : Nat) (Option.some Jvm.ClassFile.FieldType.int)) ∈ lw_all := lw_g (lw_at lw_m1 79 rfl) rfl
theorem q104 : (Jvm.Cond.methodLink "ConvKernels" (64 : Nat) ({ cls := "ConvKernels", name := "clamp", desc := "(I)I" } : Jvm.MethodName)) ∈ lw_all := lw_g (lw_at lw_m1 80 rfl) rfl
theorem q105 : (Jvm.Cond.privateMethod ({ cls := "ConvKernels", name := "clamp", desc := "(I)I" } : Jvm.MethodName)) ∈ lw_tbl := lw_at lw_m1 81 rfl
theorem q106 : (Jvm.Cond.instanceMethod ({ cls := "ConvKernels", name := "clamp", desc := "(I)I" } : Jvm.MethodName)) ∈ lw_all := lw_g (lw_at lw_m1 82 rfl) rfl
theorem q107 : (Jvm.Cond.code ({ cls := "ConvKernels", name := "clamp", desc := "(I)I" } : Jvm.MethodName) prog_1_method_3_code (2 : Nat) (Option.some Jvm.ClassFile.FieldType.int)) ∈ lw_all := lw_g (lw_at lw_m1 83 rfl) rfl
theorem q109 : (Jvm.Cond.instanceMethod ({ cls := "ConvKernels", name := "kernel", desc := "(II)I" } : Jvm.MethodName)) ∈ lw_all := lw_g (lw_at lw_m1 85 rfl) rfl
theorem q110 : (Jvm.Cond.selects "ConvKernels" ({ cls := "ConvKernels", name := "kernel", desc := "(II)I" } : Jvm.MethodName) ({ cls := "ConvKernels", name := "kernel", desc := "(II)I" } : Jvm.MethodName)) ∈ lw_all := lw_g (lw_at lw_m1 86 rfl) rfl
theorem q111 : (Jvm.Cond.code ({ cls := "ConvKernels", name := "kernel", desc := "(II)I" } : Jvm.MethodName) prog_1_method_6_code (4 : Nat) (Option.some Jvm.ClassFile.FieldType.int)) ∈ lw_all := lw_g (lw_at lw_m1 87 rfl) rfl
theorem q113 : (Jvm.Cond.instanceMethod ({ cls := "ConvKernels", name := "pixel", desc := "(I)I" } : Jvm.MethodName)) ∈ lw_all := lw_g (lw_at lw_m1 89 rfl) rfl
theorem q114 : (Jvm.Cond.selects "ConvKernels" ({ cls := "ConvKernels", name := "pixel", desc := "(I)I" } : Jvm.MethodName) ({ cls := "ConvKernels", name := "pixel", desc := "(I)I" } : Jvm.MethodName)) ∈ lw_all := lw_g (lw_at lw_m1 90 rfl) rfl
theorem q115 : (Jvm.Cond.code ({ cls := "ConvKernels", name := "pixel", desc := "(I)I" } : Jvm.MethodName) prog_1_method_7_code (2 : Nat) (Option.some Jvm.ClassFile.FieldType.int)) ∈ lw_all := lw_g (lw_at lw_m1 91 rfl) rfl
theorem q117 : (Jvm.Cond.instanceMethod ({ cls := "ConvKernels", name := "shape", desc := "(II)I" } : Jvm.MethodName)) ∈ lw_all := lw_g (lw_at lw_m1 93 rfl) rfl
theorem q118 : (Jvm.Cond.selects "ConvKernels" ({ cls := "ConvKernels", name := "shape", desc := "(II)I" } : Jvm.MethodName) ({ cls := "ConvKernels", name := "shape", desc := "(II)I" } : Jvm.MethodName)) ∈ lw_all := lw_g (lw_at lw_m1 94 rfl) rfl
theorem q119 : (Jvm.Cond.code ({ cls := "ConvKernels", name := "shape", desc := "(II)I" } : Jvm.MethodName) prog_1_method_9_code (3 : Nat) (Option.some Jvm.ClassFile.FieldType.int)) ∈ lw_all := lw_g (lw_at lw_m1 95 rfl) rfl
theorem q120 : (Jvm.Cond.methodLink "ConvKernels" (68 : Nat) ({ cls := "ConvKernels", name := "widthNow", desc := "()I" } : Jvm.MethodName)) ∈ lw_all := lw_g (lw_at lw_m1 96 rfl) rfl
theorem q121 : (Jvm.Cond.privateMethod ({ cls := "ConvKernels", name := "widthNow", desc := "()I" } : Jvm.MethodName)) ∈ lw_tbl := lw_at lw_m1 97 rfl
theorem q122 : (Jvm.Cond.instanceMethod ({ cls := "ConvKernels", name := "widthNow", desc := "()I" } : Jvm.MethodName)) ∈ lw_all := lw_g (lw_at lw_m1 98 rfl) rfl
theorem q123 : (Jvm.Cond.code ({ cls := "ConvKernels", name := "widthNow", desc := "()I" } : Jvm.MethodName) prog_1_method_8_code (2 : Nat) (Option.some Jvm.ClassFile.FieldType.int)) ∈ lw_all := lw_g (lw_at lw_m1 99 rfl) rfl
theorem q125 : (Jvm.Cond.instanceMethod ({ cls := "ConvKernels", name := "move", desc := "()I" } : Jvm.MethodName)) ∈ lw_all := lw_g (lw_at lw_m1 101 rfl) rfl
theorem q126 : (Jvm.Cond.selects "ConvKernels" ({ cls := "ConvKernels", name := "move", desc := "()I" } : Jvm.MethodName) ({ cls := "ConvKernels", name := "move", desc := "()I" } : Jvm.MethodName)) ∈ lw_all := lw_g (lw_at lw_m1 102 rfl) rfl
theorem q127 : (Jvm.Cond.code ({ cls := "ConvKernels", name := "move", desc := "()I" } : Jvm.MethodName) prog_1_method_25_code (2 : Nat) (Option.some Jvm.ClassFile.FieldType.int)) ∈ lw_all := lw_g (lw_at lw_m1 103 rfl) rfl
theorem q128 : (Jvm.Cond.methodLink "ConvKernels" (120 : Nat) ({ cls := "ConvKernels", name := "moveByTiles", desc := "()V" } : Jvm.MethodName)) ∈ lw_all := lw_g (lw_at lw_m1 104 rfl) rfl
theorem q129 : (Jvm.Cond.privateMethod ({ cls := "ConvKernels", name := "moveByTiles", desc := "()V" } : Jvm.MethodName)) ∈ lw_tbl := lw_at lw_m1 105 rfl
theorem q130 : (Jvm.Cond.instanceMethod ({ cls := "ConvKernels", name := "moveByTiles", desc := "()V" } : Jvm.MethodName)) ∈ lw_all := lw_g (lw_at lw_m1 106 rfl) rfl
theorem q131 : (Jvm.Cond.code ({ cls := "ConvKernels", name := "moveByTiles", desc := "()V" } : Jvm.MethodName) prog_1_method_15_code (4 : Nat) (Option.none : Option Jvm.ClassFile.FieldType)) ∈ lw_all := lw_g (lw_at lw_m1 107 rfl) rfl
theorem q132 : (Jvm.Cond.methodLink "ConvKernels" (87 : Nat) ({ cls := "ConvKernels", name := "shapeKernel", desc := "(I)V" } : Jvm.MethodName)) ∈ lw_all := lw_g (lw_at lw_m1 108 rfl) rfl
theorem q133 : (Jvm.Cond.privateMethod ({ cls := "ConvKernels", name := "shapeKernel", desc := "(I)V" } : Jvm.MethodName)) ∈ lw_tbl := lw_at lw_m1 109 rfl
theorem q134 : (Jvm.Cond.instanceMethod ({ cls := "ConvKernels", name := "shapeKernel", desc := "(I)V" } : Jvm.MethodName)) ∈ lw_all := lw_g (lw_at lw_m1 110 rfl) rfl
theorem q135 : (Jvm.Cond.code ({ cls := "ConvKernels", name := "shapeKernel", desc := "(I)V" } : Jvm.MethodName) prog_1_method_12_code (6 : Nat) (Option.none : Option Jvm.ClassFile.FieldType)) ∈ lw_all := lw_g (lw_at lw_m1 111 rfl) rfl
theorem q136 : (Jvm.Cond.methodLink "ConvKernels" (91 : Nat) ({ cls := "ConvKernels", name := "addTile", desc := "(III)V" } : Jvm.MethodName)) ∈ lw_all := lw_g (lw_at lw_m1 112 rfl) rfl
theorem q137 : (Jvm.Cond.privateMethod ({ cls := "ConvKernels", name := "addTile", desc := "(III)V" } : Jvm.MethodName)) ∈ lw_tbl := lw_at lw_m1 113 rfl
theorem q138 : (Jvm.Cond.instanceMethod ({ cls := "ConvKernels", name := "addTile", desc := "(III)V" } : Jvm.MethodName)) ∈ lw_all := lw_g (lw_at lw_m1 114 rfl) rfl
theorem q139 : (Jvm.Cond.code ({ cls := "ConvKernels", name := "addTile", desc := "(III)V" } : Jvm.MethodName) prog_1_method_13_code (7 : Nat) (Option.none : Option Jvm.ClassFile.FieldType)) ∈ lw_all := lw_g (lw_at lw_m1 115 rfl) rfl
theorem q140 : (Jvm.Cond.methodLink "ConvKernels" (72 : Nat) ({ cls := "ConvKernels", name := "at", desc := "(III)I" } : Jvm.MethodName)) ∈ lw_all := lw_g (lw_at lw_m1 116 rfl) rfl
theorem q141 : (Jvm.Cond.privateMethod ({ cls := "ConvKernels", name := "at", desc := "(III)I" } : Jvm.MethodName)) ∈ lw_tbl := lw_at lw_m1 117 rfl
theorem q142 : (Jvm.Cond.instanceMethod ({ cls := "ConvKernels", name := "at", desc := "(III)I" } : Jvm.MethodName)) ∈ lw_all := lw_g (lw_at lw_m1 118 rfl) rfl
theorem q143 : (Jvm.Cond.code ({ cls := "ConvKernels", name := "at", desc := "(III)I" } : Jvm.MethodName) prog_1_method_10_code (4 : Nat) (Option.some Jvm.ClassFile.FieldType.int)) ∈ lw_all := lw_g (lw_at lw_m1 119 rfl) rfl
theorem q144 : (Jvm.Cond.methodLink "ConvKernels" (76 : Nat) ({ cls := "ConvKernels", name := "shapeFour", desc := "(II)V" } : Jvm.MethodName)) ∈ lw_all := lw_g (lw_at lw_m1 120 rfl) rfl
theorem q145 : (Jvm.Cond.privateMethod ({ cls := "ConvKernels", name := "shapeFour", desc := "(II)V" } : Jvm.MethodName)) ∈ lw_tbl := lw_at lw_m1 121 rfl
theorem q146 : (Jvm.Cond.instanceMethod ({ cls := "ConvKernels", name := "shapeFour", desc := "(II)V" } : Jvm.MethodName)) ∈ lw_all := lw_g (lw_at lw_m1 122 rfl) rfl
theorem q147 : (Jvm.Cond.code ({ cls := "ConvKernels", name := "shapeFour", desc := "(II)V" } : Jvm.MethodName) prog_1_method_11_code (7 : Nat) (Option.none : Option Jvm.ClassFile.FieldType)) ∈ lw_all := lw_g (lw_at lw_m1 123 rfl) rfl
theorem q148 : (Jvm.Cond.methodLink "ConvKernels" (80 : Nat) ({ cls := "ConvKernels", name := "add", desc := "(III)V" } : Jvm.MethodName)) ∈ lw_all := lw_g (lw_at lw_m1 124 rfl) rfl
theorem q149 : (Jvm.Cond.privateMethod ({ cls := "ConvKernels", name := "add", desc := "(III)V" } : Jvm.MethodName)) ∈ lw_tbl := lw_at lw_m1 125 rfl
theorem q150 : (Jvm.Cond.instanceMethod ({ cls := "ConvKernels", name := "add", desc := "(III)V" } : Jvm.MethodName)) ∈ lw_all := lw_g (lw_at lw_m1 126 rfl) rfl
theorem q151 : (Jvm.Cond.code ({ cls := "ConvKernels", name := "add", desc := "(III)V" } : Jvm.MethodName) prog_1_method_14_code (4 : Nat) (Option.none : Option Jvm.ClassFile.FieldType)) ∈ lw_all := lw_g (lw_at lw_m1 127 rfl) rfl
theorem q152 : (Jvm.Cond.methodLink "ConvKernels" (123 : Nat) ({ cls := "ConvKernels", name := "moveByTransforms", desc := "()V" } : Jvm.MethodName)) ∈ lw_all := lw_g (lw_at lw_m1 128 rfl) rfl
theorem q153 : (Jvm.Cond.privateMethod ({ cls := "ConvKernels", name := "moveByTransforms", desc := "()V" } : Jvm.MethodName)) ∈ lw_tbl := lw_at lw_m1 129 rfl
theorem q154 : (Jvm.Cond.instanceMethod ({ cls := "ConvKernels", name := "moveByTransforms", desc := "()V" } : Jvm.MethodName)) ∈ lw_all := lw_g (lw_at lw_m1 130 rfl) rfl
theorem q155 : (Jvm.Cond.code ({ cls := "ConvKernels", name := "moveByTransforms", desc := "()V" } : Jvm.MethodName) prog_1_method_21_code (6 : Nat) (Option.none : Option Jvm.ClassFile.FieldType)) ∈ lw_all := lw_g (lw_at lw_m1 131 rfl) rfl
theorem q156 : (Jvm.Cond.methodLink "ConvKernels" (108 : Nat) ({ cls := "ConvKernels", name := "addTransformed", desc := "(I)V" } : Jvm.MethodName)) ∈ lw_all := lw_g (lw_at lw_m1 132 rfl) rfl
theorem q157 : (Jvm.Cond.privateMethod ({ cls := "ConvKernels", name := "addTransformed", desc := "(I)V" } : Jvm.MethodName)) ∈ lw_tbl := lw_at lw_m1 133 rfl
theorem q158 : (Jvm.Cond.instanceMethod ({ cls := "ConvKernels", name := "addTransformed", desc := "(I)V" } : Jvm.MethodName)) ∈ lw_all := lw_g (lw_at lw_m1 134 rfl) rfl
theorem q159 : (Jvm.Cond.code ({ cls := "ConvKernels", name := "addTransformed", desc := "(I)V" } : Jvm.MethodName) prog_1_method_20_code (4 : Nat) (Option.none : Option Jvm.ClassFile.FieldType)) ∈ lw_all := lw_g (lw_at lw_m1 135 rfl) rfl
theorem q160 : (Jvm.Cond.methodLink "ConvKernels" (98 : Nat) ({ cls := "ConvKernels", name := "clearPlane", desc := "()V" } : Jvm.MethodName)) ∈ lw_all := lw_g (lw_at lw_m1 136 rfl) rfl
theorem q161 : (Jvm.Cond.privateMethod ({ cls := "ConvKernels", name := "clearPlane", desc := "()V" } : Jvm.MethodName)) ∈ lw_tbl := lw_at lw_m1 137 rfl
theorem q162 : (Jvm.Cond.instanceMethod ({ cls := "ConvKernels", name := "clearPlane", desc := "()V" } : Jvm.MethodName)) ∈ lw_all := lw_g (lw_at lw_m1 138 rfl) rfl
theorem q163 : (Jvm.Cond.code ({ cls := "ConvKernels", name := "clearPlane", desc := "()V" } : Jvm.MethodName) prog_1_method_19_code (2 : Nat) (Option.none : Option Jvm.ClassFile.FieldType)) ∈ lw_all := lw_g (lw_at lw_m1 139 rfl) rfl
theorem q164 : (Jvm.Cond.methodLink "ConvKernels" (101 : Nat) ({ cls := "ConvKernels", name := "reduce", desc := "(I)I" } : Jvm.MethodName)) ∈ lw_all := lw_g (lw_at lw_m1 140 rfl) rfl
theorem q165 : (Jvm.Cond.privateMethod ({ cls := "ConvKernels", name := "reduce", desc := "(I)I" } : Jvm.MethodName)) ∈ lw_tbl := lw_at lw_m1 141 rfl
theorem q166 : (Jvm.Cond.instanceMethod ({ cls := "ConvKernels", name := "reduce", desc := "(I)I" } : Jvm.MethodName)) ∈ lw_all := lw_g (lw_at lw_m1 142 rfl) rfl
theorem q167 : (Jvm.Cond.code ({ cls := "ConvKernels", name := "reduce", desc := "(I)I" } : Jvm.MethodName) prog_1_method_16_code (3 : Nat) (Option.some Jvm.ClassFile.FieldType.int)) ∈ lw_all := lw_g (lw_at lw_m1 143 rfl) rfl
theorem q168 : (Jvm.Cond.methodLink "ConvKernels" (104 : Nat) ({ cls := "ConvKernels", name := "transform", desc := "(Z)V" } : Jvm.MethodName)) ∈ lw_all := lw_g (lw_at lw_m1 144 rfl) rfl
theorem q169 : (Jvm.Cond.privateMethod ({ cls := "ConvKernels", name := "transform", desc := "(Z)V" } : Jvm.MethodName)) ∈ lw_tbl := lw_at lw_m1 145 rfl
theorem q170 : (Jvm.Cond.instanceMethod ({ cls := "ConvKernels", name := "transform", desc := "(Z)V" } : Jvm.MethodName)) ∈ lw_all := lw_g (lw_at lw_m1 146 rfl) rfl
theorem q171 : (Jvm.Cond.code ({ cls := "ConvKernels", name := "transform", desc := "(Z)V" } : Jvm.MethodName) prog_1_method_18_code (3 : Nat) (Option.none : Option Jvm.ClassFile.FieldType)) ∈ lw_all := lw_g (lw_at lw_m1 147 rfl) rfl
theorem q172 : (Jvm.Cond.methodLink "ConvKernels" (94 : Nat) ({ cls := "ConvKernels", name := "transformLine", desc := "(IIZ)V" } : Jvm.MethodName)) ∈ lw_all := lw_g (lw_at lw_m1 148 rfl) rfl
theorem q173 : (Jvm.Cond.privateMethod ({ cls := "ConvKernels", name := "transformLine", desc := "(IIZ)V" } : Jvm.MethodName)) ∈ lw_tbl := lw_at lw_m1 149 rfl
theorem q174 : (Jvm.Cond.instanceMethod ({ cls := "ConvKernels", name := "transformLine", desc := "(IIZ)V" } : Jvm.MethodName)) ∈ lw_all := lw_g (lw_at lw_m1 150 rfl) rfl
theorem q175 : (Jvm.Cond.code ({ cls := "ConvKernels", name := "transformLine", desc := "(IIZ)V" } : Jvm.MethodName) prog_1_method_17_code (8 : Nat) (Option.none : Option Jvm.ClassFile.FieldType)) ∈ lw_all := lw_g (lw_at lw_m1 151 rfl) rfl
theorem q176 : (Jvm.Cond.methodLink "ConvKernels" (126 : Nat) ({ cls := "ConvKernels", name := "moveByWindows", desc := "()V" } : Jvm.MethodName)) ∈ lw_all := lw_g (lw_at lw_m1 152 rfl) rfl
theorem q177 : (Jvm.Cond.privateMethod ({ cls := "ConvKernels", name := "moveByWindows", desc := "()V" } : Jvm.MethodName)) ∈ lw_tbl := lw_at lw_m1 153 rfl
theorem q178 : (Jvm.Cond.instanceMethod ({ cls := "ConvKernels", name := "moveByWindows", desc := "()V" } : Jvm.MethodName)) ∈ lw_all := lw_g (lw_at lw_m1 154 rfl) rfl
theorem q179 : (Jvm.Cond.code ({ cls := "ConvKernels", name := "moveByWindows", desc := "()V" } : Jvm.MethodName) prog_1_method_22_code (3 : Nat) (Option.none : Option Jvm.ClassFile.FieldType)) ∈ lw_all := lw_g (lw_at lw_m1 155 rfl) rfl
theorem q180 : (Jvm.Cond.methodLink "ConvKernels" (111 : Nat) ({ cls := "ConvKernels", name := "stretch", desc := "(III)V" } : Jvm.MethodName)) ∈ lw_all := lw_g (lw_at lw_m1 156 rfl) rfl
theorem q181 : (Jvm.Cond.privateMethod ({ cls := "ConvKernels", name := "stretch", desc := "(III)V" } : Jvm.MethodName)) ∈ lw_tbl := lw_at lw_m1 157 rfl
theorem q182 : (Jvm.Cond.instanceMethod ({ cls := "ConvKernels", name := "stretch", desc := "(III)V" } : Jvm.MethodName)) ∈ lw_all := lw_g (lw_at lw_m1 158 rfl) rfl
theorem q183 : (Jvm.Cond.code ({ cls := "ConvKernels", name := "stretch", desc := "(III)V" } : Jvm.MethodName) prog_1_method_23_code (6 : Nat) (Option.none : Option Jvm.ClassFile.FieldType)) ∈ lw_all := lw_g (lw_at lw_m1 159 rfl) rfl
theorem q184 : (Jvm.Cond.methodLink "ConvKernels" (114 : Nat) ({ cls := "ConvKernels", name := "addColumn", desc := "(II)V" } : Jvm.MethodName)) ∈ lw_all := lw_g (lw_at lw_m1 160 rfl) rfl
theorem q185 : (Jvm.Cond.privateMethod ({ cls := "ConvKernels", name := "addColumn", desc := "(II)V" } : Jvm.MethodName)) ∈ lw_tbl := lw_at lw_m1 161 rfl
theorem q186 : (Jvm.Cond.instanceMethod ({ cls := "ConvKernels", name := "addColumn", desc := "(II)V" } : Jvm.MethodName)) ∈ lw_all := lw_g (lw_at lw_m1 162 rfl) rfl
theorem q187 : (Jvm.Cond.code ({ cls := "ConvKernels", name := "addColumn", desc := "(II)V" } : Jvm.MethodName) prog_1_method_24_code (4 : Nat) (Option.none : Option Jvm.ClassFile.FieldType)) ∈ lw_all := lw_g (lw_at lw_m1 163 rfl) rfl
theorem q189 : (Jvm.Cond.instanceMethod ({ cls := "ConvKernels", name := "width", desc := "()I" } : Jvm.MethodName)) ∈ lw_all := lw_g (lw_at lw_m1 165 rfl) rfl
theorem q190 : (Jvm.Cond.selects "ConvKernels" ({ cls := "ConvKernels", name := "width", desc := "()I" } : Jvm.MethodName) ({ cls := "ConvKernels", name := "width", desc := "()I" } : Jvm.MethodName)) ∈ lw_all := lw_g (lw_at lw_m1 166 rfl) rfl
theorem q191 : (Jvm.Cond.code ({ cls := "ConvKernels", name := "width", desc := "()I" } : Jvm.MethodName) prog_1_method_26_code (1 : Nat) (Option.some Jvm.ClassFile.FieldType.int)) ∈ lw_all := lw_g (lw_at lw_m1 167 rfl) rfl
theorem q193 : (Jvm.Cond.instanceMethod ({ cls := "ConvKernels", name := "result", desc := "(II)I" } : Jvm.MethodName)) ∈ lw_all := lw_g (lw_at lw_m1 169 rfl) rfl
theorem q194 : (Jvm.Cond.selects "ConvKernels" ({ cls := "ConvKernels", name := "result", desc := "(II)I" } : Jvm.MethodName) ({ cls := "ConvKernels", name := "result", desc := "(II)I" } : Jvm.MethodName)) ∈ lw_all := lw_g (lw_at lw_m1 170 rfl) rfl
theorem q195 : (Jvm.Cond.code ({ cls := "ConvKernels", name := "result", desc := "(II)I" } : Jvm.MethodName) prog_1_method_27_code (3 : Nat) (Option.some Jvm.ClassFile.FieldType.int)) ∈ lw_all := lw_g (lw_at lw_m1 171 rfl) rfl
theorem q197 : (Jvm.Cond.instanceMethod ({ cls := "ConvKernels", name := "floor", desc := "()I" } : Jvm.MethodName)) ∈ lw_all := lw_g (lw_at lw_m1 173 rfl) rfl
theorem q198 : (Jvm.Cond.selects "ConvKernels" ({ cls := "ConvKernels", name := "floor", desc := "()I" } : Jvm.MethodName) ({ cls := "ConvKernels", name := "floor", desc := "()I" } : Jvm.MethodName)) ∈ lw_all := lw_g (lw_at lw_m1 174 rfl) rfl
theorem q199 : (Jvm.Cond.code ({ cls := "ConvKernels", name := "floor", desc := "()I" } : Jvm.MethodName) prog_1_method_28_code (4 : Nat) (Option.some Jvm.ClassFile.FieldType.int)) ∈ lw_all := lw_g (lw_at lw_m1 175 rfl) rfl
theorem q201 : (Jvm.Cond.instanceMethod ({ cls := "ConvKernels", name := "thin", desc := "()I" } : Jvm.MethodName)) ∈ lw_all := lw_g (lw_at lw_m1 177 rfl) rfl
theorem q202 : (Jvm.Cond.selects "ConvKernels" ({ cls := "ConvKernels", name := "thin", desc := "()I" } : Jvm.MethodName) ({ cls := "ConvKernels", name := "thin", desc := "()I" } : Jvm.MethodName)) ∈ lw_all := lw_g (lw_at lw_m1 178 rfl) rfl
theorem q203 : (Jvm.Cond.code ({ cls := "ConvKernels", name := "thin", desc := "()I" } : Jvm.MethodName) prog_1_method_30_code (7 : Nat) (Option.some Jvm.ClassFile.FieldType.int)) ∈ lw_all := lw_g (lw_at lw_m1 179 rfl) rfl
theorem q204 : (Jvm.Cond.methodLink "ConvKernels" (129 : Nat) ({ cls := "ConvKernels", name := "greater", desc := "(II)I" } : Jvm.MethodName)) ∈ lw_all := lw_g (lw_at lw_m1 180 rfl) rfl
theorem q205 : (Jvm.Cond.privateMethod ({ cls := "ConvKernels", name := "greater", desc := "(II)I" } : Jvm.MethodName)) ∈ lw_tbl := lw_at lw_m1 181 rfl
theorem q206 : (Jvm.Cond.instanceMethod ({ cls := "ConvKernels", name := "greater", desc := "(II)I" } : Jvm.MethodName)) ∈ lw_all := lw_g (lw_at lw_m1 182 rfl) rfl
theorem q207 : (Jvm.Cond.code ({ cls := "ConvKernels", name := "greater", desc := "(II)I" } : Jvm.MethodName) prog_1_method_29_code (3 : Nat) (Option.some Jvm.ClassFile.FieldType.int)) ∈ lw_all := lw_g (lw_at lw_m1 183 rfl) rfl
theorem q209 : (Jvm.Cond.instanceMethod ({ cls := "ConvKernels", name := "divide", desc := "(I)I" } : Jvm.MethodName)) ∈ lw_all := lw_g (lw_at lw_m1 185 rfl) rfl
theorem q210 : (Jvm.Cond.selects "ConvKernels" ({ cls := "ConvKernels", name := "divide", desc := "(I)I" } : Jvm.MethodName) ({ cls := "ConvKernels", name := "divide", desc := "(I)I" } : Jvm.MethodName)) ∈ lw_all := lw_g (lw_at lw_m1 186 rfl) rfl
theorem q211 : (Jvm.Cond.code ({ cls := "ConvKernels", name := "divide", desc := "(I)I" } : Jvm.MethodName) prog_1_method_31_code (3 : Nat) (Option.some Jvm.ClassFile.FieldType.int)) ∈ lw_all := lw_g (lw_at lw_m1 187 rfl) rfl
theorem q213 : (Jvm.Cond.instanceMethod ({ cls := "ConvKernels", name := "take", desc := "(I)I" } : Jvm.MethodName)) ∈ lw_all := lw_g (lw_at lw_m1 189 rfl) rfl
theorem q214 : (Jvm.Cond.selects "ConvKernels" ({ cls := "ConvKernels", name := "take", desc := "(I)I" } : Jvm.MethodName) ({ cls := "ConvKernels", name := "take", desc := "(I)I" } : Jvm.MethodName)) ∈ lw_all := lw_g (lw_at lw_m1 190 rfl) rfl
theorem q215 : (Jvm.Cond.code ({ cls := "ConvKernels", name := "take", desc := "(I)I" } : Jvm.MethodName) prog_1_method_32_code (8 : Nat) (Option.some Jvm.ClassFile.FieldType.int)) ∈ lw_all := lw_g (lw_at lw_m1 191 rfl) rfl
theorem q216 : (Jvm.Cond.methodLink "ConvKernels" (132 : Nat) ({ cls := "ConvKernels", name := "result", desc := "(II)I" } : Jvm.MethodName)) ∈ lw_all := lw_g (lw_at lw_m1 192 rfl) rfl
theorem q218 : (Jvm.Cond.instanceMethod ({ cls := "ConvKernels", name := "sum", desc := "()I" } : Jvm.MethodName)) ∈ lw_all := lw_g (lw_at lw_m1 194 rfl) rfl
theorem q219 : (Jvm.Cond.selects "ConvKernels" ({ cls := "ConvKernels", name := "sum", desc := "()I" } : Jvm.MethodName) ({ cls := "ConvKernels", name := "sum", desc := "()I" } : Jvm.MethodName)) ∈ lw_all := lw_g (lw_at lw_m1 195 rfl) rfl
theorem q220 : (Jvm.Cond.code ({ cls := "ConvKernels", name := "sum", desc := "()I" } : Jvm.MethodName) prog_1_method_33_code (4 : Nat) (Option.some Jvm.ClassFile.FieldType.int)) ∈ lw_all := lw_g (lw_at lw_m1 196 rfl) rfl
theorem q222 : (Jvm.Cond.instanceMethod ({ cls := "ConvKernels", name := "peak", desc := "()I" } : Jvm.MethodName)) ∈ lw_all := lw_g (lw_at lw_m1 198 rfl) rfl
theorem q223 : (Jvm.Cond.selects "ConvKernels" ({ cls := "ConvKernels", name := "peak", desc := "()I" } : Jvm.MethodName) ({ cls := "ConvKernels", name := "peak", desc := "()I" } : Jvm.MethodName)) ∈ lw_all := lw_g (lw_at lw_m1 199 rfl) rfl
theorem q224 : (Jvm.Cond.code ({ cls := "ConvKernels", name := "peak", desc := "()I" } : Jvm.MethodName) prog_1_method_34_code (4 : Nat) (Option.some Jvm.ClassFile.FieldType.int)) ∈ lw_all := lw_g (lw_at lw_m1 200 rfl) rfl
theorem q226 : (Jvm.Cond.instanceMethod ({ cls := "ConvKernels", name := "way", desc := "(I)I" } : Jvm.MethodName)) ∈ lw_all := lw_g (lw_at lw_m1 202 rfl) rfl
theorem q227 : (Jvm.Cond.selects "ConvKernels" ({ cls := "ConvKernels", name := "way", desc := "(I)I" } : Jvm.MethodName) ({ cls := "ConvKernels", name := "way", desc := "(I)I" } : Jvm.MethodName)) ∈ lw_all := lw_g (lw_at lw_m1 203 rfl) rfl
theorem q228 : (Jvm.Cond.code ({ cls := "ConvKernels", name := "way", desc := "(I)I" } : Jvm.MethodName) prog_1_method_35_code (2 : Nat) (Option.some Jvm.ClassFile.FieldType.int)) ∈ lw_all := lw_g (lw_at lw_m1 204 rfl) rfl
theorem in_X0 : ∀ w ∈ wsX00, w ∈ lw_all := lw_in wsX00 [57, 59, 61, 63, 65, 67, 69, 71, 73, 75, 77, 79, 81, 83, 85, 87, 89, 91] (by decide +kernel) (by decide +kernel)
/-! ConvKernelsModel -/
def RX1 : String := "ConvKernelsModel"
def TX1 : u_T := fun k => match k with
  | 0 => ("ConvKernelsModel", "pixels", "[I", true)
  | 1 => ("ConvKernelsModel", "kernels", "[I", true)
  | 2 => ("ConvKernelsModel", "stride", "I", false)
  | 3 => ("ConvKernelsModel", "margin", "I", false)
  | 4 => ("ConvKernelsModel", "results", "[I", true)
  | _ => ("ConvKernelsModel", "width", "I", false)
def tyX1 : Nat → FieldType := fun k => match k with
  | 0 => .array .int
  | 1 => .array .int
  | 2 => .int
  | 3 => .int
  | 4 => .array .int
  | _ => .int
abbrev wsX10 : List Cond := u_ws RX1 TX1 6
theorem nmX1 : ∀ a, a < 6 → ∀ b, b < 6 → a ≠ b → (TX1 a).2.1 ≠ (TX1 b).2.1 := by decide +kernel
theorem tyX1_ok : ∀ k, k < 6 → parseFieldDescriptor (TX1 k).2.2.1 = some (tyX1 k) := by decide +kernel
abbrev cX1_init : ByteArray := prog_3_method_1_code
def yX1_init : MethodName := ⟨RX1, "<init>", "()V"⟩
abbrev cX1_put : ByteArray := prog_3_method_3_code
def yX1_put : MethodName := ⟨RX1, "put", "(II)I"⟩
abbrev cX1_fill : ByteArray := prog_3_method_4_code
def yX1_fill : MethodName := ⟨RX1, "fill", "(IIII)I"⟩
abbrev cX1_cut : ByteArray := prog_3_method_2_code
def yX1_cut : MethodName := ⟨RX1, "cut", "(I)I"⟩
abbrev cX1_kernel : ByteArray := prog_3_method_5_code
def yX1_kernel : MethodName := ⟨RX1, "kernel", "(II)I"⟩
abbrev cX1_pixel : ByteArray := prog_3_method_6_code
def yX1_pixel : MethodName := ⟨RX1, "pixel", "(I)I"⟩
abbrev cX1_shape : ByteArray := prog_3_method_8_code
def yX1_shape : MethodName := ⟨RX1, "shape", "(II)I"⟩
abbrev cX1_widthAfter : ByteArray := prog_3_method_7_code
def yX1_widthAfter : MethodName := ⟨RX1, "widthAfter", "()I"⟩
abbrev cX1_move : ByteArray := prog_3_method_11_code
def yX1_move : MethodName := ⟨RX1, "move", "()I"⟩
abbrev cX1_product : ByteArray := prog_3_method_10_code
def yX1_product : MethodName := ⟨RX1, "product", "(II)I"⟩
abbrev cX1_pixelAt : ByteArray := prog_3_method_9_code
def yX1_pixelAt : MethodName := ⟨RX1, "pixelAt", "(III)I"⟩
abbrev cX1_width : ByteArray := prog_3_method_12_code
def yX1_width : MethodName := ⟨RX1, "width", "()I"⟩
abbrev cX1_result : ByteArray := prog_3_method_13_code
def yX1_result : MethodName := ⟨RX1, "result", "(II)I"⟩
abbrev cX1_floor : ByteArray := prog_3_method_14_code
def yX1_floor : MethodName := ⟨RX1, "floor", "()I"⟩
abbrev cX1_thin : ByteArray := prog_3_method_16_code
def yX1_thin : MethodName := ⟨RX1, "thin", "()I"⟩
abbrev cX1_greatestOf : ByteArray := prog_3_method_15_code
def yX1_greatestOf : MethodName := ⟨RX1, "greatestOf", "(II)I"⟩
abbrev cX1_divide : ByteArray := prog_3_method_17_code
def yX1_divide : MethodName := ⟨RX1, "divide", "(I)I"⟩
abbrev cX1_take : ByteArray := prog_3_method_18_code
def yX1_take : MethodName := ⟨RX1, "take", "(I)I"⟩
abbrev cX1_sum : ByteArray := prog_3_method_19_code
def yX1_sum : MethodName := ⟨RX1, "sum", "()I"⟩
abbrev cX1_peak : ByteArray := prog_3_method_20_code
def yX1_peak : MethodName := ⟨RX1, "peak", "()I"⟩
abbrev cX1_way : ByteArray := prog_3_method_21_code
def yX1_way : MethodName := ⟨RX1, "way", "(I)I"⟩
theorem q26 : (Jvm.Cond.initialized "ConvKernelsModel") ∈ lw_all := lw_g (lw_at lw_m1 2 rfl) rfl
theorem q230 : (Jvm.Cond.instantiable "ConvKernelsModel" (6 : Nat)) ∈ lw_all := lw_g (lw_at lw_m1 206 rfl) rfl
theorem q232 : (Jvm.Cond.instanceMethod ({ cls := "ConvKernelsModel", name := "<init>", desc := "()V" } : Jvm.MethodName)) ∈ lw_all := lw_g (lw_at lw_m1 208 rfl) rfl
theorem q233 : (Jvm.Cond.code ({ cls := "ConvKernelsModel", name := "<init>", desc := "()V" } : Jvm.MethodName) prog_3_method_1_code (1 : Nat) (Option.none : Option Jvm.ClassFile.FieldType)) ∈ lw_all := lw_g (lw_at lw_m1 209 rfl) rfl
theorem q234 : (Jvm.Cond.methodLink "ConvKernelsModel" (1 : Nat) ({ cls := "java/lang/Object", name := "<init>", desc := "()V" } : Jvm.MethodName)) ∈ lw_all := lw_g (lw_at lw_m1 210 rfl) rfl
theorem q235 : (Jvm.Cond.fieldLink "ConvKernelsModel" (7 : Nat) "ConvKernelsModel" "pixels" "[I") ∈ lw_all := lw_g (lw_at lw_m1 211 rfl) rfl
theorem q236 : (Jvm.Cond.fieldLink "ConvKernelsModel" (13 : Nat) "ConvKernelsModel" "kernels" "[I") ∈ lw_all := lw_g (lw_at lw_m1 212 rfl) rfl
theorem q237 : (Jvm.Cond.fieldLink "ConvKernelsModel" (19 : Nat) "ConvKernelsModel" "stride" "I") ∈ lw_all := lw_g (lw_at lw_m1 213 rfl) rfl
theorem q238 : (Jvm.Cond.fieldLink "ConvKernelsModel" (23 : Nat) "ConvKernelsModel" "margin" "I") ∈ lw_all := lw_g (lw_at lw_m1 214 rfl) rfl
theorem q239 : (Jvm.Cond.fieldLink "ConvKernelsModel" (16 : Nat) "ConvKernelsModel" "results" "[I") ∈ lw_all := lw_g (lw_at lw_m1 215 rfl) rfl
theorem q240 : (Jvm.Cond.fieldLink "ConvKernelsModel" (39 : Nat) "ConvKernelsModel" "width" "I") ∈ lw_all := lw_g (lw_at lw_m1 216 rfl) rfl
theorem q241 : (Jvm.Cond.laysFinal "ConvKernelsModel" "ConvKernelsModel" "pixels" "[I") ∈ lw_all := lw_g (lw_at lw_m1 217 rfl) rfl
theorem q242 : (Jvm.Cond.soleField "ConvKernelsModel" "pixels") ∈ lw_all := lw_g (lw_at lw_m1 218 rfl) rfl
theorem q243 : (Jvm.Cond.laysFinal "ConvKernelsModel" "ConvKernelsModel" "kernels" "[I") ∈ lw_all := lw_g (lw_at lw_m1 219 rfl) rfl
theorem q244 : (Jvm.Cond.soleField "ConvKernelsModel" "kernels") ∈ lw_all := lw_g (lw_at lw_m1 220 rfl) rfl
theorem q245 : (Jvm.Cond.lays "ConvKernelsModel" "ConvKernelsModel" "stride" "I") ∈ lw_all := lw_g (lw_at lw_m1 221 rfl) rfl
theorem q246 : (Jvm.Cond.soleField "ConvKernelsModel" "stride") ∈ lw_all := lw_g (lw_at lw_m1 222 rfl) rfl
theorem q247 : (Jvm.Cond.lays "ConvKernelsModel" "ConvKernelsModel" "margin" "I") ∈ lw_all := lw_g (lw_at lw_m1 223 rfl) rfl
theorem q248 : (Jvm.Cond.soleField "ConvKernelsModel" "margin") ∈ lw_all := lw_g (lw_at lw_m1 224 rfl) rfl
theorem q249 : (Jvm.Cond.laysFinal "ConvKernelsModel" "ConvKernelsModel" "results" "[I") ∈ lw_all := lw_g (lw_at lw_m1 225 rfl) rfl
theorem q250 : (Jvm.Cond.soleField "ConvKernelsModel" "results") ∈ lw_all := lw_g (lw_at lw_m1 226 rfl) rfl
theorem q251 : (Jvm.Cond.lays "ConvKernelsModel" "ConvKernelsModel" "width" "I") ∈ lw_all := lw_g (lw_at lw_m1 227 rfl) rfl
theorem q252 : (Jvm.Cond.soleField "ConvKernelsModel" "width") ∈ lw_all := lw_g (lw_at lw_m1 228 rfl) rfl
theorem q253 : (Jvm.Cond.superclass "ConvKernelsModel" "java/lang/Object") ∈ lw_all := lw_g (lw_at lw_m1 229 rfl) rfl
theorem q255 : (Jvm.Cond.instanceMethod ({ cls := "ConvKernelsModel", name := "put", desc := "(II)I" } : Jvm.MethodName)) ∈ lw_all := lw_g (lw_at lw_m1 231 rfl) rfl
theorem q256 : (Jvm.Cond.selects "ConvKernelsModel" ({ cls := "ConvKernelsModel", name := "put", desc := "(II)I" } : Jvm.MethodName) ({ cls := "ConvKernelsModel", name := "put", desc := "(II)I" } : Jvm.MethodName)) ∈ lw_all := lw_g (lw_at lw_m1 232 rfl) rfl
theorem q257 : (Jvm.Cond.code ({ cls := "ConvKernelsModel", name := "put", desc := "(II)I" } : Jvm.MethodName) prog_3_method_3_code (4 : Nat) (Option.some Jvm.ClassFile.FieldType.int)) ∈ lw_all := lw_g (lw_at lw_m1 233 rfl) rfl
theorem q258 : (Jvm.Cond.constant "ConvKernelsModel" (26 : Nat) (-1000000 : Int32)) ∈ lw_all := lw_g (lw_at lw_m1 234 rfl) rfl
theorem q260 : (Jvm.Cond.instanceMethod ({ cls := "ConvKernelsModel", name := "fill", desc := "(IIII)I" } : Jvm.MethodName)) ∈ lw_all := lw_g (lw_at lw_m1 236 rfl) rfl
theorem q261 : (Jvm.Cond.selects "ConvKernelsModel" ({ cls := "ConvKernelsModel", name := "fill", desc := "(IIII)I" } : Jvm.MethodName) ({ cls := "ConvKernelsModel", name := "fill", desc := "(IIII)I" } : Jvm.MethodName)) ∈ lw_all := lw_g (lw_at lw_m1 237 rfl) rfl
theorem q262 : (Jvm.Cond.code ({ cls := "ConvKernelsModel", name := "fill", desc := "(IIII)I" } : Jvm.MethodName) prog_3_method_4_code (10 : Nat) (Option.some Jvm.ClassFile.FieldType.int)) ∈ lw_all := lw_g (lw_at lw_m1 238 rfl) rfl
theorem q263 : (Jvm.Cond.methodLink "ConvKernelsModel" (27 : Nat) ({ cls := "ConvKernelsModel", name := "cut", desc := "(I)I" } : Jvm.MethodName)) ∈ lw_all := lw_g (lw_at lw_m1 239 rfl) rfl
theorem q264 : (Jvm.Cond.privateMethod ({ cls := "ConvKernelsModel", name := "cut", desc := "(I)I" } : Jvm.MethodName)) ∈ lw_tbl := lw_at lw_m2 0 rfl
theorem q265 : (Jvm.Cond.instanceMethod ({ cls := "ConvKernelsModel", name := "cut", desc := "(I)I" } : Jvm.MethodName)) ∈ lw_all := lw_g (lw_at lw_m2 1 rfl) rfl
theorem q266 : (Jvm.Cond.code ({ cls := "ConvKernelsModel", name := "cut", desc := "(I)I" } : Jvm.MethodName) prog_3_method_2_code (2 : Nat) (Option.some Jvm.ClassFile.FieldType.int)) ∈ lw_all := lw_g (lw_at lw_m2 2 rfl) rfl
theorem q268 : (Jvm.Cond.instanceMethod ({ cls := "ConvKernelsModel", name := "kernel", desc := "(II)I" } : Jvm.MethodName)) ∈ lw_all := lw_g (lw_at lw_m2 4 rfl) rfl
theorem q269 : (Jvm.Cond.selects "ConvKernelsModel" ({ cls := "ConvKernelsModel", name := "kernel", desc := "(II)I" } : Jvm.MethodName) ({ cls := "ConvKernelsModel", name := "kernel", desc := "(II)I" } : Jvm.MethodName)) ∈ lw_all := lw_g (lw_at lw_m2 5 rfl) rfl
theorem q270 : (Jvm.Cond.code ({ cls := "ConvKernelsModel", name := "kernel", desc := "(II)I" } : Jvm.MethodName) prog_3_method_5_code (4 : Nat) (Option.some Jvm.ClassFile.FieldType.int)) ∈ lw_all := lw_g (lw_at lw_m2 6 rfl) rfl
theorem q272 : (Jvm.Cond.instanceMethod ({ cls := "ConvKernelsModel", name := "pixel", desc := "(I)I" } : Jvm.MethodName)) ∈ lw_all := lw_g (lw_at lw_m2 8 rfl) rfl
theorem q273 : (Jvm.Cond.selects "ConvKernelsModel" ({ cls := "ConvKernelsModel", name := "pixel", desc := "(I)I" } : Jvm.MethodName) ({ cls := "ConvKernelsModel", name := "pixel", desc := "(I)I" } : Jvm.MethodName)) ∈ lw_all := lw_g (lw_at lw_m2 9 rfl) rfl
theorem q274 : (Jvm.Cond.code ({ cls := "ConvKernelsModel", name := "pixel", desc := "(I)I" } : Jvm.MethodName) prog_3_method_6_code (2 : Nat) (Option.some Jvm.ClassFile.FieldType.int)) ∈ lw_all := lw_g (lw_at lw_m2 10 rfl) rfl
theorem q276 : (Jvm.Cond.instanceMethod ({ cls := "ConvKernelsModel", name := "shape", desc := "(II)I" } : Jvm.MethodName)) ∈ lw_all := lw_g (lw_at lw_m2 12 rfl) rfl
theorem q277 : (Jvm.Cond.selects "ConvKernelsModel" ({ cls := "ConvKernelsModel", name := "shape", desc := "(II)I" } : Jvm.MethodName) ({ cls := "ConvKernelsModel", name := "shape", desc := "(II)I" } : Jvm.MethodName)) ∈ lw_all := lw_g (lw_at lw_m2 13 rfl) rfl
theorem q278 : (Jvm.Cond.code ({ cls := "ConvKernelsModel", name := "shape", desc := "(II)I" } : Jvm.MethodName) prog_3_method_8_code (3 : Nat) (Option.some Jvm.ClassFile.FieldType.int)) ∈ lw_all := lw_g (lw_at lw_m2 14 rfl) rfl
theorem q279 : (Jvm.Cond.methodLink "ConvKernelsModel" (31 : Nat) ({ cls := "ConvKernelsModel", name := "widthAfter", desc := "()I" } : Jvm.MethodName)) ∈ lw_all := lw_g (lw_at lw_m2 15 rfl) rfl
theorem q280 : (Jvm.Cond.privateMethod ({ cls := "ConvKernelsModel", name := "widthAfter", desc := "()I" } : Jvm.MethodName)) ∈ lw_tbl := lw_at lw_m2 16 rfl
theorem q281 : (Jvm.Cond.instanceMethod ({ cls := "ConvKernelsModel", name := "widthAfter", desc := "()I" } : Jvm.MethodName)) ∈ lw_all := lw_g (lw_at lw_m2 17 rfl) rfl
theorem q282 : (Jvm.Cond.code ({ cls := "ConvKernelsModel", name := "widthAfter", desc := "()I" } : Jvm.MethodName) prog_3_method_7_code (1 : Nat) (Option.some Jvm.ClassFile.FieldType.int)) ∈ lw_all := lw_g (lw_at lw_m2 18 rfl) rfl
theorem q284 : (Jvm.Cond.instanceMethod ({ cls := "ConvKernelsModel", name := "move", desc := "()I" } : Jvm.MethodName)) ∈ lw_all := lw_g (lw_at lw_m2 20 rfl) rfl
theorem q285 : (Jvm.Cond.selects "ConvKernelsModel" ({ cls := "ConvKernelsModel", name := "move", desc := "()I" } : Jvm.MethodName) ({ cls := "ConvKernelsModel", name := "move", desc := "()I" } : Jvm.MethodName)) ∈ lw_all := lw_g (lw_at lw_m2 21 rfl) rfl
theorem q286 : (Jvm.Cond.code ({ cls := "ConvKernelsModel", name := "move", desc := "()I" } : Jvm.MethodName) prog_3_method_11_code (3 : Nat) (Option.some Jvm.ClassFile.FieldType.int)) ∈ lw_all := lw_g (lw_at lw_m2 22 rfl) rfl
theorem q287 : (Jvm.Cond.methodLink "ConvKernelsModel" (42 : Nat) ({ cls := "ConvKernelsModel", name := "product", desc := "(II)I" } : Jvm.MethodName)) ∈ lw_all := lw_g (lw_at lw_m2 23 rfl) rfl
theorem q288 : (Jvm.Cond.privateMethod ({ cls := "ConvKernelsModel", name := "product", desc := "(II)I" } : Jvm.MethodName)) ∈ lw_tbl := lw_at lw_m2 24 rfl
theorem q289 : (Jvm.Cond.instanceMethod ({ cls := "ConvKernelsModel", name := "product", desc := "(II)I" } : Jvm.MethodName)) ∈ lw_all := lw_g (lw_at lw_m2 25 rfl) rfl
theorem q290 : (Jvm.Cond.code ({ cls := "ConvKernelsModel", name := "product", desc := "(II)I" } : Jvm.MethodName) prog_3_method_10_code (8 : Nat) (Option.some Jvm.ClassFile.FieldType.int)) ∈ lw_all := lw_g (lw_at lw_m2 26 rfl) rfl
theorem q291 : (Jvm.Cond.methodLink "ConvKernelsModel" (35 : Nat) ({ cls := "ConvKernelsModel", name := "pixelAt", desc := "(III)I" } : Jvm.MethodName)) ∈ lw_all := lw_g (lw_at lw_m2 27 rfl) rfl
theorem q292 : (Jvm.Cond.privateMethod ({ cls := "ConvKernelsModel", name := "pixelAt", desc := "(III)I" } : Jvm.MethodName)) ∈ lw_tbl := lw_at lw_m2 28 rfl
theorem q293 : (Jvm.Cond.instanceMethod ({ cls := "ConvKernelsModel", name := "pixelAt", desc := "(III)I" } : Jvm.MethodName)) ∈ lw_all := lw_g (lw_at lw_m2 29 rfl) rfl
theorem q294 : (Jvm.Cond.code ({ cls := "ConvKernelsModel", name := "pixelAt", desc := "(III)I" } : Jvm.MethodName) prog_3_method_9_code (4 : Nat) (Option.some Jvm.ClassFile.FieldType.int)) ∈ lw_all := lw_g (lw_at lw_m2 30 rfl) rfl
theorem q296 : (Jvm.Cond.instanceMethod ({ cls := "ConvKernelsModel", name := "width", desc := "()I" } : Jvm.MethodName)) ∈ lw_all := lw_g (lw_at lw_m2 32 rfl) rfl
theorem q297 : (Jvm.Cond.selects "ConvKernelsModel" ({ cls := "ConvKernelsModel", name := "width", desc := "()I" } : Jvm.MethodName) ({ cls := "ConvKernelsModel", name := "width", desc := "()I" } : Jvm.MethodName)) ∈ lw_all := lw_g (lw_at lw_m2 33 rfl) rfl
theorem q298 : (Jvm.Cond.code ({ cls := "ConvKernelsModel", name := "width", desc := "()I" } : Jvm.MethodName) prog_3_method_12_code (1 : Nat) (Option.some Jvm.ClassFile.FieldType.int)) ∈ lw_all := lw_g (lw_at lw_m2 34 rfl) rfl
theorem q300 : (Jvm.Cond.instanceMethod ({ cls := "ConvKernelsModel", name := "result", desc := "(II)I" } : Jvm.MethodName)) ∈ lw_all := lw_g (lw_at lw_m2 36 rfl) rfl
theorem q301 : (Jvm.Cond.selects "ConvKernelsModel" ({ cls := "ConvKernelsModel", name := "result", desc := "(II)I" } : Jvm.MethodName) ({ cls := "ConvKernelsModel", name := "result", desc := "(II)I" } : Jvm.MethodName)) ∈ lw_all := lw_g (lw_at lw_m2 37 rfl) rfl
theorem q302 : (Jvm.Cond.code ({ cls := "ConvKernelsModel", name := "result", desc := "(II)I" } : Jvm.MethodName) prog_3_method_13_code (3 : Nat) (Option.some Jvm.ClassFile.FieldType.int)) ∈ lw_all := lw_g (lw_at lw_m2 38 rfl) rfl
theorem q304 : (Jvm.Cond.instanceMethod ({ cls := "ConvKernelsModel", name := "floor", desc := "()I" } : Jvm.MethodName)) ∈ lw_all := lw_g (lw_at lw_m2 40 rfl) rfl
theorem q305 : (Jvm.Cond.selects "ConvKernelsModel" ({ cls := "ConvKernelsModel", name := "floor", desc := "()I" } : Jvm.MethodName) ({ cls := "ConvKernelsModel", name := "floor", desc := "()I" } : Jvm.MethodName)) ∈ lw_all := lw_g (lw_at lw_m2 41 rfl) rfl
theorem q306 : (Jvm.Cond.code ({ cls := "ConvKernelsModel", name := "floor", desc := "()I" } : Jvm.MethodName) prog_3_method_14_code (3 : Nat) (Option.some Jvm.ClassFile.FieldType.int)) ∈ lw_all := lw_g (lw_at lw_m2 42 rfl) rfl
theorem q308 : (Jvm.Cond.instanceMethod ({ cls := "ConvKernelsModel", name := "thin", desc := "()I" } : Jvm.MethodName)) ∈ lw_all := lw_g (lw_at lw_m2 44 rfl) rfl
theorem q309 : (Jvm.Cond.selects "ConvKernelsModel" ({ cls := "ConvKernelsModel", name := "thin", desc := "()I" } : Jvm.MethodName) ({ cls := "ConvKernelsModel", name := "thin", desc := "()I" } : Jvm.MethodName)) ∈ lw_all := lw_g (lw_at lw_m2 45 rfl) rfl
theorem q310 : (Jvm.Cond.code ({ cls := "ConvKernelsModel", name := "thin", desc := "()I" } : Jvm.MethodName) prog_3_method_16_code (3 : Nat) (Option.some Jvm.ClassFile.FieldType.int)) ∈ lw_all := lw_g (lw_at lw_m2 46 rfl) rfl
theorem q311 : (Jvm.Cond.methodLink "ConvKernelsModel" (46 : Nat) ({ cls := "ConvKernelsModel", name := "greatestOf", desc := "(II)I" } : Jvm.MethodName)) ∈ lw_all := lw_g (lw_at lw_m2 47 rfl) rfl
theorem q312 : (Jvm.Cond.privateMethod ({ cls := "ConvKernelsModel", name := "greatestOf", desc := "(II)I" } : Jvm.MethodName)) ∈ lw_tbl := lw_at lw_m2 48 rfl
theorem q313 : (Jvm.Cond.instanceMethod ({ cls := "ConvKernelsModel", name := "greatestOf", desc := "(II)I" } : Jvm.MethodName)) ∈ lw_all := lw_g (lw_at lw_m2 49 rfl) rfl
theorem q314 : (Jvm.Cond.code ({ cls := "ConvKernelsModel", name := "greatestOf", desc := "(II)I" } : Jvm.MethodName) prog_3_method_15_code (6 : Nat) (Option.some Jvm.ClassFile.FieldType.int)) ∈ lw_all := lw_g (lw_at lw_m2 50 rfl) rfl
theorem q316 : (Jvm.Cond.instanceMethod ({ cls := "ConvKernelsModel", name := "divide", desc := "(I)I" } : Jvm.MethodName)) ∈ lw_all := lw_g (lw_at lw_m2 52 rfl) rfl
theorem q317 : (Jvm.Cond.selects "ConvKernelsModel" ({ cls := "ConvKernelsModel", name := "divide", desc := "(I)I" } : Jvm.MethodName) ({ cls := "ConvKernelsModel", name := "divide", desc := "(I)I" } : Jvm.MethodName)) ∈ lw_all := lw_g (lw_at lw_m2 53 rfl) rfl
theorem q318 : (Jvm.Cond.code ({ cls := "ConvKernelsModel", name := "divide", desc := "(I)I" } : Jvm.MethodName) prog_3_method_17_code (3 : Nat) (Option.some Jvm.ClassFile.FieldType.int)) ∈ lw_all := lw_g (lw_at lw_m2 54 rfl) rfl
theorem q320 : (Jvm.Cond.instanceMethod ({ cls := "ConvKernelsModel", name := "take", desc := "(I)I" } : Jvm.MethodName)) ∈ lw_all := lw_g (lw_at lw_m2 56 rfl) rfl
theorem q321 : (Jvm.Cond.selects "ConvKernelsModel" ({ cls := "ConvKernelsModel", name := "take", desc := "(I)I" } : Jvm.MethodName) ({ cls := "ConvKernelsModel", name := "take", desc := "(I)I" } : Jvm.MethodName)) ∈ lw_all := lw_g (lw_at lw_m2 57 rfl) rfl
theorem q322 : (Jvm.Cond.code ({ cls := "ConvKernelsModel", name := "take", desc := "(I)I" } : Jvm.MethodName) prog_3_method_18_code (6 : Nat) (Option.some Jvm.ClassFile.FieldType.int)) ∈ lw_all := lw_g (lw_at lw_m2 58 rfl) rfl
theorem q323 : (Jvm.Cond.methodLink "ConvKernelsModel" (49 : Nat) ({ cls := "ConvKernelsModel", name := "result", desc := "(II)I" } : Jvm.MethodName)) ∈ lw_all := lw_g (lw_at lw_m2 59 rfl) rfl
theorem q325 : (Jvm.Cond.instanceMethod ({ cls := "ConvKernelsModel", name := "sum", desc := "()I" } : Jvm.MethodName)) ∈ lw_all := lw_g (lw_at lw_m2 61 rfl) rfl
theorem q326 : (Jvm.Cond.selects "ConvKernelsModel" ({ cls := "ConvKernelsModel", name := "sum", desc := "()I" } : Jvm.MethodName) ({ cls := "ConvKernelsModel", name := "sum", desc := "()I" } : Jvm.MethodName)) ∈ lw_all := lw_g (lw_at lw_m2 62 rfl) rfl
theorem q327 : (Jvm.Cond.code ({ cls := "ConvKernelsModel", name := "sum", desc := "()I" } : Jvm.MethodName) prog_3_method_19_code (3 : Nat) (Option.some Jvm.ClassFile.FieldType.int)) ∈ lw_all := lw_g (lw_at lw_m2 63 rfl) rfl
theorem q329 : (Jvm.Cond.instanceMethod ({ cls := "ConvKernelsModel", name := "peak", desc := "()I" } : Jvm.MethodName)) ∈ lw_all := lw_g (lw_at lw_m2 65 rfl) rfl
theorem q330 : (Jvm.Cond.selects "ConvKernelsModel" ({ cls := "ConvKernelsModel", name := "peak", desc := "()I" } : Jvm.MethodName) ({ cls := "ConvKernelsModel", name := "peak", desc := "()I" } : Jvm.MethodName)) ∈ lw_all := lw_g (lw_at lw_m2 66 rfl) rfl
theorem q331 : (Jvm.Cond.code ({ cls := "ConvKernelsModel", name := "peak", desc := "()I" } : Jvm.MethodName) prog_3_method_20_code (3 : Nat) (Option.some Jvm.ClassFile.FieldType.int)) ∈ lw_all := lw_g (lw_at lw_m2 67 rfl) rfl
theorem q333 : (Jvm.Cond.instanceMethod ({ cls := "ConvKernelsModel", name := "way", desc := "(I)I" } : Jvm.MethodName)) ∈ lw_all := lw_g (lw_at lw_m2 69 rfl) rfl
theorem q334 : (Jvm.Cond.selects "ConvKernelsModel" ({ cls := "ConvKernelsModel", name := "way", desc := "(I)I" } : Jvm.MethodName) ({ cls := "ConvKernelsModel", name := "way", desc := "(I)I" } : Jvm.MethodName)) ∈ lw_all := lw_g (lw_at lw_m2 70 rfl) rfl
theorem q335 : (Jvm.Cond.code ({ cls := "ConvKernelsModel", name := "way", desc := "(I)I" } : Jvm.MethodName) prog_3_method_21_code (2 : Nat) (Option.some Jvm.ClassFile.FieldType.int)) ∈ lw_all := lw_g (lw_at lw_m2 71 rfl) rfl
theorem in_X1 : ∀ w ∈ wsX10, w ∈ lw_all := lw_in wsX10 [241, 243, 245, 247, 249, 251] (by decide +kernel) (by decide +kernel)
/-! the law's own entry -/
abbrev cL_law : ByteArray := code
end
section
set_option maxRecDepth 100000
/-! the state of one object: a list, one entry a field: an int, or what its int array holds -/
abbrev vwCl : List vw_C := [(RX0, TX0, 18), (RX1, TX1, 6)]
abbrev gS : Type := List (Int32 ⊕ (Nat → Int32))
def gfs (ad : Nat → Nat) : Nat → gS → List Value
  | _, [] => []
  | k, .inl v :: r => .int v :: gfs ad (k + 1) r
  | k, .inr _ :: r => .ref (ad k) :: gfs ad (k + 1) r
def gar (ad : Nat → Nat) (d : ClassId) (len : Nat → Nat) : Nat → gS → va_W
  | _, [] => []
  | k, .inl _ :: r => gar ad d len (k + 1) r
  | k, .inr f :: r => (ad k, .inl (d, len k, .inl f)) :: gar ad d len (k + 1) r
def gw (ci h : Nat) (ad : Nat → Nat) (d : ClassId) (len : Nat → Nat) (S : gS) : va_W := (h, .inr (ci, gfs ad 0 S)) :: gar ad d len 0 S
theorem gfs_len {ad : Nat → Nat} : ∀ {S : gS} {j : Nat}, (gfs ad j S).length = S.length := by
  intro S
  induction S with
  | nil => intro j; rfl
  | cons a r ih =>
    intro j
    cases a with
    | inl v => show (Value.int v :: gfs ad (j + 1) r).length = _; rw [List.length_cons, List.length_cons, ih]
    | inr g => show (Value.ref (ad j) :: gfs ad (j + 1) r).length = _; rw [List.length_cons, List.length_cons, ih]
theorem gfs_A {ad : Nat → Nat} {f : Nat → Int32} : ∀ {S : gS} {j k : Nat}, S[k]? = some (.inr f) → (gfs ad j S)[k]? = some (.ref (ad (j + k))) := by
  intro S
  induction S with
  | nil => intro j k h; simp at h
  | cons a r ih =>
    intro j k h
    cases k with
    | zero =>
      rw [List.getElem?_cons_zero] at h
      cases h
      rfl
    | succ k =>
      rw [List.getElem?_cons_succ] at h
      have h2 := ih (j := j + 1) h
      rw [show j + 1 + k = j + (k + 1) by omega] at h2
      cases a with
      | inl v => show (Value.int v :: gfs ad (j + 1) r)[k + 1]? = _; rw [List.getElem?_cons_succ]; exact h2
      | inr g => show (Value.ref (ad j) :: gfs ad (j + 1) r)[k + 1]? = _; rw [List.getElem?_cons_succ]; exact h2
theorem gfs_I {ad : Nat → Nat} {v : Int32} : ∀ {S : gS} {j k : Nat}, S[k]? = some (.inl v) → (gfs ad j S)[k]? = some (.int v) := by
  intro S
  induction S with
  | nil => intro j k h; simp at h
  | cons a r ih =>
    intro j k h
    cases k with
    | zero =>
      rw [List.getElem?_cons_zero] at h
      cases h
      rfl
    | succ k =>
      rw [List.getElem?_cons_succ] at h
      have h2 := ih (j := j + 1) h
      cases a with
      | inl v => show (Value.int v :: gfs ad (j + 1) r)[k + 1]? = _; rw [List.getElem?_cons_succ]; exact h2
      | inr g => show (Value.ref (ad j) :: gfs ad (j + 1) r)[k + 1]? = _; rw [List.getElem?_cons_succ]; exact h2
theorem gfs_setI {ad : Nat → Nat} {v v0 : Int32} : ∀ {S : gS} {j k : Nat}, S[k]? = some (.inl v0) → (gfs ad j S).set k (.int v) = gfs ad j (S.set k (.inl v)) := by
  intro S
  induction S with
  | nil => intro j k h; simp at h
  | cons a r ih =>
    intro j k h
    cases k with
    | zero =>
      rw [List.getElem?_cons_zero] at h
      cases h
      rfl
    | succ k =>
      rw [List.getElem?_cons_succ] at h
      have h2 := ih (j := j + 1) h
      cases a with
      | inl v => exact congrArg (List.cons (Value.int v)) h2
      | inr g => exact congrArg (List.cons (Value.ref (ad j))) h2
theorem gfs_setA {ad : Nat → Nat} {f g : Nat → Int32} : ∀ {S : gS} {j k : Nat}, S[k]? = some (.inr f) → gfs ad j (S.set k (.inr g)) = gfs ad j S := by
  intro S
  induction S with
  | nil => intro j k h; simp at h
  | cons a r ih =>
    intro j k h
    cases k with
    | zero =>
      rw [List.getElem?_cons_zero] at h
      cases h
      rfl
    | succ k =>
      rw [List.getElem?_cons_succ] at h
      have h2 := ih (j := j + 1) h
      cases a with
      | inl v => exact congrArg (List.cons (Value.int v)) h2
      | inr g => exact congrArg (List.cons (Value.ref (ad j))) h2
theorem gar_setI {ad : Nat → Nat} {d : ClassId} {len : Nat → Nat} {v v0 : Int32} : ∀ {S : gS} {j k : Nat}, S[k]? = some (.inl v0) → gar ad d len j (S.set k (.inl v)) = gar ad d len j S := by
  intro S
  induction S with
  | nil => intro j k h; simp at h
  | cons a r ih =>
    intro j k h
    cases k with
    | zero =>
      rw [List.getElem?_cons_zero] at h
      cases h
      rfl
    | succ k =>
      rw [List.getElem?_cons_succ] at h
      have h2 := ih (j := j + 1) h
      cases a with
      | inl v => exact h2
      | inr g => exact congrArg (List.cons (ad j, Sum.inl (d, len j, Sum.inl g))) h2
theorem gar_A {ad : Nat → Nat} {d : ClassId} {len : Nat → Nat} {f : Nat → Int32} : ∀ {S : gS} {j k : Nat}, S[k]? = some (.inr f) → ∃ p : Nat, (gar ad d len j S)[p]? = some (ad (j + k), .inl (d, len (j + k), .inl f)) ∧ ∀ g : Nat → Int32, (gar ad d len j S).set p (ad (j + k), .inl (d, len (j + k), .inl g)) = gar ad d len j (S.set k (.inr g)) := by
  intro S
  induction S with
  | nil => intro j k h; simp at h
  | cons a r ih =>
    intro j k h
    cases k with
    | zero =>
      rw [List.getElem?_cons_zero] at h
      cases h
      exact ⟨0, rfl, fun g => rfl⟩
    | succ k =>
      rw [List.getElem?_cons_succ] at h
      obtain ⟨p, h1, h2⟩ := ih (j := j + 1) h
      rw [show j + 1 + k = j + (k + 1) by omega] at h1
      rw [show j + 1 + k = j + (k + 1) by omega] at h2
      cases a with
      | inl v => exact ⟨p, h1, fun g => h2 g⟩
      | inr g0 => exact ⟨p + 1, h1, fun g => congrArg (List.cons (ad j, Sum.inl (d, len j, Sum.inl g0))) (h2 g)⟩
theorem gw_setI {ci h : Nat} {ad : Nat → Nat} {d : ClassId} {len : Nat → Nat} {S : gS} {k : Nat} {v0 v : Int32} (hk : S[k]? = some (.inl v0)) : (gw ci h ad d len S).set 0 (h, .inr (ci, (gfs ad 0 S).set k (.int v))) = gw ci h ad d len (S.set k (.inl v)) := by
  show (h, Sum.inr (ci, (gfs ad 0 S).set k (.int v))) :: gar ad d len 0 S = (h, Sum.inr (ci, gfs ad 0 (S.set k (.inl v)))) :: gar ad d len 0 (S.set k (.inl v))
  rw [gfs_setI hk, gar_setI hk]
theorem gw_A {ci h : Nat} {ad : Nat → Nat} {d : ClassId} {len : Nat → Nat} {S : gS} {k : Nat} {f : Nat → Int32} (hk : S[k]? = some (.inr f)) : ∃ p : Nat, (gw ci h ad d len S)[p]? = some (ad k, .inl (d, len k, .inl f)) ∧ ∀ g : Nat → Int32, (gw ci h ad d len S).set p (ad k, .inl (d, len k, .inl g)) = gw ci h ad d len (S.set k (.inr g)) := by
  obtain ⟨p, h1, h2⟩ := gar_A (ad := ad) (d := d) (len := len) (j := 0) hk
  rw [Nat.zero_add] at h1
  rw [Nat.zero_add] at h2
  refine ⟨p + 1, h1, fun g => ?_⟩
  show (h, Sum.inr (ci, gfs ad 0 S)) :: (gar ad d len 0 S).set p _ = (h, Sum.inr (ci, gfs ad 0 (S.set k (.inr g)))) :: gar ad d len 0 (S.set k (.inr g))
  rw [h2 g, gfs_setA hk]
/-! locals: a list by place, all of one word -/
def gz : Nat → List Value → List (Nat × Value)
  | _, [] => []
  | i, v :: r => (i, v) :: gz (i + 1) r
def gL (ls : Array Slot) (nL : Nat) (lv : List Value) : Prop := lv_has ls nL (gz 0 lv) ∧ ∀ v ∈ lv, v.category = 1
theorem gz_get : ∀ {lv : List Value} {j i : Nat} {v : Value}, lv[i]? = some v → (gz j lv)[i]? = some (j + i, v) := by
  intro lv
  induction lv with
  | nil => intro j i v h; simp at h
  | cons a r ih =>
    intro j i v h
    cases i with
    | zero =>
      rw [List.getElem?_cons_zero] at h
      cases h
      rfl
    | succ i =>
      rw [List.getElem?_cons_succ] at h
      have h2 := ih (j := j + 1) h
      rw [show j + 1 + i = j + (i + 1) by omega] at h2
      exact h2
theorem gz_ge : ∀ {lv : List Value} {j : Nat} {q : Nat × Value}, q ∈ gz j lv → j ≤ q.1 := by
  intro lv
  induction lv with
  | nil => intro j q h; cases h
  | cons a r ih =>
    intro j q h
    rcases List.mem_cons.mp h with e | e
    · rw [e]; exact Nat.le_refl _
    · have := ih e; omega
theorem gz_in : ∀ {lv : List Value} {j : Nat} {q : Nat × Value}, q ∈ gz j lv → q.2 ∈ lv := by
  intro lv
  induction lv with
  | nil => intro j q h; cases h
  | cons a r ih =>
    intro j q h
    rcases List.mem_cons.mp h with e | e
    · rw [e]; exact List.mem_cons_self
    · exact List.mem_cons_of_mem _ (ih e)
theorem gL.at {ls : Array Slot} {nL : Nat} {lv : List Value} {i : Nat} {v : Value} (h : gL ls nL lv) (hi : lv[i]? = some v) : ls[i]? = some (.val v) := by
  have h1 := gz_get (j := 0) hi
  rw [Nat.zero_add] at h1
  exact lv_at h.1 i h1
def lput : Nat → Value → List Value → List Value
  | 0, v, [] => [v]
  | 0, v, _ :: r => v :: r
  | _ + 1, _, [] => []
  | i + 1, v, a :: r => a :: lput i v r
theorem lput_mem : ∀ {lv : List Value} {i j : Nat} {v : Value} {q : Nat × Value}, q ∈ gz j (lput i v lv) → q = (j + i, v) ∨ (q ∈ gz j lv ∧ q.1 ≠ j + i) := by
  intro lv
  induction lv with
  | nil =>
    intro i j v q h
    cases i with
    | zero => rcases List.mem_cons.mp h with e | e
              · exact Or.inl e
              · cases e
    | succ i => cases h
  | cons a r ih =>
    intro i j v q h
    cases i with
    | zero =>
      rcases List.mem_cons.mp h with e | e
      · exact Or.inl e
      · have := gz_ge e
        exact Or.inr ⟨List.mem_cons_of_mem _ e, by omega⟩
    | succ i =>
      rcases List.mem_cons.mp h with e | e
      · exact Or.inr ⟨by rw [e]; exact List.mem_cons_self, by rw [e]; show j ≠ _; omega⟩
      · rcases ih e with e2 | ⟨e2, e3⟩
        · rw [show j + 1 + i = j + (i + 1) by omega] at e2; exact Or.inl e2
        · exact Or.inr ⟨List.mem_cons_of_mem _ e2, by omega⟩
theorem lput_cat : ∀ {lv : List Value} {i : Nat} {v x : Value}, x ∈ lput i v lv → x = v ∨ x ∈ lv := by
  intro lv
  induction lv with
  | nil =>
    intro i v x h
    cases i with
    | zero => rcases List.mem_cons.mp h with e | e
              · exact Or.inl e
              · cases e
    | succ i => cases h
  | cons a r ih =>
    intro i v x h
    cases i with
    | zero =>
      rcases List.mem_cons.mp h with e | e
      · exact Or.inl e
      · exact Or.inr (List.mem_cons_of_mem _ e)
    | succ i =>
      rcases List.mem_cons.mp h with e | e
      · exact Or.inr (by rw [e]; exact List.mem_cons_self)
      · rcases ih e with e2 | e2
        · exact Or.inl e2
        · exact Or.inr (List.mem_cons_of_mem _ e2)
theorem gL.put {ls ls' : Array Slot} {nL : Nat} {lv : List Value} {i : Nat} {v : Value} (h : gL ls nL lv) (hc : v.category = 1) (h' : lv_has ls' nL ((i, v) :: (gz 0 lv).filter (fun q => !(q.1 == i) && !(q.1 + 1 == i && q.2.category == 2)))) : gL ls' nL (lput i v lv) := by
  refine ⟨⟨h'.1, h'.2.1, fun q hq => ?_⟩, fun x hx => ?_⟩
  · rcases lput_mem hq with e | ⟨e1, e2⟩
    · rw [Nat.zero_add] at e
      exact h'.2.2 q (by rw [e]; exact List.mem_cons_self)
    · refine h'.2.2 q (List.mem_cons_of_mem _ (List.mem_filter.mpr ⟨e1, ?_⟩))
      have h3 : q.2.category = 1 := h.2 _ (gz_in e1)
      have e3 : q.1 ≠ i := by omega
      simp [h3, e3]
  · rcases lput_cat hx with e | e
    · rw [e]; exact hc
    · exact h.2 x e
theorem gz_take : ∀ {lv : List Value} {n j : Nat} {q : Nat × Value}, q ∈ gz j (lv.take n) → q ∈ gz j lv := by
  intro lv
  induction lv with
  | nil => intro n j q h; cases n <;> exact h
  | cons a r ih =>
    intro n j q h
    cases n with
    | zero => cases h
    | succ n =>
      rcases List.mem_cons.mp h with e | e
      · rw [e]; exact List.mem_cons_self
      · exact List.mem_cons_of_mem _ (ih e)
theorem gL.take {ls : Array Slot} {nL : Nat} {lv : List Value} (n : Nat) (h : gL ls nL lv) : gL ls nL (lv.take n) := ⟨⟨h.1.1, h.1.2.1, fun q hq => h.1.2.2 q (gz_take hq)⟩, fun v hv => h.2 v (List.mem_of_mem_take hv)⟩
theorem gz_args : ∀ {vs : List Value} {i : Nat}, (∀ v ∈ vs, v.category = 1) → lv_args i vs = gz i vs := by
  intro vs
  induction vs with
  | nil => intro i _; rfl
  | cons v r ih =>
    intro i h
    have h1 := h v List.mem_cons_self
    rw [lv_args, if_neg (by rw [h1]; decide), gz, ih (fun x hx => h x (List.mem_cons_of_mem _ hx))]
theorem gsl_len : ∀ {vs : List Value}, (∀ v ∈ vs, v.category = 1) → (lg_sl vs).length = vs.length := by
  intro vs
  induction vs with
  | nil => intro _; rfl
  | cons v r ih =>
    intro h
    have h1 := h v List.mem_cons_self
    have h2 := ih (fun x hx => h x (List.mem_cons_of_mem _ hx))
    unfold lg_sl at h2 ⊢
    rw [List.flatMap_cons, if_neg (by rw [h1]; decide), List.length_append, h2, List.length_cons]
    simp
    omega
/-! the judgement: from pc with these locals, this stack and this object the machine comes to its end -/
def gG (p : Program) (l : Launch) (e : Env) (R : Room) (s : State) (m : MethodId) (args : Array Value) (below : List Frame) (meth : Method) (c : Code) (k n : Nat) (Q : State → Prop) (D : va_G) (d : ClassId) (A : Nat → Prop) (nL ci h : Nat) (ad len : Nat → Nat) : gS → Nat → List Value → List Value → Prop := fun S pc lv st =>
  ∀ (H : Heap) (locs : List Loc) (ls : Array Slot), va_P D vwCl (gw ci h ad d len S) H → va_D A (gw ci h ad d len S) → va_S A s.heap H locs → gL ls nL lv → W p l e R s m args below meth c H locs k n Q (F0 m pc ls st)
def gOK (l : Launch) (cc : ByteArray) (nL : Nat) (R : Room) (C : String) (T : u_T) (N ci : Nat) (len : Nat → Nat) (h : Nat) (ad : Nat → Nat) (ret : Option FieldType) (Post : Option Int32 → gS → Prop) (G : gS → Nat → List Value → List Value → Prop) : Prop :=
  ∃ (p : Program) (e : Env) (s : State) (m : MethodId) (args : Array Value) (below : List Frame) (meth : Method) (c : Code) (k n : Nat) (Q : State → Prop) (D : va_G) (d : ClassId) (A : Nat → Prop),
    G = gG p l e R s m args below meth c k n Q D d A nL ci h ad len ∧ p.tables.exec = Jvm.exec ∧ c.code = cc ∧ c.maxLocals = nL ∧ s.vm.findClass C = some m.cls ∧ (∀ w ∈ lw_all, w.before args s = true) ∧ va_K D vwCl [(d, .int)] s ∧ (∀ q, s.heap.size ≤ q → A q) ∧ (k ≤ R.cells ∧ n ≤ R.slots) ∧
    vwCl[ci]? = some (C, T, N) ∧ (∀ w ∈ u_ws C T N, w ∈ lw_all) ∧ (∃ ty0 : Nat → FieldType, ∀ k, k < N → parseFieldDescriptor (T k).2.2.1 = some (ty0 k)) ∧ (∀ a, a < N → ∀ b, b < N → a ≠ b → (T a).2.1 ≠ (T b).2.1) ∧ (∀ k, len k < 2 ^ 31) ∧
    (∀ (S : gS) (pc : Nat) (v : Int32) (H : Heap) (locs : List Loc) (ls : Array Slot), ret = some .int → Post (some v) S → va_P D vwCl (gw ci h ad d len S) H → va_D A (gw ci h ad d len S) → va_S A s.heap H locs → decode cc pc = .ok (.ireturn, 1) → W p l e R s m args below meth c H locs k n Q (F0 m pc ls [.int v])) ∧
    (∀ (S : gS) (pc : Nat) (H : Heap) (locs : List Loc) (ls : Array Slot), ret = none → Post none S → va_P D vwCl (gw ci h ad d len S) H → va_D A (gw ci h ad d len S) → va_S A s.heap H locs → decode cc pc = .ok (.return_, 1) → W p l e R s m args below meth c H locs k n Q (F0 m pc ls []))
section GROWS
variable {l : Launch} {cc : ByteArray} {nL : Nat} {R : Room} {C : String} {T : u_T} {N ci : Nat} {len : Nat → Nat} {h : Nat} {ad : Nat → Nat} {ret : Option FieldType} {Post : Option Int32 → gS → Prop} {G : gS → Nat → List Value → List Value → Prop} {S : gS} {pc : Nat} {lv st : List Value}
theorem cv_iconst (X : gOK l cc nL R C T N ci len h ad ret Post G) {n : Int} {v : Int32} (hd : decode cc pc = .ok (.iconst n, 1)) (hv : Int32.ofInt n = v) (k : G S (pc + 1) lv (.int v :: st)) : G S pc lv st := by
  obtain ⟨p, e, s, m, args, below, meth, c, kc, n0, Q, D, d, A, rfl, hx, hb, -⟩ := X
  intro H locs ls hP hD hS hl
  exact lv_iconst hx hb hd hv (k H locs ls hP hD hS hl)
theorem cv_bipush (X : gOK l cc nL R C T N ci len h ad ret Post G) {n : Int} {v : Int32} (hd : decode cc pc = .ok (.bipush n, 2)) (hv : (Int8.ofInt n).toInt32 = v) (k : G S (pc + 2) lv (.int v :: st)) : G S pc lv st := by
  obtain ⟨p, e, s, m, args, below, meth, c, kc, n0, Q, D, d, A, rfl, hx, hb, -⟩ := X
  intro H locs ls hP hD hS hl
  exact lv_bipush hx hb hd hv (k H locs ls hP hD hS hl)
theorem cv_sipush (X : gOK l cc nL R C T N ci len h ad ret Post G) {n : Int} {v : Int32} (hd : decode cc pc = .ok (.sipush n, 3)) (hv : (Int16.ofInt n).toInt32 = v) (k : G S (pc + 3) lv (.int v :: st)) : G S pc lv st := by
  obtain ⟨p, e, s, m, args, below, meth, c, kc, n0, Q, D, d, A, rfl, hx, hb, -⟩ := X
  intro H locs ls hP hD hS hl
  exact lv_sipush hx hb hd hv (k H locs ls hP hD hS hl)
theorem cv_ldc (X : gOK l cc nL R C T N ci len h ad ret Post G) {i : Nat} {v : Int32} (hc : Cond.constant C i v ∈ lw_all) (hd : decode cc pc = .ok (.ldc i, 2)) (k : G S (pc + 2) lv (.int v :: st)) : G S pc lv st := by
  obtain ⟨p, e, s, m, args, below, meth, c, kc, n0, Q, D, d, A, rfl, hx, hb, hml, hown, hts, hK, hA, hkn, hC, hin, hty, hnm, hlen, hret, hretv⟩ := X
  intro H locs ls hP hD hS hl
  exact lv_ldc hx hb hown (hts _ hc) hd (k H locs ls hP hD hS hl)
theorem cv_iload_n (X : gOK l cc nL R C T N ci len h ad ret Post G) {i : Fin 4} {x : Int32} (hd : decode cc pc = .ok (.iload_n i, 1)) (hi : lv[(i : Nat)]? = some (.int x)) (k : G S (pc + 1) lv (.int x :: st)) : G S pc lv st := by
  obtain ⟨p, e, s, m, args, below, meth, c, kc, n0, Q, D, d, A, rfl, hx, hb, -⟩ := X
  intro H locs ls hP hD hS hl
  exact lv_iload_n hx hb hd rfl (hl.at hi) (k H locs ls hP hD hS hl)
theorem cv_aload_n (X : gOK l cc nL R C T N ci len h ad ret Post G) {i : Fin 4} {x : Nat} (hd : decode cc pc = .ok (.aload_n i, 1)) (hi : lv[(i : Nat)]? = some (.ref x)) (k : G S (pc + 1) lv (.ref x :: st)) : G S pc lv st := by
  obtain ⟨p, e, s, m, args, below, meth, c, kc, n0, Q, D, d, A, rfl, hx, hb, -⟩ := X
  intro H locs ls hP hD hS hl
  exact lv_aload_n hx hb hd rfl (hl.at hi) (k H locs ls hP hD hS hl)
theorem cv_iload (X : gOK l cc nL R C T N ci len h ad ret Post G) {i : Nat} {x : Int32} (hd : decode cc pc = .ok (.iload i, 2)) (hi : lv[i]? = some (.int x)) (k : G S (pc + 2) lv (.int x :: st)) : G S pc lv st := by
  obtain ⟨p, e, s, m, args, below, meth, c, kc, n0, Q, D, d, A, rfl, hx, hb, -⟩ := X
  intro H locs ls hP hD hS hl
  exact lv_iload hx hb hd (hl.at hi) (k H locs ls hP hD hS hl)
theorem cv_istore_n (X : gOK l cc nL R C T N ci len h ad ret Post G) {i : Fin 4} {x : Int32} {lv' : List Value} (hd : decode cc pc = .ok (.istore_n i, 1)) (hn : (i : Nat) < nL) (hp : lput (i : Nat) (.int x) lv = lv') (k : G S (pc + 1) lv' st) : G S pc lv (.int x :: st) := by
  obtain ⟨p, e, s, m, args, below, meth, c, kc, n0, Q, D, d, A, rfl, hx, hb, -⟩ := X
  intro H locs ls hP hD hS hl
  subst hp
  exact lv_istore_n hx hb hd rfl hl.1 hn rfl (fun ls' hl' => k H locs ls' hP hD hS (hl.put rfl hl'))
theorem cv_istore (X : gOK l cc nL R C T N ci len h ad ret Post G) {i : Nat} {x : Int32} {lv' : List Value} (hd : decode cc pc = .ok (.istore i, 2)) (hn : i < nL) (hp : lput i (.int x) lv = lv') (k : G S (pc + 2) lv' st) : G S pc lv (.int x :: st) := by
  obtain ⟨p, e, s, m, args, below, meth, c, kc, n0, Q, D, d, A, rfl, hx, hb, -⟩ := X
  intro H locs ls hP hD hS hl
  subst hp
  exact lv_istore hx hb hd hl.1 hn rfl (fun ls' hl' => k H locs ls' hP hD hS (hl.put rfl hl'))
theorem cv_iinc (X : gOK l cc nL R C T N ci len h ad ret Post G) {i : Nat} {n : Int} {x v : Int32} {lv' : List Value} (hd : decode cc pc = .ok (.iinc i n, 3)) (hn : i < nL) (hi : lv[i]? = some (.int x)) (hv : x + Int32.ofInt n = v) (hp : lput i (.int v) lv = lv') (k : G S (pc + 3) lv' st) : G S pc lv st := by
  obtain ⟨p, e, s, m, args, below, meth, c, kc, n0, Q, D, d, A, rfl, hx, hb, -⟩ := X
  intro H locs ls hP hD hS hl
  subst hp
  have hg := gz_get (j := 0) hi
  rw [Nat.zero_add] at hg
  exact lv_iinc hx hb hd hl.1 hg hv hn rfl (fun ls' hl' => k H locs ls' hP hD hS (hl.put rfl hl'))
theorem cv_iincN (X : gOK l cc nL R C T N ci len h ad ret Post G) {i a : Nat} {lv' : List Value} (hd : decode cc pc = .ok (.iinc i 1, 3)) (hn : i < nL) (hi : lv[i]? = some (.int (nI a))) (hp : lput i (.int (nI (a + 1))) lv = lv') (k : G S (pc + 3) lv' st) : G S pc lv st := cv_iinc X hd hn hi (nI_1 a) hp k
theorem cv_iadd (X : gOK l cc nL R C T N ci len h ad ret Post G) {x y : Int32} (hd : decode cc pc = .ok (.iadd, 1)) (k : G S (pc + 1) lv (.int (x + y) :: st)) : G S pc lv (.int y :: .int x :: st) := by
  obtain ⟨p, e, s, m, args, below, meth, c, kc, n0, Q, D, d, A, rfl, hx, hb, -⟩ := X
  intro H locs ls hP hD hS hl
  exact lv_iadd hx hb hd (k H locs ls hP hD hS hl)
theorem cv_isub (X : gOK l cc nL R C T N ci len h ad ret Post G) {x y : Int32} (hd : decode cc pc = .ok (.isub, 1)) (k : G S (pc + 1) lv (.int (x - y) :: st)) : G S pc lv (.int y :: .int x :: st) := by
  obtain ⟨p, e, s, m, args, below, meth, c, kc, n0, Q, D, d, A, rfl, hx, hb, -⟩ := X
  intro H locs ls hP hD hS hl
  exact lv_isub hx hb hd (k H locs ls hP hD hS hl)
theorem cv_imul (X : gOK l cc nL R C T N ci len h ad ret Post G) {x y : Int32} (hd : decode cc pc = .ok (.imul, 1)) (k : G S (pc + 1) lv (.int (x * y) :: st)) : G S pc lv (.int y :: .int x :: st) := by
  obtain ⟨p, e, s, m, args, below, meth, c, kc, n0, Q, D, d, A, rfl, hx, hb, -⟩ := X
  intro H locs ls hP hD hS hl
  exact lv_imul hx hb hd (k H locs ls hP hD hS hl)
theorem cv_iand (X : gOK l cc nL R C T N ci len h ad ret Post G) {x y : Int32} (hd : decode cc pc = .ok (.iand, 1)) (k : G S (pc + 1) lv (.int (x &&& y) :: st)) : G S pc lv (.int y :: .int x :: st) := by
  obtain ⟨p, e, s, m, args, below, meth, c, kc, n0, Q, D, d, A, rfl, hx, hb, -⟩ := X
  intro H locs ls hP hD hS hl
  exact lv_iand hx hb hd (k H locs ls hP hD hS hl)
theorem cv_ishr (X : gOK l cc nL R C T N ci len h ad ret Post G) {x y : Int32} (hd : decode cc pc = .ok (.ishr, 1)) (k : G S (pc + 1) lv (.int (x >>> (y &&& 31)) :: st)) : G S pc lv (.int y :: .int x :: st) := by
  obtain ⟨p, e, s, m, args, below, meth, c, kc, n0, Q, D, d, A, rfl, hx, hb, -⟩ := X
  intro H locs ls hP hD hS hl
  exact lv_ishr hx hb hd (k H locs ls hP hD hS hl)
theorem cv_idiv (X : gOK l cc nL R C T N ci len h ad ret Post G) {x y : Int32} (hd : decode cc pc = .ok (.idiv, 1)) (hne : ¬ y = 0) (k : G S (pc + 1) lv (.int (x / y) :: st)) : G S pc lv (.int y :: .int x :: st) := by
  obtain ⟨p, e, s, m, args, below, meth, c, kc, n0, Q, D, d, A, rfl, hx, hb, -⟩ := X
  intro H locs ls hP hD hS hl
  exact lv_idiv hx hb hd hne (k H locs ls hP hD hS hl)
/-- what irem answers -/
def rmd (x y : Int32) : Int32 := x - x / y * y
theorem cv_irem (X : gOK l cc nL R C T N ci len h ad ret Post G) {x y : Int32} (hd : decode cc pc = .ok (.irem, 1)) (hne : ¬ y = 0) (k : G S (pc + 1) lv (.int (rmd x y) :: st)) : G S pc lv (.int y :: .int x :: st) := by
  obtain ⟨p, e, s, m, args, below, meth, c, kc, n0, Q, D, d, A, rfl, hx, hb, -⟩ := X
  intro H locs ls hP hD hS hl
  exact lv_irem hx hb hd hne (k H locs ls hP hD hS hl)
theorem cv_iaddN (X : gOK l cc nL R C T N ci len h ad ret Post G) {a b : Nat} (hd : decode cc pc = .ok (.iadd, 1)) (k : G S (pc + 1) lv (.int (nI (a + b)) :: st)) : G S pc lv (.int (nI b) :: .int (nI a) :: st) := cv_iadd X hd (by rw [nI_add]; exact k)
theorem cv_isubN (X : gOK l cc nL R C T N ci len h ad ret Post G) {a b : Nat} (hab : b ≤ a) (hd : decode cc pc = .ok (.isub, 1)) (k : G S (pc + 1) lv (.int (nI (a - b)) :: st)) : G S pc lv (.int (nI b) :: .int (nI a) :: st) := cv_isub X hd (by rw [pk_sub hab]; exact k)
theorem cv_imulN (X : gOK l cc nL R C T N ci len h ad ret Post G) {a b : Nat} (hd : decode cc pc = .ok (.imul, 1)) (k : G S (pc + 1) lv (.int (nI (a * b)) :: st)) : G S pc lv (.int (nI b) :: .int (nI a) :: st) := cv_imul X hd (by rw [pk_mul]; exact k)
theorem cv_nz {b : Nat} (h0 : 0 < b) (hb : b < 2 ^ 31) : ¬ nI b = 0 := nI_ne0 h0 hb
theorem cv_idivN (X : gOK l cc nL R C T N ci len h ad ret Post G) {a b : Nat} (ha : a < 2 ^ 31) (h0 : 0 < b) (hb : b < 2 ^ 31) (hd : decode cc pc = .ok (.idiv, 1)) (k : G S (pc + 1) lv (.int (nI (a / b)) :: st)) : G S pc lv (.int (nI b) :: .int (nI a) :: st) := cv_idiv X hd (nI_ne0 h0 hb) (by rw [pk_div ha h0 hb]; exact k)
theorem cv_iremN (X : gOK l cc nL R C T N ci len h ad ret Post G) {a b : Nat} (ha : a < 2 ^ 31) (h0 : 0 < b) (hb : b < 2 ^ 31) (hd : decode cc pc = .ok (.irem, 1)) (k : G S (pc + 1) lv (.int (nI (a % b)) :: st)) : G S pc lv (.int (nI b) :: .int (nI a) :: st) := cv_irem X hd (nI_ne0 h0 hb) (by unfold rmd; rw [pk_rem ha h0 hb]; exact k)
theorem cv_iand1 (X : gOK l cc nL R C T N ci len h ad ret Post G) {a : Nat} (ha : a < 2 ^ 32) (hd : decode cc pc = .ok (.iand, 1)) (k : G S (pc + 1) lv (.int (nI (a % 2)) :: st)) : G S pc lv (.int (nI 1) :: .int (nI a) :: st) := cv_iand X hd (by rw [pk_andN (m := nI 1) ha 1 (by decide)]; exact k)
theorem cv_iand15 (X : gOK l cc nL R C T N ci len h ad ret Post G) {a : Nat} (ha : a < 2 ^ 32) (hd : decode cc pc = .ok (.iand, 1)) (k : G S (pc + 1) lv (.int (nI (a % 16)) :: st)) : G S pc lv (.int (nI 15) :: .int (nI a) :: st) := cv_iand X hd (by rw [pk_andN (m := nI 15) ha 4 (by decide)]; exact k)
theorem cv_sl : ∀ n, n < 32 → ((nI n &&& 31).toBitVec.smod 32).toNat = n := by decide
theorem cv_ishrN (X : gOK l cc nL R C T N ci len h ad ret Post G) {a b : Nat} (ha : a < 2 ^ 31) (hb : b < 32) (hd : decode cc pc = .ok (.ishr, 1)) (k : G S (pc + 1) lv (.int (nI (a / 2 ^ b)) :: st)) : G S pc lv (.int (nI b) :: .int (nI a) :: st) := cv_ishr X hd (by rw [pk_shrN ha _ b (cv_sl b hb)]; exact k)
theorem cv_goto (X : gOK l cc nL R C T N ci len h ad ret Post G) {off : Int} {tgt : Nat} (hd : decode cc pc = .ok (.goto off, 3)) (ht : (pc : Int) + off = (tgt : Int)) (k : G S tgt lv st) : G S pc lv st := by
  obtain ⟨p, e, s, m, args, below, meth, c, kc, n0, Q, D, d, A, rfl, hx, hb, -⟩ := X
  intro H locs ls hP hD hS hl
  exact lv_goto hx hb hd ht (k H locs ls hP hD hS hl)
theorem cv_if_lt (X : gOK l cc nL R C T N ci len h ad ret Post G) {x : Int32} {off : Int} (tgt : Nat) (hd : decode cc pc = .ok (.ifCond .lt off, 3)) (ht : (pc : Int) + off = (tgt : Int)) (kt : x < 0 → G S tgt lv st) (kf : ¬ x < 0 → G S (pc + 3) lv st) : G S pc lv (.int x :: st) := by
  obtain ⟨p, e, s, m, args, below, meth, c, kc, n0, Q, D, d, A, rfl, hx, hb, -⟩ := X
  intro H locs ls hP hD hS hl
  exact lv_if_lt hx hb hd ht (fun q => kt q H locs ls hP hD hS hl) (fun q => kf q H locs ls hP hD hS hl)
theorem cv_icmp_lt (X : gOK l cc nL R C T N ci len h ad ret Post G) {x y : Int32} {off : Int} (tgt : Nat) (hd : decode cc pc = .ok (.if_icmp .lt off, 3)) (ht : (pc : Int) + off = (tgt : Int)) (kt : x < y → G S tgt lv st) (kf : ¬ x < y → G S (pc + 3) lv st) : G S pc lv (.int y :: .int x :: st) := by
  obtain ⟨p, e, s, m, args, below, meth, c, kc, n0, Q, D, d, A, rfl, hx, hb, -⟩ := X
  intro H locs ls hP hD hS hl
  exact lv_icmp_lt hx hb hd ht (fun q => kt q H locs ls hP hD hS hl) (fun q => kf q H locs ls hP hD hS hl)
theorem cv_icmp_ltN (X : gOK l cc nL R C T N ci len h ad ret Post G) {a b : Nat} {off : Int} (tgt : Nat) (ha : a < 2 ^ 31) (hb : b < 2 ^ 31) (hd : decode cc pc = .ok (.if_icmp .lt off, 3)) (ht : (pc : Int) + off = (tgt : Int)) (kt : a < b → G S tgt lv st) (kf : b ≤ a → G S (pc + 3) lv st) : G S pc lv (.int (nI b) :: .int (nI a) :: st) := cv_icmp_lt X tgt hd ht (fun q => kt ((nI_ltI ha hb).mp q)) (fun q => kf (Nat.le_of_not_lt (fun z => q ((nI_ltI ha hb).mpr z))))
theorem cv_icmp_ltT (X : gOK l cc nL R C T N ci len h ad ret Post G) {a b : Nat} {off : Int} (tgt : Nat) (ha : a < 2 ^ 31) (hb : b < 2 ^ 31) (hd : decode cc pc = .ok (.if_icmp .lt off, 3)) (ht : (pc : Int) + off = (tgt : Int)) (z : a < b) (kt : G S tgt lv st) : G S pc lv (.int (nI b) :: .int (nI a) :: st) := cv_icmp_ltN X tgt ha hb hd ht (fun _ => kt) (fun q => absurd z (Nat.not_lt.mpr q))
theorem cv_icmp_ltF (X : gOK l cc nL R C T N ci len h ad ret Post G) {a b : Nat} {off : Int} (tgt : Nat) (ha : a < 2 ^ 31) (hb : b < 2 ^ 31) (hd : decode cc pc = .ok (.if_icmp .lt off, 3)) (ht : (pc : Int) + off = (tgt : Int)) (z : b ≤ a) (kf : G S (pc + 3) lv st) : G S pc lv (.int (nI b) :: .int (nI a) :: st) := cv_icmp_ltN X tgt ha hb hd ht (fun q => absurd q (Nat.not_lt.mpr z)) (fun _ => kf)
theorem cv_if_ge (X : gOK l cc nL R C T N ci len h ad ret Post G) {x : Int32} {off : Int} (tgt : Nat) (hd : decode cc pc = .ok (.ifCond .ge off, 3)) (ht : (pc : Int) + off = (tgt : Int)) (kt : 0 ≤ x → G S tgt lv st) (kf : ¬ 0 ≤ x → G S (pc + 3) lv st) : G S pc lv (.int x :: st) := by
  obtain ⟨p, e, s, m, args, below, meth, c, kc, n0, Q, D, d, A, rfl, hx, hb, -⟩ := X
  intro H locs ls hP hD hS hl
  exact lv_if_ge hx hb hd ht (fun q => kt q H locs ls hP hD hS hl) (fun q => kf q H locs ls hP hD hS hl)
theorem cv_icmp_ge (X : gOK l cc nL R C T N ci len h ad ret Post G) {x y : Int32} {off : Int} (tgt : Nat) (hd : decode cc pc = .ok (.if_icmp .ge off, 3)) (ht : (pc : Int) + off = (tgt : Int)) (kt : y ≤ x → G S tgt lv st) (kf : ¬ y ≤ x → G S (pc + 3) lv st) : G S pc lv (.int y :: .int x :: st) := by
  obtain ⟨p, e, s, m, args, below, meth, c, kc, n0, Q, D, d, A, rfl, hx, hb, -⟩ := X
  intro H locs ls hP hD hS hl
  exact lv_icmp_ge hx hb hd ht (fun q => kt q H locs ls hP hD hS hl) (fun q => kf q H locs ls hP hD hS hl)
theorem cv_icmp_geN (X : gOK l cc nL R C T N ci len h ad ret Post G) {a b : Nat} {off : Int} (tgt : Nat) (ha : a < 2 ^ 31) (hb : b < 2 ^ 31) (hd : decode cc pc = .ok (.if_icmp .ge off, 3)) (ht : (pc : Int) + off = (tgt : Int)) (kt : b ≤ a → G S tgt lv st) (kf : a < b → G S (pc + 3) lv st) : G S pc lv (.int (nI b) :: .int (nI a) :: st) := cv_icmp_ge X tgt hd ht (fun q => kt ((nI_leI hb ha).mp q)) (fun q => kf (Nat.lt_of_not_le (fun z => q ((nI_leI hb ha).mpr z))))
theorem cv_icmp_geT (X : gOK l cc nL R C T N ci len h ad ret Post G) {a b : Nat} {off : Int} (tgt : Nat) (ha : a < 2 ^ 31) (hb : b < 2 ^ 31) (hd : decode cc pc = .ok (.if_icmp .ge off, 3)) (ht : (pc : Int) + off = (tgt : Int)) (z : b ≤ a) (kt : G S tgt lv st) : G S pc lv (.int (nI b) :: .int (nI a) :: st) := cv_icmp_geN X tgt ha hb hd ht (fun _ => kt) (fun q => absurd z (Nat.not_le.mpr q))
theorem cv_icmp_geF (X : gOK l cc nL R C T N ci len h ad ret Post G) {a b : Nat} {off : Int} (tgt : Nat) (ha : a < 2 ^ 31) (hb : b < 2 ^ 31) (hd : decode cc pc = .ok (.if_icmp .ge off, 3)) (ht : (pc : Int) + off = (tgt : Int)) (z : a < b) (kf : G S (pc + 3) lv st) : G S pc lv (.int (nI b) :: .int (nI a) :: st) := cv_icmp_geN X tgt ha hb hd ht (fun q => absurd q (Nat.not_le.mpr z)) (fun _ => kf)
theorem cv_if_gt (X : gOK l cc nL R C T N ci len h ad ret Post G) {x : Int32} {off : Int} (tgt : Nat) (hd : decode cc pc = .ok (.ifCond .gt off, 3)) (ht : (pc : Int) + off = (tgt : Int)) (kt : 0 < x → G S tgt lv st) (kf : ¬ 0 < x → G S (pc + 3) lv st) : G S pc lv (.int x :: st) := by
  obtain ⟨p, e, s, m, args, below, meth, c, kc, n0, Q, D, d, A, rfl, hx, hb, -⟩ := X
  intro H locs ls hP hD hS hl
  exact lv_if_gt hx hb hd ht (fun q => kt q H locs ls hP hD hS hl) (fun q => kf q H locs ls hP hD hS hl)
theorem cv_icmp_gt (X : gOK l cc nL R C T N ci len h ad ret Post G) {x y : Int32} {off : Int} (tgt : Nat) (hd : decode cc pc = .ok (.if_icmp .gt off, 3)) (ht : (pc : Int) + off = (tgt : Int)) (kt : y < x → G S tgt lv st) (kf : ¬ y < x → G S (pc + 3) lv st) : G S pc lv (.int y :: .int x :: st) := by
  obtain ⟨p, e, s, m, args, below, meth, c, kc, n0, Q, D, d, A, rfl, hx, hb, -⟩ := X
  intro H locs ls hP hD hS hl
  exact lv_icmp_gt hx hb hd ht (fun q => kt q H locs ls hP hD hS hl) (fun q => kf q H locs ls hP hD hS hl)
theorem cv_icmp_gtN (X : gOK l cc nL R C T N ci len h ad ret Post G) {a b : Nat} {off : Int} (tgt : Nat) (ha : a < 2 ^ 31) (hb : b < 2 ^ 31) (hd : decode cc pc = .ok (.if_icmp .gt off, 3)) (ht : (pc : Int) + off = (tgt : Int)) (kt : b < a → G S tgt lv st) (kf : a ≤ b → G S (pc + 3) lv st) : G S pc lv (.int (nI b) :: .int (nI a) :: st) := cv_icmp_gt X tgt hd ht (fun q => kt ((nI_ltI hb ha).mp q)) (fun q => kf (Nat.le_of_not_lt (fun z => q ((nI_ltI hb ha).mpr z))))
theorem cv_icmp_gtT (X : gOK l cc nL R C T N ci len h ad ret Post G) {a b : Nat} {off : Int} (tgt : Nat) (ha : a < 2 ^ 31) (hb : b < 2 ^ 31) (hd : decode cc pc = .ok (.if_icmp .gt off, 3)) (ht : (pc : Int) + off = (tgt : Int)) (z : b < a) (kt : G S tgt lv st) : G S pc lv (.int (nI b) :: .int (nI a) :: st) := cv_icmp_gtN X tgt ha hb hd ht (fun _ => kt) (fun q => absurd z (Nat.not_lt.mpr q))
theorem cv_icmp_gtF (X : gOK l cc nL R C T N ci len h ad ret Post G) {a b : Nat} {off : Int} (tgt : Nat) (ha : a < 2 ^ 31) (hb : b < 2 ^ 31) (hd : decode cc pc = .ok (.if_icmp .gt off, 3)) (ht : (pc : Int) + off = (tgt : Int)) (z : a ≤ b) (kf : G S (pc + 3) lv st) : G S pc lv (.int (nI b) :: .int (nI a) :: st) := cv_icmp_gtN X tgt ha hb hd ht (fun q => absurd q (Nat.not_lt.mpr z)) (fun _ => kf)
theorem cv_if_le (X : gOK l cc nL R C T N ci len h ad ret Post G) {x : Int32} {off : Int} (tgt : Nat) (hd : decode cc pc = .ok (.ifCond .le off, 3)) (ht : (pc : Int) + off = (tgt : Int)) (kt : x ≤ 0 → G S tgt lv st) (kf : ¬ x ≤ 0 → G S (pc + 3) lv st) : G S pc lv (.int x :: st) := by
  obtain ⟨p, e, s, m, args, below, meth, c, kc, n0, Q, D, d, A, rfl, hx, hb, -⟩ := X
  intro H locs ls hP hD hS hl
  exact lv_if_le hx hb hd ht (fun q => kt q H locs ls hP hD hS hl) (fun q => kf q H locs ls hP hD hS hl)
theorem cv_icmp_le (X : gOK l cc nL R C T N ci len h ad ret Post G) {x y : Int32} {off : Int} (tgt : Nat) (hd : decode cc pc = .ok (.if_icmp .le off, 3)) (ht : (pc : Int) + off = (tgt : Int)) (kt : x ≤ y → G S tgt lv st) (kf : ¬ x ≤ y → G S (pc + 3) lv st) : G S pc lv (.int y :: .int x :: st) := by
  obtain ⟨p, e, s, m, args, below, meth, c, kc, n0, Q, D, d, A, rfl, hx, hb, -⟩ := X
  intro H locs ls hP hD hS hl
  exact lv_icmp_le hx hb hd ht (fun q => kt q H locs ls hP hD hS hl) (fun q => kf q H locs ls hP hD hS hl)
theorem cv_icmp_leN (X : gOK l cc nL R C T N ci len h ad ret Post G) {a b : Nat} {off : Int} (tgt : Nat) (ha : a < 2 ^ 31) (hb : b < 2 ^ 31) (hd : decode cc pc = .ok (.if_icmp .le off, 3)) (ht : (pc : Int) + off = (tgt : Int)) (kt : a ≤ b → G S tgt lv st) (kf : b < a → G S (pc + 3) lv st) : G S pc lv (.int (nI b) :: .int (nI a) :: st) := cv_icmp_le X tgt hd ht (fun q => kt ((nI_leI ha hb).mp q)) (fun q => kf (Nat.lt_of_not_le (fun z => q ((nI_leI ha hb).mpr z))))
theorem cv_icmp_leT (X : gOK l cc nL R C T N ci len h ad ret Post G) {a b : Nat} {off : Int} (tgt : Nat) (ha : a < 2 ^ 31) (hb : b < 2 ^ 31) (hd : decode cc pc = .ok (.if_icmp .le off, 3)) (ht : (pc : Int) + off = (tgt : Int)) (z : a ≤ b) (kt : G S tgt lv st) : G S pc lv (.int (nI b) :: .int (nI a) :: st) := cv_icmp_leN X tgt ha hb hd ht (fun _ => kt) (fun q => absurd z (Nat.not_le.mpr q))
theorem cv_icmp_leF (X : gOK l cc nL R C T N ci len h ad ret Post G) {a b : Nat} {off : Int} (tgt : Nat) (ha : a < 2 ^ 31) (hb : b < 2 ^ 31) (hd : decode cc pc = .ok (.if_icmp .le off, 3)) (ht : (pc : Int) + off = (tgt : Int)) (z : b < a) (kf : G S (pc + 3) lv st) : G S pc lv (.int (nI b) :: .int (nI a) :: st) := cv_icmp_leN X tgt ha hb hd ht (fun q => absurd q (Nat.not_le.mpr z)) (fun _ => kf)
theorem cv_if_eq (X : gOK l cc nL R C T N ci len h ad ret Post G) {x : Int32} {off : Int} (tgt : Nat) (hd : decode cc pc = .ok (.ifCond .eq off, 3)) (ht : (pc : Int) + off = (tgt : Int)) (kt : x = 0 → G S tgt lv st) (kf : ¬ x = 0 → G S (pc + 3) lv st) : G S pc lv (.int x :: st) := by
  obtain ⟨p, e, s, m, args, below, meth, c, kc, n0, Q, D, d, A, rfl, hx, hb, -⟩ := X
  intro H locs ls hP hD hS hl
  exact lv_if_eq hx hb hd ht (fun q => kt q H locs ls hP hD hS hl) (fun q => kf q H locs ls hP hD hS hl)
theorem cv_icmp_eq (X : gOK l cc nL R C T N ci len h ad ret Post G) {x y : Int32} {off : Int} (tgt : Nat) (hd : decode cc pc = .ok (.if_icmp .eq off, 3)) (ht : (pc : Int) + off = (tgt : Int)) (kt : x = y → G S tgt lv st) (kf : ¬ x = y → G S (pc + 3) lv st) : G S pc lv (.int y :: .int x :: st) := by
  obtain ⟨p, e, s, m, args, below, meth, c, kc, n0, Q, D, d, A, rfl, hx, hb, -⟩ := X
  intro H locs ls hP hD hS hl
  exact lv_icmp_eq hx hb hd ht (fun q => kt q H locs ls hP hD hS hl) (fun q => kf q H locs ls hP hD hS hl)
theorem cv_icmp_eqN (X : gOK l cc nL R C T N ci len h ad ret Post G) {a b : Nat} {off : Int} (tgt : Nat) (ha : a < 2 ^ 31) (hb : b < 2 ^ 31) (hd : decode cc pc = .ok (.if_icmp .eq off, 3)) (ht : (pc : Int) + off = (tgt : Int)) (kt : a = b → G S tgt lv st) (kf : a ≠ b → G S (pc + 3) lv st) : G S pc lv (.int (nI b) :: .int (nI a) :: st) := cv_icmp_eq X tgt hd ht (fun q => kt ((nI_eq ha hb).mp q)) (fun q => kf (fun z => q ((nI_eq ha hb).mpr z)))
theorem cv_icmp_eqT (X : gOK l cc nL R C T N ci len h ad ret Post G) {a b : Nat} {off : Int} (tgt : Nat) (ha : a < 2 ^ 31) (hb : b < 2 ^ 31) (hd : decode cc pc = .ok (.if_icmp .eq off, 3)) (ht : (pc : Int) + off = (tgt : Int)) (z : a = b) (kt : G S tgt lv st) : G S pc lv (.int (nI b) :: .int (nI a) :: st) := cv_icmp_eqN X tgt ha hb hd ht (fun _ => kt) (fun q => absurd z q)
theorem cv_icmp_eqF (X : gOK l cc nL R C T N ci len h ad ret Post G) {a b : Nat} {off : Int} (tgt : Nat) (ha : a < 2 ^ 31) (hb : b < 2 ^ 31) (hd : decode cc pc = .ok (.if_icmp .eq off, 3)) (ht : (pc : Int) + off = (tgt : Int)) (z : a ≠ b) (kf : G S (pc + 3) lv st) : G S pc lv (.int (nI b) :: .int (nI a) :: st) := cv_icmp_eqN X tgt ha hb hd ht (fun q => absurd q z) (fun _ => kf)
theorem cv_if_ne (X : gOK l cc nL R C T N ci len h ad ret Post G) {x : Int32} {off : Int} (tgt : Nat) (hd : decode cc pc = .ok (.ifCond .ne off, 3)) (ht : (pc : Int) + off = (tgt : Int)) (kt : ¬ x = 0 → G S tgt lv st) (kf : x = 0 → G S (pc + 3) lv st) : G S pc lv (.int x :: st) := by
  obtain ⟨p, e, s, m, args, below, meth, c, kc, n0, Q, D, d, A, rfl, hx, hb, -⟩ := X
  intro H locs ls hP hD hS hl
  exact lv_if_ne hx hb hd ht (fun q => kt q H locs ls hP hD hS hl) (fun q => kf q H locs ls hP hD hS hl)
theorem cv_icmp_ne (X : gOK l cc nL R C T N ci len h ad ret Post G) {x y : Int32} {off : Int} (tgt : Nat) (hd : decode cc pc = .ok (.if_icmp .ne off, 3)) (ht : (pc : Int) + off = (tgt : Int)) (kt : ¬ x = y → G S tgt lv st) (kf : x = y → G S (pc + 3) lv st) : G S pc lv (.int y :: .int x :: st) := by
  obtain ⟨p, e, s, m, args, below, meth, c, kc, n0, Q, D, d, A, rfl, hx, hb, -⟩ := X
  intro H locs ls hP hD hS hl
  exact lv_icmp_ne hx hb hd ht (fun q => kt q H locs ls hP hD hS hl) (fun q => kf q H locs ls hP hD hS hl)
theorem cv_icmp_neN (X : gOK l cc nL R C T N ci len h ad ret Post G) {a b : Nat} {off : Int} (tgt : Nat) (ha : a < 2 ^ 31) (hb : b < 2 ^ 31) (hd : decode cc pc = .ok (.if_icmp .ne off, 3)) (ht : (pc : Int) + off = (tgt : Int)) (kt : a ≠ b → G S tgt lv st) (kf : a = b → G S (pc + 3) lv st) : G S pc lv (.int (nI b) :: .int (nI a) :: st) := cv_icmp_ne X tgt hd ht (fun q => kt (fun z => q ((nI_eq ha hb).mpr z))) (fun q => kf ((nI_eq ha hb).mp q))
theorem cv_icmp_neT (X : gOK l cc nL R C T N ci len h ad ret Post G) {a b : Nat} {off : Int} (tgt : Nat) (ha : a < 2 ^ 31) (hb : b < 2 ^ 31) (hd : decode cc pc = .ok (.if_icmp .ne off, 3)) (ht : (pc : Int) + off = (tgt : Int)) (z : a ≠ b) (kt : G S tgt lv st) : G S pc lv (.int (nI b) :: .int (nI a) :: st) := cv_icmp_neN X tgt ha hb hd ht (fun _ => kt) (fun q => absurd q z)
theorem cv_icmp_neF (X : gOK l cc nL R C T N ci len h ad ret Post G) {a b : Nat} {off : Int} (tgt : Nat) (ha : a < 2 ^ 31) (hb : b < 2 ^ 31) (hd : decode cc pc = .ok (.if_icmp .ne off, 3)) (ht : (pc : Int) + off = (tgt : Int)) (z : a = b) (kf : G S (pc + 3) lv st) : G S pc lv (.int (nI b) :: .int (nI a) :: st) := cv_icmp_neN X tgt ha hb hd ht (fun q => absurd z q) (fun _ => kf)
theorem cv_getA (X : gOK l cc nL R C T N ci len h ad ret Post G) (k0 : Nat) {idx : Nat} {f : Nat → Int32} (hlink : Cond.fieldLink C idx C (T k0).2.1 (T k0).2.2.1 ∈ lw_all) (hk : k0 < N) (hT : (T k0).1 = C) (hf : S[k0]? = some (.inr f)) (hd : decode cc pc = .ok (.getfield idx, 3)) (k : G S (pc + 3) lv (.ref (ad k0) :: st)) : G S pc lv (.ref h :: st) := by
  obtain ⟨p, e, s, m, args, below, meth, c, kc, n0, Q, D, d, A, rfl, hx, hb, hml, hown, hts, hK, hA, hkn, hC, hin, hty, hnm, hlen, hret, hretv⟩ := X
  intro H locs ls hP hD hS hl
  have hv := gfs_A (ad := ad) (j := 0) hf
  rw [Nat.zero_add] at hv
  exact va_get (D := D) (ci := ci) (C := C) (T := T) (N := N) hx hb hts hin hown hK hP 0 rfl hC k0 hk (hts _ hlink) (fun x hx => by rw [← hT]; exact hx) hv hd (k H locs ls hP hD hS hl)
theorem cv_getI (X : gOK l cc nL R C T N ci len h ad ret Post G) (k0 : Nat) {idx : Nat} {v : Int32} (hlink : Cond.fieldLink C idx C (T k0).2.1 (T k0).2.2.1 ∈ lw_all) (hk : k0 < N) (hT : (T k0).1 = C) (hf : S[k0]? = some (.inl v)) (hd : decode cc pc = .ok (.getfield idx, 3)) (k : G S (pc + 3) lv (.int v :: st)) : G S pc lv (.ref h :: st) := by
  obtain ⟨p, e, s, m, args, below, meth, c, kc, n0, Q, D, d, A, rfl, hx, hb, hml, hown, hts, hK, hA, hkn, hC, hin, hty, hnm, hlen, hret, hretv⟩ := X
  intro H locs ls hP hD hS hl
  exact va_get (D := D) (ci := ci) (C := C) (T := T) (N := N) hx hb hts hin hown hK hP 0 rfl hC k0 hk (hts _ hlink) (fun x hx => by rw [← hT]; exact hx) (gfs_I hf) hd (k H locs ls hP hD hS hl)
theorem cv_putI (X : gOK l cc nL R C T N ci len h ad ret Post G) (k0 : Nat) {idx : Nat} {v v0 : Int32} {S' : gS} (hlink : Cond.fieldLink C idx C (T k0).2.1 (T k0).2.2.1 ∈ lw_all) (hk : k0 < N) (hT : (T k0).1 = C) (hfin : (T k0).2.2.2 = false) (hpd : parseFieldDescriptor (T k0).2.2.1 = some .int) (hf : S[k0]? = some (.inl v0)) (hS' : S.set k0 (.inl v) = S') (hd : decode cc pc = .ok (.putfield idx, 3)) (k : G S' (pc + 3) lv st) : G S pc lv (.int v :: .ref h :: st) := by
  obtain ⟨p, e, s, m, args, below, meth, c, kc, n0, Q, D, d, A, rfl, hx, hb, hml, hown, hts, hK, hA, hkn, hC, hin, hty, hnm, hlen, hret, hretv⟩ := X
  intro H locs ls hP hD hS hl
  obtain ⟨ty0, hty⟩ := hty
  subst hS'
  have hlt : k0 < (gfs ad 0 S).length := by rw [gfs_len]; exact (List.getElem?_eq_some_iff.mp hf).1
  refine va_put (D := D) (ci := ci) (v := .int v) (ty := .int) (C := C) (T := T) (N := N) hx hb hts hin ty0 hty hnm hown hK hP hD hS 0 rfl hC k0 hk (hts _ hlink) (fun x hx => by rw [← hT]; exact hx) hfin hpd rfl rfl hlt hd (fun H1 locs1 hP1 hD1 hS1 => ?_)
  rw [gw_setI hf] at hP1 hD1
  exact k H1 locs1 ls hP1 hD1 hS1 hl
theorem cv_iald (X : gOK l cc nL R C T N ci len h ad ret Post G) {k0 n : Nat} (L : Nat) {f : Nat → Int32} (hf : S[k0]? = some (.inr f)) (hL : len k0 = L) (hn : n < L) (hd : decode cc pc = .ok (.iaload, 1)) (k : G S (pc + 1) lv (.int (f n) :: st)) : G S pc lv (.int (nI n) :: .ref (ad k0) :: st) := by
  obtain ⟨p, e, s, m, args, below, meth, c, kc, n0, Q, D, d, A, rfl, hx, hb, hml, hown, hts, hK, hA, hkn, hC, hin, hty, hnm, hlen, hret, hretv⟩ := X
  intro H locs ls hP hD hS hl
  obtain ⟨q0, hq, -⟩ := gw_A (ci := ci) (h := h) (ad := ad) (d := d) (len := len) hf
  have h31 := hlen k0
  refine va_iald (i := nI n) hx hb hK hP q0 0 hq rfl (vp_in_nI (by omega) h31) hd ?_
  rw [nI_clamp (by omega)]
  exact k H locs ls hP hD hS hl
theorem cv_iast (X : gOK l cc nL R C T N ci len h ad ret Post G) {k0 n : Nat} (L : Nat) {f : Nat → Int32} {x : Int32} {S' : gS} (hf : S[k0]? = some (.inr f)) (hL : len k0 = L) (hn : n < L) (hS' : S.set k0 (.inr (upd f n x)) = S') (hd : decode cc pc = .ok (.iastore, 1)) (k : G S' (pc + 1) lv st) : G S pc lv (.int x :: .int (nI n) :: .ref (ad k0) :: st) := by
  obtain ⟨p, e, s, m, args, below, meth, c, kc, n0, Q, D, d, A, rfl, hx, hb, hml, hown, hts, hK, hA, hkn, hC, hin, hty, hnm, hlen, hret, hretv⟩ := X
  intro H locs ls hP hD hS hl
  obtain ⟨q0, hq, hset⟩ := gw_A (ci := ci) (h := h) (ad := ad) (d := d) (len := len) hf
  have h31 := hlen k0
  subst hS'
  refine va_iast (i := nI n) hx hb hK hP hD hS q0 0 hq rfl (vp_in_nI (by omega) h31) hd (fun H1 locs1 hP1 hD1 hS1 => ?_)
  rw [nI_clamp (by omega), hset] at hP1 hD1
  exact k H1 locs1 ls hP1 hD1 hS1 hl
theorem cv_take (X : gOK l cc nL R C T N ci len h ad ret Post G) (n : Nat) (k : G S pc (lv.take n) st) : G S pc lv st := by
  obtain ⟨p, e, s, m, args, below, meth, c, kc, n0, Q, D, d, A, rfl, hx, hb, -⟩ := X
  intro H locs ls hP hD hS hl
  exact k H locs ls hP hD hS (hl.take n)
theorem cv_eq {S' : gS} (hS : S = S') (k : G S' pc lv st) : G S pc lv st := by
  rw [hS]; exact k
theorem cv_eql {S' : gS} {lv' : List Value} (hS : S = S') (hl : lv = lv') (k : G S' pc lv' st) : G S pc lv st := by
  rw [hS, hl]; exact k
theorem cv_eqs {st' : List Value} (hs : st = st') (k : G S pc lv st') : G S pc lv st := by
  rw [hs]; exact k
theorem cv_ireturn (X : gOK l cc nL R C T N ci len h ad (some .int) Post G) {v : Int32} (hd : decode cc pc = .ok (.ireturn, 1)) (hp : Post (some v) S) : G S pc lv [.int v] := by
  obtain ⟨p, e, s, m, args, below, meth, c, kc, n0, Q, D, d, A, rfl, hx, hb, hml, hown, hts, hK, hA, hkn, hC, hin, hty, hnm, hlen, hret, hretv⟩ := X
  intro H locs ls hP hD hS hl
  exact hret S pc v H locs ls rfl hp hP hD hS hd
theorem cv_return (X : gOK l cc nL R C T N ci len h ad none Post G) (hd : decode cc pc = .ok (.return_, 1)) (hp : Post none S) : G S pc lv [] := by
  obtain ⟨p, e, s, m, args, below, meth, c, kc, n0, Q, D, d, A, rfl, hx, hb, hml, hown, hts, hK, hA, hkn, hC, hin, hty, hnm, hlen, hret, hretv⟩ := X
  intro H locs ls hP hD hS hl
  exact hretv S pc H locs ls rfl hp hP hD hS hd
end GROWS
/-! contracts: any object of this state: the method returns, answers v, and leaves the state S' -/
def DX (l : Launch) (y : MethodName) (cc : ByteArray) (nL : Nat) (rm : Room) (ci : Nat) (len : Nat → Nat) (as : List Value) (S : gS) (v : Int32) (S' : gS) : Prop :=
  ∀ (D : va_G) (d : ClassId) (h : Nat) (ad : Nat → Nat) (sz : Nat), Met l y (ws_ y cc nL (some .int)) rm (va_Pc (.ref h :: as) (fun U => U.heap.size = sz ∧ va_P D vwCl (gw ci h ad d len S) U.heap ∧ va_K D vwCl [(d, .int)] U ∧ va_D (fun _ => True) (gw ci h ad d len S)))
    (va_Qi (fun (r : Int32) (u : gS) => r = v ∧ u = S') (fun u t => va_P D vwCl (gw ci h ad d len u) t.heap ∧ va_K D vwCl [(d, .int)] t ∧ va_D (va_A (gw ci h ad d len S) sz) (gw ci h ad d len u)) (va_A (gw ci h ad d len S) sz)) 0 0 (va_A (gw ci h ad d len S) sz)
def DXv (l : Launch) (y : MethodName) (cc : ByteArray) (nL : Nat) (rm : Room) (ci : Nat) (len : Nat → Nat) (as : List Value) (S : gS) (S' : gS) : Prop :=
  ∀ (D : va_G) (d : ClassId) (h : Nat) (ad : Nat → Nat) (sz : Nat), Met l y (ws_ y cc nL none) rm (va_Pc (.ref h :: as) (fun U => U.heap.size = sz ∧ va_P D vwCl (gw ci h ad d len S) U.heap ∧ va_K D vwCl [(d, .int)] U ∧ va_D (fun _ => True) (gw ci h ad d len S)))
    (va_Qv (fun (u : gS) => u = S') (fun u t => va_P D vwCl (gw ci h ad d len u) t.heap ∧ va_K D vwCl [(d, .int)] t ∧ va_D (va_A (gw ci h ad d len S) sz) (gw ci h ad d len u)) (va_A (gw ci h ad d len S) sz)) 0 0 (va_A (gw ci h ad d len S) sz)
/-- what is known of one of the two classes -/
def gCl (C : String) (T : u_T) (N ci : Nat) (len : Nat → Nat) : Prop := vwCl[ci]? = some (C, T, N) ∧ (∀ w ∈ u_ws C T N, w ∈ lw_all) ∧ (∃ ty0 : Nat → FieldType, ∀ k, k < N → parseFieldDescriptor (T k).2.2.1 = some (ty0 k)) ∧ (∀ a, a < N → ∀ b, b < N → a ≠ b → (T a).2.1 ≠ (T b).2.1) ∧ (∀ k, len k < 2 ^ 31)
theorem dx_of {l : Launch} {y : MethodName} {cc : ByteArray} {nL : Nat} {rm : Room} {C : String} {T : u_T} {N ci : Nat} {len : Nat → Nat} {as : List Value} {S S' : gS} {v : Int32} (hc : gCl C T N ci len) (hy : y.cls = C) (hpl : plainName y.cls = true) (has : ∀ x ∈ as, x.category = 1) (hlen1 : as.length + 1 ≤ nL)
    (body : ∀ (h : Nat) (ad : Nat → Nat) (G : gS → Nat → List Value → List Value → Prop), gOK l cc nL rm C T N ci len h ad (some .int) (fun r u => r = some v ∧ u = S') G → G S 0 (.ref h :: as) []) : DX l y cc nL rm ci len as S v S' := by
  intro D d h ad sz
  obtain ⟨hC, hin, hty, hnm, hlen⟩ := hc
  refine Met.ofW (cc := cc) (maxL := nL) (ret := some .int) hpl rfl ?_
  intro p e s m args below meth c s₁ B hml hv
  obtain ⟨rfl, hsz, hP, hK, hD0⟩ := hv
  have hx := B.exec
  have hb := B.bytes
  have hr := B.returns
  have hts := atoms_spec (ws := ws_ y cc nL (some .int)) B.pre
  have hts : ∀ w ∈ lw_all, w.before _ s = true := fun w hw => hts w (List.mem_cons_of_mem _ hw)
  have hown : s.vm.findClass C = some m.cls := by rw [← hy]; exact findClass_of_methodNamed B.named
  have hlocks := B.notSynchronized
  subst hsz
  have hD := hD0.self (sz := s.heap.size)
  have hcat : ∀ x ∈ (Value.ref h :: as), x.category = 1 := fun x hx => by
    rcases List.mem_cons.mp hx with e | e
    · rw [e]; rfl
    · exact has x e
  have hl := lv_entry (Value.ref h :: as) (n := nL) (by rw [gsl_len hcat, List.length_cons]; exact hlen1)
  rw [gz_args hcat] at hl
  rw [lg_entry_eq]
  refine body h ad _ ⟨p, e, s, m, _, below, meth, c, 0, 0, _, D, d, _, rfl, hx, hb, hml, hown, hts, hK, fun q hq => Or.inr hq, ⟨Nat.zero_le _, Nat.zero_le _⟩, hC, hin, hty, hnm, hlen, ?_, ?_⟩ s.heap [] _ hP hD va_S.rf ⟨hl, hcat⟩
  · intro S1 pc v1 H locs ls _ hpost hP hD hS hd
    obtain ⟨e1, e2⟩ := hpost
    exact W.iret (v := v1) hx hb hr (fun t ht hW => ⟨⟨v1, S1, rfl, ⟨Option.some.inj e1, e2⟩, by rw [ht]; exact hP, va_K.moved hW.alike hK, hD⟩, hS.F ht⟩) hS.2.2 hd
  · intro S1 pc H locs ls h0
    cases h0
theorem dxv_of {l : Launch} {y : MethodName} {cc : ByteArray} {nL : Nat} {rm : Room} {C : String} {T : u_T} {N ci : Nat} {len : Nat → Nat} {as : List Value} {S S' : gS} (hc : gCl C T N ci len) (hy : y.cls = C) (hpl : plainName y.cls = true) (has : ∀ x ∈ as, x.category = 1) (hlen1 : as.length + 1 ≤ nL)
    (body : ∀ (h : Nat) (ad : Nat → Nat) (G : gS → Nat → List Value → List Value → Prop), gOK l cc nL rm C T N ci len h ad (none) (fun r u => r = none ∧ u = S') G → G S 0 (.ref h :: as) []) : DXv l y cc nL rm ci len as S S' := by
  intro D d h ad sz
  obtain ⟨hC, hin, hty, hnm, hlen⟩ := hc
  refine Met.ofW (cc := cc) (maxL := nL) (ret := none) hpl rfl ?_
  intro p e s m args below meth c s₁ B hml hv
  obtain ⟨rfl, hsz, hP, hK, hD0⟩ := hv
  have hx := B.exec
  have hb := B.bytes
  have hr := B.returns
  have hts := atoms_spec (ws := ws_ y cc nL (none)) B.pre
  have hts : ∀ w ∈ lw_all, w.before _ s = true := fun w hw => hts w (List.mem_cons_of_mem _ hw)
  have hown : s.vm.findClass C = some m.cls := by rw [← hy]; exact findClass_of_methodNamed B.named
  have hlocks := B.notSynchronized
  subst hsz
  have hD := hD0.self (sz := s.heap.size)
  have hcat : ∀ x ∈ (Value.ref h :: as), x.category = 1 := fun x hx => by
    rcases List.mem_cons.mp hx with e | e
    · rw [e]; rfl
    · exact has x e
  have hl := lv_entry (Value.ref h :: as) (n := nL) (by rw [gsl_len hcat, List.length_cons]; exact hlen1)
  rw [gz_args hcat] at hl
  rw [lg_entry_eq]
  refine body h ad _ ⟨p, e, s, m, _, below, meth, c, 0, 0, _, D, d, _, rfl, hx, hb, hml, hown, hts, hK, fun q hq => Or.inr hq, ⟨Nat.zero_le _, Nat.zero_le _⟩, hC, hin, hty, hnm, hlen, ?_, ?_⟩ s.heap [] _ hP hD va_S.rf ⟨hl, hcat⟩
  · intro S1 pc v1 H locs ls h0
    cases h0
  · intro S1 pc H locs ls _ hpost hP hD hS hd
    obtain ⟨e1, e2⟩ := hpost
    exact W.vret hx hb hr (fun t ht hW => ⟨⟨S1, rfl, e2, by rw [ht]; exact hP, va_K.moved hW.alike hK, hD⟩, hS.F ht⟩) hS.2.2 hd
theorem cv_calli {l : Launch} {cc : ByteArray} {nL : Nat} {R : Room} {C : String} {T : u_T} {N ci : Nat} {len : Nat → Nat} {h : Nat} {ad : Nat → Nat} {ret : Option FieldType} {Post : Option Int32 → gS → Prop} {G : gS → Nat → List Value → List Value → Prop} {S : gS} {pc : Nat} {lv st st0 : List Value} (X : gOK l cc nL R C T N ci len h ad ret Post G)
    {y : MethodName} {cy : ByteArray} {nLy : Nat} {rm : Room} {as : List Value} {v : Int32} {S' : gS} {idx : Nat} (hM : DX l y cy nLy rm ci len as S v S') (hw : GoodIn lw_all (wsV C idx C y (ws_ y cy nLy (some .int)))) (n : Nat) (hy : y.cls = C ∧ y.cls ≠ "java/lang/invoke/MethodHandle" ∧ y.cls ≠ "java/lang/invoke/VarHandle" ∧ (parseMethodDescriptor y.desc).map (fun d => d.parameters.length) = some n) (hn : as.length = n) (hrm : rm.cells = 0 ∧ rm.slots = 0) (hR : rm.frames + 1 ≤ R.frames ∧ 8 + (nLy + 11) + rm.locals ≤ R.locals) (hst : st0 = as.reverse ++ .ref h :: st) (hst8 : (st.map fun v => v.category).sum ≤ 8) (hdg : decode cc pc = .ok (.invokevirtual idx, 3)) (k : G S' (pc + 3) lv (.int v :: st)) : G S pc lv st0 := by
  obtain ⟨p, e, s, m, args, below, meth, c, kc, n0, Q, D, d, A, rfl, hx, hb, hml, hown, hts, hK, hA, hkn, hC, hin, hty, hnm, hlen, hret, hretv⟩ := X
  intro H locs ls hP hD hS hl
  have hF : ∀ q, va_A (gw ci h ad d len S) H.size q → A q := fun q hq => hq.elim (fun ⟨k, e, h1⟩ => hD.2 k (q, e) h1) (fun h1 => hA q (Nat.le_trans hS.1 h1))
  refine va_calli (va_runV (As := as) (rest := st) ⟨hx, hb, hml, hown, hts⟩ (hM D d h ad H.size) (cwV n hts hw rfl hrm.1 hrm.2 hy hR) ⟨fun a U g mk q => by obtain ⟨q0, q1, qP, qK, qD⟩ := q; exact ⟨q0, q1, qP, va_K.moved (u := U) (U := U.calling g mk a) (Vm.Alike.refl U.vm) qK, qD⟩, va_recv hK hP (ci := ci) (q0 := 0) hC rfl, fun U hU hW => ⟨rfl, by rw [hU], by rw [hU]; exact hP, va_K.moved hW.alike hK, hD.weaken (fun _ _ _ _ => trivial)⟩⟩ rfl hn hl.1.1 hst (lv_room hst8) hdg ⟨hkn.1, hkn.2⟩) hS (fun q _ h1 => hF q h1) hF (fun r u t H1 locs1 ht hvm hw1 hB hz1 hk1 hS1 => ?_)
  obtain ⟨rfl, rfl⟩ := hw1
  obtain ⟨hP1, hK1, hD1⟩ := hB
  rw [ht] at hP1
  exact k H1 locs1 ls hP1 (hD1.weaken (fun _ _ _ h1 => hF _ h1)) hS1 hl
theorem cv_callv {l : Launch} {cc : ByteArray} {nL : Nat} {R : Room} {C : String} {T : u_T} {N ci : Nat} {len : Nat → Nat} {h : Nat} {ad : Nat → Nat} {ret : Option FieldType} {Post : Option Int32 → gS → Prop} {G : gS → Nat → List Value → List Value → Prop} {S : gS} {pc : Nat} {lv st st0 : List Value} (X : gOK l cc nL R C T N ci len h ad ret Post G)
    {y : MethodName} {cy : ByteArray} {nLy : Nat} {rm : Room} {as : List Value} {S' : gS} {idx : Nat} (hM : DXv l y cy nLy rm ci len as S S') (hw : GoodIn lw_all (wsV C idx C y (ws_ y cy nLy (none)))) (n : Nat) (hy : y.cls = C ∧ y.cls ≠ "java/lang/invoke/MethodHandle" ∧ y.cls ≠ "java/lang/invoke/VarHandle" ∧ (parseMethodDescriptor y.desc).map (fun d => d.parameters.length) = some n) (hn : as.length = n) (hrm : rm.cells = 0 ∧ rm.slots = 0) (hR : rm.frames + 1 ≤ R.frames ∧ 8 + (nLy + 11) + rm.locals ≤ R.locals) (hst : st0 = as.reverse ++ .ref h :: st) (hst8 : (st.map fun v => v.category).sum ≤ 8) (hdg : decode cc pc = .ok (.invokevirtual idx, 3)) (k : G S' (pc + 3) lv st) : G S pc lv st0 := by
  obtain ⟨p, e, s, m, args, below, meth, c, kc, n0, Q, D, d, A, rfl, hx, hb, hml, hown, hts, hK, hA, hkn, hC, hin, hty, hnm, hlen, hret, hretv⟩ := X
  intro H locs ls hP hD hS hl
  have hF : ∀ q, va_A (gw ci h ad d len S) H.size q → A q := fun q hq => hq.elim (fun ⟨k, e, h1⟩ => hD.2 k (q, e) h1) (fun h1 => hA q (Nat.le_trans hS.1 h1))
  refine va_callv (va_runV (As := as) (rest := st) ⟨hx, hb, hml, hown, hts⟩ (hM D d h ad H.size) (cwV n hts hw rfl hrm.1 hrm.2 hy hR) ⟨fun a U g mk q => by obtain ⟨q0, q1, qP, qK, qD⟩ := q; exact ⟨q0, q1, qP, va_K.moved (u := U) (U := U.calling g mk a) (Vm.Alike.refl U.vm) qK, qD⟩, va_recv hK hP (ci := ci) (q0 := 0) hC rfl, fun U hU hW => ⟨rfl, by rw [hU], by rw [hU]; exact hP, va_K.moved hW.alike hK, hD.weaken (fun _ _ _ _ => trivial)⟩⟩ rfl hn hl.1.1 hst (lv_room hst8) hdg ⟨hkn.1, hkn.2⟩) hS (fun q _ h1 => hF q h1) hF (fun u t H1 locs1 ht hvm hw1 hB hz1 hk1 hS1 => ?_)
  cases hw1
  obtain ⟨hP1, hK1, hD1⟩ := hB
  rw [ht] at hP1
  exact k H1 locs1 ls hP1 (hD1.weaken (fun _ _ _ h1 => hF _ h1)) hS1 hl
theorem up_loop {P : Nat → Prop} {N : Nat} (hx : P N) (hs : ∀ i, i < N → P (i + 1) → P i) : ∀ i, i ≤ N → P i := by
  have key : ∀ k i, i + k = N → P i := by
    intro k
    induction k with
    | zero => intro i h; have : i = N := by omega
              rw [this]; exact hx
    | succ k ih => intro i h; exact hs i (by omega) (ih (i + 1) (by omega))
  intro i h
  exact key (N - i) i (by omega)
theorem up_loop0 {P : Nat → Prop} (N : Nat) (hx : P N) (hs : ∀ i, i < N → P (i + 1) → P i) : P 0 := up_loop hx hs 0 (Nat.zero_le _)
/-- a loop's value: the body done n times -/
def it {α : Type} (f : Nat → α → α) (a : α) : Nat → α
  | 0 => a
  | n + 1 => f n (it f a n)
/-- how long the arrays are, by field -/
def len0 : Nat → Nat := fun k => [128, 18, 0, 0, 0, 0, 64, 16, 16, 16, 16, 256, 256, 256, 16, 16, 16, 1152].getD k 0
def len1 : Nat → Nat := fun k => [128, 18, 0, 0, 64, 0].getD k 0
theorem cv_len (l : List Nat) (h : ∀ x ∈ l, x < 2 ^ 31) (k : Nat) : l.getD k 0 < 2 ^ 31 := by
  rw [List.getD_eq_getElem?_getD]
  cases hk : l[k]? with
  | none => decide
  | some x => exact h x (List.mem_of_getElem? hk)
theorem cl0 : gCl RX0 TX0 18 0 len0 := ⟨rfl, in_X0, ⟨tyX0, tyX0_ok⟩, nmX0, cv_len _ (by decide)⟩
theorem cl1 : gCl RX1 TX1 6 1 len1 := ⟨rfl, in_X1, ⟨tyX1, tyX1_ok⟩, nmX1, cv_len _ (by decide)⟩
/-- the two objects' states -/
abbrev xs (pi ke : Nat → Int32) (st mg ch wd : Nat) (ou pc hf sh pr pl ot tt li ro ba wi : Nat → Int32) : gS := [.inr pi, .inr ke, .inl (nI st), .inl (nI mg), .inl (nI ch), .inl (nI wd), .inr ou, .inr pc, .inr hf, .inr sh, .inr pr, .inr pl, .inr ot, .inr tt, .inr li, .inr ro, .inr ba, .inr wi]
abbrev ms (pi ke : Nat → Int32) (st mg : Nat) (re : Nat → Int32) (wd : Nat) : gS := [.inr pi, .inr ke, .inl (nI st), .inl (nI mg), .inr re, .inl (nI wd)]
end
section
set_option maxRecDepth 100000
theorem dJ0_init_0 : decode cJ0_init 0 = .ok (.return_, 1) := by decide +kernel
theorem dX0_init_0 : decode cX0_init 0 = .ok (.aload_n 0, 1) := by decide +kernel
theorem dX0_init_1 : decode cX0_init 1 = .ok (.invokespecial 1, 3) := by decide +kernel
theorem dX0_init_4 : decode cX0_init 4 = .ok (.aload_n 0, 1) := by decide +kernel
theorem dX0_init_5 : decode cX0_init 5 = .ok (.sipush 128, 3) := by decide +kernel
theorem dX0_init_8 : decode cX0_init 8 = .ok (.newarray .int, 2) := by decide +kernel
theorem dX0_init_10 : decode cX0_init 10 = .ok (.putfield 7, 3) := by decide +kernel
theorem dX0_init_13 : decode cX0_init 13 = .ok (.aload_n 0, 1) := by decide +kernel
theorem dX0_init_14 : decode cX0_init 14 = .ok (.bipush 18, 2) := by decide +kernel
theorem dX0_init_16 : decode cX0_init 16 = .ok (.newarray .int, 2) := by decide +kernel
theorem dX0_init_18 : decode cX0_init 18 = .ok (.putfield 13, 3) := by decide +kernel
theorem dX0_init_21 : decode cX0_init 21 = .ok (.aload_n 0, 1) := by decide +kernel
theorem dX0_init_22 : decode cX0_init 22 = .ok (.bipush 64, 2) := by decide +kernel
theorem dX0_init_24 : decode cX0_init 24 = .ok (.newarray .int, 2) := by decide +kernel
theorem dX0_init_26 : decode cX0_init 26 = .ok (.putfield 16, 3) := by decide +kernel
theorem dX0_init_29 : decode cX0_init 29 = .ok (.aload_n 0, 1) := by decide +kernel
theorem dX0_init_30 : decode cX0_init 30 = .ok (.bipush 16, 2) := by decide +kernel
theorem dX0_init_32 : decode cX0_init 32 = .ok (.newarray .int, 2) := by decide +kernel
theorem dX0_init_34 : decode cX0_init 34 = .ok (.putfield 19, 3) := by decide +kernel
theorem dX0_init_37 : decode cX0_init 37 = .ok (.aload_n 0, 1) := by decide +kernel
theorem dX0_init_38 : decode cX0_init 38 = .ok (.bipush 16, 2) := by decide +kernel
theorem dX0_init_40 : decode cX0_init 40 = .ok (.newarray .int, 2) := by decide +kernel
theorem dX0_init_42 : decode cX0_init 42 = .ok (.putfield 22, 3) := by decide +kernel
theorem dX0_init_45 : decode cX0_init 45 = .ok (.aload_n 0, 1) := by decide +kernel
theorem dX0_init_46 : decode cX0_init 46 = .ok (.bipush 16, 2) := by decide +kernel
theorem dX0_init_48 : decode cX0_init 48 = .ok (.newarray .int, 2) := by decide +kernel
theorem dX0_init_50 : decode cX0_init 50 = .ok (.putfield 25, 3) := by decide +kernel
theorem dX0_init_53 : decode cX0_init 53 = .ok (.aload_n 0, 1) := by decide +kernel
theorem dX0_init_54 : decode cX0_init 54 = .ok (.bipush 16, 2) := by decide +kernel
theorem dX0_init_56 : decode cX0_init 56 = .ok (.newarray .int, 2) := by decide +kernel
theorem dX0_init_58 : decode cX0_init 58 = .ok (.putfield 28, 3) := by decide +kernel
theorem dX0_init_61 : decode cX0_init 61 = .ok (.aload_n 0, 1) := by decide +kernel
theorem dX0_init_62 : decode cX0_init 62 = .ok (.sipush 256, 3) := by decide +kernel
theorem dX0_init_65 : decode cX0_init 65 = .ok (.newarray .int, 2) := by decide +kernel
theorem dX0_init_67 : decode cX0_init 67 = .ok (.putfield 31, 3) := by decide +kernel
theorem dX0_init_70 : decode cX0_init 70 = .ok (.aload_n 0, 1) := by decide +kernel
theorem dX0_init_71 : decode cX0_init 71 = .ok (.sipush 256, 3) := by decide +kernel
theorem dX0_init_74 : decode cX0_init 74 = .ok (.newarray .int, 2) := by decide +kernel
theorem dX0_init_76 : decode cX0_init 76 = .ok (.putfield 34, 3) := by decide +kernel
theorem dX0_init_79 : decode cX0_init 79 = .ok (.aload_n 0, 1) := by decide +kernel
theorem dX0_init_80 : decode cX0_init 80 = .ok (.sipush 256, 3) := by decide +kernel
theorem dX0_init_83 : decode cX0_init 83 = .ok (.newarray .int, 2) := by decide +kernel
theorem dX0_init_85 : decode cX0_init 85 = .ok (.putfield 37, 3) := by decide +kernel
theorem dX0_init_88 : decode cX0_init 88 = .ok (.aload_n 0, 1) := by decide +kernel
theorem dX0_init_89 : decode cX0_init 89 = .ok (.bipush 16, 2) := by decide +kernel
theorem dX0_init_91 : decode cX0_init 91 = .ok (.newarray .int, 2) := by decide +kernel
theorem dX0_init_93 : decode cX0_init 93 = .ok (.putfield 40, 3) := by decide +kernel
theorem dX0_init_96 : decode cX0_init 96 = .ok (.aload_n 0, 1) := by decide +kernel
theorem dX0_init_97 : decode cX0_init 97 = .ok (.bipush 16, 2) := by decide +kernel
theorem dX0_init_99 : decode cX0_init 99 = .ok (.newarray .int, 2) := by decide +kernel
theorem dX0_init_101 : decode cX0_init 101 = .ok (.putfield 43, 3) := by decide +kernel
theorem dX0_init_104 : decode cX0_init 104 = .ok (.aload_n 0, 1) := by decide +kernel
theorem dX0_init_105 : decode cX0_init 105 = .ok (.bipush 16, 2) := by decide +kernel
theorem dX0_init_107 : decode cX0_init 107 = .ok (.newarray .int, 2) := by decide +kernel
theorem dX0_init_109 : decode cX0_init 109 = .ok (.putfield 46, 3) := by decide +kernel
theorem dX0_init_112 : decode cX0_init 112 = .ok (.aload_n 0, 1) := by decide +kernel
theorem dX0_init_113 : decode cX0_init 113 = .ok (.sipush 1152, 3) := by decide +kernel
theorem dX0_init_116 : decode cX0_init 116 = .ok (.newarray .int, 2) := by decide +kernel
theorem dX0_init_118 : decode cX0_init 118 = .ok (.putfield 49, 3) := by decide +kernel
theorem dX0_init_121 : decode cX0_init 121 = .ok (.aload_n 0, 1) := by decide +kernel
theorem dX0_init_122 : decode cX0_init 122 = .ok (.iconst 1, 1) := by decide +kernel
theorem dX0_init_123 : decode cX0_init 123 = .ok (.putfield 52, 3) := by decide +kernel
theorem dX0_init_126 : decode cX0_init 126 = .ok (.aload_n 0, 1) := by decide +kernel
theorem dX0_init_127 : decode cX0_init 127 = .ok (.iconst 1, 1) := by decide +kernel
theorem dX0_init_128 : decode cX0_init 128 = .ok (.putfield 56, 3) := by decide +kernel
theorem dX0_init_131 : decode cX0_init 131 = .ok (.aload_n 0, 1) := by decide +kernel
theorem dX0_init_132 : decode cX0_init 132 = .ok (.bipush 17, 2) := by decide +kernel
theorem dX0_init_134 : decode cX0_init 134 = .ok (.sipush 480, 3) := by decide +kernel
theorem dX0_init_137 : decode cX0_init 137 = .ok (.invokevirtual 59, 3) := by decide +kernel
theorem dX0_init_140 : decode cX0_init 140 = .ok (.istore_n 1, 1) := by decide +kernel
theorem dX0_init_141 : decode cX0_init 141 = .ok (.aload_n 0, 1) := by decide +kernel
theorem dX0_init_142 : decode cX0_init 142 = .ok (.iload_n 1, 1) := by decide +kernel
theorem dX0_init_143 : decode cX0_init 143 = .ok (.sipush 7679, 3) := by decide +kernel
theorem dX0_init_146 : decode cX0_init 146 = .ok (.invokevirtual 59, 3) := by decide +kernel
theorem dX0_init_149 : decode cX0_init 149 = .ok (.istore_n 2, 1) := by decide +kernel
theorem dX0_init_150 : decode cX0_init 150 = .ok (.aload_n 0, 1) := by decide +kernel
theorem dX0_init_151 : decode cX0_init 151 = .ok (.getfield 43, 3) := by decide +kernel
theorem dX0_init_154 : decode cX0_init 154 = .ok (.iconst 0, 1) := by decide +kernel
theorem dX0_init_155 : decode cX0_init 155 = .ok (.iconst 1, 1) := by decide +kernel
theorem dX0_init_156 : decode cX0_init 156 = .ok (.iastore, 1) := by decide +kernel
theorem dX0_init_157 : decode cX0_init 157 = .ok (.aload_n 0, 1) := by decide +kernel
theorem dX0_init_158 : decode cX0_init 158 = .ok (.getfield 46, 3) := by decide +kernel
theorem dX0_init_161 : decode cX0_init 161 = .ok (.iconst 0, 1) := by decide +kernel
theorem dX0_init_162 : decode cX0_init 162 = .ok (.iconst 1, 1) := by decide +kernel
theorem dX0_init_163 : decode cX0_init 163 = .ok (.iastore, 1) := by decide +kernel
theorem dX0_init_164 : decode cX0_init 164 = .ok (.iconst 1, 1) := by decide +kernel
theorem dX0_init_165 : decode cX0_init 165 = .ok (.istore_n 3, 1) := by decide +kernel
theorem dX0_init_166 : decode cX0_init 166 = .ok (.iload_n 3, 1) := by decide +kernel
theorem dX0_init_167 : decode cX0_init 167 = .ok (.bipush 16, 2) := by decide +kernel
theorem dX0_init_169 : decode cX0_init 169 = .ok (.if_icmp .ge 49, 3) := by decide +kernel
theorem dX0_init_172 : decode cX0_init 172 = .ok (.aload_n 0, 1) := by decide +kernel
theorem dX0_init_173 : decode cX0_init 173 = .ok (.getfield 43, 3) := by decide +kernel
theorem dX0_init_176 : decode cX0_init 176 = .ok (.iload_n 3, 1) := by decide +kernel
theorem dX0_init_177 : decode cX0_init 177 = .ok (.aload_n 0, 1) := by decide +kernel
theorem dX0_init_178 : decode cX0_init 178 = .ok (.getfield 43, 3) := by decide +kernel
theorem dX0_init_181 : decode cX0_init 181 = .ok (.iload_n 3, 1) := by decide +kernel
theorem dX0_init_182 : decode cX0_init 182 = .ok (.iconst 1, 1) := by decide +kernel
theorem dX0_init_183 : decode cX0_init 183 = .ok (.isub, 1) := by decide +kernel
theorem dX0_init_184 : decode cX0_init 184 = .ok (.iaload, 1) := by decide +kernel
theorem dX0_init_185 : decode cX0_init 185 = .ok (.iload_n 1, 1) := by decide +kernel
theorem dX0_init_186 : decode cX0_init 186 = .ok (.imul, 1) := by decide +kernel
theorem dX0_init_187 : decode cX0_init 187 = .ok (.sipush 7681, 3) := by decide +kernel
theorem dX0_init_190 : decode cX0_init 190 = .ok (.irem, 1) := by decide +kernel
theorem dX0_init_191 : decode cX0_init 191 = .ok (.iastore, 1) := by decide +kernel
theorem dX0_init_192 : decode cX0_init 192 = .ok (.aload_n 0, 1) := by decide +kernel
theorem dX0_init_193 : decode cX0_init 193 = .ok (.getfield 46, 3) := by decide +kernel
theorem dX0_init_196 : decode cX0_init 196 = .ok (.iload_n 3, 1) := by decide +kernel
theorem dX0_init_197 : decode cX0_init 197 = .ok (.aload_n 0, 1) := by decide +kernel
theorem dX0_init_198 : decode cX0_init 198 = .ok (.getfield 46, 3) := by decide +kernel
theorem dX0_init_201 : decode cX0_init 201 = .ok (.iload_n 3, 1) := by decide +kernel
theorem dX0_init_202 : decode cX0_init 202 = .ok (.iconst 1, 1) := by decide +kernel
theorem dX0_init_203 : decode cX0_init 203 = .ok (.isub, 1) := by decide +kernel
theorem dX0_init_204 : decode cX0_init 204 = .ok (.iaload, 1) := by decide +kernel
theorem dX0_init_205 : decode cX0_init 205 = .ok (.iload_n 2, 1) := by decide +kernel
theorem dX0_init_206 : decode cX0_init 206 = .ok (.imul, 1) := by decide +kernel
theorem dX0_init_207 : decode cX0_init 207 = .ok (.sipush 7681, 3) := by decide +kernel
theorem dX0_init_210 : decode cX0_init 210 = .ok (.irem, 1) := by decide +kernel
theorem dX0_init_211 : decode cX0_init 211 = .ok (.iastore, 1) := by decide +kernel
theorem dX0_init_212 : decode cX0_init 212 = .ok (.iinc 3 1, 3) := by decide +kernel
theorem dX0_init_215 : decode cX0_init 215 = .ok (.goto (-49), 3) := by decide +kernel
theorem dX0_init_218 : decode cX0_init 218 = .ok (.return_, 1) := by decide +kernel
theorem dX0_power_0 : decode cX0_power 0 = .ok (.iconst 1, 1) := by decide +kernel
theorem dX0_power_1 : decode cX0_power 1 = .ok (.istore_n 3, 1) := by decide +kernel
theorem dX0_power_2 : decode cX0_power 2 = .ok (.iload_n 1, 1) := by decide +kernel
theorem dX0_power_3 : decode cX0_power 3 = .ok (.istore 4, 2) := by decide +kernel
theorem dX0_power_5 : decode cX0_power 5 = .ok (.iconst 0, 1) := by decide +kernel
theorem dX0_power_6 : decode cX0_power 6 = .ok (.istore 5, 2) := by decide +kernel
theorem dX0_power_8 : decode cX0_power 8 = .ok (.iload 5, 2) := by decide +kernel
theorem dX0_power_10 : decode cX0_power 10 = .ok (.bipush 14, 2) := by decide +kernel
theorem dX0_power_12 : decode cX0_power 12 = .ok (.if_icmp .ge 39, 3) := by decide +kernel
theorem dX0_power_15 : decode cX0_power 15 = .ok (.iload_n 2, 1) := by decide +kernel
theorem dX0_power_16 : decode cX0_power 16 = .ok (.iload 5, 2) := by decide +kernel
theorem dX0_power_18 : decode cX0_power 18 = .ok (.ishr, 1) := by decide +kernel
theorem dX0_power_19 : decode cX0_power 19 = .ok (.iconst 1, 1) := by decide +kernel
theorem dX0_power_20 : decode cX0_power 20 = .ok (.iand, 1) := by decide +kernel
theorem dX0_power_21 : decode cX0_power 21 = .ok (.iconst 1, 1) := by decide +kernel
theorem dX0_power_22 : decode cX0_power 22 = .ok (.if_icmp .ne 12, 3) := by decide +kernel
theorem dX0_power_25 : decode cX0_power 25 = .ok (.iload_n 3, 1) := by decide +kernel
theorem dX0_power_26 : decode cX0_power 26 = .ok (.iload 4, 2) := by decide +kernel
theorem dX0_power_28 : decode cX0_power 28 = .ok (.imul, 1) := by decide +kernel
theorem dX0_power_29 : decode cX0_power 29 = .ok (.sipush 7681, 3) := by decide +kernel
theorem dX0_power_32 : decode cX0_power 32 = .ok (.irem, 1) := by decide +kernel
theorem dX0_power_33 : decode cX0_power 33 = .ok (.istore_n 3, 1) := by decide +kernel
theorem dX0_power_34 : decode cX0_power 34 = .ok (.iload 4, 2) := by decide +kernel
theorem dX0_power_36 : decode cX0_power 36 = .ok (.iload 4, 2) := by decide +kernel
theorem dX0_power_38 : decode cX0_power 38 = .ok (.imul, 1) := by decide +kernel
theorem dX0_power_39 : decode cX0_power 39 = .ok (.sipush 7681, 3) := by decide +kernel
theorem dX0_power_42 : decode cX0_power 42 = .ok (.irem, 1) := by decide +kernel
theorem dX0_power_43 : decode cX0_power 43 = .ok (.istore 4, 2) := by decide +kernel
theorem dX0_power_45 : decode cX0_power 45 = .ok (.iinc 5 1, 3) := by decide +kernel
theorem dX0_power_48 : decode cX0_power 48 = .ok (.goto (-40), 3) := by decide +kernel
theorem dX0_power_51 : decode cX0_power 51 = .ok (.iload_n 3, 1) := by decide +kernel
theorem dX0_power_52 : decode cX0_power 52 = .ok (.ireturn, 1) := by decide +kernel
theorem dX0_put_0 : decode cX0_put 0 = .ok (.iload_n 1, 1) := by decide +kernel
theorem dX0_put_1 : decode cX0_put 1 = .ok (.ifCond .lt 21, 3) := by decide +kernel
theorem dX0_put_4 : decode cX0_put 4 = .ok (.iload_n 1, 1) := by decide +kernel
theorem dX0_put_5 : decode cX0_put 5 = .ok (.bipush 127, 2) := by decide +kernel
theorem dX0_put_7 : decode cX0_put 7 = .ok (.if_icmp .gt 15, 3) := by decide +kernel
theorem dX0_put_10 : decode cX0_put 10 = .ok (.iload_n 2, 1) := by decide +kernel
theorem dX0_put_11 : decode cX0_put 11 = .ok (.bipush (-20), 2) := by decide +kernel
theorem dX0_put_13 : decode cX0_put 13 = .ok (.if_icmp .lt 9, 3) := by decide +kernel
theorem dX0_put_16 : decode cX0_put 16 = .ok (.iload_n 2, 1) := by decide +kernel
theorem dX0_put_17 : decode cX0_put 17 = .ok (.bipush 20, 2) := by decide +kernel
theorem dX0_put_19 : decode cX0_put 19 = .ok (.if_icmp .le 6, 3) := by decide +kernel
theorem dX0_put_22 : decode cX0_put 22 = .ok (.ldc 63, 2) := by decide +kernel
theorem dX0_put_24 : decode cX0_put 24 = .ok (.ireturn, 1) := by decide +kernel
theorem dX0_put_25 : decode cX0_put 25 = .ok (.aload_n 0, 1) := by decide +kernel
theorem dX0_put_26 : decode cX0_put 26 = .ok (.getfield 7, 3) := by decide +kernel
theorem dX0_put_29 : decode cX0_put 29 = .ok (.iload_n 1, 1) := by decide +kernel
theorem dX0_put_30 : decode cX0_put 30 = .ok (.iaload, 1) := by decide +kernel
theorem dX0_put_31 : decode cX0_put 31 = .ok (.istore_n 3, 1) := by decide +kernel
theorem dX0_put_32 : decode cX0_put 32 = .ok (.aload_n 0, 1) := by decide +kernel
theorem dX0_put_33 : decode cX0_put 33 = .ok (.getfield 7, 3) := by decide +kernel
theorem dX0_put_36 : decode cX0_put 36 = .ok (.iload_n 1, 1) := by decide +kernel
theorem dX0_put_37 : decode cX0_put 37 = .ok (.iload_n 2, 1) := by decide +kernel
theorem dX0_put_38 : decode cX0_put 38 = .ok (.iastore, 1) := by decide +kernel
theorem dX0_put_39 : decode cX0_put 39 = .ok (.iload_n 3, 1) := by decide +kernel
theorem dX0_put_40 : decode cX0_put 40 = .ok (.ireturn, 1) := by decide +kernel
theorem dX0_fill_0 : decode cX0_fill 0 = .ok (.iload_n 3, 1) := by decide +kernel
theorem dX0_fill_1 : decode cX0_fill 1 = .ok (.bipush 100, 2) := by decide +kernel
theorem dX0_fill_3 : decode cX0_fill 3 = .ok (.idiv, 1) := by decide +kernel
theorem dX0_fill_4 : decode cX0_fill 4 = .ok (.bipush 10, 2) := by decide +kernel
theorem dX0_fill_6 : decode cX0_fill 6 = .ok (.isub, 1) := by decide +kernel
theorem dX0_fill_7 : decode cX0_fill 7 = .ok (.istore 5, 2) := by decide +kernel
theorem dX0_fill_9 : decode cX0_fill 9 = .ok (.iload_n 3, 1) := by decide +kernel
theorem dX0_fill_10 : decode cX0_fill 10 = .ok (.bipush 100, 2) := by decide +kernel
theorem dX0_fill_12 : decode cX0_fill 12 = .ok (.irem, 1) := by decide +kernel
theorem dX0_fill_13 : decode cX0_fill 13 = .ok (.bipush 10, 2) := by decide +kernel
theorem dX0_fill_15 : decode cX0_fill 15 = .ok (.isub, 1) := by decide +kernel
theorem dX0_fill_16 : decode cX0_fill 16 = .ok (.istore 6, 2) := by decide +kernel
theorem dX0_fill_18 : decode cX0_fill 18 = .ok (.iload_n 1, 1) := by decide +kernel
theorem dX0_fill_19 : decode cX0_fill 19 = .ok (.ifCond .lt 33, 3) := by decide +kernel
theorem dX0_fill_22 : decode cX0_fill 22 = .ok (.iload_n 1, 1) := by decide +kernel
theorem dX0_fill_23 : decode cX0_fill 23 = .ok (.iconst 1, 1) := by decide +kernel
theorem dX0_fill_24 : decode cX0_fill 24 = .ok (.if_icmp .gt 28, 3) := by decide +kernel
theorem dX0_fill_27 : decode cX0_fill 27 = .ok (.iload_n 2, 1) := by decide +kernel
theorem dX0_fill_28 : decode cX0_fill 28 = .ok (.bipush (-20), 2) := by decide +kernel
theorem dX0_fill_30 : decode cX0_fill 30 = .ok (.if_icmp .lt 22, 3) := by decide +kernel
theorem dX0_fill_33 : decode cX0_fill 33 = .ok (.iload_n 2, 1) := by decide +kernel
theorem dX0_fill_34 : decode cX0_fill 34 = .ok (.bipush 20, 2) := by decide +kernel
theorem dX0_fill_36 : decode cX0_fill 36 = .ok (.if_icmp .gt 16, 3) := by decide +kernel
theorem dX0_fill_39 : decode cX0_fill 39 = .ok (.iload 4, 2) := by decide +kernel
theorem dX0_fill_41 : decode cX0_fill 41 = .ok (.bipush (-3), 2) := by decide +kernel
theorem dX0_fill_43 : decode cX0_fill 43 = .ok (.if_icmp .lt 9, 3) := by decide +kernel
theorem dX0_fill_46 : decode cX0_fill 46 = .ok (.iload 4, 2) := by decide +kernel
theorem dX0_fill_48 : decode cX0_fill 48 = .ok (.iconst 3, 1) := by decide +kernel
theorem dX0_fill_49 : decode cX0_fill 49 = .ok (.if_icmp .le 6, 3) := by decide +kernel
theorem dX0_fill_52 : decode cX0_fill 52 = .ok (.ldc 63, 2) := by decide +kernel
theorem dX0_fill_54 : decode cX0_fill 54 = .ok (.ireturn, 1) := by decide +kernel
theorem dX0_fill_55 : decode cX0_fill 55 = .ok (.iload_n 3, 1) := by decide +kernel
theorem dX0_fill_56 : decode cX0_fill 56 = .ok (.ifCond .lt 17, 3) := by decide +kernel
theorem dX0_fill_59 : decode cX0_fill 59 = .ok (.iload 5, 2) := by decide +kernel
theorem dX0_fill_61 : decode cX0_fill 61 = .ok (.bipush 10, 2) := by decide +kernel
theorem dX0_fill_63 : decode cX0_fill 63 = .ok (.if_icmp .gt 10, 3) := by decide +kernel
theorem dX0_fill_66 : decode cX0_fill 66 = .ok (.iload 6, 2) := by decide +kernel
theorem dX0_fill_68 : decode cX0_fill 68 = .ok (.bipush 10, 2) := by decide +kernel
theorem dX0_fill_70 : decode cX0_fill 70 = .ok (.if_icmp .le 6, 3) := by decide +kernel
theorem dX0_fill_73 : decode cX0_fill 73 = .ok (.ldc 63, 2) := by decide +kernel
theorem dX0_fill_75 : decode cX0_fill 75 = .ok (.ireturn, 1) := by decide +kernel
theorem dX0_fill_76 : decode cX0_fill 76 = .ok (.iconst 0, 1) := by decide +kernel
theorem dX0_fill_77 : decode cX0_fill 77 = .ok (.istore 7, 2) := by decide +kernel
theorem dX0_fill_79 : decode cX0_fill 79 = .ok (.iload 7, 2) := by decide +kernel
theorem dX0_fill_81 : decode cX0_fill 81 = .ok (.bipush 8, 2) := by decide +kernel
theorem dX0_fill_83 : decode cX0_fill 83 = .ok (.if_icmp .ge 69, 3) := by decide +kernel
theorem dX0_fill_86 : decode cX0_fill 86 = .ok (.iconst 0, 1) := by decide +kernel
theorem dX0_fill_87 : decode cX0_fill 87 = .ok (.istore 8, 2) := by decide +kernel
theorem dX0_fill_89 : decode cX0_fill 89 = .ok (.iload 8, 2) := by decide +kernel
theorem dX0_fill_91 : decode cX0_fill 91 = .ok (.bipush 8, 2) := by decide +kernel
theorem dX0_fill_93 : decode cX0_fill 93 = .ok (.if_icmp .ge 53, 3) := by decide +kernel
theorem dX0_fill_96 : decode cX0_fill 96 = .ok (.aload_n 0, 1) := by decide +kernel
theorem dX0_fill_97 : decode cX0_fill 97 = .ok (.getfield 7, 3) := by decide +kernel
theorem dX0_fill_100 : decode cX0_fill 100 = .ok (.bipush 64, 2) := by decide +kernel
theorem dX0_fill_102 : decode cX0_fill 102 = .ok (.iload_n 1, 1) := by decide +kernel
theorem dX0_fill_103 : decode cX0_fill 103 = .ok (.imul, 1) := by decide +kernel
theorem dX0_fill_104 : decode cX0_fill 104 = .ok (.bipush 8, 2) := by decide +kernel
theorem dX0_fill_106 : decode cX0_fill 106 = .ok (.iload 7, 2) := by decide +kernel
theorem dX0_fill_108 : decode cX0_fill 108 = .ok (.imul, 1) := by decide +kernel
theorem dX0_fill_109 : decode cX0_fill 109 = .ok (.iadd, 1) := by decide +kernel
theorem dX0_fill_110 : decode cX0_fill 110 = .ok (.iload 8, 2) := by decide +kernel
theorem dX0_fill_112 : decode cX0_fill 112 = .ok (.iadd, 1) := by decide +kernel
theorem dX0_fill_113 : decode cX0_fill 113 = .ok (.aload_n 0, 1) := by decide +kernel
theorem dX0_fill_114 : decode cX0_fill 114 = .ok (.iload_n 2, 1) := by decide +kernel
theorem dX0_fill_115 : decode cX0_fill 115 = .ok (.iload 5, 2) := by decide +kernel
theorem dX0_fill_117 : decode cX0_fill 117 = .ok (.iload 8, 2) := by decide +kernel
theorem dX0_fill_119 : decode cX0_fill 119 = .ok (.imul, 1) := by decide +kernel
theorem dX0_fill_120 : decode cX0_fill 120 = .ok (.iadd, 1) := by decide +kernel
theorem dX0_fill_121 : decode cX0_fill 121 = .ok (.iload 6, 2) := by decide +kernel
theorem dX0_fill_123 : decode cX0_fill 123 = .ok (.iload 7, 2) := by decide +kernel
theorem dX0_fill_125 : decode cX0_fill 125 = .ok (.imul, 1) := by decide +kernel
theorem dX0_fill_126 : decode cX0_fill 126 = .ok (.iadd, 1) := by decide +kernel
theorem dX0_fill_127 : decode cX0_fill 127 = .ok (.iload 4, 2) := by decide +kernel
theorem dX0_fill_129 : decode cX0_fill 129 = .ok (.iload 8, 2) := by decide +kernel
theorem dX0_fill_131 : decode cX0_fill 131 = .ok (.imul, 1) := by decide +kernel
theorem dX0_fill_132 : decode cX0_fill 132 = .ok (.iload 7, 2) := by decide +kernel
theorem dX0_fill_134 : decode cX0_fill 134 = .ok (.imul, 1) := by decide +kernel
theorem dX0_fill_135 : decode cX0_fill 135 = .ok (.iadd, 1) := by decide +kernel
theorem dX0_fill_136 : decode cX0_fill 136 = .ok (.invokevirtual 64, 3) := by decide +kernel
theorem dX0_fill_139 : decode cX0_fill 139 = .ok (.iastore, 1) := by decide +kernel
theorem dX0_fill_140 : decode cX0_fill 140 = .ok (.iinc 8 1, 3) := by decide +kernel
theorem dX0_fill_143 : decode cX0_fill 143 = .ok (.goto (-54), 3) := by decide +kernel
theorem dX0_fill_146 : decode cX0_fill 146 = .ok (.iinc 7 1, 3) := by decide +kernel
theorem dX0_fill_149 : decode cX0_fill 149 = .ok (.goto (-70), 3) := by decide +kernel
theorem dX0_fill_152 : decode cX0_fill 152 = .ok (.iconst 0, 1) := by decide +kernel
theorem dX0_fill_153 : decode cX0_fill 153 = .ok (.ireturn, 1) := by decide +kernel
theorem dX0_clamp_0 : decode cX0_clamp 0 = .ok (.iload_n 1, 1) := by decide +kernel
theorem dX0_clamp_1 : decode cX0_clamp 1 = .ok (.bipush (-20), 2) := by decide +kernel
theorem dX0_clamp_3 : decode cX0_clamp 3 = .ok (.if_icmp .ge 6, 3) := by decide +kernel
theorem dX0_clamp_6 : decode cX0_clamp 6 = .ok (.bipush (-20), 2) := by decide +kernel
theorem dX0_clamp_8 : decode cX0_clamp 8 = .ok (.ireturn, 1) := by decide +kernel
theorem dX0_clamp_9 : decode cX0_clamp 9 = .ok (.iload_n 1, 1) := by decide +kernel
theorem dX0_clamp_10 : decode cX0_clamp 10 = .ok (.bipush 20, 2) := by decide +kernel
theorem dX0_clamp_12 : decode cX0_clamp 12 = .ok (.if_icmp .le 8, 3) := by decide +kernel
theorem dX0_clamp_15 : decode cX0_clamp 15 = .ok (.bipush 20, 2) := by decide +kernel
theorem dX0_clamp_17 : decode cX0_clamp 17 = .ok (.goto 4, 3) := by decide +kernel
theorem dX0_clamp_20 : decode cX0_clamp 20 = .ok (.iload_n 1, 1) := by decide +kernel
theorem dX0_clamp_21 : decode cX0_clamp 21 = .ok (.ireturn, 1) := by decide +kernel
theorem dX0_kernel_0 : decode cX0_kernel 0 = .ok (.iload_n 1, 1) := by decide +kernel
theorem dX0_kernel_1 : decode cX0_kernel 1 = .ok (.ifCond .lt 21, 3) := by decide +kernel
theorem dX0_kernel_4 : decode cX0_kernel 4 = .ok (.iload_n 1, 1) := by decide +kernel
theorem dX0_kernel_5 : decode cX0_kernel 5 = .ok (.bipush 17, 2) := by decide +kernel
theorem dX0_kernel_7 : decode cX0_kernel 7 = .ok (.if_icmp .gt 15, 3) := by decide +kernel
theorem dX0_kernel_10 : decode cX0_kernel 10 = .ok (.iload_n 2, 1) := by decide +kernel
theorem dX0_kernel_11 : decode cX0_kernel 11 = .ok (.bipush (-9), 2) := by decide +kernel
theorem dX0_kernel_13 : decode cX0_kernel 13 = .ok (.if_icmp .lt 9, 3) := by decide +kernel
theorem dX0_kernel_16 : decode cX0_kernel 16 = .ok (.iload_n 2, 1) := by decide +kernel
theorem dX0_kernel_17 : decode cX0_kernel 17 = .ok (.bipush 9, 2) := by decide +kernel
theorem dX0_kernel_19 : decode cX0_kernel 19 = .ok (.if_icmp .le 6, 3) := by decide +kernel
theorem dX0_kernel_22 : decode cX0_kernel 22 = .ok (.ldc 63, 2) := by decide +kernel
theorem dX0_kernel_24 : decode cX0_kernel 24 = .ok (.ireturn, 1) := by decide +kernel
theorem dX0_kernel_25 : decode cX0_kernel 25 = .ok (.aload_n 0, 1) := by decide +kernel
theorem dX0_kernel_26 : decode cX0_kernel 26 = .ok (.getfield 13, 3) := by decide +kernel
theorem dX0_kernel_29 : decode cX0_kernel 29 = .ok (.iload_n 1, 1) := by decide +kernel
theorem dX0_kernel_30 : decode cX0_kernel 30 = .ok (.iaload, 1) := by decide +kernel
theorem dX0_kernel_31 : decode cX0_kernel 31 = .ok (.istore_n 3, 1) := by decide +kernel
theorem dX0_kernel_32 : decode cX0_kernel 32 = .ok (.aload_n 0, 1) := by decide +kernel
theorem dX0_kernel_33 : decode cX0_kernel 33 = .ok (.getfield 13, 3) := by decide +kernel
theorem dX0_kernel_36 : decode cX0_kernel 36 = .ok (.iload_n 1, 1) := by decide +kernel
theorem dX0_kernel_37 : decode cX0_kernel 37 = .ok (.iload_n 2, 1) := by decide +kernel
theorem dX0_kernel_38 : decode cX0_kernel 38 = .ok (.iastore, 1) := by decide +kernel
theorem dX0_kernel_39 : decode cX0_kernel 39 = .ok (.iload_n 3, 1) := by decide +kernel
theorem dX0_kernel_40 : decode cX0_kernel 40 = .ok (.ireturn, 1) := by decide +kernel
theorem dX0_pixel_0 : decode cX0_pixel 0 = .ok (.iload_n 1, 1) := by decide +kernel
theorem dX0_pixel_1 : decode cX0_pixel 1 = .ok (.ifCond .lt 9, 3) := by decide +kernel
theorem dX0_pixel_4 : decode cX0_pixel 4 = .ok (.iload_n 1, 1) := by decide +kernel
theorem dX0_pixel_5 : decode cX0_pixel 5 = .ok (.bipush 127, 2) := by decide +kernel
theorem dX0_pixel_7 : decode cX0_pixel 7 = .ok (.if_icmp .le 8, 3) := by decide +kernel
theorem dX0_pixel_10 : decode cX0_pixel 10 = .ok (.ldc 63, 2) := by decide +kernel
theorem dX0_pixel_12 : decode cX0_pixel 12 = .ok (.goto 9, 3) := by decide +kernel
theorem dX0_pixel_15 : decode cX0_pixel 15 = .ok (.aload_n 0, 1) := by decide +kernel
theorem dX0_pixel_16 : decode cX0_pixel 16 = .ok (.getfield 7, 3) := by decide +kernel
theorem dX0_pixel_19 : decode cX0_pixel 19 = .ok (.iload_n 1, 1) := by decide +kernel
theorem dX0_pixel_20 : decode cX0_pixel 20 = .ok (.iaload, 1) := by decide +kernel
theorem dX0_pixel_21 : decode cX0_pixel 21 = .ok (.ireturn, 1) := by decide +kernel
theorem dX0_shape_0 : decode cX0_shape 0 = .ok (.iload_n 1, 1) := by decide +kernel
theorem dX0_shape_1 : decode cX0_shape 1 = .ok (.iconst 1, 1) := by decide +kernel
theorem dX0_shape_2 : decode cX0_shape 2 = .ok (.if_icmp .lt 17, 3) := by decide +kernel
theorem dX0_shape_5 : decode cX0_shape 5 = .ok (.iload_n 1, 1) := by decide +kernel
theorem dX0_shape_6 : decode cX0_shape 6 = .ok (.iconst 2, 1) := by decide +kernel
theorem dX0_shape_7 : decode cX0_shape 7 = .ok (.if_icmp .gt 12, 3) := by decide +kernel
theorem dX0_shape_10 : decode cX0_shape 10 = .ok (.iload_n 2, 1) := by decide +kernel
theorem dX0_shape_11 : decode cX0_shape 11 = .ok (.ifCond .lt 8, 3) := by decide +kernel
theorem dX0_shape_14 : decode cX0_shape 14 = .ok (.iload_n 2, 1) := by decide +kernel
theorem dX0_shape_15 : decode cX0_shape 15 = .ok (.iconst 1, 1) := by decide +kernel
theorem dX0_shape_16 : decode cX0_shape 16 = .ok (.if_icmp .le 6, 3) := by decide +kernel
theorem dX0_shape_19 : decode cX0_shape 19 = .ok (.ldc 63, 2) := by decide +kernel
theorem dX0_shape_21 : decode cX0_shape 21 = .ok (.ireturn, 1) := by decide +kernel
theorem dX0_shape_22 : decode cX0_shape 22 = .ok (.aload_n 0, 1) := by decide +kernel
theorem dX0_shape_23 : decode cX0_shape 23 = .ok (.iload_n 1, 1) := by decide +kernel
theorem dX0_shape_24 : decode cX0_shape 24 = .ok (.putfield 52, 3) := by decide +kernel
theorem dX0_shape_27 : decode cX0_shape 27 = .ok (.aload_n 0, 1) := by decide +kernel
theorem dX0_shape_28 : decode cX0_shape 28 = .ok (.iload_n 2, 1) := by decide +kernel
theorem dX0_shape_29 : decode cX0_shape 29 = .ok (.putfield 56, 3) := by decide +kernel
theorem dX0_shape_32 : decode cX0_shape 32 = .ok (.aload_n 0, 1) := by decide +kernel
theorem dX0_shape_33 : decode cX0_shape 33 = .ok (.invokevirtual 68, 3) := by decide +kernel
theorem dX0_shape_36 : decode cX0_shape 36 = .ok (.ireturn, 1) := by decide +kernel
theorem dX0_widthNow_0 : decode cX0_widthNow 0 = .ok (.bipush 8, 2) := by decide +kernel
theorem dX0_widthNow_2 : decode cX0_widthNow 2 = .ok (.iconst 2, 1) := by decide +kernel
theorem dX0_widthNow_3 : decode cX0_widthNow 3 = .ok (.aload_n 0, 1) := by decide +kernel
theorem dX0_widthNow_4 : decode cX0_widthNow 4 = .ok (.getfield 56, 3) := by decide +kernel
theorem dX0_widthNow_7 : decode cX0_widthNow 7 = .ok (.imul, 1) := by decide +kernel
theorem dX0_widthNow_8 : decode cX0_widthNow 8 = .ok (.iadd, 1) := by decide +kernel
theorem dX0_widthNow_9 : decode cX0_widthNow 9 = .ok (.iconst 3, 1) := by decide +kernel
theorem dX0_widthNow_10 : decode cX0_widthNow 10 = .ok (.isub, 1) := by decide +kernel
theorem dX0_widthNow_11 : decode cX0_widthNow 11 = .ok (.istore_n 1, 1) := by decide +kernel
theorem dX0_widthNow_12 : decode cX0_widthNow 12 = .ok (.aload_n 0, 1) := by decide +kernel
theorem dX0_widthNow_13 : decode cX0_widthNow 13 = .ok (.getfield 52, 3) := by decide +kernel
theorem dX0_widthNow_16 : decode cX0_widthNow 16 = .ok (.iconst 1, 1) := by decide +kernel
theorem dX0_widthNow_17 : decode cX0_widthNow 17 = .ok (.if_icmp .ne 7, 3) := by decide +kernel
theorem dX0_widthNow_20 : decode cX0_widthNow 20 = .ok (.iload_n 1, 1) := by decide +kernel
theorem dX0_widthNow_21 : decode cX0_widthNow 21 = .ok (.goto 6, 3) := by decide +kernel
theorem dX0_widthNow_24 : decode cX0_widthNow 24 = .ok (.iload_n 1, 1) := by decide +kernel
theorem dX0_widthNow_25 : decode cX0_widthNow 25 = .ok (.iconst 1, 1) := by decide +kernel
theorem dX0_widthNow_26 : decode cX0_widthNow 26 = .ok (.ishr, 1) := by decide +kernel
theorem dX0_widthNow_27 : decode cX0_widthNow 27 = .ok (.iconst 1, 1) := by decide +kernel
theorem dX0_widthNow_28 : decode cX0_widthNow 28 = .ok (.iadd, 1) := by decide +kernel
theorem dX0_widthNow_29 : decode cX0_widthNow 29 = .ok (.ireturn, 1) := by decide +kernel
theorem dX0_move_0 : decode cX0_move 0 = .ok (.aload_n 0, 1) := by decide +kernel
theorem dX0_move_1 : decode cX0_move 1 = .ok (.aload_n 0, 1) := by decide +kernel
theorem dX0_move_2 : decode cX0_move 2 = .ok (.invokevirtual 68, 3) := by decide +kernel
theorem dX0_move_5 : decode cX0_move 5 = .ok (.putfield 84, 3) := by decide +kernel
theorem dX0_move_8 : decode cX0_move 8 = .ok (.iconst 0, 1) := by decide +kernel
theorem dX0_move_9 : decode cX0_move 9 = .ok (.istore_n 1, 1) := by decide +kernel
theorem dX0_move_10 : decode cX0_move 10 = .ok (.iload_n 1, 1) := by decide +kernel
theorem dX0_move_11 : decode cX0_move 11 = .ok (.bipush 64, 2) := by decide +kernel
theorem dX0_move_13 : decode cX0_move 13 = .ok (.if_icmp .ge 16, 3) := by decide +kernel
theorem dX0_move_16 : decode cX0_move 16 = .ok (.aload_n 0, 1) := by decide +kernel
theorem dX0_move_17 : decode cX0_move 17 = .ok (.getfield 16, 3) := by decide +kernel
theorem dX0_move_20 : decode cX0_move 20 = .ok (.iload_n 1, 1) := by decide +kernel
theorem dX0_move_21 : decode cX0_move 21 = .ok (.iconst 0, 1) := by decide +kernel
theorem dX0_move_22 : decode cX0_move 22 = .ok (.iastore, 1) := by decide +kernel
theorem dX0_move_23 : decode cX0_move 23 = .ok (.iinc 1 1, 3) := by decide +kernel
theorem dX0_move_26 : decode cX0_move 26 = .ok (.goto (-16), 3) := by decide +kernel
theorem dX0_move_29 : decode cX0_move 29 = .ok (.aload_n 0, 1) := by decide +kernel
theorem dX0_move_30 : decode cX0_move 30 = .ok (.getfield 117, 3) := by decide +kernel
theorem dX0_move_33 : decode cX0_move 33 = .ok (.ifCond .ne 10, 3) := by decide +kernel
theorem dX0_move_36 : decode cX0_move 36 = .ok (.aload_n 0, 1) := by decide +kernel
theorem dX0_move_37 : decode cX0_move 37 = .ok (.getfield 52, 3) := by decide +kernel
theorem dX0_move_40 : decode cX0_move 40 = .ok (.goto 7, 3) := by decide +kernel
theorem dX0_move_43 : decode cX0_move 43 = .ok (.aload_n 0, 1) := by decide +kernel
theorem dX0_move_44 : decode cX0_move 44 = .ok (.getfield 117, 3) := by decide +kernel
theorem dX0_move_47 : decode cX0_move 47 = .ok (.istore_n 1, 1) := by decide +kernel
theorem dX0_move_48 : decode cX0_move 48 = .ok (.iload_n 1, 1) := by decide +kernel
theorem dX0_move_49 : decode cX0_move 49 = .ok (.iconst 1, 1) := by decide +kernel
theorem dX0_move_50 : decode cX0_move 50 = .ok (.if_icmp .ne 18, 3) := by decide +kernel
theorem dX0_move_53 : decode cX0_move 53 = .ok (.aload_n 0, 1) := by decide +kernel
theorem dX0_move_54 : decode cX0_move 54 = .ok (.getfield 52, 3) := by decide +kernel
theorem dX0_move_57 : decode cX0_move 57 = .ok (.iconst 1, 1) := by decide +kernel
theorem dX0_move_58 : decode cX0_move 58 = .ok (.if_icmp .ne 10, 3) := by decide +kernel
theorem dX0_move_61 : decode cX0_move 61 = .ok (.aload_n 0, 1) := by decide +kernel
theorem dX0_move_62 : decode cX0_move 62 = .ok (.invokevirtual 120, 3) := by decide +kernel
theorem dX0_move_65 : decode cX0_move 65 = .ok (.goto 19, 3) := by decide +kernel
theorem dX0_move_68 : decode cX0_move 68 = .ok (.iload_n 1, 1) := by decide +kernel
theorem dX0_move_69 : decode cX0_move 69 = .ok (.iconst 2, 1) := by decide +kernel
theorem dX0_move_70 : decode cX0_move 70 = .ok (.if_icmp .ne 10, 3) := by decide +kernel
theorem dX0_move_73 : decode cX0_move 73 = .ok (.aload_n 0, 1) := by decide +kernel
theorem dX0_move_74 : decode cX0_move 74 = .ok (.invokevirtual 123, 3) := by decide +kernel
theorem dX0_move_77 : decode cX0_move 77 = .ok (.goto 7, 3) := by decide +kernel
theorem dX0_move_80 : decode cX0_move 80 = .ok (.aload_n 0, 1) := by decide +kernel
theorem dX0_move_81 : decode cX0_move 81 = .ok (.invokevirtual 126, 3) := by decide +kernel
theorem dX0_move_84 : decode cX0_move 84 = .ok (.aload_n 0, 1) := by decide +kernel
theorem dX0_move_85 : decode cX0_move 85 = .ok (.getfield 84, 3) := by decide +kernel
theorem dX0_move_88 : decode cX0_move 88 = .ok (.ireturn, 1) := by decide +kernel
theorem dX0_moveByTiles_0 : decode cX0_moveByTiles 0 = .ok (.iconst 0, 1) := by decide +kernel
theorem dX0_moveByTiles_1 : decode cX0_moveByTiles 1 = .ok (.istore_n 1, 1) := by decide +kernel
theorem dX0_moveByTiles_2 : decode cX0_moveByTiles 2 = .ok (.iload_n 1, 1) := by decide +kernel
theorem dX0_moveByTiles_3 : decode cX0_moveByTiles 3 = .ok (.iconst 2, 1) := by decide +kernel
theorem dX0_moveByTiles_4 : decode cX0_moveByTiles 4 = .ok (.if_icmp .ge 55, 3) := by decide +kernel
theorem dX0_moveByTiles_7 : decode cX0_moveByTiles 7 = .ok (.aload_n 0, 1) := by decide +kernel
theorem dX0_moveByTiles_8 : decode cX0_moveByTiles 8 = .ok (.iload_n 1, 1) := by decide +kernel
theorem dX0_moveByTiles_9 : decode cX0_moveByTiles 9 = .ok (.invokevirtual 87, 3) := by decide +kernel
theorem dX0_moveByTiles_12 : decode cX0_moveByTiles 12 = .ok (.iconst 0, 1) := by decide +kernel
theorem dX0_moveByTiles_13 : decode cX0_moveByTiles 13 = .ok (.istore_n 2, 1) := by decide +kernel
theorem dX0_moveByTiles_14 : decode cX0_moveByTiles 14 = .ok (.iload_n 2, 1) := by decide +kernel
theorem dX0_moveByTiles_15 : decode cX0_moveByTiles 15 = .ok (.aload_n 0, 1) := by decide +kernel
theorem dX0_moveByTiles_16 : decode cX0_moveByTiles 16 = .ok (.getfield 84, 3) := by decide +kernel
theorem dX0_moveByTiles_19 : decode cX0_moveByTiles 19 = .ok (.if_icmp .ge 34, 3) := by decide +kernel
theorem dX0_moveByTiles_22 : decode cX0_moveByTiles 22 = .ok (.iconst 0, 1) := by decide +kernel
theorem dX0_moveByTiles_23 : decode cX0_moveByTiles 23 = .ok (.istore_n 3, 1) := by decide +kernel
theorem dX0_moveByTiles_24 : decode cX0_moveByTiles 24 = .ok (.iload_n 3, 1) := by decide +kernel
theorem dX0_moveByTiles_25 : decode cX0_moveByTiles 25 = .ok (.aload_n 0, 1) := by decide +kernel
theorem dX0_moveByTiles_26 : decode cX0_moveByTiles 26 = .ok (.getfield 84, 3) := by decide +kernel
theorem dX0_moveByTiles_29 : decode cX0_moveByTiles 29 = .ok (.if_icmp .ge 17, 3) := by decide +kernel
theorem dX0_moveByTiles_32 : decode cX0_moveByTiles 32 = .ok (.aload_n 0, 1) := by decide +kernel
theorem dX0_moveByTiles_33 : decode cX0_moveByTiles 33 = .ok (.iload_n 1, 1) := by decide +kernel
theorem dX0_moveByTiles_34 : decode cX0_moveByTiles 34 = .ok (.iload_n 3, 1) := by decide +kernel
theorem dX0_moveByTiles_35 : decode cX0_moveByTiles 35 = .ok (.iload_n 2, 1) := by decide +kernel
theorem dX0_moveByTiles_36 : decode cX0_moveByTiles 36 = .ok (.invokevirtual 91, 3) := by decide +kernel
theorem dX0_moveByTiles_39 : decode cX0_moveByTiles 39 = .ok (.iload_n 3, 1) := by decide +kernel
theorem dX0_moveByTiles_40 : decode cX0_moveByTiles 40 = .ok (.iconst 2, 1) := by decide +kernel
theorem dX0_moveByTiles_41 : decode cX0_moveByTiles 41 = .ok (.iadd, 1) := by decide +kernel
theorem dX0_moveByTiles_42 : decode cX0_moveByTiles 42 = .ok (.istore_n 3, 1) := by decide +kernel
theorem dX0_moveByTiles_43 : decode cX0_moveByTiles 43 = .ok (.goto (-19), 3) := by decide +kernel
theorem dX0_moveByTiles_46 : decode cX0_moveByTiles 46 = .ok (.iload_n 2, 1) := by decide +kernel
theorem dX0_moveByTiles_47 : decode cX0_moveByTiles 47 = .ok (.iconst 2, 1) := by decide +kernel
theorem dX0_moveByTiles_48 : decode cX0_moveByTiles 48 = .ok (.iadd, 1) := by decide +kernel
theorem dX0_moveByTiles_49 : decode cX0_moveByTiles 49 = .ok (.istore_n 2, 1) := by decide +kernel
theorem dX0_moveByTiles_50 : decode cX0_moveByTiles 50 = .ok (.goto (-36), 3) := by decide +kernel
theorem dX0_moveByTiles_53 : decode cX0_moveByTiles 53 = .ok (.iinc 1 1, 3) := by decide +kernel
theorem dX0_moveByTiles_56 : decode cX0_moveByTiles 56 = .ok (.goto (-54), 3) := by decide +kernel
theorem dX0_moveByTiles_59 : decode cX0_moveByTiles 59 = .ok (.return_, 1) := by decide +kernel
end
section
set_option maxRecDepth 100000
theorem dX0_shapeKernel_0 : decode cX0_shapeKernel 0 = .ok (.iconst 0, 1) := by decide +kernel
theorem dX0_shapeKernel_1 : decode cX0_shapeKernel 1 = .ok (.istore_n 2, 1) := by decide +kernel
theorem dX0_shapeKernel_2 : decode cX0_shapeKernel 2 = .ok (.iload_n 2, 1) := by decide +kernel
theorem dX0_shapeKernel_3 : decode cX0_shapeKernel 3 = .ok (.iconst 3, 1) := by decide +kernel
theorem dX0_shapeKernel_4 : decode cX0_shapeKernel 4 = .ok (.if_icmp .ge 116, 3) := by decide +kernel
theorem dX0_shapeKernel_7 : decode cX0_shapeKernel 7 = .ok (.aload_n 0, 1) := by decide +kernel
theorem dX0_shapeKernel_8 : decode cX0_shapeKernel 8 = .ok (.getfield 13, 3) := by decide +kernel
theorem dX0_shapeKernel_11 : decode cX0_shapeKernel 11 = .ok (.bipush 9, 2) := by decide +kernel
theorem dX0_shapeKernel_13 : decode cX0_shapeKernel 13 = .ok (.iload_n 1, 1) := by decide +kernel
theorem dX0_shapeKernel_14 : decode cX0_shapeKernel 14 = .ok (.imul, 1) := by decide +kernel
theorem dX0_shapeKernel_15 : decode cX0_shapeKernel 15 = .ok (.iconst 3, 1) := by decide +kernel
theorem dX0_shapeKernel_16 : decode cX0_shapeKernel 16 = .ok (.iload_n 2, 1) := by decide +kernel
theorem dX0_shapeKernel_17 : decode cX0_shapeKernel 17 = .ok (.imul, 1) := by decide +kernel
theorem dX0_shapeKernel_18 : decode cX0_shapeKernel 18 = .ok (.iadd, 1) := by decide +kernel
theorem dX0_shapeKernel_19 : decode cX0_shapeKernel 19 = .ok (.iaload, 1) := by decide +kernel
theorem dX0_shapeKernel_20 : decode cX0_shapeKernel 20 = .ok (.istore_n 3, 1) := by decide +kernel
theorem dX0_shapeKernel_21 : decode cX0_shapeKernel 21 = .ok (.aload_n 0, 1) := by decide +kernel
theorem dX0_shapeKernel_22 : decode cX0_shapeKernel 22 = .ok (.getfield 13, 3) := by decide +kernel
theorem dX0_shapeKernel_25 : decode cX0_shapeKernel 25 = .ok (.bipush 9, 2) := by decide +kernel
theorem dX0_shapeKernel_27 : decode cX0_shapeKernel 27 = .ok (.iload_n 1, 1) := by decide +kernel
theorem dX0_shapeKernel_28 : decode cX0_shapeKernel 28 = .ok (.imul, 1) := by decide +kernel
theorem dX0_shapeKernel_29 : decode cX0_shapeKernel 29 = .ok (.iconst 3, 1) := by decide +kernel
theorem dX0_shapeKernel_30 : decode cX0_shapeKernel 30 = .ok (.iload_n 2, 1) := by decide +kernel
theorem dX0_shapeKernel_31 : decode cX0_shapeKernel 31 = .ok (.imul, 1) := by decide +kernel
theorem dX0_shapeKernel_32 : decode cX0_shapeKernel 32 = .ok (.iadd, 1) := by decide +kernel
theorem dX0_shapeKernel_33 : decode cX0_shapeKernel 33 = .ok (.iconst 1, 1) := by decide +kernel
theorem dX0_shapeKernel_34 : decode cX0_shapeKernel 34 = .ok (.iadd, 1) := by decide +kernel
theorem dX0_shapeKernel_35 : decode cX0_shapeKernel 35 = .ok (.iaload, 1) := by decide +kernel
theorem dX0_shapeKernel_36 : decode cX0_shapeKernel 36 = .ok (.istore 4, 2) := by decide +kernel
theorem dX0_shapeKernel_38 : decode cX0_shapeKernel 38 = .ok (.aload_n 0, 1) := by decide +kernel
theorem dX0_shapeKernel_39 : decode cX0_shapeKernel 39 = .ok (.getfield 13, 3) := by decide +kernel
theorem dX0_shapeKernel_42 : decode cX0_shapeKernel 42 = .ok (.bipush 9, 2) := by decide +kernel
theorem dX0_shapeKernel_44 : decode cX0_shapeKernel 44 = .ok (.iload_n 1, 1) := by decide +kernel
theorem dX0_shapeKernel_45 : decode cX0_shapeKernel 45 = .ok (.imul, 1) := by decide +kernel
theorem dX0_shapeKernel_46 : decode cX0_shapeKernel 46 = .ok (.iconst 3, 1) := by decide +kernel
theorem dX0_shapeKernel_47 : decode cX0_shapeKernel 47 = .ok (.iload_n 2, 1) := by decide +kernel
theorem dX0_shapeKernel_48 : decode cX0_shapeKernel 48 = .ok (.imul, 1) := by decide +kernel
theorem dX0_shapeKernel_49 : decode cX0_shapeKernel 49 = .ok (.iadd, 1) := by decide +kernel
theorem dX0_shapeKernel_50 : decode cX0_shapeKernel 50 = .ok (.iconst 2, 1) := by decide +kernel
theorem dX0_shapeKernel_51 : decode cX0_shapeKernel 51 = .ok (.iadd, 1) := by decide +kernel
theorem dX0_shapeKernel_52 : decode cX0_shapeKernel 52 = .ok (.iaload, 1) := by decide +kernel
theorem dX0_shapeKernel_53 : decode cX0_shapeKernel 53 = .ok (.istore 5, 2) := by decide +kernel
theorem dX0_shapeKernel_55 : decode cX0_shapeKernel 55 = .ok (.aload_n 0, 1) := by decide +kernel
theorem dX0_shapeKernel_56 : decode cX0_shapeKernel 56 = .ok (.getfield 22, 3) := by decide +kernel
theorem dX0_shapeKernel_59 : decode cX0_shapeKernel 59 = .ok (.iconst 4, 1) := by decide +kernel
theorem dX0_shapeKernel_60 : decode cX0_shapeKernel 60 = .ok (.iload_n 2, 1) := by decide +kernel
theorem dX0_shapeKernel_61 : decode cX0_shapeKernel 61 = .ok (.imul, 1) := by decide +kernel
theorem dX0_shapeKernel_62 : decode cX0_shapeKernel 62 = .ok (.iconst 2, 1) := by decide +kernel
theorem dX0_shapeKernel_63 : decode cX0_shapeKernel 63 = .ok (.iload_n 3, 1) := by decide +kernel
theorem dX0_shapeKernel_64 : decode cX0_shapeKernel 64 = .ok (.imul, 1) := by decide +kernel
theorem dX0_shapeKernel_65 : decode cX0_shapeKernel 65 = .ok (.iastore, 1) := by decide +kernel
theorem dX0_shapeKernel_66 : decode cX0_shapeKernel 66 = .ok (.aload_n 0, 1) := by decide +kernel
theorem dX0_shapeKernel_67 : decode cX0_shapeKernel 67 = .ok (.getfield 22, 3) := by decide +kernel
theorem dX0_shapeKernel_70 : decode cX0_shapeKernel 70 = .ok (.iconst 4, 1) := by decide +kernel
theorem dX0_shapeKernel_71 : decode cX0_shapeKernel 71 = .ok (.iload_n 2, 1) := by decide +kernel
theorem dX0_shapeKernel_72 : decode cX0_shapeKernel 72 = .ok (.imul, 1) := by decide +kernel
theorem dX0_shapeKernel_73 : decode cX0_shapeKernel 73 = .ok (.iconst 1, 1) := by decide +kernel
theorem dX0_shapeKernel_74 : decode cX0_shapeKernel 74 = .ok (.iadd, 1) := by decide +kernel
theorem dX0_shapeKernel_75 : decode cX0_shapeKernel 75 = .ok (.iload_n 3, 1) := by decide +kernel
theorem dX0_shapeKernel_76 : decode cX0_shapeKernel 76 = .ok (.iload 4, 2) := by decide +kernel
theorem dX0_shapeKernel_78 : decode cX0_shapeKernel 78 = .ok (.iadd, 1) := by decide +kernel
theorem dX0_shapeKernel_79 : decode cX0_shapeKernel 79 = .ok (.iload 5, 2) := by decide +kernel
theorem dX0_shapeKernel_81 : decode cX0_shapeKernel 81 = .ok (.iadd, 1) := by decide +kernel
theorem dX0_shapeKernel_82 : decode cX0_shapeKernel 82 = .ok (.iastore, 1) := by decide +kernel
theorem dX0_shapeKernel_83 : decode cX0_shapeKernel 83 = .ok (.aload_n 0, 1) := by decide +kernel
theorem dX0_shapeKernel_84 : decode cX0_shapeKernel 84 = .ok (.getfield 22, 3) := by decide +kernel
theorem dX0_shapeKernel_87 : decode cX0_shapeKernel 87 = .ok (.iconst 4, 1) := by decide +kernel
theorem dX0_shapeKernel_88 : decode cX0_shapeKernel 88 = .ok (.iload_n 2, 1) := by decide +kernel
theorem dX0_shapeKernel_89 : decode cX0_shapeKernel 89 = .ok (.imul, 1) := by decide +kernel
theorem dX0_shapeKernel_90 : decode cX0_shapeKernel 90 = .ok (.iconst 2, 1) := by decide +kernel
theorem dX0_shapeKernel_91 : decode cX0_shapeKernel 91 = .ok (.iadd, 1) := by decide +kernel
theorem dX0_shapeKernel_92 : decode cX0_shapeKernel 92 = .ok (.iload_n 3, 1) := by decide +kernel
theorem dX0_shapeKernel_93 : decode cX0_shapeKernel 93 = .ok (.iload 4, 2) := by decide +kernel
theorem dX0_shapeKernel_95 : decode cX0_shapeKernel 95 = .ok (.isub, 1) := by decide +kernel
theorem dX0_shapeKernel_96 : decode cX0_shapeKernel 96 = .ok (.iload 5, 2) := by decide +kernel
theorem dX0_shapeKernel_98 : decode cX0_shapeKernel 98 = .ok (.iadd, 1) := by decide +kernel
theorem dX0_shapeKernel_99 : decode cX0_shapeKernel 99 = .ok (.iastore, 1) := by decide +kernel
theorem dX0_shapeKernel_100 : decode cX0_shapeKernel 100 = .ok (.aload_n 0, 1) := by decide +kernel
theorem dX0_shapeKernel_101 : decode cX0_shapeKernel 101 = .ok (.getfield 22, 3) := by decide +kernel
theorem dX0_shapeKernel_104 : decode cX0_shapeKernel 104 = .ok (.iconst 4, 1) := by decide +kernel
theorem dX0_shapeKernel_105 : decode cX0_shapeKernel 105 = .ok (.iload_n 2, 1) := by decide +kernel
theorem dX0_shapeKernel_106 : decode cX0_shapeKernel 106 = .ok (.imul, 1) := by decide +kernel
theorem dX0_shapeKernel_107 : decode cX0_shapeKernel 107 = .ok (.iconst 3, 1) := by decide +kernel
theorem dX0_shapeKernel_108 : decode cX0_shapeKernel 108 = .ok (.iadd, 1) := by decide +kernel
theorem dX0_shapeKernel_109 : decode cX0_shapeKernel 109 = .ok (.iconst 2, 1) := by decide +kernel
theorem dX0_shapeKernel_110 : decode cX0_shapeKernel 110 = .ok (.iload 5, 2) := by decide +kernel
theorem dX0_shapeKernel_112 : decode cX0_shapeKernel 112 = .ok (.imul, 1) := by decide +kernel
theorem dX0_shapeKernel_113 : decode cX0_shapeKernel 113 = .ok (.iastore, 1) := by decide +kernel
theorem dX0_shapeKernel_114 : decode cX0_shapeKernel 114 = .ok (.iinc 2 1, 3) := by decide +kernel
theorem dX0_shapeKernel_117 : decode cX0_shapeKernel 117 = .ok (.goto (-115), 3) := by decide +kernel
theorem dX0_shapeKernel_120 : decode cX0_shapeKernel 120 = .ok (.iconst 0, 1) := by decide +kernel
theorem dX0_shapeKernel_121 : decode cX0_shapeKernel 121 = .ok (.istore_n 2, 1) := by decide +kernel
theorem dX0_shapeKernel_122 : decode cX0_shapeKernel 122 = .ok (.iload_n 2, 1) := by decide +kernel
theorem dX0_shapeKernel_123 : decode cX0_shapeKernel 123 = .ok (.iconst 4, 1) := by decide +kernel
theorem dX0_shapeKernel_124 : decode cX0_shapeKernel 124 = .ok (.if_icmp .ge 90, 3) := by decide +kernel
theorem dX0_shapeKernel_127 : decode cX0_shapeKernel 127 = .ok (.aload_n 0, 1) := by decide +kernel
theorem dX0_shapeKernel_128 : decode cX0_shapeKernel 128 = .ok (.getfield 22, 3) := by decide +kernel
theorem dX0_shapeKernel_131 : decode cX0_shapeKernel 131 = .ok (.iload_n 2, 1) := by decide +kernel
theorem dX0_shapeKernel_132 : decode cX0_shapeKernel 132 = .ok (.iaload, 1) := by decide +kernel
theorem dX0_shapeKernel_133 : decode cX0_shapeKernel 133 = .ok (.istore_n 3, 1) := by decide +kernel
theorem dX0_shapeKernel_134 : decode cX0_shapeKernel 134 = .ok (.aload_n 0, 1) := by decide +kernel
theorem dX0_shapeKernel_135 : decode cX0_shapeKernel 135 = .ok (.getfield 22, 3) := by decide +kernel
theorem dX0_shapeKernel_138 : decode cX0_shapeKernel 138 = .ok (.iconst 4, 1) := by decide +kernel
theorem dX0_shapeKernel_139 : decode cX0_shapeKernel 139 = .ok (.iload_n 2, 1) := by decide +kernel
theorem dX0_shapeKernel_140 : decode cX0_shapeKernel 140 = .ok (.iadd, 1) := by decide +kernel
theorem dX0_shapeKernel_141 : decode cX0_shapeKernel 141 = .ok (.iaload, 1) := by decide +kernel
theorem dX0_shapeKernel_142 : decode cX0_shapeKernel 142 = .ok (.istore 4, 2) := by decide +kernel
theorem dX0_shapeKernel_144 : decode cX0_shapeKernel 144 = .ok (.aload_n 0, 1) := by decide +kernel
theorem dX0_shapeKernel_145 : decode cX0_shapeKernel 145 = .ok (.getfield 22, 3) := by decide +kernel
theorem dX0_shapeKernel_148 : decode cX0_shapeKernel 148 = .ok (.bipush 8, 2) := by decide +kernel
theorem dX0_shapeKernel_150 : decode cX0_shapeKernel 150 = .ok (.iload_n 2, 1) := by decide +kernel
theorem dX0_shapeKernel_151 : decode cX0_shapeKernel 151 = .ok (.iadd, 1) := by decide +kernel
theorem dX0_shapeKernel_152 : decode cX0_shapeKernel 152 = .ok (.iaload, 1) := by decide +kernel
theorem dX0_shapeKernel_153 : decode cX0_shapeKernel 153 = .ok (.istore 5, 2) := by decide +kernel
theorem dX0_shapeKernel_155 : decode cX0_shapeKernel 155 = .ok (.aload_n 0, 1) := by decide +kernel
theorem dX0_shapeKernel_156 : decode cX0_shapeKernel 156 = .ok (.getfield 25, 3) := by decide +kernel
theorem dX0_shapeKernel_159 : decode cX0_shapeKernel 159 = .ok (.iload_n 2, 1) := by decide +kernel
theorem dX0_shapeKernel_160 : decode cX0_shapeKernel 160 = .ok (.iconst 2, 1) := by decide +kernel
theorem dX0_shapeKernel_161 : decode cX0_shapeKernel 161 = .ok (.iload_n 3, 1) := by decide +kernel
theorem dX0_shapeKernel_162 : decode cX0_shapeKernel 162 = .ok (.imul, 1) := by decide +kernel
theorem dX0_shapeKernel_163 : decode cX0_shapeKernel 163 = .ok (.iastore, 1) := by decide +kernel
theorem dX0_shapeKernel_164 : decode cX0_shapeKernel 164 = .ok (.aload_n 0, 1) := by decide +kernel
theorem dX0_shapeKernel_165 : decode cX0_shapeKernel 165 = .ok (.getfield 25, 3) := by decide +kernel
theorem dX0_shapeKernel_168 : decode cX0_shapeKernel 168 = .ok (.iconst 4, 1) := by decide +kernel
theorem dX0_shapeKernel_169 : decode cX0_shapeKernel 169 = .ok (.iload_n 2, 1) := by decide +kernel
theorem dX0_shapeKernel_170 : decode cX0_shapeKernel 170 = .ok (.iadd, 1) := by decide +kernel
theorem dX0_shapeKernel_171 : decode cX0_shapeKernel 171 = .ok (.iload_n 3, 1) := by decide +kernel
theorem dX0_shapeKernel_172 : decode cX0_shapeKernel 172 = .ok (.iload 4, 2) := by decide +kernel
theorem dX0_shapeKernel_174 : decode cX0_shapeKernel 174 = .ok (.iadd, 1) := by decide +kernel
theorem dX0_shapeKernel_175 : decode cX0_shapeKernel 175 = .ok (.iload 5, 2) := by decide +kernel
theorem dX0_shapeKernel_177 : decode cX0_shapeKernel 177 = .ok (.iadd, 1) := by decide +kernel
theorem dX0_shapeKernel_178 : decode cX0_shapeKernel 178 = .ok (.iastore, 1) := by decide +kernel
theorem dX0_shapeKernel_179 : decode cX0_shapeKernel 179 = .ok (.aload_n 0, 1) := by decide +kernel
theorem dX0_shapeKernel_180 : decode cX0_shapeKernel 180 = .ok (.getfield 25, 3) := by decide +kernel
theorem dX0_shapeKernel_183 : decode cX0_shapeKernel 183 = .ok (.bipush 8, 2) := by decide +kernel
theorem dX0_shapeKernel_185 : decode cX0_shapeKernel 185 = .ok (.iload_n 2, 1) := by decide +kernel
theorem dX0_shapeKernel_186 : decode cX0_shapeKernel 186 = .ok (.iadd, 1) := by decide +kernel
theorem dX0_shapeKernel_187 : decode cX0_shapeKernel 187 = .ok (.iload_n 3, 1) := by decide +kernel
theorem dX0_shapeKernel_188 : decode cX0_shapeKernel 188 = .ok (.iload 4, 2) := by decide +kernel
theorem dX0_shapeKernel_190 : decode cX0_shapeKernel 190 = .ok (.isub, 1) := by decide +kernel
theorem dX0_shapeKernel_191 : decode cX0_shapeKernel 191 = .ok (.iload 5, 2) := by decide +kernel
theorem dX0_shapeKernel_193 : decode cX0_shapeKernel 193 = .ok (.iadd, 1) := by decide +kernel
theorem dX0_shapeKernel_194 : decode cX0_shapeKernel 194 = .ok (.iastore, 1) := by decide +kernel
theorem dX0_shapeKernel_195 : decode cX0_shapeKernel 195 = .ok (.aload_n 0, 1) := by decide +kernel
theorem dX0_shapeKernel_196 : decode cX0_shapeKernel 196 = .ok (.getfield 25, 3) := by decide +kernel
theorem dX0_shapeKernel_199 : decode cX0_shapeKernel 199 = .ok (.bipush 12, 2) := by decide +kernel
theorem dX0_shapeKernel_201 : decode cX0_shapeKernel 201 = .ok (.iload_n 2, 1) := by decide +kernel
theorem dX0_shapeKernel_202 : decode cX0_shapeKernel 202 = .ok (.iadd, 1) := by decide +kernel
theorem dX0_shapeKernel_203 : decode cX0_shapeKernel 203 = .ok (.iconst 2, 1) := by decide +kernel
theorem dX0_shapeKernel_204 : decode cX0_shapeKernel 204 = .ok (.iload 5, 2) := by decide +kernel
theorem dX0_shapeKernel_206 : decode cX0_shapeKernel 206 = .ok (.imul, 1) := by decide +kernel
theorem dX0_shapeKernel_207 : decode cX0_shapeKernel 207 = .ok (.iastore, 1) := by decide +kernel
theorem dX0_shapeKernel_208 : decode cX0_shapeKernel 208 = .ok (.iinc 2 1, 3) := by decide +kernel
theorem dX0_shapeKernel_211 : decode cX0_shapeKernel 211 = .ok (.goto (-89), 3) := by decide +kernel
theorem dX0_shapeKernel_214 : decode cX0_shapeKernel 214 = .ok (.return_, 1) := by decide +kernel
theorem dX0_addTile_0 : decode cX0_addTile 0 = .ok (.iconst 0, 1) := by decide +kernel
theorem dX0_addTile_1 : decode cX0_addTile 1 = .ok (.istore 4, 2) := by decide +kernel
theorem dX0_addTile_3 : decode cX0_addTile 3 = .ok (.iload 4, 2) := by decide +kernel
theorem dX0_addTile_5 : decode cX0_addTile 5 = .ok (.iconst 4, 1) := by decide +kernel
theorem dX0_addTile_6 : decode cX0_addTile 6 = .ok (.if_icmp .ge 59, 3) := by decide +kernel
theorem dX0_addTile_9 : decode cX0_addTile 9 = .ok (.iconst 0, 1) := by decide +kernel
theorem dX0_addTile_10 : decode cX0_addTile 10 = .ok (.istore 5, 2) := by decide +kernel
theorem dX0_addTile_12 : decode cX0_addTile 12 = .ok (.iload 5, 2) := by decide +kernel
theorem dX0_addTile_14 : decode cX0_addTile 14 = .ok (.iconst 4, 1) := by decide +kernel
theorem dX0_addTile_15 : decode cX0_addTile 15 = .ok (.if_icmp .ge 44, 3) := by decide +kernel
theorem dX0_addTile_18 : decode cX0_addTile 18 = .ok (.aload_n 0, 1) := by decide +kernel
theorem dX0_addTile_19 : decode cX0_addTile 19 = .ok (.getfield 19, 3) := by decide +kernel
theorem dX0_addTile_22 : decode cX0_addTile 22 = .ok (.iconst 4, 1) := by decide +kernel
theorem dX0_addTile_23 : decode cX0_addTile 23 = .ok (.iload 4, 2) := by decide +kernel
theorem dX0_addTile_25 : decode cX0_addTile 25 = .ok (.imul, 1) := by decide +kernel
theorem dX0_addTile_26 : decode cX0_addTile 26 = .ok (.iload 5, 2) := by decide +kernel
theorem dX0_addTile_28 : decode cX0_addTile 28 = .ok (.iadd, 1) := by decide +kernel
theorem dX0_addTile_29 : decode cX0_addTile 29 = .ok (.aload_n 0, 1) := by decide +kernel
theorem dX0_addTile_30 : decode cX0_addTile 30 = .ok (.iload_n 1, 1) := by decide +kernel
theorem dX0_addTile_31 : decode cX0_addTile 31 = .ok (.iload_n 2, 1) := by decide +kernel
theorem dX0_addTile_32 : decode cX0_addTile 32 = .ok (.iload 5, 2) := by decide +kernel
theorem dX0_addTile_34 : decode cX0_addTile 34 = .ok (.iadd, 1) := by decide +kernel
theorem dX0_addTile_35 : decode cX0_addTile 35 = .ok (.aload_n 0, 1) := by decide +kernel
theorem dX0_addTile_36 : decode cX0_addTile 36 = .ok (.getfield 56, 3) := by decide +kernel
theorem dX0_addTile_39 : decode cX0_addTile 39 = .ok (.isub, 1) := by decide +kernel
theorem dX0_addTile_40 : decode cX0_addTile 40 = .ok (.iload_n 3, 1) := by decide +kernel
theorem dX0_addTile_41 : decode cX0_addTile 41 = .ok (.iload 4, 2) := by decide +kernel
theorem dX0_addTile_43 : decode cX0_addTile 43 = .ok (.iadd, 1) := by decide +kernel
theorem dX0_addTile_44 : decode cX0_addTile 44 = .ok (.aload_n 0, 1) := by decide +kernel
theorem dX0_addTile_45 : decode cX0_addTile 45 = .ok (.getfield 56, 3) := by decide +kernel
theorem dX0_addTile_48 : decode cX0_addTile 48 = .ok (.isub, 1) := by decide +kernel
theorem dX0_addTile_49 : decode cX0_addTile 49 = .ok (.invokevirtual 72, 3) := by decide +kernel
theorem dX0_addTile_52 : decode cX0_addTile 52 = .ok (.iastore, 1) := by decide +kernel
theorem dX0_addTile_53 : decode cX0_addTile 53 = .ok (.iinc 5 1, 3) := by decide +kernel
theorem dX0_addTile_56 : decode cX0_addTile 56 = .ok (.goto (-44), 3) := by decide +kernel
theorem dX0_addTile_59 : decode cX0_addTile 59 = .ok (.iinc 4 1, 3) := by decide +kernel
theorem dX0_addTile_62 : decode cX0_addTile 62 = .ok (.goto (-59), 3) := by decide +kernel
theorem dX0_addTile_65 : decode cX0_addTile 65 = .ok (.iconst 0, 1) := by decide +kernel
theorem dX0_addTile_66 : decode cX0_addTile 66 = .ok (.istore 4, 2) := by decide +kernel
theorem dX0_addTile_68 : decode cX0_addTile 68 = .ok (.iload 4, 2) := by decide +kernel
theorem dX0_addTile_70 : decode cX0_addTile 70 = .ok (.iconst 4, 1) := by decide +kernel
theorem dX0_addTile_71 : decode cX0_addTile 71 = .ok (.if_icmp .ge 18, 3) := by decide +kernel
theorem dX0_addTile_74 : decode cX0_addTile 74 = .ok (.aload_n 0, 1) := by decide +kernel
theorem dX0_addTile_75 : decode cX0_addTile 75 = .ok (.iconst 4, 1) := by decide +kernel
theorem dX0_addTile_76 : decode cX0_addTile 76 = .ok (.iload 4, 2) := by decide +kernel
theorem dX0_addTile_78 : decode cX0_addTile 78 = .ok (.imul, 1) := by decide +kernel
theorem dX0_addTile_79 : decode cX0_addTile 79 = .ok (.iconst 1, 1) := by decide +kernel
theorem dX0_addTile_80 : decode cX0_addTile 80 = .ok (.invokevirtual 76, 3) := by decide +kernel
theorem dX0_addTile_83 : decode cX0_addTile 83 = .ok (.iinc 4 1, 3) := by decide +kernel
theorem dX0_addTile_86 : decode cX0_addTile 86 = .ok (.goto (-18), 3) := by decide +kernel
theorem dX0_addTile_89 : decode cX0_addTile 89 = .ok (.iconst 0, 1) := by decide +kernel
theorem dX0_addTile_90 : decode cX0_addTile 90 = .ok (.istore 4, 2) := by decide +kernel
theorem dX0_addTile_92 : decode cX0_addTile 92 = .ok (.iload 4, 2) := by decide +kernel
theorem dX0_addTile_94 : decode cX0_addTile 94 = .ok (.iconst 4, 1) := by decide +kernel
theorem dX0_addTile_95 : decode cX0_addTile 95 = .ok (.if_icmp .ge 16, 3) := by decide +kernel
theorem dX0_addTile_98 : decode cX0_addTile 98 = .ok (.aload_n 0, 1) := by decide +kernel
theorem dX0_addTile_99 : decode cX0_addTile 99 = .ok (.iload 4, 2) := by decide +kernel
theorem dX0_addTile_101 : decode cX0_addTile 101 = .ok (.iconst 4, 1) := by decide +kernel
theorem dX0_addTile_102 : decode cX0_addTile 102 = .ok (.invokevirtual 76, 3) := by decide +kernel
theorem dX0_addTile_105 : decode cX0_addTile 105 = .ok (.iinc 4 1, 3) := by decide +kernel
theorem dX0_addTile_108 : decode cX0_addTile 108 = .ok (.goto (-16), 3) := by decide +kernel
theorem dX0_addTile_111 : decode cX0_addTile 111 = .ok (.iconst 0, 1) := by decide +kernel
theorem dX0_addTile_112 : decode cX0_addTile 112 = .ok (.istore 4, 2) := by decide +kernel
theorem dX0_addTile_114 : decode cX0_addTile 114 = .ok (.iload 4, 2) := by decide +kernel
theorem dX0_addTile_116 : decode cX0_addTile 116 = .ok (.bipush 16, 2) := by decide +kernel
theorem dX0_addTile_118 : decode cX0_addTile 118 = .ok (.if_icmp .ge 31, 3) := by decide +kernel
theorem dX0_addTile_121 : decode cX0_addTile 121 = .ok (.aload_n 0, 1) := by decide +kernel
theorem dX0_addTile_122 : decode cX0_addTile 122 = .ok (.getfield 28, 3) := by decide +kernel
theorem dX0_addTile_125 : decode cX0_addTile 125 = .ok (.iload 4, 2) := by decide +kernel
theorem dX0_addTile_127 : decode cX0_addTile 127 = .ok (.aload_n 0, 1) := by decide +kernel
theorem dX0_addTile_128 : decode cX0_addTile 128 = .ok (.getfield 19, 3) := by decide +kernel
theorem dX0_addTile_131 : decode cX0_addTile 131 = .ok (.iload 4, 2) := by decide +kernel
theorem dX0_addTile_133 : decode cX0_addTile 133 = .ok (.iaload, 1) := by decide +kernel
theorem dX0_addTile_134 : decode cX0_addTile 134 = .ok (.aload_n 0, 1) := by decide +kernel
theorem dX0_addTile_135 : decode cX0_addTile 135 = .ok (.getfield 25, 3) := by decide +kernel
theorem dX0_addTile_138 : decode cX0_addTile 138 = .ok (.iload 4, 2) := by decide +kernel
theorem dX0_addTile_140 : decode cX0_addTile 140 = .ok (.iaload, 1) := by decide +kernel
theorem dX0_addTile_141 : decode cX0_addTile 141 = .ok (.imul, 1) := by decide +kernel
theorem dX0_addTile_142 : decode cX0_addTile 142 = .ok (.iastore, 1) := by decide +kernel
theorem dX0_addTile_143 : decode cX0_addTile 143 = .ok (.iinc 4 1, 3) := by decide +kernel
theorem dX0_addTile_146 : decode cX0_addTile 146 = .ok (.goto (-32), 3) := by decide +kernel
theorem dX0_addTile_149 : decode cX0_addTile 149 = .ok (.iconst 0, 1) := by decide +kernel
theorem dX0_addTile_150 : decode cX0_addTile 150 = .ok (.istore 4, 2) := by decide +kernel
theorem dX0_addTile_152 : decode cX0_addTile 152 = .ok (.iload 4, 2) := by decide +kernel
theorem dX0_addTile_154 : decode cX0_addTile 154 = .ok (.iconst 4, 1) := by decide +kernel
theorem dX0_addTile_155 : decode cX0_addTile 155 = .ok (.if_icmp .ge 92, 3) := by decide +kernel
theorem dX0_addTile_158 : decode cX0_addTile 158 = .ok (.aload_n 0, 1) := by decide +kernel
theorem dX0_addTile_159 : decode cX0_addTile 159 = .ok (.getfield 28, 3) := by decide +kernel
theorem dX0_addTile_162 : decode cX0_addTile 162 = .ok (.iload 4, 2) := by decide +kernel
theorem dX0_addTile_164 : decode cX0_addTile 164 = .ok (.iaload, 1) := by decide +kernel
theorem dX0_addTile_165 : decode cX0_addTile 165 = .ok (.aload_n 0, 1) := by decide +kernel
theorem dX0_addTile_166 : decode cX0_addTile 166 = .ok (.getfield 28, 3) := by decide +kernel
theorem dX0_addTile_169 : decode cX0_addTile 169 = .ok (.iconst 4, 1) := by decide +kernel
theorem dX0_addTile_170 : decode cX0_addTile 170 = .ok (.iload 4, 2) := by decide +kernel
theorem dX0_addTile_172 : decode cX0_addTile 172 = .ok (.iadd, 1) := by decide +kernel
theorem dX0_addTile_173 : decode cX0_addTile 173 = .ok (.iaload, 1) := by decide +kernel
theorem dX0_addTile_174 : decode cX0_addTile 174 = .ok (.iadd, 1) := by decide +kernel
theorem dX0_addTile_175 : decode cX0_addTile 175 = .ok (.aload_n 0, 1) := by decide +kernel
theorem dX0_addTile_176 : decode cX0_addTile 176 = .ok (.getfield 28, 3) := by decide +kernel
theorem dX0_addTile_179 : decode cX0_addTile 179 = .ok (.bipush 8, 2) := by decide +kernel
theorem dX0_addTile_181 : decode cX0_addTile 181 = .ok (.iload 4, 2) := by decide +kernel
theorem dX0_addTile_183 : decode cX0_addTile 183 = .ok (.iadd, 1) := by decide +kernel
theorem dX0_addTile_184 : decode cX0_addTile 184 = .ok (.iaload, 1) := by decide +kernel
theorem dX0_addTile_185 : decode cX0_addTile 185 = .ok (.iadd, 1) := by decide +kernel
theorem dX0_addTile_186 : decode cX0_addTile 186 = .ok (.istore 5, 2) := by decide +kernel
theorem dX0_addTile_188 : decode cX0_addTile 188 = .ok (.aload_n 0, 1) := by decide +kernel
theorem dX0_addTile_189 : decode cX0_addTile 189 = .ok (.getfield 28, 3) := by decide +kernel
theorem dX0_addTile_192 : decode cX0_addTile 192 = .ok (.iconst 4, 1) := by decide +kernel
theorem dX0_addTile_193 : decode cX0_addTile 193 = .ok (.iload 4, 2) := by decide +kernel
theorem dX0_addTile_195 : decode cX0_addTile 195 = .ok (.iadd, 1) := by decide +kernel
theorem dX0_addTile_196 : decode cX0_addTile 196 = .ok (.iaload, 1) := by decide +kernel
theorem dX0_addTile_197 : decode cX0_addTile 197 = .ok (.aload_n 0, 1) := by decide +kernel
theorem dX0_addTile_198 : decode cX0_addTile 198 = .ok (.getfield 28, 3) := by decide +kernel
theorem dX0_addTile_201 : decode cX0_addTile 201 = .ok (.bipush 8, 2) := by decide +kernel
theorem dX0_addTile_203 : decode cX0_addTile 203 = .ok (.iload 4, 2) := by decide +kernel
theorem dX0_addTile_205 : decode cX0_addTile 205 = .ok (.iadd, 1) := by decide +kernel
theorem dX0_addTile_206 : decode cX0_addTile 206 = .ok (.iaload, 1) := by decide +kernel
theorem dX0_addTile_207 : decode cX0_addTile 207 = .ok (.isub, 1) := by decide +kernel
theorem dX0_addTile_208 : decode cX0_addTile 208 = .ok (.aload_n 0, 1) := by decide +kernel
theorem dX0_addTile_209 : decode cX0_addTile 209 = .ok (.getfield 28, 3) := by decide +kernel
theorem dX0_addTile_212 : decode cX0_addTile 212 = .ok (.bipush 12, 2) := by decide +kernel
theorem dX0_addTile_214 : decode cX0_addTile 214 = .ok (.iload 4, 2) := by decide +kernel
theorem dX0_addTile_216 : decode cX0_addTile 216 = .ok (.iadd, 1) := by decide +kernel
theorem dX0_addTile_217 : decode cX0_addTile 217 = .ok (.iaload, 1) := by decide +kernel
theorem dX0_addTile_218 : decode cX0_addTile 218 = .ok (.isub, 1) := by decide +kernel
theorem dX0_addTile_219 : decode cX0_addTile 219 = .ok (.istore 6, 2) := by decide +kernel
theorem dX0_addTile_221 : decode cX0_addTile 221 = .ok (.aload_n 0, 1) := by decide +kernel
theorem dX0_addTile_222 : decode cX0_addTile 222 = .ok (.getfield 28, 3) := by decide +kernel
theorem dX0_addTile_225 : decode cX0_addTile 225 = .ok (.iload 4, 2) := by decide +kernel
theorem dX0_addTile_227 : decode cX0_addTile 227 = .ok (.iload 5, 2) := by decide +kernel
theorem dX0_addTile_229 : decode cX0_addTile 229 = .ok (.iastore, 1) := by decide +kernel
theorem dX0_addTile_230 : decode cX0_addTile 230 = .ok (.aload_n 0, 1) := by decide +kernel
theorem dX0_addTile_231 : decode cX0_addTile 231 = .ok (.getfield 28, 3) := by decide +kernel
theorem dX0_addTile_234 : decode cX0_addTile 234 = .ok (.iconst 4, 1) := by decide +kernel
theorem dX0_addTile_235 : decode cX0_addTile 235 = .ok (.iload 4, 2) := by decide +kernel
theorem dX0_addTile_237 : decode cX0_addTile 237 = .ok (.iadd, 1) := by decide +kernel
theorem dX0_addTile_238 : decode cX0_addTile 238 = .ok (.iload 6, 2) := by decide +kernel
theorem dX0_addTile_240 : decode cX0_addTile 240 = .ok (.iastore, 1) := by decide +kernel
theorem dX0_addTile_241 : decode cX0_addTile 241 = .ok (.iinc 4 1, 3) := by decide +kernel
theorem dX0_addTile_244 : decode cX0_addTile 244 = .ok (.goto (-92), 3) := by decide +kernel
theorem dX0_addTile_247 : decode cX0_addTile 247 = .ok (.iconst 0, 1) := by decide +kernel
theorem dX0_addTile_248 : decode cX0_addTile 248 = .ok (.istore 4, 2) := by decide +kernel
theorem dX0_addTile_250 : decode cX0_addTile 250 = .ok (.iload 4, 2) := by decide +kernel
theorem dX0_addTile_252 : decode cX0_addTile 252 = .ok (.iconst 2, 1) := by decide +kernel
theorem dX0_addTile_253 : decode cX0_addTile 253 = .ok (.if_icmp .ge 109, 3) := by decide +kernel
theorem dX0_addTile_256 : decode cX0_addTile 256 = .ok (.aload_n 0, 1) := by decide +kernel
theorem dX0_addTile_257 : decode cX0_addTile 257 = .ok (.getfield 28, 3) := by decide +kernel
theorem dX0_addTile_260 : decode cX0_addTile 260 = .ok (.iconst 4, 1) := by decide +kernel
theorem dX0_addTile_261 : decode cX0_addTile 261 = .ok (.iload 4, 2) := by decide +kernel
theorem dX0_addTile_263 : decode cX0_addTile 263 = .ok (.imul, 1) := by decide +kernel
theorem dX0_addTile_264 : decode cX0_addTile 264 = .ok (.iaload, 1) := by decide +kernel
theorem dX0_addTile_265 : decode cX0_addTile 265 = .ok (.aload_n 0, 1) := by decide +kernel
theorem dX0_addTile_266 : decode cX0_addTile 266 = .ok (.getfield 28, 3) := by decide +kernel
theorem dX0_addTile_269 : decode cX0_addTile 269 = .ok (.iconst 4, 1) := by decide +kernel
theorem dX0_addTile_270 : decode cX0_addTile 270 = .ok (.iload 4, 2) := by decide +kernel
theorem dX0_addTile_272 : decode cX0_addTile 272 = .ok (.imul, 1) := by decide +kernel
theorem dX0_addTile_273 : decode cX0_addTile 273 = .ok (.iconst 1, 1) := by decide +kernel
theorem dX0_addTile_274 : decode cX0_addTile 274 = .ok (.iadd, 1) := by decide +kernel
theorem dX0_addTile_275 : decode cX0_addTile 275 = .ok (.iaload, 1) := by decide +kernel
theorem dX0_addTile_276 : decode cX0_addTile 276 = .ok (.iadd, 1) := by decide +kernel
theorem dX0_addTile_277 : decode cX0_addTile 277 = .ok (.aload_n 0, 1) := by decide +kernel
theorem dX0_addTile_278 : decode cX0_addTile 278 = .ok (.getfield 28, 3) := by decide +kernel
theorem dX0_addTile_281 : decode cX0_addTile 281 = .ok (.iconst 4, 1) := by decide +kernel
theorem dX0_addTile_282 : decode cX0_addTile 282 = .ok (.iload 4, 2) := by decide +kernel
theorem dX0_addTile_284 : decode cX0_addTile 284 = .ok (.imul, 1) := by decide +kernel
theorem dX0_addTile_285 : decode cX0_addTile 285 = .ok (.iconst 2, 1) := by decide +kernel
theorem dX0_addTile_286 : decode cX0_addTile 286 = .ok (.iadd, 1) := by decide +kernel
theorem dX0_addTile_287 : decode cX0_addTile 287 = .ok (.iaload, 1) := by decide +kernel
theorem dX0_addTile_288 : decode cX0_addTile 288 = .ok (.iadd, 1) := by decide +kernel
theorem dX0_addTile_289 : decode cX0_addTile 289 = .ok (.istore 5, 2) := by decide +kernel
theorem dX0_addTile_291 : decode cX0_addTile 291 = .ok (.aload_n 0, 1) := by decide +kernel
theorem dX0_addTile_292 : decode cX0_addTile 292 = .ok (.getfield 28, 3) := by decide +kernel
theorem dX0_addTile_295 : decode cX0_addTile 295 = .ok (.iconst 4, 1) := by decide +kernel
theorem dX0_addTile_296 : decode cX0_addTile 296 = .ok (.iload 4, 2) := by decide +kernel
theorem dX0_addTile_298 : decode cX0_addTile 298 = .ok (.imul, 1) := by decide +kernel
theorem dX0_addTile_299 : decode cX0_addTile 299 = .ok (.iconst 1, 1) := by decide +kernel
theorem dX0_addTile_300 : decode cX0_addTile 300 = .ok (.iadd, 1) := by decide +kernel
theorem dX0_addTile_301 : decode cX0_addTile 301 = .ok (.iaload, 1) := by decide +kernel
theorem dX0_addTile_302 : decode cX0_addTile 302 = .ok (.aload_n 0, 1) := by decide +kernel
theorem dX0_addTile_303 : decode cX0_addTile 303 = .ok (.getfield 28, 3) := by decide +kernel
theorem dX0_addTile_306 : decode cX0_addTile 306 = .ok (.iconst 4, 1) := by decide +kernel
theorem dX0_addTile_307 : decode cX0_addTile 307 = .ok (.iload 4, 2) := by decide +kernel
theorem dX0_addTile_309 : decode cX0_addTile 309 = .ok (.imul, 1) := by decide +kernel
theorem dX0_addTile_310 : decode cX0_addTile 310 = .ok (.iconst 2, 1) := by decide +kernel
theorem dX0_addTile_311 : decode cX0_addTile 311 = .ok (.iadd, 1) := by decide +kernel
theorem dX0_addTile_312 : decode cX0_addTile 312 = .ok (.iaload, 1) := by decide +kernel
theorem dX0_addTile_313 : decode cX0_addTile 313 = .ok (.isub, 1) := by decide +kernel
theorem dX0_addTile_314 : decode cX0_addTile 314 = .ok (.aload_n 0, 1) := by decide +kernel
theorem dX0_addTile_315 : decode cX0_addTile 315 = .ok (.getfield 28, 3) := by decide +kernel
theorem dX0_addTile_318 : decode cX0_addTile 318 = .ok (.iconst 4, 1) := by decide +kernel
theorem dX0_addTile_319 : decode cX0_addTile 319 = .ok (.iload 4, 2) := by decide +kernel
theorem dX0_addTile_321 : decode cX0_addTile 321 = .ok (.imul, 1) := by decide +kernel
theorem dX0_addTile_322 : decode cX0_addTile 322 = .ok (.iconst 3, 1) := by decide +kernel
theorem dX0_addTile_323 : decode cX0_addTile 323 = .ok (.iadd, 1) := by decide +kernel
theorem dX0_addTile_324 : decode cX0_addTile 324 = .ok (.iaload, 1) := by decide +kernel
theorem dX0_addTile_325 : decode cX0_addTile 325 = .ok (.isub, 1) := by decide +kernel
theorem dX0_addTile_326 : decode cX0_addTile 326 = .ok (.istore 6, 2) := by decide +kernel
theorem dX0_addTile_328 : decode cX0_addTile 328 = .ok (.aload_n 0, 1) := by decide +kernel
theorem dX0_addTile_329 : decode cX0_addTile 329 = .ok (.iload_n 2, 1) := by decide +kernel
theorem dX0_addTile_330 : decode cX0_addTile 330 = .ok (.iload_n 3, 1) := by decide +kernel
theorem dX0_addTile_331 : decode cX0_addTile 331 = .ok (.iload 4, 2) := by decide +kernel
theorem dX0_addTile_333 : decode cX0_addTile 333 = .ok (.iadd, 1) := by decide +kernel
theorem dX0_addTile_334 : decode cX0_addTile 334 = .ok (.iload 5, 2) := by decide +kernel
theorem dX0_addTile_336 : decode cX0_addTile 336 = .ok (.iconst 4, 1) := by decide +kernel
theorem dX0_addTile_337 : decode cX0_addTile 337 = .ok (.idiv, 1) := by decide +kernel
theorem dX0_addTile_338 : decode cX0_addTile 338 = .ok (.invokevirtual 80, 3) := by decide +kernel
theorem dX0_addTile_341 : decode cX0_addTile 341 = .ok (.aload_n 0, 1) := by decide +kernel
theorem dX0_addTile_342 : decode cX0_addTile 342 = .ok (.iload_n 2, 1) := by decide +kernel
theorem dX0_addTile_343 : decode cX0_addTile 343 = .ok (.iconst 1, 1) := by decide +kernel
theorem dX0_addTile_344 : decode cX0_addTile 344 = .ok (.iadd, 1) := by decide +kernel
theorem dX0_addTile_345 : decode cX0_addTile 345 = .ok (.iload_n 3, 1) := by decide +kernel
theorem dX0_addTile_346 : decode cX0_addTile 346 = .ok (.iload 4, 2) := by decide +kernel
theorem dX0_addTile_348 : decode cX0_addTile 348 = .ok (.iadd, 1) := by decide +kernel
theorem dX0_addTile_349 : decode cX0_addTile 349 = .ok (.iload 6, 2) := by decide +kernel
theorem dX0_addTile_351 : decode cX0_addTile 351 = .ok (.iconst 4, 1) := by decide +kernel
theorem dX0_addTile_352 : decode cX0_addTile 352 = .ok (.idiv, 1) := by decide +kernel
theorem dX0_addTile_353 : decode cX0_addTile 353 = .ok (.invokevirtual 80, 3) := by decide +kernel
theorem dX0_addTile_356 : decode cX0_addTile 356 = .ok (.iinc 4 1, 3) := by decide +kernel
theorem dX0_addTile_359 : decode cX0_addTile 359 = .ok (.goto (-109), 3) := by decide +kernel
theorem dX0_addTile_362 : decode cX0_addTile 362 = .ok (.return_, 1) := by decide +kernel
theorem dX0_at_0 : decode cX0_at 0 = .ok (.iload_n 2, 1) := by decide +kernel
theorem dX0_at_1 : decode cX0_at 1 = .ok (.ifCond .lt 19, 3) := by decide +kernel
theorem dX0_at_4 : decode cX0_at 4 = .ok (.iload_n 2, 1) := by decide +kernel
theorem dX0_at_5 : decode cX0_at 5 = .ok (.bipush 8, 2) := by decide +kernel
theorem dX0_at_7 : decode cX0_at 7 = .ok (.if_icmp .ge 13, 3) := by decide +kernel
theorem dX0_at_10 : decode cX0_at 10 = .ok (.iload_n 3, 1) := by decide +kernel
theorem dX0_at_11 : decode cX0_at 11 = .ok (.ifCond .lt 9, 3) := by decide +kernel
theorem dX0_at_14 : decode cX0_at 14 = .ok (.iload_n 3, 1) := by decide +kernel
theorem dX0_at_15 : decode cX0_at 15 = .ok (.bipush 8, 2) := by decide +kernel
theorem dX0_at_17 : decode cX0_at 17 = .ok (.if_icmp .lt 5, 3) := by decide +kernel
theorem dX0_at_20 : decode cX0_at 20 = .ok (.iconst 0, 1) := by decide +kernel
theorem dX0_at_21 : decode cX0_at 21 = .ok (.ireturn, 1) := by decide +kernel
theorem dX0_at_22 : decode cX0_at 22 = .ok (.aload_n 0, 1) := by decide +kernel
theorem dX0_at_23 : decode cX0_at 23 = .ok (.getfield 7, 3) := by decide +kernel
theorem dX0_at_26 : decode cX0_at 26 = .ok (.bipush 64, 2) := by decide +kernel
theorem dX0_at_28 : decode cX0_at 28 = .ok (.iload_n 1, 1) := by decide +kernel
theorem dX0_at_29 : decode cX0_at 29 = .ok (.imul, 1) := by decide +kernel
theorem dX0_at_30 : decode cX0_at 30 = .ok (.bipush 8, 2) := by decide +kernel
theorem dX0_at_32 : decode cX0_at 32 = .ok (.iload_n 3, 1) := by decide +kernel
theorem dX0_at_33 : decode cX0_at 33 = .ok (.imul, 1) := by decide +kernel
theorem dX0_at_34 : decode cX0_at 34 = .ok (.iadd, 1) := by decide +kernel
theorem dX0_at_35 : decode cX0_at 35 = .ok (.iload_n 2, 1) := by decide +kernel
theorem dX0_at_36 : decode cX0_at 36 = .ok (.iadd, 1) := by decide +kernel
theorem dX0_at_37 : decode cX0_at 37 = .ok (.iaload, 1) := by decide +kernel
theorem dX0_at_38 : decode cX0_at 38 = .ok (.ireturn, 1) := by decide +kernel
theorem dX0_shapeFour_0 : decode cX0_shapeFour 0 = .ok (.aload_n 0, 1) := by decide +kernel
theorem dX0_shapeFour_1 : decode cX0_shapeFour 1 = .ok (.getfield 19, 3) := by decide +kernel
theorem dX0_shapeFour_4 : decode cX0_shapeFour 4 = .ok (.iload_n 1, 1) := by decide +kernel
theorem dX0_shapeFour_5 : decode cX0_shapeFour 5 = .ok (.iaload, 1) := by decide +kernel
theorem dX0_shapeFour_6 : decode cX0_shapeFour 6 = .ok (.istore_n 3, 1) := by decide +kernel
theorem dX0_shapeFour_7 : decode cX0_shapeFour 7 = .ok (.aload_n 0, 1) := by decide +kernel
theorem dX0_shapeFour_8 : decode cX0_shapeFour 8 = .ok (.getfield 19, 3) := by decide +kernel
theorem dX0_shapeFour_11 : decode cX0_shapeFour 11 = .ok (.iload_n 1, 1) := by decide +kernel
theorem dX0_shapeFour_12 : decode cX0_shapeFour 12 = .ok (.iload_n 2, 1) := by decide +kernel
theorem dX0_shapeFour_13 : decode cX0_shapeFour 13 = .ok (.iadd, 1) := by decide +kernel
theorem dX0_shapeFour_14 : decode cX0_shapeFour 14 = .ok (.iaload, 1) := by decide +kernel
theorem dX0_shapeFour_15 : decode cX0_shapeFour 15 = .ok (.istore 4, 2) := by decide +kernel
theorem dX0_shapeFour_17 : decode cX0_shapeFour 17 = .ok (.aload_n 0, 1) := by decide +kernel
theorem dX0_shapeFour_18 : decode cX0_shapeFour 18 = .ok (.getfield 19, 3) := by decide +kernel
theorem dX0_shapeFour_21 : decode cX0_shapeFour 21 = .ok (.iload_n 1, 1) := by decide +kernel
theorem dX0_shapeFour_22 : decode cX0_shapeFour 22 = .ok (.iconst 2, 1) := by decide +kernel
theorem dX0_shapeFour_23 : decode cX0_shapeFour 23 = .ok (.iload_n 2, 1) := by decide +kernel
theorem dX0_shapeFour_24 : decode cX0_shapeFour 24 = .ok (.imul, 1) := by decide +kernel
theorem dX0_shapeFour_25 : decode cX0_shapeFour 25 = .ok (.iadd, 1) := by decide +kernel
theorem dX0_shapeFour_26 : decode cX0_shapeFour 26 = .ok (.iaload, 1) := by decide +kernel
theorem dX0_shapeFour_27 : decode cX0_shapeFour 27 = .ok (.istore 5, 2) := by decide +kernel
theorem dX0_shapeFour_29 : decode cX0_shapeFour 29 = .ok (.aload_n 0, 1) := by decide +kernel
theorem dX0_shapeFour_30 : decode cX0_shapeFour 30 = .ok (.getfield 19, 3) := by decide +kernel
theorem dX0_shapeFour_33 : decode cX0_shapeFour 33 = .ok (.iload_n 1, 1) := by decide +kernel
theorem dX0_shapeFour_34 : decode cX0_shapeFour 34 = .ok (.iconst 3, 1) := by decide +kernel
theorem dX0_shapeFour_35 : decode cX0_shapeFour 35 = .ok (.iload_n 2, 1) := by decide +kernel
theorem dX0_shapeFour_36 : decode cX0_shapeFour 36 = .ok (.imul, 1) := by decide +kernel
theorem dX0_shapeFour_37 : decode cX0_shapeFour 37 = .ok (.iadd, 1) := by decide +kernel
theorem dX0_shapeFour_38 : decode cX0_shapeFour 38 = .ok (.iaload, 1) := by decide +kernel
theorem dX0_shapeFour_39 : decode cX0_shapeFour 39 = .ok (.istore 6, 2) := by decide +kernel
theorem dX0_shapeFour_41 : decode cX0_shapeFour 41 = .ok (.aload_n 0, 1) := by decide +kernel
theorem dX0_shapeFour_42 : decode cX0_shapeFour 42 = .ok (.getfield 19, 3) := by decide +kernel
theorem dX0_shapeFour_45 : decode cX0_shapeFour 45 = .ok (.iload_n 1, 1) := by decide +kernel
theorem dX0_shapeFour_46 : decode cX0_shapeFour 46 = .ok (.iload_n 3, 1) := by decide +kernel
theorem dX0_shapeFour_47 : decode cX0_shapeFour 47 = .ok (.iload 5, 2) := by decide +kernel
theorem dX0_shapeFour_49 : decode cX0_shapeFour 49 = .ok (.isub, 1) := by decide +kernel
theorem dX0_shapeFour_50 : decode cX0_shapeFour 50 = .ok (.iastore, 1) := by decide +kernel
theorem dX0_shapeFour_51 : decode cX0_shapeFour 51 = .ok (.aload_n 0, 1) := by decide +kernel
theorem dX0_shapeFour_52 : decode cX0_shapeFour 52 = .ok (.getfield 19, 3) := by decide +kernel
theorem dX0_shapeFour_55 : decode cX0_shapeFour 55 = .ok (.iload_n 1, 1) := by decide +kernel
theorem dX0_shapeFour_56 : decode cX0_shapeFour 56 = .ok (.iload_n 2, 1) := by decide +kernel
theorem dX0_shapeFour_57 : decode cX0_shapeFour 57 = .ok (.iadd, 1) := by decide +kernel
theorem dX0_shapeFour_58 : decode cX0_shapeFour 58 = .ok (.iload 4, 2) := by decide +kernel
theorem dX0_shapeFour_60 : decode cX0_shapeFour 60 = .ok (.iload 5, 2) := by decide +kernel
theorem dX0_shapeFour_62 : decode cX0_shapeFour 62 = .ok (.iadd, 1) := by decide +kernel
theorem dX0_shapeFour_63 : decode cX0_shapeFour 63 = .ok (.iastore, 1) := by decide +kernel
theorem dX0_shapeFour_64 : decode cX0_shapeFour 64 = .ok (.aload_n 0, 1) := by decide +kernel
theorem dX0_shapeFour_65 : decode cX0_shapeFour 65 = .ok (.getfield 19, 3) := by decide +kernel
theorem dX0_shapeFour_68 : decode cX0_shapeFour 68 = .ok (.iload_n 1, 1) := by decide +kernel
theorem dX0_shapeFour_69 : decode cX0_shapeFour 69 = .ok (.iconst 2, 1) := by decide +kernel
theorem dX0_shapeFour_70 : decode cX0_shapeFour 70 = .ok (.iload_n 2, 1) := by decide +kernel
theorem dX0_shapeFour_71 : decode cX0_shapeFour 71 = .ok (.imul, 1) := by decide +kernel
theorem dX0_shapeFour_72 : decode cX0_shapeFour 72 = .ok (.iadd, 1) := by decide +kernel
theorem dX0_shapeFour_73 : decode cX0_shapeFour 73 = .ok (.iload 5, 2) := by decide +kernel
theorem dX0_shapeFour_75 : decode cX0_shapeFour 75 = .ok (.iload 4, 2) := by decide +kernel
theorem dX0_shapeFour_77 : decode cX0_shapeFour 77 = .ok (.isub, 1) := by decide +kernel
theorem dX0_shapeFour_78 : decode cX0_shapeFour 78 = .ok (.iastore, 1) := by decide +kernel
theorem dX0_shapeFour_79 : decode cX0_shapeFour 79 = .ok (.aload_n 0, 1) := by decide +kernel
theorem dX0_shapeFour_80 : decode cX0_shapeFour 80 = .ok (.getfield 19, 3) := by decide +kernel
theorem dX0_shapeFour_83 : decode cX0_shapeFour 83 = .ok (.iload_n 1, 1) := by decide +kernel
theorem dX0_shapeFour_84 : decode cX0_shapeFour 84 = .ok (.iconst 3, 1) := by decide +kernel
theorem dX0_shapeFour_85 : decode cX0_shapeFour 85 = .ok (.iload_n 2, 1) := by decide +kernel
theorem dX0_shapeFour_86 : decode cX0_shapeFour 86 = .ok (.imul, 1) := by decide +kernel
theorem dX0_shapeFour_87 : decode cX0_shapeFour 87 = .ok (.iadd, 1) := by decide +kernel
theorem dX0_shapeFour_88 : decode cX0_shapeFour 88 = .ok (.iload 4, 2) := by decide +kernel
theorem dX0_shapeFour_90 : decode cX0_shapeFour 90 = .ok (.iload 6, 2) := by decide +kernel
theorem dX0_shapeFour_92 : decode cX0_shapeFour 92 = .ok (.isub, 1) := by decide +kernel
theorem dX0_shapeFour_93 : decode cX0_shapeFour 93 = .ok (.iastore, 1) := by decide +kernel
theorem dX0_shapeFour_94 : decode cX0_shapeFour 94 = .ok (.return_, 1) := by decide +kernel
end
section
set_option maxRecDepth 100000
theorem dX0_add_0 : decode cX0_add 0 = .ok (.iload_n 1, 1) := by decide +kernel
theorem dX0_add_1 : decode cX0_add 1 = .ok (.aload_n 0, 1) := by decide +kernel
theorem dX0_add_2 : decode cX0_add 2 = .ok (.getfield 84, 3) := by decide +kernel
theorem dX0_add_5 : decode cX0_add 5 = .ok (.if_icmp .ge 35, 3) := by decide +kernel
theorem dX0_add_8 : decode cX0_add 8 = .ok (.iload_n 2, 1) := by decide +kernel
theorem dX0_add_9 : decode cX0_add 9 = .ok (.aload_n 0, 1) := by decide +kernel
theorem dX0_add_10 : decode cX0_add 10 = .ok (.getfield 84, 3) := by decide +kernel
theorem dX0_add_13 : decode cX0_add 13 = .ok (.if_icmp .ge 27, 3) := by decide +kernel
theorem dX0_add_16 : decode cX0_add 16 = .ok (.aload_n 0, 1) := by decide +kernel
theorem dX0_add_17 : decode cX0_add 17 = .ok (.getfield 16, 3) := by decide +kernel
theorem dX0_add_20 : decode cX0_add 20 = .ok (.bipush 8, 2) := by decide +kernel
theorem dX0_add_22 : decode cX0_add 22 = .ok (.iload_n 2, 1) := by decide +kernel
theorem dX0_add_23 : decode cX0_add 23 = .ok (.imul, 1) := by decide +kernel
theorem dX0_add_24 : decode cX0_add 24 = .ok (.iload_n 1, 1) := by decide +kernel
theorem dX0_add_25 : decode cX0_add 25 = .ok (.iadd, 1) := by decide +kernel
theorem dX0_add_26 : decode cX0_add 26 = .ok (.aload_n 0, 1) := by decide +kernel
theorem dX0_add_27 : decode cX0_add 27 = .ok (.getfield 16, 3) := by decide +kernel
theorem dX0_add_30 : decode cX0_add 30 = .ok (.bipush 8, 2) := by decide +kernel
theorem dX0_add_32 : decode cX0_add 32 = .ok (.iload_n 2, 1) := by decide +kernel
theorem dX0_add_33 : decode cX0_add 33 = .ok (.imul, 1) := by decide +kernel
theorem dX0_add_34 : decode cX0_add 34 = .ok (.iload_n 1, 1) := by decide +kernel
theorem dX0_add_35 : decode cX0_add 35 = .ok (.iadd, 1) := by decide +kernel
theorem dX0_add_36 : decode cX0_add 36 = .ok (.iaload, 1) := by decide +kernel
theorem dX0_add_37 : decode cX0_add 37 = .ok (.iload_n 3, 1) := by decide +kernel
theorem dX0_add_38 : decode cX0_add 38 = .ok (.iadd, 1) := by decide +kernel
theorem dX0_add_39 : decode cX0_add 39 = .ok (.iastore, 1) := by decide +kernel
theorem dX0_add_40 : decode cX0_add 40 = .ok (.return_, 1) := by decide +kernel
theorem dX0_moveByTransforms_0 : decode cX0_moveByTransforms 0 = .ok (.iconst 0, 1) := by decide +kernel
theorem dX0_moveByTransforms_1 : decode cX0_moveByTransforms 1 = .ok (.istore_n 1, 1) := by decide +kernel
theorem dX0_moveByTransforms_2 : decode cX0_moveByTransforms 2 = .ok (.iload_n 1, 1) := by decide +kernel
theorem dX0_moveByTransforms_3 : decode cX0_moveByTransforms 3 = .ok (.sipush 256, 3) := by decide +kernel
theorem dX0_moveByTransforms_6 : decode cX0_moveByTransforms 6 = .ok (.if_icmp .ge 16, 3) := by decide +kernel
theorem dX0_moveByTransforms_9 : decode cX0_moveByTransforms 9 = .ok (.aload_n 0, 1) := by decide +kernel
theorem dX0_moveByTransforms_10 : decode cX0_moveByTransforms 10 = .ok (.getfield 37, 3) := by decide +kernel
theorem dX0_moveByTransforms_13 : decode cX0_moveByTransforms 13 = .ok (.iload_n 1, 1) := by decide +kernel
theorem dX0_moveByTransforms_14 : decode cX0_moveByTransforms 14 = .ok (.iconst 0, 1) := by decide +kernel
theorem dX0_moveByTransforms_15 : decode cX0_moveByTransforms 15 = .ok (.iastore, 1) := by decide +kernel
theorem dX0_moveByTransforms_16 : decode cX0_moveByTransforms 16 = .ok (.iinc 1 1, 3) := by decide +kernel
theorem dX0_moveByTransforms_19 : decode cX0_moveByTransforms 19 = .ok (.goto (-17), 3) := by decide +kernel
theorem dX0_moveByTransforms_22 : decode cX0_moveByTransforms 22 = .ok (.aload_n 0, 1) := by decide +kernel
theorem dX0_moveByTransforms_23 : decode cX0_moveByTransforms 23 = .ok (.iconst 0, 1) := by decide +kernel
theorem dX0_moveByTransforms_24 : decode cX0_moveByTransforms 24 = .ok (.invokevirtual 108, 3) := by decide +kernel
theorem dX0_moveByTransforms_27 : decode cX0_moveByTransforms 27 = .ok (.aload_n 0, 1) := by decide +kernel
theorem dX0_moveByTransforms_28 : decode cX0_moveByTransforms 28 = .ok (.iconst 1, 1) := by decide +kernel
theorem dX0_moveByTransforms_29 : decode cX0_moveByTransforms 29 = .ok (.invokevirtual 108, 3) := by decide +kernel
theorem dX0_moveByTransforms_32 : decode cX0_moveByTransforms 32 = .ok (.iconst 0, 1) := by decide +kernel
theorem dX0_moveByTransforms_33 : decode cX0_moveByTransforms 33 = .ok (.istore_n 1, 1) := by decide +kernel
theorem dX0_moveByTransforms_34 : decode cX0_moveByTransforms 34 = .ok (.iload_n 1, 1) := by decide +kernel
theorem dX0_moveByTransforms_35 : decode cX0_moveByTransforms 35 = .ok (.sipush 256, 3) := by decide +kernel
theorem dX0_moveByTransforms_38 : decode cX0_moveByTransforms 38 = .ok (.if_icmp .ge 21, 3) := by decide +kernel
theorem dX0_moveByTransforms_41 : decode cX0_moveByTransforms 41 = .ok (.aload_n 0, 1) := by decide +kernel
theorem dX0_moveByTransforms_42 : decode cX0_moveByTransforms 42 = .ok (.getfield 31, 3) := by decide +kernel
theorem dX0_moveByTransforms_45 : decode cX0_moveByTransforms 45 = .ok (.iload_n 1, 1) := by decide +kernel
theorem dX0_moveByTransforms_46 : decode cX0_moveByTransforms 46 = .ok (.aload_n 0, 1) := by decide +kernel
theorem dX0_moveByTransforms_47 : decode cX0_moveByTransforms 47 = .ok (.getfield 37, 3) := by decide +kernel
theorem dX0_moveByTransforms_50 : decode cX0_moveByTransforms 50 = .ok (.iload_n 1, 1) := by decide +kernel
theorem dX0_moveByTransforms_51 : decode cX0_moveByTransforms 51 = .ok (.iaload, 1) := by decide +kernel
theorem dX0_moveByTransforms_52 : decode cX0_moveByTransforms 52 = .ok (.iastore, 1) := by decide +kernel
theorem dX0_moveByTransforms_53 : decode cX0_moveByTransforms 53 = .ok (.iinc 1 1, 3) := by decide +kernel
theorem dX0_moveByTransforms_56 : decode cX0_moveByTransforms 56 = .ok (.goto (-22), 3) := by decide +kernel
theorem dX0_moveByTransforms_59 : decode cX0_moveByTransforms 59 = .ok (.aload_n 0, 1) := by decide +kernel
theorem dX0_moveByTransforms_60 : decode cX0_moveByTransforms 60 = .ok (.iconst 1, 1) := by decide +kernel
theorem dX0_moveByTransforms_61 : decode cX0_moveByTransforms 61 = .ok (.invokevirtual 104, 3) := by decide +kernel
theorem dX0_moveByTransforms_64 : decode cX0_moveByTransforms 64 = .ok (.aload_n 0, 1) := by decide +kernel
theorem dX0_moveByTransforms_65 : decode cX0_moveByTransforms 65 = .ok (.sipush 256, 3) := by decide +kernel
theorem dX0_moveByTransforms_68 : decode cX0_moveByTransforms 68 = .ok (.sipush 7679, 3) := by decide +kernel
theorem dX0_moveByTransforms_71 : decode cX0_moveByTransforms 71 = .ok (.invokevirtual 59, 3) := by decide +kernel
theorem dX0_moveByTransforms_74 : decode cX0_moveByTransforms 74 = .ok (.istore_n 1, 1) := by decide +kernel
theorem dX0_moveByTransforms_75 : decode cX0_moveByTransforms 75 = .ok (.iconst 0, 1) := by decide +kernel
theorem dX0_moveByTransforms_76 : decode cX0_moveByTransforms 76 = .ok (.istore_n 2, 1) := by decide +kernel
theorem dX0_moveByTransforms_77 : decode cX0_moveByTransforms 77 = .ok (.iload_n 2, 1) := by decide +kernel
theorem dX0_moveByTransforms_78 : decode cX0_moveByTransforms 78 = .ok (.aload_n 0, 1) := by decide +kernel
theorem dX0_moveByTransforms_79 : decode cX0_moveByTransforms 79 = .ok (.getfield 84, 3) := by decide +kernel
theorem dX0_moveByTransforms_82 : decode cX0_moveByTransforms 82 = .ok (.if_icmp .ge 102, 3) := by decide +kernel
theorem dX0_moveByTransforms_85 : decode cX0_moveByTransforms 85 = .ok (.iconst 0, 1) := by decide +kernel
theorem dX0_moveByTransforms_86 : decode cX0_moveByTransforms 86 = .ok (.istore_n 3, 1) := by decide +kernel
theorem dX0_moveByTransforms_87 : decode cX0_moveByTransforms 87 = .ok (.iload_n 3, 1) := by decide +kernel
theorem dX0_moveByTransforms_88 : decode cX0_moveByTransforms 88 = .ok (.aload_n 0, 1) := by decide +kernel
theorem dX0_moveByTransforms_89 : decode cX0_moveByTransforms 89 = .ok (.getfield 84, 3) := by decide +kernel
theorem dX0_moveByTransforms_92 : decode cX0_moveByTransforms 92 = .ok (.if_icmp .ge 86, 3) := by decide +kernel
theorem dX0_moveByTransforms_95 : decode cX0_moveByTransforms 95 = .ok (.bipush 16, 2) := by decide +kernel
theorem dX0_moveByTransforms_97 : decode cX0_moveByTransforms 97 = .ok (.aload_n 0, 1) := by decide +kernel
theorem dX0_moveByTransforms_98 : decode cX0_moveByTransforms 98 = .ok (.getfield 52, 3) := by decide +kernel
theorem dX0_moveByTransforms_101 : decode cX0_moveByTransforms 101 = .ok (.iload_n 2, 1) := by decide +kernel
theorem dX0_moveByTransforms_102 : decode cX0_moveByTransforms 102 = .ok (.imul, 1) := by decide +kernel
theorem dX0_moveByTransforms_103 : decode cX0_moveByTransforms 103 = .ok (.iconst 3, 1) := by decide +kernel
theorem dX0_moveByTransforms_104 : decode cX0_moveByTransforms 104 = .ok (.iadd, 1) := by decide +kernel
theorem dX0_moveByTransforms_105 : decode cX0_moveByTransforms 105 = .ok (.aload_n 0, 1) := by decide +kernel
theorem dX0_moveByTransforms_106 : decode cX0_moveByTransforms 106 = .ok (.getfield 56, 3) := by decide +kernel
theorem dX0_moveByTransforms_109 : decode cX0_moveByTransforms 109 = .ok (.isub, 1) := by decide +kernel
theorem dX0_moveByTransforms_110 : decode cX0_moveByTransforms 110 = .ok (.imul, 1) := by decide +kernel
theorem dX0_moveByTransforms_111 : decode cX0_moveByTransforms 111 = .ok (.aload_n 0, 1) := by decide +kernel
theorem dX0_moveByTransforms_112 : decode cX0_moveByTransforms 112 = .ok (.getfield 52, 3) := by decide +kernel
theorem dX0_moveByTransforms_115 : decode cX0_moveByTransforms 115 = .ok (.iload_n 3, 1) := by decide +kernel
theorem dX0_moveByTransforms_116 : decode cX0_moveByTransforms 116 = .ok (.imul, 1) := by decide +kernel
theorem dX0_moveByTransforms_117 : decode cX0_moveByTransforms 117 = .ok (.iadd, 1) := by decide +kernel
theorem dX0_moveByTransforms_118 : decode cX0_moveByTransforms 118 = .ok (.iconst 3, 1) := by decide +kernel
theorem dX0_moveByTransforms_119 : decode cX0_moveByTransforms 119 = .ok (.iadd, 1) := by decide +kernel
theorem dX0_moveByTransforms_120 : decode cX0_moveByTransforms 120 = .ok (.aload_n 0, 1) := by decide +kernel
theorem dX0_moveByTransforms_121 : decode cX0_moveByTransforms 121 = .ok (.getfield 56, 3) := by decide +kernel
theorem dX0_moveByTransforms_124 : decode cX0_moveByTransforms 124 = .ok (.isub, 1) := by decide +kernel
theorem dX0_moveByTransforms_125 : decode cX0_moveByTransforms 125 = .ok (.istore 4, 2) := by decide +kernel
theorem dX0_moveByTransforms_127 : decode cX0_moveByTransforms 127 = .ok (.aload_n 0, 1) := by decide +kernel
theorem dX0_moveByTransforms_128 : decode cX0_moveByTransforms 128 = .ok (.getfield 31, 3) := by decide +kernel
theorem dX0_moveByTransforms_131 : decode cX0_moveByTransforms 131 = .ok (.iload 4, 2) := by decide +kernel
theorem dX0_moveByTransforms_133 : decode cX0_moveByTransforms 133 = .ok (.iaload, 1) := by decide +kernel
theorem dX0_moveByTransforms_134 : decode cX0_moveByTransforms 134 = .ok (.iload_n 1, 1) := by decide +kernel
theorem dX0_moveByTransforms_135 : decode cX0_moveByTransforms 135 = .ok (.imul, 1) := by decide +kernel
theorem dX0_moveByTransforms_136 : decode cX0_moveByTransforms 136 = .ok (.sipush 7681, 3) := by decide +kernel
theorem dX0_moveByTransforms_139 : decode cX0_moveByTransforms 139 = .ok (.irem, 1) := by decide +kernel
theorem dX0_moveByTransforms_140 : decode cX0_moveByTransforms 140 = .ok (.istore 5, 2) := by decide +kernel
theorem dX0_moveByTransforms_142 : decode cX0_moveByTransforms 142 = .ok (.aload_n 0, 1) := by decide +kernel
theorem dX0_moveByTransforms_143 : decode cX0_moveByTransforms 143 = .ok (.getfield 16, 3) := by decide +kernel
theorem dX0_moveByTransforms_146 : decode cX0_moveByTransforms 146 = .ok (.bipush 8, 2) := by decide +kernel
theorem dX0_moveByTransforms_148 : decode cX0_moveByTransforms 148 = .ok (.iload_n 2, 1) := by decide +kernel
theorem dX0_moveByTransforms_149 : decode cX0_moveByTransforms 149 = .ok (.imul, 1) := by decide +kernel
theorem dX0_moveByTransforms_150 : decode cX0_moveByTransforms 150 = .ok (.iload_n 3, 1) := by decide +kernel
theorem dX0_moveByTransforms_151 : decode cX0_moveByTransforms 151 = .ok (.iadd, 1) := by decide +kernel
theorem dX0_moveByTransforms_152 : decode cX0_moveByTransforms 152 = .ok (.iload 5, 2) := by decide +kernel
theorem dX0_moveByTransforms_154 : decode cX0_moveByTransforms 154 = .ok (.sipush 3840, 3) := by decide +kernel
theorem dX0_moveByTransforms_157 : decode cX0_moveByTransforms 157 = .ok (.if_icmp .le 12, 3) := by decide +kernel
theorem dX0_moveByTransforms_160 : decode cX0_moveByTransforms 160 = .ok (.iload 5, 2) := by decide +kernel
theorem dX0_moveByTransforms_162 : decode cX0_moveByTransforms 162 = .ok (.sipush 7681, 3) := by decide +kernel
theorem dX0_moveByTransforms_165 : decode cX0_moveByTransforms 165 = .ok (.isub, 1) := by decide +kernel
theorem dX0_moveByTransforms_166 : decode cX0_moveByTransforms 166 = .ok (.goto 5, 3) := by decide +kernel
theorem dX0_moveByTransforms_169 : decode cX0_moveByTransforms 169 = .ok (.iload 5, 2) := by decide +kernel
theorem dX0_moveByTransforms_171 : decode cX0_moveByTransforms 171 = .ok (.iastore, 1) := by decide +kernel
theorem dX0_moveByTransforms_172 : decode cX0_moveByTransforms 172 = .ok (.iinc 3 1, 3) := by decide +kernel
theorem dX0_moveByTransforms_175 : decode cX0_moveByTransforms 175 = .ok (.goto (-88), 3) := by decide +kernel
theorem dX0_moveByTransforms_178 : decode cX0_moveByTransforms 178 = .ok (.iinc 2 1, 3) := by decide +kernel
theorem dX0_moveByTransforms_181 : decode cX0_moveByTransforms 181 = .ok (.goto (-104), 3) := by decide +kernel
theorem dX0_moveByTransforms_184 : decode cX0_moveByTransforms 184 = .ok (.return_, 1) := by decide +kernel
theorem dX0_addTransformed_0 : decode cX0_addTransformed 0 = .ok (.aload_n 0, 1) := by decide +kernel
theorem dX0_addTransformed_1 : decode cX0_addTransformed 1 = .ok (.invokevirtual 98, 3) := by decide +kernel
theorem dX0_addTransformed_4 : decode cX0_addTransformed 4 = .ok (.iconst 0, 1) := by decide +kernel
theorem dX0_addTransformed_5 : decode cX0_addTransformed 5 = .ok (.istore_n 2, 1) := by decide +kernel
theorem dX0_addTransformed_6 : decode cX0_addTransformed 6 = .ok (.iload_n 2, 1) := by decide +kernel
theorem dX0_addTransformed_7 : decode cX0_addTransformed 7 = .ok (.iconst 3, 1) := by decide +kernel
theorem dX0_addTransformed_8 : decode cX0_addTransformed 8 = .ok (.if_icmp .ge 56, 3) := by decide +kernel
theorem dX0_addTransformed_11 : decode cX0_addTransformed 11 = .ok (.iconst 0, 1) := by decide +kernel
theorem dX0_addTransformed_12 : decode cX0_addTransformed 12 = .ok (.istore_n 3, 1) := by decide +kernel
theorem dX0_addTransformed_13 : decode cX0_addTransformed 13 = .ok (.iload_n 3, 1) := by decide +kernel
theorem dX0_addTransformed_14 : decode cX0_addTransformed 14 = .ok (.iconst 3, 1) := by decide +kernel
theorem dX0_addTransformed_15 : decode cX0_addTransformed 15 = .ok (.if_icmp .ge 43, 3) := by decide +kernel
theorem dX0_addTransformed_18 : decode cX0_addTransformed 18 = .ok (.aload_n 0, 1) := by decide +kernel
theorem dX0_addTransformed_19 : decode cX0_addTransformed 19 = .ok (.getfield 31, 3) := by decide +kernel
theorem dX0_addTransformed_22 : decode cX0_addTransformed 22 = .ok (.bipush 16, 2) := by decide +kernel
theorem dX0_addTransformed_24 : decode cX0_addTransformed 24 = .ok (.iconst 2, 1) := by decide +kernel
theorem dX0_addTransformed_25 : decode cX0_addTransformed 25 = .ok (.iload_n 2, 1) := by decide +kernel
theorem dX0_addTransformed_26 : decode cX0_addTransformed 26 = .ok (.isub, 1) := by decide +kernel
theorem dX0_addTransformed_27 : decode cX0_addTransformed 27 = .ok (.imul, 1) := by decide +kernel
theorem dX0_addTransformed_28 : decode cX0_addTransformed 28 = .ok (.iconst 2, 1) := by decide +kernel
theorem dX0_addTransformed_29 : decode cX0_addTransformed 29 = .ok (.iadd, 1) := by decide +kernel
theorem dX0_addTransformed_30 : decode cX0_addTransformed 30 = .ok (.iload_n 3, 1) := by decide +kernel
theorem dX0_addTransformed_31 : decode cX0_addTransformed 31 = .ok (.isub, 1) := by decide +kernel
theorem dX0_addTransformed_32 : decode cX0_addTransformed 32 = .ok (.aload_n 0, 1) := by decide +kernel
theorem dX0_addTransformed_33 : decode cX0_addTransformed 33 = .ok (.aload_n 0, 1) := by decide +kernel
theorem dX0_addTransformed_34 : decode cX0_addTransformed 34 = .ok (.getfield 13, 3) := by decide +kernel
theorem dX0_addTransformed_37 : decode cX0_addTransformed 37 = .ok (.bipush 9, 2) := by decide +kernel
theorem dX0_addTransformed_39 : decode cX0_addTransformed 39 = .ok (.iload_n 1, 1) := by decide +kernel
theorem dX0_addTransformed_40 : decode cX0_addTransformed 40 = .ok (.imul, 1) := by decide +kernel
theorem dX0_addTransformed_41 : decode cX0_addTransformed 41 = .ok (.iconst 3, 1) := by decide +kernel
theorem dX0_addTransformed_42 : decode cX0_addTransformed 42 = .ok (.iload_n 2, 1) := by decide +kernel
theorem dX0_addTransformed_43 : decode cX0_addTransformed 43 = .ok (.imul, 1) := by decide +kernel
theorem dX0_addTransformed_44 : decode cX0_addTransformed 44 = .ok (.iadd, 1) := by decide +kernel
theorem dX0_addTransformed_45 : decode cX0_addTransformed 45 = .ok (.iload_n 3, 1) := by decide +kernel
theorem dX0_addTransformed_46 : decode cX0_addTransformed 46 = .ok (.iadd, 1) := by decide +kernel
theorem dX0_addTransformed_47 : decode cX0_addTransformed 47 = .ok (.iaload, 1) := by decide +kernel
theorem dX0_addTransformed_48 : decode cX0_addTransformed 48 = .ok (.invokevirtual 101, 3) := by decide +kernel
theorem dX0_addTransformed_51 : decode cX0_addTransformed 51 = .ok (.iastore, 1) := by decide +kernel
theorem dX0_addTransformed_52 : decode cX0_addTransformed 52 = .ok (.iinc 3 1, 3) := by decide +kernel
theorem dX0_addTransformed_55 : decode cX0_addTransformed 55 = .ok (.goto (-42), 3) := by decide +kernel
theorem dX0_addTransformed_58 : decode cX0_addTransformed 58 = .ok (.iinc 2 1, 3) := by decide +kernel
theorem dX0_addTransformed_61 : decode cX0_addTransformed 61 = .ok (.goto (-55), 3) := by decide +kernel
theorem dX0_addTransformed_64 : decode cX0_addTransformed 64 = .ok (.aload_n 0, 1) := by decide +kernel
theorem dX0_addTransformed_65 : decode cX0_addTransformed 65 = .ok (.iconst 0, 1) := by decide +kernel
theorem dX0_addTransformed_66 : decode cX0_addTransformed 66 = .ok (.invokevirtual 104, 3) := by decide +kernel
theorem dX0_addTransformed_69 : decode cX0_addTransformed 69 = .ok (.iconst 0, 1) := by decide +kernel
theorem dX0_addTransformed_70 : decode cX0_addTransformed 70 = .ok (.istore_n 2, 1) := by decide +kernel
theorem dX0_addTransformed_71 : decode cX0_addTransformed 71 = .ok (.iload_n 2, 1) := by decide +kernel
theorem dX0_addTransformed_72 : decode cX0_addTransformed 72 = .ok (.sipush 256, 3) := by decide +kernel
theorem dX0_addTransformed_75 : decode cX0_addTransformed 75 = .ok (.if_icmp .ge 21, 3) := by decide +kernel
theorem dX0_addTransformed_78 : decode cX0_addTransformed 78 = .ok (.aload_n 0, 1) := by decide +kernel
theorem dX0_addTransformed_79 : decode cX0_addTransformed 79 = .ok (.getfield 34, 3) := by decide +kernel
theorem dX0_addTransformed_82 : decode cX0_addTransformed 82 = .ok (.iload_n 2, 1) := by decide +kernel
theorem dX0_addTransformed_83 : decode cX0_addTransformed 83 = .ok (.aload_n 0, 1) := by decide +kernel
theorem dX0_addTransformed_84 : decode cX0_addTransformed 84 = .ok (.getfield 31, 3) := by decide +kernel
theorem dX0_addTransformed_87 : decode cX0_addTransformed 87 = .ok (.iload_n 2, 1) := by decide +kernel
theorem dX0_addTransformed_88 : decode cX0_addTransformed 88 = .ok (.iaload, 1) := by decide +kernel
theorem dX0_addTransformed_89 : decode cX0_addTransformed 89 = .ok (.iastore, 1) := by decide +kernel
theorem dX0_addTransformed_90 : decode cX0_addTransformed 90 = .ok (.iinc 2 1, 3) := by decide +kernel
theorem dX0_addTransformed_93 : decode cX0_addTransformed 93 = .ok (.goto (-22), 3) := by decide +kernel
theorem dX0_addTransformed_96 : decode cX0_addTransformed 96 = .ok (.aload_n 0, 1) := by decide +kernel
theorem dX0_addTransformed_97 : decode cX0_addTransformed 97 = .ok (.invokevirtual 98, 3) := by decide +kernel
theorem dX0_addTransformed_100 : decode cX0_addTransformed 100 = .ok (.iconst 0, 1) := by decide +kernel
theorem dX0_addTransformed_101 : decode cX0_addTransformed 101 = .ok (.istore_n 2, 1) := by decide +kernel
theorem dX0_addTransformed_102 : decode cX0_addTransformed 102 = .ok (.iload_n 2, 1) := by decide +kernel
theorem dX0_addTransformed_103 : decode cX0_addTransformed 103 = .ok (.bipush 8, 2) := by decide +kernel
theorem dX0_addTransformed_105 : decode cX0_addTransformed 105 = .ok (.if_icmp .ge 58, 3) := by decide +kernel
theorem dX0_addTransformed_108 : decode cX0_addTransformed 108 = .ok (.iconst 0, 1) := by decide +kernel
theorem dX0_addTransformed_109 : decode cX0_addTransformed 109 = .ok (.istore_n 3, 1) := by decide +kernel
theorem dX0_addTransformed_110 : decode cX0_addTransformed 110 = .ok (.iload_n 3, 1) := by decide +kernel
theorem dX0_addTransformed_111 : decode cX0_addTransformed 111 = .ok (.bipush 8, 2) := by decide +kernel
theorem dX0_addTransformed_113 : decode cX0_addTransformed 113 = .ok (.if_icmp .ge 44, 3) := by decide +kernel
theorem dX0_addTransformed_116 : decode cX0_addTransformed 116 = .ok (.aload_n 0, 1) := by decide +kernel
theorem dX0_addTransformed_117 : decode cX0_addTransformed 117 = .ok (.getfield 31, 3) := by decide +kernel
theorem dX0_addTransformed_120 : decode cX0_addTransformed 120 = .ok (.bipush 16, 2) := by decide +kernel
theorem dX0_addTransformed_122 : decode cX0_addTransformed 122 = .ok (.iload_n 2, 1) := by decide +kernel
theorem dX0_addTransformed_123 : decode cX0_addTransformed 123 = .ok (.iconst 1, 1) := by decide +kernel
theorem dX0_addTransformed_124 : decode cX0_addTransformed 124 = .ok (.iadd, 1) := by decide +kernel
theorem dX0_addTransformed_125 : decode cX0_addTransformed 125 = .ok (.imul, 1) := by decide +kernel
theorem dX0_addTransformed_126 : decode cX0_addTransformed 126 = .ok (.iload_n 3, 1) := by decide +kernel
theorem dX0_addTransformed_127 : decode cX0_addTransformed 127 = .ok (.iadd, 1) := by decide +kernel
theorem dX0_addTransformed_128 : decode cX0_addTransformed 128 = .ok (.iconst 1, 1) := by decide +kernel
theorem dX0_addTransformed_129 : decode cX0_addTransformed 129 = .ok (.iadd, 1) := by decide +kernel
theorem dX0_addTransformed_130 : decode cX0_addTransformed 130 = .ok (.aload_n 0, 1) := by decide +kernel
theorem dX0_addTransformed_131 : decode cX0_addTransformed 131 = .ok (.aload_n 0, 1) := by decide +kernel
theorem dX0_addTransformed_132 : decode cX0_addTransformed 132 = .ok (.getfield 7, 3) := by decide +kernel
theorem dX0_addTransformed_135 : decode cX0_addTransformed 135 = .ok (.bipush 64, 2) := by decide +kernel
theorem dX0_addTransformed_137 : decode cX0_addTransformed 137 = .ok (.iload_n 1, 1) := by decide +kernel
theorem dX0_addTransformed_138 : decode cX0_addTransformed 138 = .ok (.imul, 1) := by decide +kernel
theorem dX0_addTransformed_139 : decode cX0_addTransformed 139 = .ok (.bipush 8, 2) := by decide +kernel
theorem dX0_addTransformed_141 : decode cX0_addTransformed 141 = .ok (.iload_n 2, 1) := by decide +kernel
theorem dX0_addTransformed_142 : decode cX0_addTransformed 142 = .ok (.imul, 1) := by decide +kernel
theorem dX0_addTransformed_143 : decode cX0_addTransformed 143 = .ok (.iadd, 1) := by decide +kernel
theorem dX0_addTransformed_144 : decode cX0_addTransformed 144 = .ok (.iload_n 3, 1) := by decide +kernel
theorem dX0_addTransformed_145 : decode cX0_addTransformed 145 = .ok (.iadd, 1) := by decide +kernel
theorem dX0_addTransformed_146 : decode cX0_addTransformed 146 = .ok (.iaload, 1) := by decide +kernel
theorem dX0_addTransformed_147 : decode cX0_addTransformed 147 = .ok (.invokevirtual 101, 3) := by decide +kernel
theorem dX0_addTransformed_150 : decode cX0_addTransformed 150 = .ok (.iastore, 1) := by decide +kernel
theorem dX0_addTransformed_151 : decode cX0_addTransformed 151 = .ok (.iinc 3 1, 3) := by decide +kernel
theorem dX0_addTransformed_154 : decode cX0_addTransformed 154 = .ok (.goto (-44), 3) := by decide +kernel
theorem dX0_addTransformed_157 : decode cX0_addTransformed 157 = .ok (.iinc 2 1, 3) := by decide +kernel
theorem dX0_addTransformed_160 : decode cX0_addTransformed 160 = .ok (.goto (-58), 3) := by decide +kernel
theorem dX0_addTransformed_163 : decode cX0_addTransformed 163 = .ok (.aload_n 0, 1) := by decide +kernel
theorem dX0_addTransformed_164 : decode cX0_addTransformed 164 = .ok (.iconst 0, 1) := by decide +kernel
theorem dX0_addTransformed_165 : decode cX0_addTransformed 165 = .ok (.invokevirtual 104, 3) := by decide +kernel
theorem dX0_addTransformed_168 : decode cX0_addTransformed 168 = .ok (.iconst 0, 1) := by decide +kernel
theorem dX0_addTransformed_169 : decode cX0_addTransformed 169 = .ok (.istore_n 2, 1) := by decide +kernel
theorem dX0_addTransformed_170 : decode cX0_addTransformed 170 = .ok (.iload_n 2, 1) := by decide +kernel
theorem dX0_addTransformed_171 : decode cX0_addTransformed 171 = .ok (.sipush 256, 3) := by decide +kernel
theorem dX0_addTransformed_174 : decode cX0_addTransformed 174 = .ok (.if_icmp .ge 39, 3) := by decide +kernel
theorem dX0_addTransformed_177 : decode cX0_addTransformed 177 = .ok (.aload_n 0, 1) := by decide +kernel
theorem dX0_addTransformed_178 : decode cX0_addTransformed 178 = .ok (.getfield 37, 3) := by decide +kernel
theorem dX0_addTransformed_181 : decode cX0_addTransformed 181 = .ok (.iload_n 2, 1) := by decide +kernel
theorem dX0_addTransformed_182 : decode cX0_addTransformed 182 = .ok (.aload_n 0, 1) := by decide +kernel
theorem dX0_addTransformed_183 : decode cX0_addTransformed 183 = .ok (.getfield 37, 3) := by decide +kernel
theorem dX0_addTransformed_186 : decode cX0_addTransformed 186 = .ok (.iload_n 2, 1) := by decide +kernel
theorem dX0_addTransformed_187 : decode cX0_addTransformed 187 = .ok (.iaload, 1) := by decide +kernel
theorem dX0_addTransformed_188 : decode cX0_addTransformed 188 = .ok (.aload_n 0, 1) := by decide +kernel
theorem dX0_addTransformed_189 : decode cX0_addTransformed 189 = .ok (.getfield 31, 3) := by decide +kernel
theorem dX0_addTransformed_192 : decode cX0_addTransformed 192 = .ok (.iload_n 2, 1) := by decide +kernel
theorem dX0_addTransformed_193 : decode cX0_addTransformed 193 = .ok (.iaload, 1) := by decide +kernel
theorem dX0_addTransformed_194 : decode cX0_addTransformed 194 = .ok (.aload_n 0, 1) := by decide +kernel
theorem dX0_addTransformed_195 : decode cX0_addTransformed 195 = .ok (.getfield 34, 3) := by decide +kernel
theorem dX0_addTransformed_198 : decode cX0_addTransformed 198 = .ok (.iload_n 2, 1) := by decide +kernel
theorem dX0_addTransformed_199 : decode cX0_addTransformed 199 = .ok (.iaload, 1) := by decide +kernel
theorem dX0_addTransformed_200 : decode cX0_addTransformed 200 = .ok (.imul, 1) := by decide +kernel
theorem dX0_addTransformed_201 : decode cX0_addTransformed 201 = .ok (.iadd, 1) := by decide +kernel
theorem dX0_addTransformed_202 : decode cX0_addTransformed 202 = .ok (.sipush 7681, 3) := by decide +kernel
theorem dX0_addTransformed_205 : decode cX0_addTransformed 205 = .ok (.irem, 1) := by decide +kernel
theorem dX0_addTransformed_206 : decode cX0_addTransformed 206 = .ok (.iastore, 1) := by decide +kernel
theorem dX0_addTransformed_207 : decode cX0_addTransformed 207 = .ok (.iinc 2 1, 3) := by decide +kernel
theorem dX0_addTransformed_210 : decode cX0_addTransformed 210 = .ok (.goto (-40), 3) := by decide +kernel
theorem dX0_addTransformed_213 : decode cX0_addTransformed 213 = .ok (.return_, 1) := by decide +kernel
theorem dX0_clearPlane_0 : decode cX0_clearPlane 0 = .ok (.iconst 0, 1) := by decide +kernel
theorem dX0_clearPlane_1 : decode cX0_clearPlane 1 = .ok (.istore_n 1, 1) := by decide +kernel
theorem dX0_clearPlane_2 : decode cX0_clearPlane 2 = .ok (.iload_n 1, 1) := by decide +kernel
theorem dX0_clearPlane_3 : decode cX0_clearPlane 3 = .ok (.sipush 256, 3) := by decide +kernel
theorem dX0_clearPlane_6 : decode cX0_clearPlane 6 = .ok (.if_icmp .ge 16, 3) := by decide +kernel
theorem dX0_clearPlane_9 : decode cX0_clearPlane 9 = .ok (.aload_n 0, 1) := by decide +kernel
theorem dX0_clearPlane_10 : decode cX0_clearPlane 10 = .ok (.getfield 31, 3) := by decide +kernel
theorem dX0_clearPlane_13 : decode cX0_clearPlane 13 = .ok (.iload_n 1, 1) := by decide +kernel
theorem dX0_clearPlane_14 : decode cX0_clearPlane 14 = .ok (.iconst 0, 1) := by decide +kernel
theorem dX0_clearPlane_15 : decode cX0_clearPlane 15 = .ok (.iastore, 1) := by decide +kernel
theorem dX0_clearPlane_16 : decode cX0_clearPlane 16 = .ok (.iinc 1 1, 3) := by decide +kernel
theorem dX0_clearPlane_19 : decode cX0_clearPlane 19 = .ok (.goto (-17), 3) := by decide +kernel
theorem dX0_clearPlane_22 : decode cX0_clearPlane 22 = .ok (.return_, 1) := by decide +kernel
theorem dX0_reduce_0 : decode cX0_reduce 0 = .ok (.iload_n 1, 1) := by decide +kernel
theorem dX0_reduce_1 : decode cX0_reduce 1 = .ok (.sipush 7681, 3) := by decide +kernel
theorem dX0_reduce_4 : decode cX0_reduce 4 = .ok (.irem, 1) := by decide +kernel
theorem dX0_reduce_5 : decode cX0_reduce 5 = .ok (.istore_n 2, 1) := by decide +kernel
theorem dX0_reduce_6 : decode cX0_reduce 6 = .ok (.iload_n 2, 1) := by decide +kernel
theorem dX0_reduce_7 : decode cX0_reduce 7 = .ok (.ifCond .ge 11, 3) := by decide +kernel
theorem dX0_reduce_10 : decode cX0_reduce 10 = .ok (.iload_n 2, 1) := by decide +kernel
theorem dX0_reduce_11 : decode cX0_reduce 11 = .ok (.sipush 7681, 3) := by decide +kernel
theorem dX0_reduce_14 : decode cX0_reduce 14 = .ok (.iadd, 1) := by decide +kernel
theorem dX0_reduce_15 : decode cX0_reduce 15 = .ok (.goto 4, 3) := by decide +kernel
theorem dX0_reduce_18 : decode cX0_reduce 18 = .ok (.iload_n 2, 1) := by decide +kernel
theorem dX0_reduce_19 : decode cX0_reduce 19 = .ok (.ireturn, 1) := by decide +kernel
theorem dX0_transform_0 : decode cX0_transform 0 = .ok (.iconst 0, 1) := by decide +kernel
theorem dX0_transform_1 : decode cX0_transform 1 = .ok (.istore_n 2, 1) := by decide +kernel
theorem dX0_transform_2 : decode cX0_transform 2 = .ok (.iload_n 2, 1) := by decide +kernel
theorem dX0_transform_3 : decode cX0_transform 3 = .ok (.bipush 16, 2) := by decide +kernel
theorem dX0_transform_5 : decode cX0_transform 5 = .ok (.if_icmp .ge 19, 3) := by decide +kernel
theorem dX0_transform_8 : decode cX0_transform 8 = .ok (.aload_n 0, 1) := by decide +kernel
theorem dX0_transform_9 : decode cX0_transform 9 = .ok (.bipush 16, 2) := by decide +kernel
theorem dX0_transform_11 : decode cX0_transform 11 = .ok (.iload_n 2, 1) := by decide +kernel
theorem dX0_transform_12 : decode cX0_transform 12 = .ok (.imul, 1) := by decide +kernel
theorem dX0_transform_13 : decode cX0_transform 13 = .ok (.iconst 1, 1) := by decide +kernel
theorem dX0_transform_14 : decode cX0_transform 14 = .ok (.iload_n 1, 1) := by decide +kernel
theorem dX0_transform_15 : decode cX0_transform 15 = .ok (.invokevirtual 94, 3) := by decide +kernel
theorem dX0_transform_18 : decode cX0_transform 18 = .ok (.iinc 2 1, 3) := by decide +kernel
theorem dX0_transform_21 : decode cX0_transform 21 = .ok (.goto (-19), 3) := by decide +kernel
theorem dX0_transform_24 : decode cX0_transform 24 = .ok (.iconst 0, 1) := by decide +kernel
theorem dX0_transform_25 : decode cX0_transform 25 = .ok (.istore_n 2, 1) := by decide +kernel
theorem dX0_transform_26 : decode cX0_transform 26 = .ok (.iload_n 2, 1) := by decide +kernel
theorem dX0_transform_27 : decode cX0_transform 27 = .ok (.bipush 16, 2) := by decide +kernel
theorem dX0_transform_29 : decode cX0_transform 29 = .ok (.if_icmp .ge 17, 3) := by decide +kernel
theorem dX0_transform_32 : decode cX0_transform 32 = .ok (.aload_n 0, 1) := by decide +kernel
theorem dX0_transform_33 : decode cX0_transform 33 = .ok (.iload_n 2, 1) := by decide +kernel
theorem dX0_transform_34 : decode cX0_transform 34 = .ok (.bipush 16, 2) := by decide +kernel
theorem dX0_transform_36 : decode cX0_transform 36 = .ok (.iload_n 1, 1) := by decide +kernel
theorem dX0_transform_37 : decode cX0_transform 37 = .ok (.invokevirtual 94, 3) := by decide +kernel
theorem dX0_transform_40 : decode cX0_transform 40 = .ok (.iinc 2 1, 3) := by decide +kernel
theorem dX0_transform_43 : decode cX0_transform 43 = .ok (.goto (-17), 3) := by decide +kernel
theorem dX0_transform_46 : decode cX0_transform 46 = .ok (.return_, 1) := by decide +kernel
theorem dX0_transformLine_0 : decode cX0_transformLine 0 = .ok (.iconst 0, 1) := by decide +kernel
theorem dX0_transformLine_1 : decode cX0_transformLine 1 = .ok (.istore 4, 2) := by decide +kernel
theorem dX0_transformLine_3 : decode cX0_transformLine 3 = .ok (.iload 4, 2) := by decide +kernel
theorem dX0_transformLine_5 : decode cX0_transformLine 5 = .ok (.bipush 16, 2) := by decide +kernel
theorem dX0_transformLine_7 : decode cX0_transformLine 7 = .ok (.if_icmp .ge 99, 3) := by decide +kernel
theorem dX0_transformLine_10 : decode cX0_transformLine 10 = .ok (.iconst 0, 1) := by decide +kernel
theorem dX0_transformLine_11 : decode cX0_transformLine 11 = .ok (.istore 5, 2) := by decide +kernel
theorem dX0_transformLine_13 : decode cX0_transformLine 13 = .ok (.iconst 0, 1) := by decide +kernel
theorem dX0_transformLine_14 : decode cX0_transformLine 14 = .ok (.istore 6, 2) := by decide +kernel
theorem dX0_transformLine_16 : decode cX0_transformLine 16 = .ok (.iload 6, 2) := by decide +kernel
theorem dX0_transformLine_18 : decode cX0_transformLine 18 = .ok (.bipush 16, 2) := by decide +kernel
theorem dX0_transformLine_20 : decode cX0_transformLine 20 = .ok (.if_icmp .ge 67, 3) := by decide +kernel
theorem dX0_transformLine_23 : decode cX0_transformLine 23 = .ok (.iload_n 3, 1) := by decide +kernel
theorem dX0_transformLine_24 : decode cX0_transformLine 24 = .ok (.ifCond .eq 19, 3) := by decide +kernel
theorem dX0_transformLine_27 : decode cX0_transformLine 27 = .ok (.aload_n 0, 1) := by decide +kernel
theorem dX0_transformLine_28 : decode cX0_transformLine 28 = .ok (.getfield 46, 3) := by decide +kernel
theorem dX0_transformLine_31 : decode cX0_transformLine 31 = .ok (.iload 4, 2) := by decide +kernel
theorem dX0_transformLine_33 : decode cX0_transformLine 33 = .ok (.iload 6, 2) := by decide +kernel
theorem dX0_transformLine_35 : decode cX0_transformLine 35 = .ok (.imul, 1) := by decide +kernel
theorem dX0_transformLine_36 : decode cX0_transformLine 36 = .ok (.bipush 15, 2) := by decide +kernel
theorem dX0_transformLine_38 : decode cX0_transformLine 38 = .ok (.iand, 1) := by decide +kernel
theorem dX0_transformLine_39 : decode cX0_transformLine 39 = .ok (.iaload, 1) := by decide +kernel
theorem dX0_transformLine_40 : decode cX0_transformLine 40 = .ok (.goto 16, 3) := by decide +kernel
theorem dX0_transformLine_43 : decode cX0_transformLine 43 = .ok (.aload_n 0, 1) := by decide +kernel
theorem dX0_transformLine_44 : decode cX0_transformLine 44 = .ok (.getfield 43, 3) := by decide +kernel
theorem dX0_transformLine_47 : decode cX0_transformLine 47 = .ok (.iload 4, 2) := by decide +kernel
theorem dX0_transformLine_49 : decode cX0_transformLine 49 = .ok (.iload 6, 2) := by decide +kernel
theorem dX0_transformLine_51 : decode cX0_transformLine 51 = .ok (.imul, 1) := by decide +kernel
theorem dX0_transformLine_52 : decode cX0_transformLine 52 = .ok (.bipush 15, 2) := by decide +kernel
theorem dX0_transformLine_54 : decode cX0_transformLine 54 = .ok (.iand, 1) := by decide +kernel
theorem dX0_transformLine_55 : decode cX0_transformLine 55 = .ok (.iaload, 1) := by decide +kernel
theorem dX0_transformLine_56 : decode cX0_transformLine 56 = .ok (.istore 7, 2) := by decide +kernel
theorem dX0_transformLine_58 : decode cX0_transformLine 58 = .ok (.iload 5, 2) := by decide +kernel
theorem dX0_transformLine_60 : decode cX0_transformLine 60 = .ok (.aload_n 0, 1) := by decide +kernel
theorem dX0_transformLine_61 : decode cX0_transformLine 61 = .ok (.getfield 31, 3) := by decide +kernel
theorem dX0_transformLine_64 : decode cX0_transformLine 64 = .ok (.iload_n 1, 1) := by decide +kernel
theorem dX0_transformLine_65 : decode cX0_transformLine 65 = .ok (.iload 6, 2) := by decide +kernel
theorem dX0_transformLine_67 : decode cX0_transformLine 67 = .ok (.iload_n 2, 1) := by decide +kernel
theorem dX0_transformLine_68 : decode cX0_transformLine 68 = .ok (.imul, 1) := by decide +kernel
theorem dX0_transformLine_69 : decode cX0_transformLine 69 = .ok (.iadd, 1) := by decide +kernel
theorem dX0_transformLine_70 : decode cX0_transformLine 70 = .ok (.iaload, 1) := by decide +kernel
theorem dX0_transformLine_71 : decode cX0_transformLine 71 = .ok (.iload 7, 2) := by decide +kernel
theorem dX0_transformLine_73 : decode cX0_transformLine 73 = .ok (.imul, 1) := by decide +kernel
theorem dX0_transformLine_74 : decode cX0_transformLine 74 = .ok (.sipush 7681, 3) := by decide +kernel
theorem dX0_transformLine_77 : decode cX0_transformLine 77 = .ok (.irem, 1) := by decide +kernel
theorem dX0_transformLine_78 : decode cX0_transformLine 78 = .ok (.iadd, 1) := by decide +kernel
theorem dX0_transformLine_79 : decode cX0_transformLine 79 = .ok (.istore 5, 2) := by decide +kernel
theorem dX0_transformLine_81 : decode cX0_transformLine 81 = .ok (.iinc 6 1, 3) := by decide +kernel
theorem dX0_transformLine_84 : decode cX0_transformLine 84 = .ok (.goto (-68), 3) := by decide +kernel
theorem dX0_transformLine_87 : decode cX0_transformLine 87 = .ok (.aload_n 0, 1) := by decide +kernel
theorem dX0_transformLine_88 : decode cX0_transformLine 88 = .ok (.getfield 40, 3) := by decide +kernel
theorem dX0_transformLine_91 : decode cX0_transformLine 91 = .ok (.iload 4, 2) := by decide +kernel
theorem dX0_transformLine_93 : decode cX0_transformLine 93 = .ok (.iload 5, 2) := by decide +kernel
theorem dX0_transformLine_95 : decode cX0_transformLine 95 = .ok (.sipush 7681, 3) := by decide +kernel
theorem dX0_transformLine_98 : decode cX0_transformLine 98 = .ok (.irem, 1) := by decide +kernel
theorem dX0_transformLine_99 : decode cX0_transformLine 99 = .ok (.iastore, 1) := by decide +kernel
theorem dX0_transformLine_100 : decode cX0_transformLine 100 = .ok (.iinc 4 1, 3) := by decide +kernel
theorem dX0_transformLine_103 : decode cX0_transformLine 103 = .ok (.goto (-100), 3) := by decide +kernel
theorem dX0_transformLine_106 : decode cX0_transformLine 106 = .ok (.iconst 0, 1) := by decide +kernel
theorem dX0_transformLine_107 : decode cX0_transformLine 107 = .ok (.istore 4, 2) := by decide +kernel
theorem dX0_transformLine_109 : decode cX0_transformLine 109 = .ok (.iload 4, 2) := by decide +kernel
theorem dX0_transformLine_111 : decode cX0_transformLine 111 = .ok (.bipush 16, 2) := by decide +kernel
theorem dX0_transformLine_113 : decode cX0_transformLine 113 = .ok (.if_icmp .ge 27, 3) := by decide +kernel
theorem dX0_transformLine_116 : decode cX0_transformLine 116 = .ok (.aload_n 0, 1) := by decide +kernel
theorem dX0_transformLine_117 : decode cX0_transformLine 117 = .ok (.getfield 31, 3) := by decide +kernel
theorem dX0_transformLine_120 : decode cX0_transformLine 120 = .ok (.iload_n 1, 1) := by decide +kernel
theorem dX0_transformLine_121 : decode cX0_transformLine 121 = .ok (.iload 4, 2) := by decide +kernel
theorem dX0_transformLine_123 : decode cX0_transformLine 123 = .ok (.iload_n 2, 1) := by decide +kernel
theorem dX0_transformLine_124 : decode cX0_transformLine 124 = .ok (.imul, 1) := by decide +kernel
theorem dX0_transformLine_125 : decode cX0_transformLine 125 = .ok (.iadd, 1) := by decide +kernel
theorem dX0_transformLine_126 : decode cX0_transformLine 126 = .ok (.aload_n 0, 1) := by decide +kernel
theorem dX0_transformLine_127 : decode cX0_transformLine 127 = .ok (.getfield 40, 3) := by decide +kernel
theorem dX0_transformLine_130 : decode cX0_transformLine 130 = .ok (.iload 4, 2) := by decide +kernel
theorem dX0_transformLine_132 : decode cX0_transformLine 132 = .ok (.iaload, 1) := by decide +kernel
theorem dX0_transformLine_133 : decode cX0_transformLine 133 = .ok (.iastore, 1) := by decide +kernel
theorem dX0_transformLine_134 : decode cX0_transformLine 134 = .ok (.iinc 4 1, 3) := by decide +kernel
theorem dX0_transformLine_137 : decode cX0_transformLine 137 = .ok (.goto (-28), 3) := by decide +kernel
theorem dX0_transformLine_140 : decode cX0_transformLine 140 = .ok (.return_, 1) := by decide +kernel
theorem dX0_moveByWindows_0 : decode cX0_moveByWindows 0 = .ok (.iconst 0, 1) := by decide +kernel
theorem dX0_moveByWindows_1 : decode cX0_moveByWindows 1 = .ok (.istore_n 1, 1) := by decide +kernel
theorem dX0_moveByWindows_2 : decode cX0_moveByWindows 2 = .ok (.iload_n 1, 1) := by decide +kernel
theorem dX0_moveByWindows_3 : decode cX0_moveByWindows 3 = .ok (.aload_n 0, 1) := by decide +kernel
theorem dX0_moveByWindows_4 : decode cX0_moveByWindows 4 = .ok (.getfield 84, 3) := by decide +kernel
theorem dX0_moveByWindows_7 : decode cX0_moveByWindows 7 = .ok (.if_icmp .ge 60, 3) := by decide +kernel
theorem dX0_moveByWindows_10 : decode cX0_moveByWindows 10 = .ok (.iconst 0, 1) := by decide +kernel
theorem dX0_moveByWindows_11 : decode cX0_moveByWindows 11 = .ok (.istore_n 2, 1) := by decide +kernel
theorem dX0_moveByWindows_12 : decode cX0_moveByWindows 12 = .ok (.iload_n 2, 1) := by decide +kernel
theorem dX0_moveByWindows_13 : decode cX0_moveByWindows 13 = .ok (.aload_n 0, 1) := by decide +kernel
theorem dX0_moveByWindows_14 : decode cX0_moveByWindows 14 = .ok (.getfield 84, 3) := by decide +kernel
theorem dX0_moveByWindows_17 : decode cX0_moveByWindows 17 = .ok (.if_icmp .ge 44, 3) := by decide +kernel
theorem dX0_moveByWindows_20 : decode cX0_moveByWindows 20 = .ok (.aload_n 0, 1) := by decide +kernel
theorem dX0_moveByWindows_21 : decode cX0_moveByWindows 21 = .ok (.bipush 18, 2) := by decide +kernel
theorem dX0_moveByWindows_23 : decode cX0_moveByWindows 23 = .ok (.bipush 8, 2) := by decide +kernel
theorem dX0_moveByWindows_25 : decode cX0_moveByWindows 25 = .ok (.iload_n 1, 1) := by decide +kernel
theorem dX0_moveByWindows_26 : decode cX0_moveByWindows 26 = .ok (.imul, 1) := by decide +kernel
theorem dX0_moveByWindows_27 : decode cX0_moveByWindows 27 = .ok (.iload_n 2, 1) := by decide +kernel
theorem dX0_moveByWindows_28 : decode cX0_moveByWindows 28 = .ok (.iadd, 1) := by decide +kernel
theorem dX0_moveByWindows_29 : decode cX0_moveByWindows 29 = .ok (.imul, 1) := by decide +kernel
theorem dX0_moveByWindows_30 : decode cX0_moveByWindows 30 = .ok (.aload_n 0, 1) := by decide +kernel
theorem dX0_moveByWindows_31 : decode cX0_moveByWindows 31 = .ok (.getfield 52, 3) := by decide +kernel
theorem dX0_moveByWindows_34 : decode cX0_moveByWindows 34 = .ok (.iload_n 2, 1) := by decide +kernel
theorem dX0_moveByWindows_35 : decode cX0_moveByWindows 35 = .ok (.imul, 1) := by decide +kernel
theorem dX0_moveByWindows_36 : decode cX0_moveByWindows 36 = .ok (.aload_n 0, 1) := by decide +kernel
theorem dX0_moveByWindows_37 : decode cX0_moveByWindows 37 = .ok (.getfield 56, 3) := by decide +kernel
theorem dX0_moveByWindows_40 : decode cX0_moveByWindows 40 = .ok (.isub, 1) := by decide +kernel
theorem dX0_moveByWindows_41 : decode cX0_moveByWindows 41 = .ok (.aload_n 0, 1) := by decide +kernel
theorem dX0_moveByWindows_42 : decode cX0_moveByWindows 42 = .ok (.getfield 52, 3) := by decide +kernel
theorem dX0_moveByWindows_45 : decode cX0_moveByWindows 45 = .ok (.iload_n 1, 1) := by decide +kernel
theorem dX0_moveByWindows_46 : decode cX0_moveByWindows 46 = .ok (.imul, 1) := by decide +kernel
theorem dX0_moveByWindows_47 : decode cX0_moveByWindows 47 = .ok (.aload_n 0, 1) := by decide +kernel
theorem dX0_moveByWindows_48 : decode cX0_moveByWindows 48 = .ok (.getfield 56, 3) := by decide +kernel
theorem dX0_moveByWindows_51 : decode cX0_moveByWindows 51 = .ok (.isub, 1) := by decide +kernel
theorem dX0_moveByWindows_52 : decode cX0_moveByWindows 52 = .ok (.invokevirtual 111, 3) := by decide +kernel
theorem dX0_moveByWindows_55 : decode cX0_moveByWindows 55 = .ok (.iinc 2 1, 3) := by decide +kernel
theorem dX0_moveByWindows_58 : decode cX0_moveByWindows 58 = .ok (.goto (-46), 3) := by decide +kernel
theorem dX0_moveByWindows_61 : decode cX0_moveByWindows 61 = .ok (.iinc 1 1, 3) := by decide +kernel
theorem dX0_moveByWindows_64 : decode cX0_moveByWindows 64 = .ok (.goto (-62), 3) := by decide +kernel
theorem dX0_moveByWindows_67 : decode cX0_moveByWindows 67 = .ok (.iconst 0, 1) := by decide +kernel
theorem dX0_moveByWindows_68 : decode cX0_moveByWindows 68 = .ok (.istore_n 1, 1) := by decide +kernel
theorem dX0_moveByWindows_69 : decode cX0_moveByWindows 69 = .ok (.iload_n 1, 1) := by decide +kernel
theorem dX0_moveByWindows_70 : decode cX0_moveByWindows 70 = .ok (.bipush 18, 2) := by decide +kernel
theorem dX0_moveByWindows_72 : decode cX0_moveByWindows 72 = .ok (.if_icmp .ge 34, 3) := by decide +kernel
theorem dX0_moveByWindows_75 : decode cX0_moveByWindows 75 = .ok (.iconst 0, 1) := by decide +kernel
theorem dX0_moveByWindows_76 : decode cX0_moveByWindows 76 = .ok (.istore_n 2, 1) := by decide +kernel
theorem dX0_moveByWindows_77 : decode cX0_moveByWindows 77 = .ok (.iload_n 2, 1) := by decide +kernel
theorem dX0_moveByWindows_78 : decode cX0_moveByWindows 78 = .ok (.aload_n 0, 1) := by decide +kernel
theorem dX0_moveByWindows_79 : decode cX0_moveByWindows 79 = .ok (.getfield 84, 3) := by decide +kernel
theorem dX0_moveByWindows_82 : decode cX0_moveByWindows 82 = .ok (.if_icmp .ge 18, 3) := by decide +kernel
theorem dX0_moveByWindows_85 : decode cX0_moveByWindows 85 = .ok (.aload_n 0, 1) := by decide +kernel
theorem dX0_moveByWindows_86 : decode cX0_moveByWindows 86 = .ok (.iload_n 1, 1) := by decide +kernel
theorem dX0_moveByWindows_87 : decode cX0_moveByWindows 87 = .ok (.bipush 8, 2) := by decide +kernel
theorem dX0_moveByWindows_89 : decode cX0_moveByWindows 89 = .ok (.iload_n 2, 1) := by decide +kernel
theorem dX0_moveByWindows_90 : decode cX0_moveByWindows 90 = .ok (.imul, 1) := by decide +kernel
theorem dX0_moveByWindows_91 : decode cX0_moveByWindows 91 = .ok (.invokevirtual 114, 3) := by decide +kernel
theorem dX0_moveByWindows_94 : decode cX0_moveByWindows 94 = .ok (.iinc 2 1, 3) := by decide +kernel
theorem dX0_moveByWindows_97 : decode cX0_moveByWindows 97 = .ok (.goto (-20), 3) := by decide +kernel
theorem dX0_moveByWindows_100 : decode cX0_moveByWindows 100 = .ok (.iinc 1 1, 3) := by decide +kernel
theorem dX0_moveByWindows_103 : decode cX0_moveByWindows 103 = .ok (.goto (-34), 3) := by decide +kernel
theorem dX0_moveByWindows_106 : decode cX0_moveByWindows 106 = .ok (.return_, 1) := by decide +kernel
end
section
set_option maxRecDepth 100000
theorem dX0_stretch_0 : decode cX0_stretch 0 = .ok (.iconst 0, 1) := by decide +kernel
theorem dX0_stretch_1 : decode cX0_stretch 1 = .ok (.istore 4, 2) := by decide +kernel
theorem dX0_stretch_3 : decode cX0_stretch 3 = .ok (.iload 4, 2) := by decide +kernel
theorem dX0_stretch_5 : decode cX0_stretch 5 = .ok (.iconst 2, 1) := by decide +kernel
theorem dX0_stretch_6 : decode cX0_stretch 6 = .ok (.if_icmp .ge 58, 3) := by decide +kernel
theorem dX0_stretch_9 : decode cX0_stretch 9 = .ok (.iconst 0, 1) := by decide +kernel
theorem dX0_stretch_10 : decode cX0_stretch 10 = .ok (.istore 5, 2) := by decide +kernel
theorem dX0_stretch_12 : decode cX0_stretch 12 = .ok (.iload 5, 2) := by decide +kernel
theorem dX0_stretch_14 : decode cX0_stretch 14 = .ok (.bipush 9, 2) := by decide +kernel
theorem dX0_stretch_16 : decode cX0_stretch 16 = .ok (.if_icmp .ge 42, 3) := by decide +kernel
theorem dX0_stretch_19 : decode cX0_stretch 19 = .ok (.aload_n 0, 1) := by decide +kernel
theorem dX0_stretch_20 : decode cX0_stretch 20 = .ok (.getfield 49, 3) := by decide +kernel
theorem dX0_stretch_23 : decode cX0_stretch 23 = .ok (.iload_n 1, 1) := by decide +kernel
theorem dX0_stretch_24 : decode cX0_stretch 24 = .ok (.bipush 9, 2) := by decide +kernel
theorem dX0_stretch_26 : decode cX0_stretch 26 = .ok (.iload 4, 2) := by decide +kernel
theorem dX0_stretch_28 : decode cX0_stretch 28 = .ok (.imul, 1) := by decide +kernel
theorem dX0_stretch_29 : decode cX0_stretch 29 = .ok (.iadd, 1) := by decide +kernel
theorem dX0_stretch_30 : decode cX0_stretch 30 = .ok (.iload 5, 2) := by decide +kernel
theorem dX0_stretch_32 : decode cX0_stretch 32 = .ok (.iadd, 1) := by decide +kernel
theorem dX0_stretch_33 : decode cX0_stretch 33 = .ok (.aload_n 0, 1) := by decide +kernel
theorem dX0_stretch_34 : decode cX0_stretch 34 = .ok (.iload 4, 2) := by decide +kernel
theorem dX0_stretch_36 : decode cX0_stretch 36 = .ok (.iload_n 2, 1) := by decide +kernel
theorem dX0_stretch_37 : decode cX0_stretch 37 = .ok (.iload 5, 2) := by decide +kernel
theorem dX0_stretch_39 : decode cX0_stretch 39 = .ok (.iconst 3, 1) := by decide +kernel
theorem dX0_stretch_40 : decode cX0_stretch 40 = .ok (.irem, 1) := by decide +kernel
theorem dX0_stretch_41 : decode cX0_stretch 41 = .ok (.iadd, 1) := by decide +kernel
theorem dX0_stretch_42 : decode cX0_stretch 42 = .ok (.iload_n 3, 1) := by decide +kernel
theorem dX0_stretch_43 : decode cX0_stretch 43 = .ok (.iload 5, 2) := by decide +kernel
theorem dX0_stretch_45 : decode cX0_stretch 45 = .ok (.iconst 3, 1) := by decide +kernel
theorem dX0_stretch_46 : decode cX0_stretch 46 = .ok (.idiv, 1) := by decide +kernel
theorem dX0_stretch_47 : decode cX0_stretch 47 = .ok (.iadd, 1) := by decide +kernel
theorem dX0_stretch_48 : decode cX0_stretch 48 = .ok (.invokevirtual 72, 3) := by decide +kernel
theorem dX0_stretch_51 : decode cX0_stretch 51 = .ok (.iastore, 1) := by decide +kernel
theorem dX0_stretch_52 : decode cX0_stretch 52 = .ok (.iinc 5 1, 3) := by decide +kernel
theorem dX0_stretch_55 : decode cX0_stretch 55 = .ok (.goto (-43), 3) := by decide +kernel
theorem dX0_stretch_58 : decode cX0_stretch 58 = .ok (.iinc 4 1, 3) := by decide +kernel
theorem dX0_stretch_61 : decode cX0_stretch 61 = .ok (.goto (-58), 3) := by decide +kernel
theorem dX0_stretch_64 : decode cX0_stretch 64 = .ok (.return_, 1) := by decide +kernel
theorem dX0_addColumn_0 : decode cX0_addColumn 0 = .ok (.iload_n 2, 1) := by decide +kernel
theorem dX0_addColumn_1 : decode cX0_addColumn 1 = .ok (.istore_n 3, 1) := by decide +kernel
theorem dX0_addColumn_2 : decode cX0_addColumn 2 = .ok (.iload_n 3, 1) := by decide +kernel
theorem dX0_addColumn_3 : decode cX0_addColumn 3 = .ok (.iload_n 2, 1) := by decide +kernel
theorem dX0_addColumn_4 : decode cX0_addColumn 4 = .ok (.aload_n 0, 1) := by decide +kernel
theorem dX0_addColumn_5 : decode cX0_addColumn 5 = .ok (.getfield 84, 3) := by decide +kernel
theorem dX0_addColumn_8 : decode cX0_addColumn 8 = .ok (.iadd, 1) := by decide +kernel
theorem dX0_addColumn_9 : decode cX0_addColumn 9 = .ok (.if_icmp .ge 40, 3) := by decide +kernel
theorem dX0_addColumn_12 : decode cX0_addColumn 12 = .ok (.aload_n 0, 1) := by decide +kernel
theorem dX0_addColumn_13 : decode cX0_addColumn 13 = .ok (.getfield 16, 3) := by decide +kernel
theorem dX0_addColumn_16 : decode cX0_addColumn 16 = .ok (.iload_n 3, 1) := by decide +kernel
theorem dX0_addColumn_17 : decode cX0_addColumn 17 = .ok (.aload_n 0, 1) := by decide +kernel
theorem dX0_addColumn_18 : decode cX0_addColumn 18 = .ok (.getfield 16, 3) := by decide +kernel
theorem dX0_addColumn_21 : decode cX0_addColumn 21 = .ok (.iload_n 3, 1) := by decide +kernel
theorem dX0_addColumn_22 : decode cX0_addColumn 22 = .ok (.iaload, 1) := by decide +kernel
theorem dX0_addColumn_23 : decode cX0_addColumn 23 = .ok (.aload_n 0, 1) := by decide +kernel
theorem dX0_addColumn_24 : decode cX0_addColumn 24 = .ok (.getfield 49, 3) := by decide +kernel
theorem dX0_addColumn_27 : decode cX0_addColumn 27 = .ok (.bipush 18, 2) := by decide +kernel
theorem dX0_addColumn_29 : decode cX0_addColumn 29 = .ok (.iload_n 3, 1) := by decide +kernel
theorem dX0_addColumn_30 : decode cX0_addColumn 30 = .ok (.imul, 1) := by decide +kernel
theorem dX0_addColumn_31 : decode cX0_addColumn 31 = .ok (.iload_n 1, 1) := by decide +kernel
theorem dX0_addColumn_32 : decode cX0_addColumn 32 = .ok (.iadd, 1) := by decide +kernel
theorem dX0_addColumn_33 : decode cX0_addColumn 33 = .ok (.iaload, 1) := by decide +kernel
theorem dX0_addColumn_34 : decode cX0_addColumn 34 = .ok (.aload_n 0, 1) := by decide +kernel
theorem dX0_addColumn_35 : decode cX0_addColumn 35 = .ok (.getfield 13, 3) := by decide +kernel
theorem dX0_addColumn_38 : decode cX0_addColumn 38 = .ok (.iload_n 1, 1) := by decide +kernel
theorem dX0_addColumn_39 : decode cX0_addColumn 39 = .ok (.iaload, 1) := by decide +kernel
theorem dX0_addColumn_40 : decode cX0_addColumn 40 = .ok (.imul, 1) := by decide +kernel
theorem dX0_addColumn_41 : decode cX0_addColumn 41 = .ok (.iadd, 1) := by decide +kernel
theorem dX0_addColumn_42 : decode cX0_addColumn 42 = .ok (.iastore, 1) := by decide +kernel
theorem dX0_addColumn_43 : decode cX0_addColumn 43 = .ok (.iinc 3 1, 3) := by decide +kernel
theorem dX0_addColumn_46 : decode cX0_addColumn 46 = .ok (.goto (-44), 3) := by decide +kernel
theorem dX0_addColumn_49 : decode cX0_addColumn 49 = .ok (.return_, 1) := by decide +kernel
theorem dX0_width_0 : decode cX0_width 0 = .ok (.aload_n 0, 1) := by decide +kernel
theorem dX0_width_1 : decode cX0_width 1 = .ok (.getfield 84, 3) := by decide +kernel
theorem dX0_width_4 : decode cX0_width 4 = .ok (.ireturn, 1) := by decide +kernel
theorem dX0_result_0 : decode cX0_result 0 = .ok (.iload_n 1, 1) := by decide +kernel
theorem dX0_result_1 : decode cX0_result 1 = .ok (.ifCond .lt 23, 3) := by decide +kernel
theorem dX0_result_4 : decode cX0_result 4 = .ok (.iload_n 1, 1) := by decide +kernel
theorem dX0_result_5 : decode cX0_result 5 = .ok (.aload_n 0, 1) := by decide +kernel
theorem dX0_result_6 : decode cX0_result 6 = .ok (.getfield 84, 3) := by decide +kernel
theorem dX0_result_9 : decode cX0_result 9 = .ok (.if_icmp .ge 15, 3) := by decide +kernel
theorem dX0_result_12 : decode cX0_result 12 = .ok (.iload_n 2, 1) := by decide +kernel
theorem dX0_result_13 : decode cX0_result 13 = .ok (.ifCond .lt 11, 3) := by decide +kernel
theorem dX0_result_16 : decode cX0_result 16 = .ok (.iload_n 2, 1) := by decide +kernel
theorem dX0_result_17 : decode cX0_result 17 = .ok (.aload_n 0, 1) := by decide +kernel
theorem dX0_result_18 : decode cX0_result 18 = .ok (.getfield 84, 3) := by decide +kernel
theorem dX0_result_21 : decode cX0_result 21 = .ok (.if_icmp .lt 5, 3) := by decide +kernel
theorem dX0_result_24 : decode cX0_result 24 = .ok (.iconst 0, 1) := by decide +kernel
theorem dX0_result_25 : decode cX0_result 25 = .ok (.ireturn, 1) := by decide +kernel
theorem dX0_result_26 : decode cX0_result 26 = .ok (.aload_n 0, 1) := by decide +kernel
theorem dX0_result_27 : decode cX0_result 27 = .ok (.getfield 16, 3) := by decide +kernel
theorem dX0_result_30 : decode cX0_result 30 = .ok (.bipush 8, 2) := by decide +kernel
theorem dX0_result_32 : decode cX0_result 32 = .ok (.iload_n 2, 1) := by decide +kernel
theorem dX0_result_33 : decode cX0_result 33 = .ok (.imul, 1) := by decide +kernel
theorem dX0_result_34 : decode cX0_result 34 = .ok (.iload_n 1, 1) := by decide +kernel
theorem dX0_result_35 : decode cX0_result 35 = .ok (.iadd, 1) := by decide +kernel
theorem dX0_result_36 : decode cX0_result 36 = .ok (.iaload, 1) := by decide +kernel
theorem dX0_result_37 : decode cX0_result 37 = .ok (.ireturn, 1) := by decide +kernel
theorem dX0_floor_0 : decode cX0_floor 0 = .ok (.iconst 0, 1) := by decide +kernel
theorem dX0_floor_1 : decode cX0_floor 1 = .ok (.istore_n 1, 1) := by decide +kernel
theorem dX0_floor_2 : decode cX0_floor 2 = .ok (.iconst 0, 1) := by decide +kernel
theorem dX0_floor_3 : decode cX0_floor 3 = .ok (.istore_n 2, 1) := by decide +kernel
theorem dX0_floor_4 : decode cX0_floor 4 = .ok (.iload_n 2, 1) := by decide +kernel
theorem dX0_floor_5 : decode cX0_floor 5 = .ok (.aload_n 0, 1) := by decide +kernel
theorem dX0_floor_6 : decode cX0_floor 6 = .ok (.getfield 84, 3) := by decide +kernel
theorem dX0_floor_9 : decode cX0_floor 9 = .ok (.if_icmp .ge 54, 3) := by decide +kernel
theorem dX0_floor_12 : decode cX0_floor 12 = .ok (.iconst 0, 1) := by decide +kernel
theorem dX0_floor_13 : decode cX0_floor 13 = .ok (.istore_n 3, 1) := by decide +kernel
theorem dX0_floor_14 : decode cX0_floor 14 = .ok (.iload_n 3, 1) := by decide +kernel
theorem dX0_floor_15 : decode cX0_floor 15 = .ok (.aload_n 0, 1) := by decide +kernel
theorem dX0_floor_16 : decode cX0_floor 16 = .ok (.getfield 84, 3) := by decide +kernel
theorem dX0_floor_19 : decode cX0_floor 19 = .ok (.if_icmp .ge 38, 3) := by decide +kernel
theorem dX0_floor_22 : decode cX0_floor 22 = .ok (.aload_n 0, 1) := by decide +kernel
theorem dX0_floor_23 : decode cX0_floor 23 = .ok (.getfield 16, 3) := by decide +kernel
theorem dX0_floor_26 : decode cX0_floor 26 = .ok (.bipush 8, 2) := by decide +kernel
theorem dX0_floor_28 : decode cX0_floor 28 = .ok (.iload_n 2, 1) := by decide +kernel
theorem dX0_floor_29 : decode cX0_floor 29 = .ok (.imul, 1) := by decide +kernel
theorem dX0_floor_30 : decode cX0_floor 30 = .ok (.iload_n 3, 1) := by decide +kernel
theorem dX0_floor_31 : decode cX0_floor 31 = .ok (.iadd, 1) := by decide +kernel
theorem dX0_floor_32 : decode cX0_floor 32 = .ok (.iaload, 1) := by decide +kernel
theorem dX0_floor_33 : decode cX0_floor 33 = .ok (.ifCond .ge 18, 3) := by decide +kernel
theorem dX0_floor_36 : decode cX0_floor 36 = .ok (.aload_n 0, 1) := by decide +kernel
theorem dX0_floor_37 : decode cX0_floor 37 = .ok (.getfield 16, 3) := by decide +kernel
theorem dX0_floor_40 : decode cX0_floor 40 = .ok (.bipush 8, 2) := by decide +kernel
theorem dX0_floor_42 : decode cX0_floor 42 = .ok (.iload_n 2, 1) := by decide +kernel
theorem dX0_floor_43 : decode cX0_floor 43 = .ok (.imul, 1) := by decide +kernel
theorem dX0_floor_44 : decode cX0_floor 44 = .ok (.iload_n 3, 1) := by decide +kernel
theorem dX0_floor_45 : decode cX0_floor 45 = .ok (.iadd, 1) := by decide +kernel
theorem dX0_floor_46 : decode cX0_floor 46 = .ok (.iconst 0, 1) := by decide +kernel
theorem dX0_floor_47 : decode cX0_floor 47 = .ok (.iastore, 1) := by decide +kernel
theorem dX0_floor_48 : decode cX0_floor 48 = .ok (.iinc 1 1, 3) := by decide +kernel
theorem dX0_floor_51 : decode cX0_floor 51 = .ok (.iinc 3 1, 3) := by decide +kernel
theorem dX0_floor_54 : decode cX0_floor 54 = .ok (.goto (-40), 3) := by decide +kernel
theorem dX0_floor_57 : decode cX0_floor 57 = .ok (.iinc 2 1, 3) := by decide +kernel
theorem dX0_floor_60 : decode cX0_floor 60 = .ok (.goto (-56), 3) := by decide +kernel
theorem dX0_floor_63 : decode cX0_floor 63 = .ok (.iload_n 1, 1) := by decide +kernel
theorem dX0_floor_64 : decode cX0_floor 64 = .ok (.ireturn, 1) := by decide +kernel
theorem dX0_thin_0 : decode cX0_thin 0 = .ok (.aload_n 0, 1) := by decide +kernel
theorem dX0_thin_1 : decode cX0_thin 1 = .ok (.getfield 84, 3) := by decide +kernel
theorem dX0_thin_4 : decode cX0_thin 4 = .ok (.iconst 1, 1) := by decide +kernel
theorem dX0_thin_5 : decode cX0_thin 5 = .ok (.ishr, 1) := by decide +kernel
theorem dX0_thin_6 : decode cX0_thin 6 = .ok (.istore_n 1, 1) := by decide +kernel
theorem dX0_thin_7 : decode cX0_thin 7 = .ok (.iconst 0, 1) := by decide +kernel
theorem dX0_thin_8 : decode cX0_thin 8 = .ok (.istore_n 2, 1) := by decide +kernel
theorem dX0_thin_9 : decode cX0_thin 9 = .ok (.iload_n 2, 1) := by decide +kernel
theorem dX0_thin_10 : decode cX0_thin 10 = .ok (.iload_n 1, 1) := by decide +kernel
theorem dX0_thin_11 : decode cX0_thin 11 = .ok (.if_icmp .ge 99, 3) := by decide +kernel
theorem dX0_thin_14 : decode cX0_thin 14 = .ok (.iconst 0, 1) := by decide +kernel
theorem dX0_thin_15 : decode cX0_thin 15 = .ok (.istore_n 3, 1) := by decide +kernel
theorem dX0_thin_16 : decode cX0_thin 16 = .ok (.iload_n 3, 1) := by decide +kernel
theorem dX0_thin_17 : decode cX0_thin 17 = .ok (.iload_n 1, 1) := by decide +kernel
theorem dX0_thin_18 : decode cX0_thin 18 = .ok (.if_icmp .ge 86, 3) := by decide +kernel
theorem dX0_thin_21 : decode cX0_thin 21 = .ok (.bipush 16, 2) := by decide +kernel
theorem dX0_thin_23 : decode cX0_thin 23 = .ok (.iload_n 2, 1) := by decide +kernel
theorem dX0_thin_24 : decode cX0_thin 24 = .ok (.imul, 1) := by decide +kernel
theorem dX0_thin_25 : decode cX0_thin 25 = .ok (.iconst 2, 1) := by decide +kernel
theorem dX0_thin_26 : decode cX0_thin 26 = .ok (.iload_n 3, 1) := by decide +kernel
theorem dX0_thin_27 : decode cX0_thin 27 = .ok (.imul, 1) := by decide +kernel
theorem dX0_thin_28 : decode cX0_thin 28 = .ok (.iadd, 1) := by decide +kernel
theorem dX0_thin_29 : decode cX0_thin 29 = .ok (.istore 4, 2) := by decide +kernel
theorem dX0_thin_31 : decode cX0_thin 31 = .ok (.aload_n 0, 1) := by decide +kernel
theorem dX0_thin_32 : decode cX0_thin 32 = .ok (.aload_n 0, 1) := by decide +kernel
theorem dX0_thin_33 : decode cX0_thin 33 = .ok (.getfield 16, 3) := by decide +kernel
theorem dX0_thin_36 : decode cX0_thin 36 = .ok (.iload 4, 2) := by decide +kernel
theorem dX0_thin_38 : decode cX0_thin 38 = .ok (.iaload, 1) := by decide +kernel
theorem dX0_thin_39 : decode cX0_thin 39 = .ok (.aload_n 0, 1) := by decide +kernel
theorem dX0_thin_40 : decode cX0_thin 40 = .ok (.getfield 16, 3) := by decide +kernel
theorem dX0_thin_43 : decode cX0_thin 43 = .ok (.iload 4, 2) := by decide +kernel
theorem dX0_thin_45 : decode cX0_thin 45 = .ok (.iconst 1, 1) := by decide +kernel
theorem dX0_thin_46 : decode cX0_thin 46 = .ok (.iadd, 1) := by decide +kernel
theorem dX0_thin_47 : decode cX0_thin 47 = .ok (.iaload, 1) := by decide +kernel
theorem dX0_thin_48 : decode cX0_thin 48 = .ok (.invokevirtual 129, 3) := by decide +kernel
theorem dX0_thin_51 : decode cX0_thin 51 = .ok (.istore 5, 2) := by decide +kernel
theorem dX0_thin_53 : decode cX0_thin 53 = .ok (.aload_n 0, 1) := by decide +kernel
theorem dX0_thin_54 : decode cX0_thin 54 = .ok (.aload_n 0, 1) := by decide +kernel
theorem dX0_thin_55 : decode cX0_thin 55 = .ok (.getfield 16, 3) := by decide +kernel
theorem dX0_thin_58 : decode cX0_thin 58 = .ok (.iload 4, 2) := by decide +kernel
theorem dX0_thin_60 : decode cX0_thin 60 = .ok (.bipush 8, 2) := by decide +kernel
theorem dX0_thin_62 : decode cX0_thin 62 = .ok (.iadd, 1) := by decide +kernel
theorem dX0_thin_63 : decode cX0_thin 63 = .ok (.iaload, 1) := by decide +kernel
theorem dX0_thin_64 : decode cX0_thin 64 = .ok (.aload_n 0, 1) := by decide +kernel
theorem dX0_thin_65 : decode cX0_thin 65 = .ok (.getfield 16, 3) := by decide +kernel
theorem dX0_thin_68 : decode cX0_thin 68 = .ok (.iload 4, 2) := by decide +kernel
theorem dX0_thin_70 : decode cX0_thin 70 = .ok (.bipush 9, 2) := by decide +kernel
theorem dX0_thin_72 : decode cX0_thin 72 = .ok (.iadd, 1) := by decide +kernel
theorem dX0_thin_73 : decode cX0_thin 73 = .ok (.iaload, 1) := by decide +kernel
theorem dX0_thin_74 : decode cX0_thin 74 = .ok (.invokevirtual 129, 3) := by decide +kernel
theorem dX0_thin_77 : decode cX0_thin 77 = .ok (.istore 6, 2) := by decide +kernel
theorem dX0_thin_79 : decode cX0_thin 79 = .ok (.aload_n 0, 1) := by decide +kernel
theorem dX0_thin_80 : decode cX0_thin 80 = .ok (.getfield 16, 3) := by decide +kernel
theorem dX0_thin_83 : decode cX0_thin 83 = .ok (.bipush 8, 2) := by decide +kernel
theorem dX0_thin_85 : decode cX0_thin 85 = .ok (.iload_n 2, 1) := by decide +kernel
theorem dX0_thin_86 : decode cX0_thin 86 = .ok (.imul, 1) := by decide +kernel
theorem dX0_thin_87 : decode cX0_thin 87 = .ok (.iload_n 3, 1) := by decide +kernel
theorem dX0_thin_88 : decode cX0_thin 88 = .ok (.iadd, 1) := by decide +kernel
theorem dX0_thin_89 : decode cX0_thin 89 = .ok (.aload_n 0, 1) := by decide +kernel
theorem dX0_thin_90 : decode cX0_thin 90 = .ok (.iload 5, 2) := by decide +kernel
theorem dX0_thin_92 : decode cX0_thin 92 = .ok (.iload 6, 2) := by decide +kernel
theorem dX0_thin_94 : decode cX0_thin 94 = .ok (.invokevirtual 129, 3) := by decide +kernel
theorem dX0_thin_97 : decode cX0_thin 97 = .ok (.iastore, 1) := by decide +kernel
theorem dX0_thin_98 : decode cX0_thin 98 = .ok (.iinc 3 1, 3) := by decide +kernel
theorem dX0_thin_101 : decode cX0_thin 101 = .ok (.goto (-85), 3) := by decide +kernel
theorem dX0_thin_104 : decode cX0_thin 104 = .ok (.iinc 2 1, 3) := by decide +kernel
theorem dX0_thin_107 : decode cX0_thin 107 = .ok (.goto (-98), 3) := by decide +kernel
theorem dX0_thin_110 : decode cX0_thin 110 = .ok (.aload_n 0, 1) := by decide +kernel
theorem dX0_thin_111 : decode cX0_thin 111 = .ok (.iload_n 1, 1) := by decide +kernel
theorem dX0_thin_112 : decode cX0_thin 112 = .ok (.putfield 84, 3) := by decide +kernel
theorem dX0_thin_115 : decode cX0_thin 115 = .ok (.iload_n 1, 1) := by decide +kernel
theorem dX0_thin_116 : decode cX0_thin 116 = .ok (.ireturn, 1) := by decide +kernel
theorem dX0_greater_0 : decode cX0_greater 0 = .ok (.iload_n 1, 1) := by decide +kernel
theorem dX0_greater_1 : decode cX0_greater 1 = .ok (.iload_n 2, 1) := by decide +kernel
theorem dX0_greater_2 : decode cX0_greater 2 = .ok (.if_icmp .le 7, 3) := by decide +kernel
theorem dX0_greater_5 : decode cX0_greater 5 = .ok (.iload_n 1, 1) := by decide +kernel
theorem dX0_greater_6 : decode cX0_greater 6 = .ok (.goto 4, 3) := by decide +kernel
theorem dX0_greater_9 : decode cX0_greater 9 = .ok (.iload_n 2, 1) := by decide +kernel
theorem dX0_greater_10 : decode cX0_greater 10 = .ok (.ireturn, 1) := by decide +kernel
theorem dX0_divide_0 : decode cX0_divide 0 = .ok (.iload_n 1, 1) := by decide +kernel
theorem dX0_divide_1 : decode cX0_divide 1 = .ok (.iconst 1, 1) := by decide +kernel
theorem dX0_divide_2 : decode cX0_divide 2 = .ok (.if_icmp .lt 9, 3) := by decide +kernel
theorem dX0_divide_5 : decode cX0_divide 5 = .ok (.iload_n 1, 1) := by decide +kernel
theorem dX0_divide_6 : decode cX0_divide 6 = .ok (.bipush 100, 2) := by decide +kernel
theorem dX0_divide_8 : decode cX0_divide 8 = .ok (.if_icmp .le 6, 3) := by decide +kernel
theorem dX0_divide_11 : decode cX0_divide 11 = .ok (.ldc 63, 2) := by decide +kernel
theorem dX0_divide_13 : decode cX0_divide 13 = .ok (.ireturn, 1) := by decide +kernel
theorem dX0_divide_14 : decode cX0_divide 14 = .ok (.iconst 0, 1) := by decide +kernel
theorem dX0_divide_15 : decode cX0_divide 15 = .ok (.istore_n 2, 1) := by decide +kernel
theorem dX0_divide_16 : decode cX0_divide 16 = .ok (.iload_n 2, 1) := by decide +kernel
theorem dX0_divide_17 : decode cX0_divide 17 = .ok (.bipush 64, 2) := by decide +kernel
theorem dX0_divide_19 : decode cX0_divide 19 = .ok (.if_icmp .ge 23, 3) := by decide +kernel
theorem dX0_divide_22 : decode cX0_divide 22 = .ok (.aload_n 0, 1) := by decide +kernel
theorem dX0_divide_23 : decode cX0_divide 23 = .ok (.getfield 16, 3) := by decide +kernel
theorem dX0_divide_26 : decode cX0_divide 26 = .ok (.iload_n 2, 1) := by decide +kernel
theorem dX0_divide_27 : decode cX0_divide 27 = .ok (.aload_n 0, 1) := by decide +kernel
theorem dX0_divide_28 : decode cX0_divide 28 = .ok (.getfield 16, 3) := by decide +kernel
theorem dX0_divide_31 : decode cX0_divide 31 = .ok (.iload_n 2, 1) := by decide +kernel
theorem dX0_divide_32 : decode cX0_divide 32 = .ok (.iaload, 1) := by decide +kernel
theorem dX0_divide_33 : decode cX0_divide 33 = .ok (.iload_n 1, 1) := by decide +kernel
theorem dX0_divide_34 : decode cX0_divide 34 = .ok (.idiv, 1) := by decide +kernel
theorem dX0_divide_35 : decode cX0_divide 35 = .ok (.iastore, 1) := by decide +kernel
theorem dX0_divide_36 : decode cX0_divide 36 = .ok (.iinc 2 1, 3) := by decide +kernel
theorem dX0_divide_39 : decode cX0_divide 39 = .ok (.goto (-23), 3) := by decide +kernel
theorem dX0_divide_42 : decode cX0_divide 42 = .ok (.aload_n 0, 1) := by decide +kernel
theorem dX0_divide_43 : decode cX0_divide 43 = .ok (.getfield 84, 3) := by decide +kernel
theorem dX0_divide_46 : decode cX0_divide 46 = .ok (.ireturn, 1) := by decide +kernel
theorem dX0_take_0 : decode cX0_take 0 = .ok (.iload_n 1, 1) := by decide +kernel
theorem dX0_take_1 : decode cX0_take 1 = .ok (.ifCond .lt 8, 3) := by decide +kernel
theorem dX0_take_4 : decode cX0_take 4 = .ok (.iload_n 1, 1) := by decide +kernel
theorem dX0_take_5 : decode cX0_take 5 = .ok (.iconst 1, 1) := by decide +kernel
theorem dX0_take_6 : decode cX0_take 6 = .ok (.if_icmp .le 6, 3) := by decide +kernel
theorem dX0_take_9 : decode cX0_take 9 = .ok (.ldc 63, 2) := by decide +kernel
theorem dX0_take_11 : decode cX0_take 11 = .ok (.ireturn, 1) := by decide +kernel
theorem dX0_take_12 : decode cX0_take 12 = .ok (.iconst 0, 1) := by decide +kernel
theorem dX0_take_13 : decode cX0_take 13 = .ok (.istore_n 2, 1) := by decide +kernel
theorem dX0_take_14 : decode cX0_take 14 = .ok (.iconst 0, 1) := by decide +kernel
theorem dX0_take_15 : decode cX0_take 15 = .ok (.istore_n 3, 1) := by decide +kernel
theorem dX0_take_16 : decode cX0_take 16 = .ok (.iload_n 3, 1) := by decide +kernel
theorem dX0_take_17 : decode cX0_take 17 = .ok (.bipush 8, 2) := by decide +kernel
theorem dX0_take_19 : decode cX0_take 19 = .ok (.if_icmp .ge 85, 3) := by decide +kernel
theorem dX0_take_22 : decode cX0_take 22 = .ok (.iconst 0, 1) := by decide +kernel
theorem dX0_take_23 : decode cX0_take 23 = .ok (.istore 4, 2) := by decide +kernel
theorem dX0_take_25 : decode cX0_take 25 = .ok (.iload 4, 2) := by decide +kernel
theorem dX0_take_27 : decode cX0_take 27 = .ok (.bipush 8, 2) := by decide +kernel
theorem dX0_take_29 : decode cX0_take 29 = .ok (.if_icmp .ge 69, 3) := by decide +kernel
theorem dX0_take_32 : decode cX0_take 32 = .ok (.aload_n 0, 1) := by decide +kernel
theorem dX0_take_33 : decode cX0_take 33 = .ok (.iload 4, 2) := by decide +kernel
theorem dX0_take_35 : decode cX0_take 35 = .ok (.iload_n 3, 1) := by decide +kernel
theorem dX0_take_36 : decode cX0_take 36 = .ok (.invokevirtual 132, 3) := by decide +kernel
theorem dX0_take_39 : decode cX0_take 39 = .ok (.istore 5, 2) := by decide +kernel
theorem dX0_take_41 : decode cX0_take 41 = .ok (.aload_n 0, 1) := by decide +kernel
theorem dX0_take_42 : decode cX0_take 42 = .ok (.iload 5, 2) := by decide +kernel
theorem dX0_take_44 : decode cX0_take 44 = .ok (.invokevirtual 64, 3) := by decide +kernel
theorem dX0_take_47 : decode cX0_take 47 = .ok (.istore 6, 2) := by decide +kernel
theorem dX0_take_49 : decode cX0_take 49 = .ok (.bipush 64, 2) := by decide +kernel
theorem dX0_take_51 : decode cX0_take 51 = .ok (.iload_n 1, 1) := by decide +kernel
theorem dX0_take_52 : decode cX0_take 52 = .ok (.imul, 1) := by decide +kernel
theorem dX0_take_53 : decode cX0_take 53 = .ok (.bipush 8, 2) := by decide +kernel
theorem dX0_take_55 : decode cX0_take 55 = .ok (.iload_n 3, 1) := by decide +kernel
theorem dX0_take_56 : decode cX0_take 56 = .ok (.imul, 1) := by decide +kernel
theorem dX0_take_57 : decode cX0_take 57 = .ok (.iadd, 1) := by decide +kernel
theorem dX0_take_58 : decode cX0_take 58 = .ok (.iload 4, 2) := by decide +kernel
theorem dX0_take_60 : decode cX0_take 60 = .ok (.iadd, 1) := by decide +kernel
theorem dX0_take_61 : decode cX0_take 61 = .ok (.istore 7, 2) := by decide +kernel
theorem dX0_take_63 : decode cX0_take 63 = .ok (.aload_n 0, 1) := by decide +kernel
theorem dX0_take_64 : decode cX0_take 64 = .ok (.getfield 7, 3) := by decide +kernel
theorem dX0_take_67 : decode cX0_take 67 = .ok (.iload 7, 2) := by decide +kernel
theorem dX0_take_69 : decode cX0_take 69 = .ok (.iaload, 1) := by decide +kernel
theorem dX0_take_70 : decode cX0_take 70 = .ok (.iload 6, 2) := by decide +kernel
theorem dX0_take_72 : decode cX0_take 72 = .ok (.if_icmp .ne 7, 3) := by decide +kernel
theorem dX0_take_75 : decode cX0_take 75 = .ok (.iload_n 2, 1) := by decide +kernel
theorem dX0_take_76 : decode cX0_take 76 = .ok (.goto 6, 3) := by decide +kernel
theorem dX0_take_79 : decode cX0_take 79 = .ok (.iload_n 2, 1) := by decide +kernel
theorem dX0_take_80 : decode cX0_take 80 = .ok (.iconst 1, 1) := by decide +kernel
theorem dX0_take_81 : decode cX0_take 81 = .ok (.iadd, 1) := by decide +kernel
theorem dX0_take_82 : decode cX0_take 82 = .ok (.istore_n 2, 1) := by decide +kernel
theorem dX0_take_83 : decode cX0_take 83 = .ok (.aload_n 0, 1) := by decide +kernel
theorem dX0_take_84 : decode cX0_take 84 = .ok (.getfield 7, 3) := by decide +kernel
theorem dX0_take_87 : decode cX0_take 87 = .ok (.iload 7, 2) := by decide +kernel
theorem dX0_take_89 : decode cX0_take 89 = .ok (.iload 6, 2) := by decide +kernel
theorem dX0_take_91 : decode cX0_take 91 = .ok (.iastore, 1) := by decide +kernel
theorem dX0_take_92 : decode cX0_take 92 = .ok (.iinc 4 1, 3) := by decide +kernel
theorem dX0_take_95 : decode cX0_take 95 = .ok (.goto (-70), 3) := by decide +kernel
theorem dX0_take_98 : decode cX0_take 98 = .ok (.iinc 3 1, 3) := by decide +kernel
theorem dX0_take_101 : decode cX0_take 101 = .ok (.goto (-85), 3) := by decide +kernel
theorem dX0_take_104 : decode cX0_take 104 = .ok (.iload_n 2, 1) := by decide +kernel
theorem dX0_take_105 : decode cX0_take 105 = .ok (.ireturn, 1) := by decide +kernel
theorem dX0_sum_0 : decode cX0_sum 0 = .ok (.iconst 0, 1) := by decide +kernel
theorem dX0_sum_1 : decode cX0_sum 1 = .ok (.istore_n 1, 1) := by decide +kernel
theorem dX0_sum_2 : decode cX0_sum 2 = .ok (.iconst 0, 1) := by decide +kernel
theorem dX0_sum_3 : decode cX0_sum 3 = .ok (.istore_n 2, 1) := by decide +kernel
theorem dX0_sum_4 : decode cX0_sum 4 = .ok (.iload_n 2, 1) := by decide +kernel
theorem dX0_sum_5 : decode cX0_sum 5 = .ok (.aload_n 0, 1) := by decide +kernel
theorem dX0_sum_6 : decode cX0_sum 6 = .ok (.getfield 84, 3) := by decide +kernel
theorem dX0_sum_9 : decode cX0_sum 9 = .ok (.if_icmp .ge 39, 3) := by decide +kernel
theorem dX0_sum_12 : decode cX0_sum 12 = .ok (.iconst 0, 1) := by decide +kernel
theorem dX0_sum_13 : decode cX0_sum 13 = .ok (.istore_n 3, 1) := by decide +kernel
theorem dX0_sum_14 : decode cX0_sum 14 = .ok (.iload_n 3, 1) := by decide +kernel
theorem dX0_sum_15 : decode cX0_sum 15 = .ok (.aload_n 0, 1) := by decide +kernel
theorem dX0_sum_16 : decode cX0_sum 16 = .ok (.getfield 84, 3) := by decide +kernel
theorem dX0_sum_19 : decode cX0_sum 19 = .ok (.if_icmp .ge 23, 3) := by decide +kernel
theorem dX0_sum_22 : decode cX0_sum 22 = .ok (.iload_n 1, 1) := by decide +kernel
theorem dX0_sum_23 : decode cX0_sum 23 = .ok (.aload_n 0, 1) := by decide +kernel
theorem dX0_sum_24 : decode cX0_sum 24 = .ok (.getfield 16, 3) := by decide +kernel
theorem dX0_sum_27 : decode cX0_sum 27 = .ok (.bipush 8, 2) := by decide +kernel
theorem dX0_sum_29 : decode cX0_sum 29 = .ok (.iload_n 2, 1) := by decide +kernel
theorem dX0_sum_30 : decode cX0_sum 30 = .ok (.imul, 1) := by decide +kernel
theorem dX0_sum_31 : decode cX0_sum 31 = .ok (.iload_n 3, 1) := by decide +kernel
theorem dX0_sum_32 : decode cX0_sum 32 = .ok (.iadd, 1) := by decide +kernel
theorem dX0_sum_33 : decode cX0_sum 33 = .ok (.iaload, 1) := by decide +kernel
theorem dX0_sum_34 : decode cX0_sum 34 = .ok (.iadd, 1) := by decide +kernel
theorem dX0_sum_35 : decode cX0_sum 35 = .ok (.istore_n 1, 1) := by decide +kernel
theorem dX0_sum_36 : decode cX0_sum 36 = .ok (.iinc 3 1, 3) := by decide +kernel
theorem dX0_sum_39 : decode cX0_sum 39 = .ok (.goto (-25), 3) := by decide +kernel
theorem dX0_sum_42 : decode cX0_sum 42 = .ok (.iinc 2 1, 3) := by decide +kernel
theorem dX0_sum_45 : decode cX0_sum 45 = .ok (.goto (-41), 3) := by decide +kernel
theorem dX0_sum_48 : decode cX0_sum 48 = .ok (.iload_n 1, 1) := by decide +kernel
theorem dX0_sum_49 : decode cX0_sum 49 = .ok (.ireturn, 1) := by decide +kernel
theorem dX0_peak_0 : decode cX0_peak 0 = .ok (.iconst (-1), 1) := by decide +kernel
theorem dX0_peak_1 : decode cX0_peak 1 = .ok (.istore_n 1, 1) := by decide +kernel
theorem dX0_peak_2 : decode cX0_peak 2 = .ok (.iconst 0, 1) := by decide +kernel
theorem dX0_peak_3 : decode cX0_peak 3 = .ok (.istore_n 2, 1) := by decide +kernel
theorem dX0_peak_4 : decode cX0_peak 4 = .ok (.iload_n 2, 1) := by decide +kernel
theorem dX0_peak_5 : decode cX0_peak 5 = .ok (.aload_n 0, 1) := by decide +kernel
theorem dX0_peak_6 : decode cX0_peak 6 = .ok (.getfield 84, 3) := by decide +kernel
theorem dX0_peak_9 : decode cX0_peak 9 = .ok (.if_icmp .ge 56, 3) := by decide +kernel
theorem dX0_peak_12 : decode cX0_peak 12 = .ok (.iconst 0, 1) := by decide +kernel
theorem dX0_peak_13 : decode cX0_peak 13 = .ok (.istore_n 3, 1) := by decide +kernel
theorem dX0_peak_14 : decode cX0_peak 14 = .ok (.iload_n 3, 1) := by decide +kernel
theorem dX0_peak_15 : decode cX0_peak 15 = .ok (.aload_n 0, 1) := by decide +kernel
theorem dX0_peak_16 : decode cX0_peak 16 = .ok (.getfield 84, 3) := by decide +kernel
theorem dX0_peak_19 : decode cX0_peak 19 = .ok (.if_icmp .ge 40, 3) := by decide +kernel
theorem dX0_peak_22 : decode cX0_peak 22 = .ok (.iload_n 1, 1) := by decide +kernel
theorem dX0_peak_23 : decode cX0_peak 23 = .ok (.ifCond .lt 23, 3) := by decide +kernel
theorem dX0_peak_26 : decode cX0_peak 26 = .ok (.aload_n 0, 1) := by decide +kernel
theorem dX0_peak_27 : decode cX0_peak 27 = .ok (.getfield 16, 3) := by decide +kernel
theorem dX0_peak_30 : decode cX0_peak 30 = .ok (.bipush 8, 2) := by decide +kernel
theorem dX0_peak_32 : decode cX0_peak 32 = .ok (.iload_n 2, 1) := by decide +kernel
theorem dX0_peak_33 : decode cX0_peak 33 = .ok (.imul, 1) := by decide +kernel
theorem dX0_peak_34 : decode cX0_peak 34 = .ok (.iload_n 3, 1) := by decide +kernel
theorem dX0_peak_35 : decode cX0_peak 35 = .ok (.iadd, 1) := by decide +kernel
theorem dX0_peak_36 : decode cX0_peak 36 = .ok (.iaload, 1) := by decide +kernel
theorem dX0_peak_37 : decode cX0_peak 37 = .ok (.aload_n 0, 1) := by decide +kernel
theorem dX0_peak_38 : decode cX0_peak 38 = .ok (.getfield 16, 3) := by decide +kernel
theorem dX0_peak_41 : decode cX0_peak 41 = .ok (.iload_n 1, 1) := by decide +kernel
theorem dX0_peak_42 : decode cX0_peak 42 = .ok (.iaload, 1) := by decide +kernel
theorem dX0_peak_43 : decode cX0_peak 43 = .ok (.if_icmp .le 10, 3) := by decide +kernel
theorem dX0_peak_46 : decode cX0_peak 46 = .ok (.bipush 8, 2) := by decide +kernel
theorem dX0_peak_48 : decode cX0_peak 48 = .ok (.iload_n 2, 1) := by decide +kernel
theorem dX0_peak_49 : decode cX0_peak 49 = .ok (.imul, 1) := by decide +kernel
theorem dX0_peak_50 : decode cX0_peak 50 = .ok (.iload_n 3, 1) := by decide +kernel
theorem dX0_peak_51 : decode cX0_peak 51 = .ok (.iadd, 1) := by decide +kernel
theorem dX0_peak_52 : decode cX0_peak 52 = .ok (.istore_n 1, 1) := by decide +kernel
theorem dX0_peak_53 : decode cX0_peak 53 = .ok (.iinc 3 1, 3) := by decide +kernel
theorem dX0_peak_56 : decode cX0_peak 56 = .ok (.goto (-42), 3) := by decide +kernel
theorem dX0_peak_59 : decode cX0_peak 59 = .ok (.iinc 2 1, 3) := by decide +kernel
theorem dX0_peak_62 : decode cX0_peak 62 = .ok (.goto (-58), 3) := by decide +kernel
theorem dX0_peak_65 : decode cX0_peak 65 = .ok (.iload_n 1, 1) := by decide +kernel
theorem dX0_peak_66 : decode cX0_peak 66 = .ok (.ireturn, 1) := by decide +kernel
theorem dX0_way_0 : decode cX0_way 0 = .ok (.iload_n 1, 1) := by decide +kernel
theorem dX0_way_1 : decode cX0_way 1 = .ok (.ifCond .lt 8, 3) := by decide +kernel
theorem dX0_way_4 : decode cX0_way 4 = .ok (.iload_n 1, 1) := by decide +kernel
theorem dX0_way_5 : decode cX0_way 5 = .ok (.iconst 3, 1) := by decide +kernel
theorem dX0_way_6 : decode cX0_way 6 = .ok (.if_icmp .le 6, 3) := by decide +kernel
theorem dX0_way_9 : decode cX0_way 9 = .ok (.ldc 63, 2) := by decide +kernel
theorem dX0_way_11 : decode cX0_way 11 = .ok (.ireturn, 1) := by decide +kernel
theorem dX0_way_12 : decode cX0_way 12 = .ok (.aload_n 0, 1) := by decide +kernel
theorem dX0_way_13 : decode cX0_way 13 = .ok (.iload_n 1, 1) := by decide +kernel
theorem dX0_way_14 : decode cX0_way 14 = .ok (.putfield 117, 3) := by decide +kernel
theorem dX0_way_17 : decode cX0_way 17 = .ok (.iconst 0, 1) := by decide +kernel
theorem dX0_way_18 : decode cX0_way 18 = .ok (.ireturn, 1) := by decide +kernel
theorem dX1_init_0 : decode cX1_init 0 = .ok (.aload_n 0, 1) := by decide +kernel
theorem dX1_init_1 : decode cX1_init 1 = .ok (.invokespecial 1, 3) := by decide +kernel
theorem dX1_init_4 : decode cX1_init 4 = .ok (.aload_n 0, 1) := by decide +kernel
theorem dX1_init_5 : decode cX1_init 5 = .ok (.sipush 128, 3) := by decide +kernel
theorem dX1_init_8 : decode cX1_init 8 = .ok (.newarray .int, 2) := by decide +kernel
theorem dX1_init_10 : decode cX1_init 10 = .ok (.putfield 7, 3) := by decide +kernel
theorem dX1_init_13 : decode cX1_init 13 = .ok (.aload_n 0, 1) := by decide +kernel
theorem dX1_init_14 : decode cX1_init 14 = .ok (.bipush 18, 2) := by decide +kernel
theorem dX1_init_16 : decode cX1_init 16 = .ok (.newarray .int, 2) := by decide +kernel
theorem dX1_init_18 : decode cX1_init 18 = .ok (.putfield 13, 3) := by decide +kernel
theorem dX1_init_21 : decode cX1_init 21 = .ok (.aload_n 0, 1) := by decide +kernel
theorem dX1_init_22 : decode cX1_init 22 = .ok (.bipush 64, 2) := by decide +kernel
theorem dX1_init_24 : decode cX1_init 24 = .ok (.newarray .int, 2) := by decide +kernel
theorem dX1_init_26 : decode cX1_init 26 = .ok (.putfield 16, 3) := by decide +kernel
theorem dX1_init_29 : decode cX1_init 29 = .ok (.aload_n 0, 1) := by decide +kernel
theorem dX1_init_30 : decode cX1_init 30 = .ok (.iconst 1, 1) := by decide +kernel
theorem dX1_init_31 : decode cX1_init 31 = .ok (.putfield 19, 3) := by decide +kernel
theorem dX1_init_34 : decode cX1_init 34 = .ok (.aload_n 0, 1) := by decide +kernel
theorem dX1_init_35 : decode cX1_init 35 = .ok (.iconst 1, 1) := by decide +kernel
theorem dX1_init_36 : decode cX1_init 36 = .ok (.putfield 23, 3) := by decide +kernel
theorem dX1_init_39 : decode cX1_init 39 = .ok (.return_, 1) := by decide +kernel
theorem dX1_put_0 : decode cX1_put 0 = .ok (.iload_n 1, 1) := by decide +kernel
theorem dX1_put_1 : decode cX1_put 1 = .ok (.ifCond .lt 21, 3) := by decide +kernel
theorem dX1_put_4 : decode cX1_put 4 = .ok (.iload_n 1, 1) := by decide +kernel
theorem dX1_put_5 : decode cX1_put 5 = .ok (.bipush 127, 2) := by decide +kernel
theorem dX1_put_7 : decode cX1_put 7 = .ok (.if_icmp .gt 15, 3) := by decide +kernel
theorem dX1_put_10 : decode cX1_put 10 = .ok (.iload_n 2, 1) := by decide +kernel
theorem dX1_put_11 : decode cX1_put 11 = .ok (.bipush (-20), 2) := by decide +kernel
theorem dX1_put_13 : decode cX1_put 13 = .ok (.if_icmp .lt 9, 3) := by decide +kernel
theorem dX1_put_16 : decode cX1_put 16 = .ok (.iload_n 2, 1) := by decide +kernel
theorem dX1_put_17 : decode cX1_put 17 = .ok (.bipush 20, 2) := by decide +kernel
theorem dX1_put_19 : decode cX1_put 19 = .ok (.if_icmp .le 6, 3) := by decide +kernel
theorem dX1_put_22 : decode cX1_put 22 = .ok (.ldc 26, 2) := by decide +kernel
theorem dX1_put_24 : decode cX1_put 24 = .ok (.ireturn, 1) := by decide +kernel
theorem dX1_put_25 : decode cX1_put 25 = .ok (.aload_n 0, 1) := by decide +kernel
theorem dX1_put_26 : decode cX1_put 26 = .ok (.getfield 7, 3) := by decide +kernel
theorem dX1_put_29 : decode cX1_put 29 = .ok (.iload_n 1, 1) := by decide +kernel
theorem dX1_put_30 : decode cX1_put 30 = .ok (.iaload, 1) := by decide +kernel
theorem dX1_put_31 : decode cX1_put 31 = .ok (.istore_n 3, 1) := by decide +kernel
theorem dX1_put_32 : decode cX1_put 32 = .ok (.aload_n 0, 1) := by decide +kernel
theorem dX1_put_33 : decode cX1_put 33 = .ok (.getfield 7, 3) := by decide +kernel
theorem dX1_put_36 : decode cX1_put 36 = .ok (.iload_n 1, 1) := by decide +kernel
theorem dX1_put_37 : decode cX1_put 37 = .ok (.iload_n 2, 1) := by decide +kernel
theorem dX1_put_38 : decode cX1_put 38 = .ok (.iastore, 1) := by decide +kernel
theorem dX1_put_39 : decode cX1_put 39 = .ok (.iload_n 3, 1) := by decide +kernel
theorem dX1_put_40 : decode cX1_put 40 = .ok (.ireturn, 1) := by decide +kernel
end
section
set_option maxRecDepth 100000
theorem dX1_fill_0 : decode cX1_fill 0 = .ok (.iload_n 1, 1) := by decide +kernel
theorem dX1_fill_1 : decode cX1_fill 1 = .ok (.ifCond .lt 33, 3) := by decide +kernel
theorem dX1_fill_4 : decode cX1_fill 4 = .ok (.iload_n 1, 1) := by decide +kernel
theorem dX1_fill_5 : decode cX1_fill 5 = .ok (.iconst 1, 1) := by decide +kernel
theorem dX1_fill_6 : decode cX1_fill 6 = .ok (.if_icmp .gt 28, 3) := by decide +kernel
theorem dX1_fill_9 : decode cX1_fill 9 = .ok (.iload_n 2, 1) := by decide +kernel
theorem dX1_fill_10 : decode cX1_fill 10 = .ok (.bipush (-20), 2) := by decide +kernel
theorem dX1_fill_12 : decode cX1_fill 12 = .ok (.if_icmp .lt 22, 3) := by decide +kernel
theorem dX1_fill_15 : decode cX1_fill 15 = .ok (.iload_n 2, 1) := by decide +kernel
theorem dX1_fill_16 : decode cX1_fill 16 = .ok (.bipush 20, 2) := by decide +kernel
theorem dX1_fill_18 : decode cX1_fill 18 = .ok (.if_icmp .gt 16, 3) := by decide +kernel
theorem dX1_fill_21 : decode cX1_fill 21 = .ok (.iload 4, 2) := by decide +kernel
theorem dX1_fill_23 : decode cX1_fill 23 = .ok (.bipush (-3), 2) := by decide +kernel
theorem dX1_fill_25 : decode cX1_fill 25 = .ok (.if_icmp .lt 9, 3) := by decide +kernel
theorem dX1_fill_28 : decode cX1_fill 28 = .ok (.iload 4, 2) := by decide +kernel
theorem dX1_fill_30 : decode cX1_fill 30 = .ok (.iconst 3, 1) := by decide +kernel
theorem dX1_fill_31 : decode cX1_fill 31 = .ok (.if_icmp .le 6, 3) := by decide +kernel
theorem dX1_fill_34 : decode cX1_fill 34 = .ok (.ldc 26, 2) := by decide +kernel
theorem dX1_fill_36 : decode cX1_fill 36 = .ok (.ireturn, 1) := by decide +kernel
theorem dX1_fill_37 : decode cX1_fill 37 = .ok (.iload_n 3, 1) := by decide +kernel
theorem dX1_fill_38 : decode cX1_fill 38 = .ok (.ifCond .lt 21, 3) := by decide +kernel
theorem dX1_fill_41 : decode cX1_fill 41 = .ok (.iload_n 3, 1) := by decide +kernel
theorem dX1_fill_42 : decode cX1_fill 42 = .ok (.bipush 100, 2) := by decide +kernel
theorem dX1_fill_44 : decode cX1_fill 44 = .ok (.idiv, 1) := by decide +kernel
theorem dX1_fill_45 : decode cX1_fill 45 = .ok (.bipush 20, 2) := by decide +kernel
theorem dX1_fill_47 : decode cX1_fill 47 = .ok (.if_icmp .gt 12, 3) := by decide +kernel
theorem dX1_fill_50 : decode cX1_fill 50 = .ok (.iload_n 3, 1) := by decide +kernel
theorem dX1_fill_51 : decode cX1_fill 51 = .ok (.bipush 100, 2) := by decide +kernel
theorem dX1_fill_53 : decode cX1_fill 53 = .ok (.irem, 1) := by decide +kernel
theorem dX1_fill_54 : decode cX1_fill 54 = .ok (.bipush 20, 2) := by decide +kernel
theorem dX1_fill_56 : decode cX1_fill 56 = .ok (.if_icmp .le 6, 3) := by decide +kernel
theorem dX1_fill_59 : decode cX1_fill 59 = .ok (.ldc 26, 2) := by decide +kernel
theorem dX1_fill_61 : decode cX1_fill 61 = .ok (.ireturn, 1) := by decide +kernel
theorem dX1_fill_62 : decode cX1_fill 62 = .ok (.iload_n 3, 1) := by decide +kernel
theorem dX1_fill_63 : decode cX1_fill 63 = .ok (.bipush 100, 2) := by decide +kernel
theorem dX1_fill_65 : decode cX1_fill 65 = .ok (.idiv, 1) := by decide +kernel
theorem dX1_fill_66 : decode cX1_fill 66 = .ok (.bipush 10, 2) := by decide +kernel
theorem dX1_fill_68 : decode cX1_fill 68 = .ok (.isub, 1) := by decide +kernel
theorem dX1_fill_69 : decode cX1_fill 69 = .ok (.istore 5, 2) := by decide +kernel
theorem dX1_fill_71 : decode cX1_fill 71 = .ok (.iload_n 3, 1) := by decide +kernel
theorem dX1_fill_72 : decode cX1_fill 72 = .ok (.bipush 100, 2) := by decide +kernel
theorem dX1_fill_74 : decode cX1_fill 74 = .ok (.irem, 1) := by decide +kernel
theorem dX1_fill_75 : decode cX1_fill 75 = .ok (.bipush 10, 2) := by decide +kernel
theorem dX1_fill_77 : decode cX1_fill 77 = .ok (.isub, 1) := by decide +kernel
theorem dX1_fill_78 : decode cX1_fill 78 = .ok (.istore 6, 2) := by decide +kernel
theorem dX1_fill_80 : decode cX1_fill 80 = .ok (.iconst 0, 1) := by decide +kernel
theorem dX1_fill_81 : decode cX1_fill 81 = .ok (.istore 7, 2) := by decide +kernel
theorem dX1_fill_83 : decode cX1_fill 83 = .ok (.iload 7, 2) := by decide +kernel
theorem dX1_fill_85 : decode cX1_fill 85 = .ok (.bipush 64, 2) := by decide +kernel
theorem dX1_fill_87 : decode cX1_fill 87 = .ok (.if_icmp .ge 61, 3) := by decide +kernel
theorem dX1_fill_90 : decode cX1_fill 90 = .ok (.iload 7, 2) := by decide +kernel
theorem dX1_fill_92 : decode cX1_fill 92 = .ok (.bipush 8, 2) := by decide +kernel
theorem dX1_fill_94 : decode cX1_fill 94 = .ok (.irem, 1) := by decide +kernel
theorem dX1_fill_95 : decode cX1_fill 95 = .ok (.istore 8, 2) := by decide +kernel
theorem dX1_fill_97 : decode cX1_fill 97 = .ok (.iload 7, 2) := by decide +kernel
theorem dX1_fill_99 : decode cX1_fill 99 = .ok (.bipush 8, 2) := by decide +kernel
theorem dX1_fill_101 : decode cX1_fill 101 = .ok (.idiv, 1) := by decide +kernel
theorem dX1_fill_102 : decode cX1_fill 102 = .ok (.istore 9, 2) := by decide +kernel
theorem dX1_fill_104 : decode cX1_fill 104 = .ok (.aload_n 0, 1) := by decide +kernel
theorem dX1_fill_105 : decode cX1_fill 105 = .ok (.getfield 7, 3) := by decide +kernel
theorem dX1_fill_108 : decode cX1_fill 108 = .ok (.bipush 64, 2) := by decide +kernel
theorem dX1_fill_110 : decode cX1_fill 110 = .ok (.iload_n 1, 1) := by decide +kernel
theorem dX1_fill_111 : decode cX1_fill 111 = .ok (.imul, 1) := by decide +kernel
theorem dX1_fill_112 : decode cX1_fill 112 = .ok (.iload 7, 2) := by decide +kernel
theorem dX1_fill_114 : decode cX1_fill 114 = .ok (.iadd, 1) := by decide +kernel
theorem dX1_fill_115 : decode cX1_fill 115 = .ok (.aload_n 0, 1) := by decide +kernel
theorem dX1_fill_116 : decode cX1_fill 116 = .ok (.iload_n 2, 1) := by decide +kernel
theorem dX1_fill_117 : decode cX1_fill 117 = .ok (.iload 5, 2) := by decide +kernel
theorem dX1_fill_119 : decode cX1_fill 119 = .ok (.iload 8, 2) := by decide +kernel
theorem dX1_fill_121 : decode cX1_fill 121 = .ok (.imul, 1) := by decide +kernel
theorem dX1_fill_122 : decode cX1_fill 122 = .ok (.iadd, 1) := by decide +kernel
theorem dX1_fill_123 : decode cX1_fill 123 = .ok (.iload 6, 2) := by decide +kernel
theorem dX1_fill_125 : decode cX1_fill 125 = .ok (.iload 9, 2) := by decide +kernel
theorem dX1_fill_127 : decode cX1_fill 127 = .ok (.imul, 1) := by decide +kernel
theorem dX1_fill_128 : decode cX1_fill 128 = .ok (.iadd, 1) := by decide +kernel
theorem dX1_fill_129 : decode cX1_fill 129 = .ok (.iload 4, 2) := by decide +kernel
theorem dX1_fill_131 : decode cX1_fill 131 = .ok (.iload 8, 2) := by decide +kernel
theorem dX1_fill_133 : decode cX1_fill 133 = .ok (.imul, 1) := by decide +kernel
theorem dX1_fill_134 : decode cX1_fill 134 = .ok (.iload 9, 2) := by decide +kernel
theorem dX1_fill_136 : decode cX1_fill 136 = .ok (.imul, 1) := by decide +kernel
theorem dX1_fill_137 : decode cX1_fill 137 = .ok (.iadd, 1) := by decide +kernel
theorem dX1_fill_138 : decode cX1_fill 138 = .ok (.invokevirtual 27, 3) := by decide +kernel
theorem dX1_fill_141 : decode cX1_fill 141 = .ok (.iastore, 1) := by decide +kernel
theorem dX1_fill_142 : decode cX1_fill 142 = .ok (.iinc 7 1, 3) := by decide +kernel
theorem dX1_fill_145 : decode cX1_fill 145 = .ok (.goto (-62), 3) := by decide +kernel
theorem dX1_fill_148 : decode cX1_fill 148 = .ok (.iconst 0, 1) := by decide +kernel
theorem dX1_fill_149 : decode cX1_fill 149 = .ok (.ireturn, 1) := by decide +kernel
theorem dX1_cut_0 : decode cX1_cut 0 = .ok (.iload_n 1, 1) := by decide +kernel
theorem dX1_cut_1 : decode cX1_cut 1 = .ok (.bipush (-20), 2) := by decide +kernel
theorem dX1_cut_3 : decode cX1_cut 3 = .ok (.if_icmp .ge 8, 3) := by decide +kernel
theorem dX1_cut_6 : decode cX1_cut 6 = .ok (.bipush (-20), 2) := by decide +kernel
theorem dX1_cut_8 : decode cX1_cut 8 = .ok (.goto 15, 3) := by decide +kernel
theorem dX1_cut_11 : decode cX1_cut 11 = .ok (.iload_n 1, 1) := by decide +kernel
theorem dX1_cut_12 : decode cX1_cut 12 = .ok (.bipush 20, 2) := by decide +kernel
theorem dX1_cut_14 : decode cX1_cut 14 = .ok (.if_icmp .le 8, 3) := by decide +kernel
theorem dX1_cut_17 : decode cX1_cut 17 = .ok (.bipush 20, 2) := by decide +kernel
theorem dX1_cut_19 : decode cX1_cut 19 = .ok (.goto 4, 3) := by decide +kernel
theorem dX1_cut_22 : decode cX1_cut 22 = .ok (.iload_n 1, 1) := by decide +kernel
theorem dX1_cut_23 : decode cX1_cut 23 = .ok (.ireturn, 1) := by decide +kernel
theorem dX1_kernel_0 : decode cX1_kernel 0 = .ok (.iload_n 1, 1) := by decide +kernel
theorem dX1_kernel_1 : decode cX1_kernel 1 = .ok (.ifCond .lt 21, 3) := by decide +kernel
theorem dX1_kernel_4 : decode cX1_kernel 4 = .ok (.iload_n 1, 1) := by decide +kernel
theorem dX1_kernel_5 : decode cX1_kernel 5 = .ok (.bipush 17, 2) := by decide +kernel
theorem dX1_kernel_7 : decode cX1_kernel 7 = .ok (.if_icmp .gt 15, 3) := by decide +kernel
theorem dX1_kernel_10 : decode cX1_kernel 10 = .ok (.iload_n 2, 1) := by decide +kernel
theorem dX1_kernel_11 : decode cX1_kernel 11 = .ok (.bipush (-9), 2) := by decide +kernel
theorem dX1_kernel_13 : decode cX1_kernel 13 = .ok (.if_icmp .lt 9, 3) := by decide +kernel
theorem dX1_kernel_16 : decode cX1_kernel 16 = .ok (.iload_n 2, 1) := by decide +kernel
theorem dX1_kernel_17 : decode cX1_kernel 17 = .ok (.bipush 9, 2) := by decide +kernel
theorem dX1_kernel_19 : decode cX1_kernel 19 = .ok (.if_icmp .le 6, 3) := by decide +kernel
theorem dX1_kernel_22 : decode cX1_kernel 22 = .ok (.ldc 26, 2) := by decide +kernel
theorem dX1_kernel_24 : decode cX1_kernel 24 = .ok (.ireturn, 1) := by decide +kernel
theorem dX1_kernel_25 : decode cX1_kernel 25 = .ok (.aload_n 0, 1) := by decide +kernel
theorem dX1_kernel_26 : decode cX1_kernel 26 = .ok (.getfield 13, 3) := by decide +kernel
theorem dX1_kernel_29 : decode cX1_kernel 29 = .ok (.iload_n 1, 1) := by decide +kernel
theorem dX1_kernel_30 : decode cX1_kernel 30 = .ok (.iaload, 1) := by decide +kernel
theorem dX1_kernel_31 : decode cX1_kernel 31 = .ok (.istore_n 3, 1) := by decide +kernel
theorem dX1_kernel_32 : decode cX1_kernel 32 = .ok (.aload_n 0, 1) := by decide +kernel
theorem dX1_kernel_33 : decode cX1_kernel 33 = .ok (.getfield 13, 3) := by decide +kernel
theorem dX1_kernel_36 : decode cX1_kernel 36 = .ok (.iload_n 1, 1) := by decide +kernel
theorem dX1_kernel_37 : decode cX1_kernel 37 = .ok (.iload_n 2, 1) := by decide +kernel
theorem dX1_kernel_38 : decode cX1_kernel 38 = .ok (.iastore, 1) := by decide +kernel
theorem dX1_kernel_39 : decode cX1_kernel 39 = .ok (.iload_n 3, 1) := by decide +kernel
theorem dX1_kernel_40 : decode cX1_kernel 40 = .ok (.ireturn, 1) := by decide +kernel
theorem dX1_pixel_0 : decode cX1_pixel 0 = .ok (.iload_n 1, 1) := by decide +kernel
theorem dX1_pixel_1 : decode cX1_pixel 1 = .ok (.ifCond .lt 9, 3) := by decide +kernel
theorem dX1_pixel_4 : decode cX1_pixel 4 = .ok (.iload_n 1, 1) := by decide +kernel
theorem dX1_pixel_5 : decode cX1_pixel 5 = .ok (.bipush 127, 2) := by decide +kernel
theorem dX1_pixel_7 : decode cX1_pixel 7 = .ok (.if_icmp .le 8, 3) := by decide +kernel
theorem dX1_pixel_10 : decode cX1_pixel 10 = .ok (.ldc 26, 2) := by decide +kernel
theorem dX1_pixel_12 : decode cX1_pixel 12 = .ok (.goto 9, 3) := by decide +kernel
theorem dX1_pixel_15 : decode cX1_pixel 15 = .ok (.aload_n 0, 1) := by decide +kernel
theorem dX1_pixel_16 : decode cX1_pixel 16 = .ok (.getfield 7, 3) := by decide +kernel
theorem dX1_pixel_19 : decode cX1_pixel 19 = .ok (.iload_n 1, 1) := by decide +kernel
theorem dX1_pixel_20 : decode cX1_pixel 20 = .ok (.iaload, 1) := by decide +kernel
theorem dX1_pixel_21 : decode cX1_pixel 21 = .ok (.ireturn, 1) := by decide +kernel
theorem dX1_shape_0 : decode cX1_shape 0 = .ok (.iload_n 1, 1) := by decide +kernel
theorem dX1_shape_1 : decode cX1_shape 1 = .ok (.iconst 1, 1) := by decide +kernel
theorem dX1_shape_2 : decode cX1_shape 2 = .ok (.if_icmp .lt 17, 3) := by decide +kernel
theorem dX1_shape_5 : decode cX1_shape 5 = .ok (.iload_n 1, 1) := by decide +kernel
theorem dX1_shape_6 : decode cX1_shape 6 = .ok (.iconst 2, 1) := by decide +kernel
theorem dX1_shape_7 : decode cX1_shape 7 = .ok (.if_icmp .gt 12, 3) := by decide +kernel
theorem dX1_shape_10 : decode cX1_shape 10 = .ok (.iload_n 2, 1) := by decide +kernel
theorem dX1_shape_11 : decode cX1_shape 11 = .ok (.ifCond .lt 8, 3) := by decide +kernel
theorem dX1_shape_14 : decode cX1_shape 14 = .ok (.iload_n 2, 1) := by decide +kernel
theorem dX1_shape_15 : decode cX1_shape 15 = .ok (.iconst 1, 1) := by decide +kernel
theorem dX1_shape_16 : decode cX1_shape 16 = .ok (.if_icmp .le 6, 3) := by decide +kernel
theorem dX1_shape_19 : decode cX1_shape 19 = .ok (.ldc 26, 2) := by decide +kernel
theorem dX1_shape_21 : decode cX1_shape 21 = .ok (.ireturn, 1) := by decide +kernel
theorem dX1_shape_22 : decode cX1_shape 22 = .ok (.aload_n 0, 1) := by decide +kernel
theorem dX1_shape_23 : decode cX1_shape 23 = .ok (.iload_n 1, 1) := by decide +kernel
theorem dX1_shape_24 : decode cX1_shape 24 = .ok (.putfield 19, 3) := by decide +kernel
theorem dX1_shape_27 : decode cX1_shape 27 = .ok (.aload_n 0, 1) := by decide +kernel
theorem dX1_shape_28 : decode cX1_shape 28 = .ok (.iload_n 2, 1) := by decide +kernel
theorem dX1_shape_29 : decode cX1_shape 29 = .ok (.putfield 23, 3) := by decide +kernel
theorem dX1_shape_32 : decode cX1_shape 32 = .ok (.aload_n 0, 1) := by decide +kernel
theorem dX1_shape_33 : decode cX1_shape 33 = .ok (.invokevirtual 31, 3) := by decide +kernel
theorem dX1_shape_36 : decode cX1_shape 36 = .ok (.ireturn, 1) := by decide +kernel
theorem dX1_widthAfter_0 : decode cX1_widthAfter 0 = .ok (.bipush 8, 2) := by decide +kernel
theorem dX1_widthAfter_2 : decode cX1_widthAfter 2 = .ok (.iconst 2, 1) := by decide +kernel
theorem dX1_widthAfter_3 : decode cX1_widthAfter 3 = .ok (.aload_n 0, 1) := by decide +kernel
theorem dX1_widthAfter_4 : decode cX1_widthAfter 4 = .ok (.getfield 23, 3) := by decide +kernel
theorem dX1_widthAfter_7 : decode cX1_widthAfter 7 = .ok (.imul, 1) := by decide +kernel
theorem dX1_widthAfter_8 : decode cX1_widthAfter 8 = .ok (.iadd, 1) := by decide +kernel
theorem dX1_widthAfter_9 : decode cX1_widthAfter 9 = .ok (.iconst 3, 1) := by decide +kernel
theorem dX1_widthAfter_10 : decode cX1_widthAfter 10 = .ok (.isub, 1) := by decide +kernel
theorem dX1_widthAfter_11 : decode cX1_widthAfter 11 = .ok (.aload_n 0, 1) := by decide +kernel
theorem dX1_widthAfter_12 : decode cX1_widthAfter 12 = .ok (.getfield 19, 3) := by decide +kernel
theorem dX1_widthAfter_15 : decode cX1_widthAfter 15 = .ok (.idiv, 1) := by decide +kernel
theorem dX1_widthAfter_16 : decode cX1_widthAfter 16 = .ok (.iconst 1, 1) := by decide +kernel
theorem dX1_widthAfter_17 : decode cX1_widthAfter 17 = .ok (.iadd, 1) := by decide +kernel
theorem dX1_widthAfter_18 : decode cX1_widthAfter 18 = .ok (.ireturn, 1) := by decide +kernel
theorem dX1_move_0 : decode cX1_move 0 = .ok (.aload_n 0, 1) := by decide +kernel
theorem dX1_move_1 : decode cX1_move 1 = .ok (.aload_n 0, 1) := by decide +kernel
theorem dX1_move_2 : decode cX1_move 2 = .ok (.invokevirtual 31, 3) := by decide +kernel
theorem dX1_move_5 : decode cX1_move 5 = .ok (.putfield 39, 3) := by decide +kernel
theorem dX1_move_8 : decode cX1_move 8 = .ok (.iconst 0, 1) := by decide +kernel
theorem dX1_move_9 : decode cX1_move 9 = .ok (.istore_n 1, 1) := by decide +kernel
theorem dX1_move_10 : decode cX1_move 10 = .ok (.iload_n 1, 1) := by decide +kernel
theorem dX1_move_11 : decode cX1_move 11 = .ok (.aload_n 0, 1) := by decide +kernel
theorem dX1_move_12 : decode cX1_move 12 = .ok (.getfield 39, 3) := by decide +kernel
theorem dX1_move_15 : decode cX1_move 15 = .ok (.if_icmp .ge 42, 3) := by decide +kernel
theorem dX1_move_18 : decode cX1_move 18 = .ok (.iconst 0, 1) := by decide +kernel
theorem dX1_move_19 : decode cX1_move 19 = .ok (.istore_n 2, 1) := by decide +kernel
theorem dX1_move_20 : decode cX1_move 20 = .ok (.iload_n 2, 1) := by decide +kernel
theorem dX1_move_21 : decode cX1_move 21 = .ok (.aload_n 0, 1) := by decide +kernel
theorem dX1_move_22 : decode cX1_move 22 = .ok (.getfield 39, 3) := by decide +kernel
theorem dX1_move_25 : decode cX1_move 25 = .ok (.if_icmp .ge 26, 3) := by decide +kernel
theorem dX1_move_28 : decode cX1_move 28 = .ok (.aload_n 0, 1) := by decide +kernel
theorem dX1_move_29 : decode cX1_move 29 = .ok (.getfield 16, 3) := by decide +kernel
theorem dX1_move_32 : decode cX1_move 32 = .ok (.bipush 8, 2) := by decide +kernel
theorem dX1_move_34 : decode cX1_move 34 = .ok (.iload_n 1, 1) := by decide +kernel
theorem dX1_move_35 : decode cX1_move 35 = .ok (.imul, 1) := by decide +kernel
theorem dX1_move_36 : decode cX1_move 36 = .ok (.iload_n 2, 1) := by decide +kernel
theorem dX1_move_37 : decode cX1_move 37 = .ok (.iadd, 1) := by decide +kernel
theorem dX1_move_38 : decode cX1_move 38 = .ok (.aload_n 0, 1) := by decide +kernel
theorem dX1_move_39 : decode cX1_move 39 = .ok (.iload_n 2, 1) := by decide +kernel
theorem dX1_move_40 : decode cX1_move 40 = .ok (.iload_n 1, 1) := by decide +kernel
theorem dX1_move_41 : decode cX1_move 41 = .ok (.invokevirtual 42, 3) := by decide +kernel
theorem dX1_move_44 : decode cX1_move 44 = .ok (.iastore, 1) := by decide +kernel
theorem dX1_move_45 : decode cX1_move 45 = .ok (.iinc 2 1, 3) := by decide +kernel
theorem dX1_move_48 : decode cX1_move 48 = .ok (.goto (-28), 3) := by decide +kernel
theorem dX1_move_51 : decode cX1_move 51 = .ok (.iinc 1 1, 3) := by decide +kernel
theorem dX1_move_54 : decode cX1_move 54 = .ok (.goto (-44), 3) := by decide +kernel
theorem dX1_move_57 : decode cX1_move 57 = .ok (.aload_n 0, 1) := by decide +kernel
theorem dX1_move_58 : decode cX1_move 58 = .ok (.getfield 39, 3) := by decide +kernel
theorem dX1_move_61 : decode cX1_move 61 = .ok (.ireturn, 1) := by decide +kernel
theorem dX1_product_0 : decode cX1_product 0 = .ok (.iconst 0, 1) := by decide +kernel
theorem dX1_product_1 : decode cX1_product 1 = .ok (.istore_n 3, 1) := by decide +kernel
theorem dX1_product_2 : decode cX1_product 2 = .ok (.iconst 0, 1) := by decide +kernel
theorem dX1_product_3 : decode cX1_product 3 = .ok (.istore 4, 2) := by decide +kernel
theorem dX1_product_5 : decode cX1_product 5 = .ok (.iload 4, 2) := by decide +kernel
theorem dX1_product_7 : decode cX1_product 7 = .ok (.bipush 18, 2) := by decide +kernel
theorem dX1_product_9 : decode cX1_product 9 = .ok (.if_icmp .ge 76, 3) := by decide +kernel
theorem dX1_product_12 : decode cX1_product 12 = .ok (.iload 4, 2) := by decide +kernel
theorem dX1_product_14 : decode cX1_product 14 = .ok (.bipush 9, 2) := by decide +kernel
theorem dX1_product_16 : decode cX1_product 16 = .ok (.idiv, 1) := by decide +kernel
theorem dX1_product_17 : decode cX1_product 17 = .ok (.istore 5, 2) := by decide +kernel
theorem dX1_product_19 : decode cX1_product 19 = .ok (.iload 4, 2) := by decide +kernel
theorem dX1_product_21 : decode cX1_product 21 = .ok (.iconst 3, 1) := by decide +kernel
theorem dX1_product_22 : decode cX1_product 22 = .ok (.irem, 1) := by decide +kernel
theorem dX1_product_23 : decode cX1_product 23 = .ok (.istore 6, 2) := by decide +kernel
theorem dX1_product_25 : decode cX1_product 25 = .ok (.iload 4, 2) := by decide +kernel
theorem dX1_product_27 : decode cX1_product 27 = .ok (.bipush 9, 2) := by decide +kernel
theorem dX1_product_29 : decode cX1_product 29 = .ok (.irem, 1) := by decide +kernel
theorem dX1_product_30 : decode cX1_product 30 = .ok (.iconst 3, 1) := by decide +kernel
theorem dX1_product_31 : decode cX1_product 31 = .ok (.idiv, 1) := by decide +kernel
theorem dX1_product_32 : decode cX1_product 32 = .ok (.istore 7, 2) := by decide +kernel
theorem dX1_product_34 : decode cX1_product 34 = .ok (.iload_n 3, 1) := by decide +kernel
theorem dX1_product_35 : decode cX1_product 35 = .ok (.aload_n 0, 1) := by decide +kernel
theorem dX1_product_36 : decode cX1_product 36 = .ok (.getfield 13, 3) := by decide +kernel
theorem dX1_product_39 : decode cX1_product 39 = .ok (.iload 4, 2) := by decide +kernel
theorem dX1_product_41 : decode cX1_product 41 = .ok (.iaload, 1) := by decide +kernel
theorem dX1_product_42 : decode cX1_product 42 = .ok (.aload_n 0, 1) := by decide +kernel
theorem dX1_product_43 : decode cX1_product 43 = .ok (.iload 5, 2) := by decide +kernel
theorem dX1_product_45 : decode cX1_product 45 = .ok (.aload_n 0, 1) := by decide +kernel
theorem dX1_product_46 : decode cX1_product 46 = .ok (.getfield 19, 3) := by decide +kernel
theorem dX1_product_49 : decode cX1_product 49 = .ok (.iload_n 1, 1) := by decide +kernel
theorem dX1_product_50 : decode cX1_product 50 = .ok (.imul, 1) := by decide +kernel
theorem dX1_product_51 : decode cX1_product 51 = .ok (.iload 6, 2) := by decide +kernel
theorem dX1_product_53 : decode cX1_product 53 = .ok (.iadd, 1) := by decide +kernel
theorem dX1_product_54 : decode cX1_product 54 = .ok (.aload_n 0, 1) := by decide +kernel
theorem dX1_product_55 : decode cX1_product 55 = .ok (.getfield 23, 3) := by decide +kernel
theorem dX1_product_58 : decode cX1_product 58 = .ok (.isub, 1) := by decide +kernel
theorem dX1_product_59 : decode cX1_product 59 = .ok (.aload_n 0, 1) := by decide +kernel
theorem dX1_product_60 : decode cX1_product 60 = .ok (.getfield 19, 3) := by decide +kernel
theorem dX1_product_63 : decode cX1_product 63 = .ok (.iload_n 2, 1) := by decide +kernel
theorem dX1_product_64 : decode cX1_product 64 = .ok (.imul, 1) := by decide +kernel
theorem dX1_product_65 : decode cX1_product 65 = .ok (.iload 7, 2) := by decide +kernel
theorem dX1_product_67 : decode cX1_product 67 = .ok (.iadd, 1) := by decide +kernel
theorem dX1_product_68 : decode cX1_product 68 = .ok (.aload_n 0, 1) := by decide +kernel
theorem dX1_product_69 : decode cX1_product 69 = .ok (.getfield 23, 3) := by decide +kernel
theorem dX1_product_72 : decode cX1_product 72 = .ok (.isub, 1) := by decide +kernel
theorem dX1_product_73 : decode cX1_product 73 = .ok (.invokevirtual 35, 3) := by decide +kernel
theorem dX1_product_76 : decode cX1_product 76 = .ok (.imul, 1) := by decide +kernel
theorem dX1_product_77 : decode cX1_product 77 = .ok (.iadd, 1) := by decide +kernel
theorem dX1_product_78 : decode cX1_product 78 = .ok (.istore_n 3, 1) := by decide +kernel
theorem dX1_product_79 : decode cX1_product 79 = .ok (.iinc 4 1, 3) := by decide +kernel
theorem dX1_product_82 : decode cX1_product 82 = .ok (.goto (-77), 3) := by decide +kernel
theorem dX1_product_85 : decode cX1_product 85 = .ok (.iload_n 3, 1) := by decide +kernel
theorem dX1_product_86 : decode cX1_product 86 = .ok (.ireturn, 1) := by decide +kernel
theorem dX1_pixelAt_0 : decode cX1_pixelAt 0 = .ok (.iload_n 2, 1) := by decide +kernel
theorem dX1_pixelAt_1 : decode cX1_pixelAt 1 = .ok (.ifCond .lt 19, 3) := by decide +kernel
theorem dX1_pixelAt_4 : decode cX1_pixelAt 4 = .ok (.iload_n 2, 1) := by decide +kernel
theorem dX1_pixelAt_5 : decode cX1_pixelAt 5 = .ok (.bipush 7, 2) := by decide +kernel
theorem dX1_pixelAt_7 : decode cX1_pixelAt 7 = .ok (.if_icmp .gt 13, 3) := by decide +kernel
theorem dX1_pixelAt_10 : decode cX1_pixelAt 10 = .ok (.iload_n 3, 1) := by decide +kernel
theorem dX1_pixelAt_11 : decode cX1_pixelAt 11 = .ok (.ifCond .lt 9, 3) := by decide +kernel
theorem dX1_pixelAt_14 : decode cX1_pixelAt 14 = .ok (.iload_n 3, 1) := by decide +kernel
theorem dX1_pixelAt_15 : decode cX1_pixelAt 15 = .ok (.bipush 7, 2) := by decide +kernel
theorem dX1_pixelAt_17 : decode cX1_pixelAt 17 = .ok (.if_icmp .le 7, 3) := by decide +kernel
theorem dX1_pixelAt_20 : decode cX1_pixelAt 20 = .ok (.iconst 0, 1) := by decide +kernel
theorem dX1_pixelAt_21 : decode cX1_pixelAt 21 = .ok (.goto 19, 3) := by decide +kernel
theorem dX1_pixelAt_24 : decode cX1_pixelAt 24 = .ok (.aload_n 0, 1) := by decide +kernel
theorem dX1_pixelAt_25 : decode cX1_pixelAt 25 = .ok (.getfield 7, 3) := by decide +kernel
theorem dX1_pixelAt_28 : decode cX1_pixelAt 28 = .ok (.bipush 64, 2) := by decide +kernel
theorem dX1_pixelAt_30 : decode cX1_pixelAt 30 = .ok (.iload_n 1, 1) := by decide +kernel
theorem dX1_pixelAt_31 : decode cX1_pixelAt 31 = .ok (.imul, 1) := by decide +kernel
theorem dX1_pixelAt_32 : decode cX1_pixelAt 32 = .ok (.bipush 8, 2) := by decide +kernel
theorem dX1_pixelAt_34 : decode cX1_pixelAt 34 = .ok (.iload_n 3, 1) := by decide +kernel
theorem dX1_pixelAt_35 : decode cX1_pixelAt 35 = .ok (.imul, 1) := by decide +kernel
theorem dX1_pixelAt_36 : decode cX1_pixelAt 36 = .ok (.iadd, 1) := by decide +kernel
theorem dX1_pixelAt_37 : decode cX1_pixelAt 37 = .ok (.iload_n 2, 1) := by decide +kernel
theorem dX1_pixelAt_38 : decode cX1_pixelAt 38 = .ok (.iadd, 1) := by decide +kernel
theorem dX1_pixelAt_39 : decode cX1_pixelAt 39 = .ok (.iaload, 1) := by decide +kernel
theorem dX1_pixelAt_40 : decode cX1_pixelAt 40 = .ok (.ireturn, 1) := by decide +kernel
theorem dX1_width_0 : decode cX1_width 0 = .ok (.aload_n 0, 1) := by decide +kernel
theorem dX1_width_1 : decode cX1_width 1 = .ok (.getfield 39, 3) := by decide +kernel
theorem dX1_width_4 : decode cX1_width 4 = .ok (.ireturn, 1) := by decide +kernel
theorem dX1_result_0 : decode cX1_result 0 = .ok (.iload_n 1, 1) := by decide +kernel
theorem dX1_result_1 : decode cX1_result 1 = .ok (.ifCond .lt 23, 3) := by decide +kernel
theorem dX1_result_4 : decode cX1_result 4 = .ok (.iload_n 1, 1) := by decide +kernel
theorem dX1_result_5 : decode cX1_result 5 = .ok (.aload_n 0, 1) := by decide +kernel
theorem dX1_result_6 : decode cX1_result 6 = .ok (.getfield 39, 3) := by decide +kernel
theorem dX1_result_9 : decode cX1_result 9 = .ok (.if_icmp .ge 15, 3) := by decide +kernel
theorem dX1_result_12 : decode cX1_result 12 = .ok (.iload_n 2, 1) := by decide +kernel
theorem dX1_result_13 : decode cX1_result 13 = .ok (.ifCond .lt 11, 3) := by decide +kernel
theorem dX1_result_16 : decode cX1_result 16 = .ok (.iload_n 2, 1) := by decide +kernel
theorem dX1_result_17 : decode cX1_result 17 = .ok (.aload_n 0, 1) := by decide +kernel
theorem dX1_result_18 : decode cX1_result 18 = .ok (.getfield 39, 3) := by decide +kernel
theorem dX1_result_21 : decode cX1_result 21 = .ok (.if_icmp .lt 7, 3) := by decide +kernel
theorem dX1_result_24 : decode cX1_result 24 = .ok (.iconst 0, 1) := by decide +kernel
theorem dX1_result_25 : decode cX1_result 25 = .ok (.goto 14, 3) := by decide +kernel
theorem dX1_result_28 : decode cX1_result 28 = .ok (.aload_n 0, 1) := by decide +kernel
theorem dX1_result_29 : decode cX1_result 29 = .ok (.getfield 16, 3) := by decide +kernel
theorem dX1_result_32 : decode cX1_result 32 = .ok (.bipush 8, 2) := by decide +kernel
theorem dX1_result_34 : decode cX1_result 34 = .ok (.iload_n 2, 1) := by decide +kernel
theorem dX1_result_35 : decode cX1_result 35 = .ok (.imul, 1) := by decide +kernel
theorem dX1_result_36 : decode cX1_result 36 = .ok (.iload_n 1, 1) := by decide +kernel
theorem dX1_result_37 : decode cX1_result 37 = .ok (.iadd, 1) := by decide +kernel
theorem dX1_result_38 : decode cX1_result 38 = .ok (.iaload, 1) := by decide +kernel
theorem dX1_result_39 : decode cX1_result 39 = .ok (.ireturn, 1) := by decide +kernel
theorem dX1_floor_0 : decode cX1_floor 0 = .ok (.iconst 0, 1) := by decide +kernel
theorem dX1_floor_1 : decode cX1_floor 1 = .ok (.istore_n 1, 1) := by decide +kernel
theorem dX1_floor_2 : decode cX1_floor 2 = .ok (.iconst 0, 1) := by decide +kernel
theorem dX1_floor_3 : decode cX1_floor 3 = .ok (.istore_n 2, 1) := by decide +kernel
theorem dX1_floor_4 : decode cX1_floor 4 = .ok (.iload_n 2, 1) := by decide +kernel
theorem dX1_floor_5 : decode cX1_floor 5 = .ok (.bipush 64, 2) := by decide +kernel
theorem dX1_floor_7 : decode cX1_floor 7 = .ok (.if_icmp .ge 50, 3) := by decide +kernel
theorem dX1_floor_10 : decode cX1_floor 10 = .ok (.iload_n 2, 1) := by decide +kernel
theorem dX1_floor_11 : decode cX1_floor 11 = .ok (.bipush 8, 2) := by decide +kernel
theorem dX1_floor_13 : decode cX1_floor 13 = .ok (.irem, 1) := by decide +kernel
theorem dX1_floor_14 : decode cX1_floor 14 = .ok (.aload_n 0, 1) := by decide +kernel
theorem dX1_floor_15 : decode cX1_floor 15 = .ok (.getfield 39, 3) := by decide +kernel
theorem dX1_floor_18 : decode cX1_floor 18 = .ok (.if_icmp .ge 33, 3) := by decide +kernel
theorem dX1_floor_21 : decode cX1_floor 21 = .ok (.iload_n 2, 1) := by decide +kernel
theorem dX1_floor_22 : decode cX1_floor 22 = .ok (.bipush 8, 2) := by decide +kernel
theorem dX1_floor_24 : decode cX1_floor 24 = .ok (.idiv, 1) := by decide +kernel
theorem dX1_floor_25 : decode cX1_floor 25 = .ok (.aload_n 0, 1) := by decide +kernel
theorem dX1_floor_26 : decode cX1_floor 26 = .ok (.getfield 39, 3) := by decide +kernel
theorem dX1_floor_29 : decode cX1_floor 29 = .ok (.if_icmp .ge 22, 3) := by decide +kernel
theorem dX1_floor_32 : decode cX1_floor 32 = .ok (.aload_n 0, 1) := by decide +kernel
theorem dX1_floor_33 : decode cX1_floor 33 = .ok (.getfield 16, 3) := by decide +kernel
theorem dX1_floor_36 : decode cX1_floor 36 = .ok (.iload_n 2, 1) := by decide +kernel
theorem dX1_floor_37 : decode cX1_floor 37 = .ok (.iaload, 1) := by decide +kernel
theorem dX1_floor_38 : decode cX1_floor 38 = .ok (.ifCond .ge 13, 3) := by decide +kernel
theorem dX1_floor_41 : decode cX1_floor 41 = .ok (.aload_n 0, 1) := by decide +kernel
theorem dX1_floor_42 : decode cX1_floor 42 = .ok (.getfield 16, 3) := by decide +kernel
theorem dX1_floor_45 : decode cX1_floor 45 = .ok (.iload_n 2, 1) := by decide +kernel
theorem dX1_floor_46 : decode cX1_floor 46 = .ok (.iconst 0, 1) := by decide +kernel
theorem dX1_floor_47 : decode cX1_floor 47 = .ok (.iastore, 1) := by decide +kernel
theorem dX1_floor_48 : decode cX1_floor 48 = .ok (.iinc 1 1, 3) := by decide +kernel
theorem dX1_floor_51 : decode cX1_floor 51 = .ok (.iinc 2 1, 3) := by decide +kernel
theorem dX1_floor_54 : decode cX1_floor 54 = .ok (.goto (-50), 3) := by decide +kernel
theorem dX1_floor_57 : decode cX1_floor 57 = .ok (.iload_n 1, 1) := by decide +kernel
theorem dX1_floor_58 : decode cX1_floor 58 = .ok (.ireturn, 1) := by decide +kernel
theorem dX1_thin_0 : decode cX1_thin 0 = .ok (.aload_n 0, 1) := by decide +kernel
theorem dX1_thin_1 : decode cX1_thin 1 = .ok (.aload_n 0, 1) := by decide +kernel
theorem dX1_thin_2 : decode cX1_thin 2 = .ok (.getfield 39, 3) := by decide +kernel
theorem dX1_thin_5 : decode cX1_thin 5 = .ok (.iconst 2, 1) := by decide +kernel
theorem dX1_thin_6 : decode cX1_thin 6 = .ok (.idiv, 1) := by decide +kernel
theorem dX1_thin_7 : decode cX1_thin 7 = .ok (.putfield 39, 3) := by decide +kernel
theorem dX1_thin_10 : decode cX1_thin 10 = .ok (.iconst 0, 1) := by decide +kernel
theorem dX1_thin_11 : decode cX1_thin 11 = .ok (.istore_n 1, 1) := by decide +kernel
theorem dX1_thin_12 : decode cX1_thin 12 = .ok (.iload_n 1, 1) := by decide +kernel
theorem dX1_thin_13 : decode cX1_thin 13 = .ok (.aload_n 0, 1) := by decide +kernel
theorem dX1_thin_14 : decode cX1_thin 14 = .ok (.getfield 39, 3) := by decide +kernel
theorem dX1_thin_17 : decode cX1_thin 17 = .ok (.if_icmp .ge 46, 3) := by decide +kernel
theorem dX1_thin_20 : decode cX1_thin 20 = .ok (.iconst 0, 1) := by decide +kernel
theorem dX1_thin_21 : decode cX1_thin 21 = .ok (.istore_n 2, 1) := by decide +kernel
theorem dX1_thin_22 : decode cX1_thin 22 = .ok (.iload_n 2, 1) := by decide +kernel
theorem dX1_thin_23 : decode cX1_thin 23 = .ok (.aload_n 0, 1) := by decide +kernel
theorem dX1_thin_24 : decode cX1_thin 24 = .ok (.getfield 39, 3) := by decide +kernel
theorem dX1_thin_27 : decode cX1_thin 27 = .ok (.if_icmp .ge 30, 3) := by decide +kernel
theorem dX1_thin_30 : decode cX1_thin 30 = .ok (.aload_n 0, 1) := by decide +kernel
theorem dX1_thin_31 : decode cX1_thin 31 = .ok (.getfield 16, 3) := by decide +kernel
theorem dX1_thin_34 : decode cX1_thin 34 = .ok (.bipush 8, 2) := by decide +kernel
theorem dX1_thin_36 : decode cX1_thin 36 = .ok (.iload_n 1, 1) := by decide +kernel
theorem dX1_thin_37 : decode cX1_thin 37 = .ok (.imul, 1) := by decide +kernel
theorem dX1_thin_38 : decode cX1_thin 38 = .ok (.iload_n 2, 1) := by decide +kernel
theorem dX1_thin_39 : decode cX1_thin 39 = .ok (.iadd, 1) := by decide +kernel
theorem dX1_thin_40 : decode cX1_thin 40 = .ok (.aload_n 0, 1) := by decide +kernel
theorem dX1_thin_41 : decode cX1_thin 41 = .ok (.iconst 2, 1) := by decide +kernel
theorem dX1_thin_42 : decode cX1_thin 42 = .ok (.iload_n 2, 1) := by decide +kernel
theorem dX1_thin_43 : decode cX1_thin 43 = .ok (.imul, 1) := by decide +kernel
theorem dX1_thin_44 : decode cX1_thin 44 = .ok (.iconst 2, 1) := by decide +kernel
theorem dX1_thin_45 : decode cX1_thin 45 = .ok (.iload_n 1, 1) := by decide +kernel
theorem dX1_thin_46 : decode cX1_thin 46 = .ok (.imul, 1) := by decide +kernel
theorem dX1_thin_47 : decode cX1_thin 47 = .ok (.invokevirtual 46, 3) := by decide +kernel
theorem dX1_thin_50 : decode cX1_thin 50 = .ok (.iastore, 1) := by decide +kernel
theorem dX1_thin_51 : decode cX1_thin 51 = .ok (.iinc 2 1, 3) := by decide +kernel
theorem dX1_thin_54 : decode cX1_thin 54 = .ok (.goto (-32), 3) := by decide +kernel
theorem dX1_thin_57 : decode cX1_thin 57 = .ok (.iinc 1 1, 3) := by decide +kernel
theorem dX1_thin_60 : decode cX1_thin 60 = .ok (.goto (-48), 3) := by decide +kernel
theorem dX1_thin_63 : decode cX1_thin 63 = .ok (.aload_n 0, 1) := by decide +kernel
theorem dX1_thin_64 : decode cX1_thin 64 = .ok (.getfield 39, 3) := by decide +kernel
theorem dX1_thin_67 : decode cX1_thin 67 = .ok (.ireturn, 1) := by decide +kernel
theorem dX1_greatestOf_0 : decode cX1_greatestOf 0 = .ok (.aload_n 0, 1) := by decide +kernel
theorem dX1_greatestOf_1 : decode cX1_greatestOf 1 = .ok (.getfield 16, 3) := by decide +kernel
theorem dX1_greatestOf_4 : decode cX1_greatestOf 4 = .ok (.bipush 8, 2) := by decide +kernel
theorem dX1_greatestOf_6 : decode cX1_greatestOf 6 = .ok (.iload_n 2, 1) := by decide +kernel
theorem dX1_greatestOf_7 : decode cX1_greatestOf 7 = .ok (.imul, 1) := by decide +kernel
theorem dX1_greatestOf_8 : decode cX1_greatestOf 8 = .ok (.iload_n 1, 1) := by decide +kernel
theorem dX1_greatestOf_9 : decode cX1_greatestOf 9 = .ok (.iadd, 1) := by decide +kernel
theorem dX1_greatestOf_10 : decode cX1_greatestOf 10 = .ok (.iaload, 1) := by decide +kernel
theorem dX1_greatestOf_11 : decode cX1_greatestOf 11 = .ok (.istore_n 3, 1) := by decide +kernel
theorem dX1_greatestOf_12 : decode cX1_greatestOf 12 = .ok (.iconst 1, 1) := by decide +kernel
theorem dX1_greatestOf_13 : decode cX1_greatestOf 13 = .ok (.istore 4, 2) := by decide +kernel
theorem dX1_greatestOf_15 : decode cX1_greatestOf 15 = .ok (.iload 4, 2) := by decide +kernel
theorem dX1_greatestOf_17 : decode cX1_greatestOf 17 = .ok (.iconst 4, 1) := by decide +kernel
theorem dX1_greatestOf_18 : decode cX1_greatestOf 18 = .ok (.if_icmp .ge 45, 3) := by decide +kernel
theorem dX1_greatestOf_21 : decode cX1_greatestOf 21 = .ok (.aload_n 0, 1) := by decide +kernel
theorem dX1_greatestOf_22 : decode cX1_greatestOf 22 = .ok (.getfield 16, 3) := by decide +kernel
theorem dX1_greatestOf_25 : decode cX1_greatestOf 25 = .ok (.bipush 8, 2) := by decide +kernel
theorem dX1_greatestOf_27 : decode cX1_greatestOf 27 = .ok (.iload_n 2, 1) := by decide +kernel
theorem dX1_greatestOf_28 : decode cX1_greatestOf 28 = .ok (.iload 4, 2) := by decide +kernel
theorem dX1_greatestOf_30 : decode cX1_greatestOf 30 = .ok (.iconst 2, 1) := by decide +kernel
theorem dX1_greatestOf_31 : decode cX1_greatestOf 31 = .ok (.idiv, 1) := by decide +kernel
theorem dX1_greatestOf_32 : decode cX1_greatestOf 32 = .ok (.iadd, 1) := by decide +kernel
theorem dX1_greatestOf_33 : decode cX1_greatestOf 33 = .ok (.imul, 1) := by decide +kernel
theorem dX1_greatestOf_34 : decode cX1_greatestOf 34 = .ok (.iload_n 1, 1) := by decide +kernel
theorem dX1_greatestOf_35 : decode cX1_greatestOf 35 = .ok (.iadd, 1) := by decide +kernel
theorem dX1_greatestOf_36 : decode cX1_greatestOf 36 = .ok (.iload 4, 2) := by decide +kernel
theorem dX1_greatestOf_38 : decode cX1_greatestOf 38 = .ok (.iconst 2, 1) := by decide +kernel
theorem dX1_greatestOf_39 : decode cX1_greatestOf 39 = .ok (.irem, 1) := by decide +kernel
theorem dX1_greatestOf_40 : decode cX1_greatestOf 40 = .ok (.iadd, 1) := by decide +kernel
theorem dX1_greatestOf_41 : decode cX1_greatestOf 41 = .ok (.iaload, 1) := by decide +kernel
theorem dX1_greatestOf_42 : decode cX1_greatestOf 42 = .ok (.istore 5, 2) := by decide +kernel
theorem dX1_greatestOf_44 : decode cX1_greatestOf 44 = .ok (.iload 5, 2) := by decide +kernel
theorem dX1_greatestOf_46 : decode cX1_greatestOf 46 = .ok (.iload_n 3, 1) := by decide +kernel
theorem dX1_greatestOf_47 : decode cX1_greatestOf 47 = .ok (.if_icmp .le 8, 3) := by decide +kernel
theorem dX1_greatestOf_50 : decode cX1_greatestOf 50 = .ok (.iload 5, 2) := by decide +kernel
theorem dX1_greatestOf_52 : decode cX1_greatestOf 52 = .ok (.goto 4, 3) := by decide +kernel
theorem dX1_greatestOf_55 : decode cX1_greatestOf 55 = .ok (.iload_n 3, 1) := by decide +kernel
theorem dX1_greatestOf_56 : decode cX1_greatestOf 56 = .ok (.istore_n 3, 1) := by decide +kernel
theorem dX1_greatestOf_57 : decode cX1_greatestOf 57 = .ok (.iinc 4 1, 3) := by decide +kernel
theorem dX1_greatestOf_60 : decode cX1_greatestOf 60 = .ok (.goto (-45), 3) := by decide +kernel
theorem dX1_greatestOf_63 : decode cX1_greatestOf 63 = .ok (.iload_n 3, 1) := by decide +kernel
theorem dX1_greatestOf_64 : decode cX1_greatestOf 64 = .ok (.ireturn, 1) := by decide +kernel
theorem dX1_divide_0 : decode cX1_divide 0 = .ok (.iload_n 1, 1) := by decide +kernel
theorem dX1_divide_1 : decode cX1_divide 1 = .ok (.iconst 1, 1) := by decide +kernel
theorem dX1_divide_2 : decode cX1_divide 2 = .ok (.if_icmp .lt 9, 3) := by decide +kernel
theorem dX1_divide_5 : decode cX1_divide 5 = .ok (.iload_n 1, 1) := by decide +kernel
theorem dX1_divide_6 : decode cX1_divide 6 = .ok (.bipush 100, 2) := by decide +kernel
theorem dX1_divide_8 : decode cX1_divide 8 = .ok (.if_icmp .le 6, 3) := by decide +kernel
theorem dX1_divide_11 : decode cX1_divide 11 = .ok (.ldc 26, 2) := by decide +kernel
theorem dX1_divide_13 : decode cX1_divide 13 = .ok (.ireturn, 1) := by decide +kernel
theorem dX1_divide_14 : decode cX1_divide 14 = .ok (.iconst 0, 1) := by decide +kernel
theorem dX1_divide_15 : decode cX1_divide 15 = .ok (.istore_n 2, 1) := by decide +kernel
theorem dX1_divide_16 : decode cX1_divide 16 = .ok (.iload_n 2, 1) := by decide +kernel
theorem dX1_divide_17 : decode cX1_divide 17 = .ok (.bipush 64, 2) := by decide +kernel
theorem dX1_divide_19 : decode cX1_divide 19 = .ok (.if_icmp .ge 23, 3) := by decide +kernel
theorem dX1_divide_22 : decode cX1_divide 22 = .ok (.aload_n 0, 1) := by decide +kernel
theorem dX1_divide_23 : decode cX1_divide 23 = .ok (.getfield 16, 3) := by decide +kernel
theorem dX1_divide_26 : decode cX1_divide 26 = .ok (.iload_n 2, 1) := by decide +kernel
theorem dX1_divide_27 : decode cX1_divide 27 = .ok (.aload_n 0, 1) := by decide +kernel
theorem dX1_divide_28 : decode cX1_divide 28 = .ok (.getfield 16, 3) := by decide +kernel
theorem dX1_divide_31 : decode cX1_divide 31 = .ok (.iload_n 2, 1) := by decide +kernel
theorem dX1_divide_32 : decode cX1_divide 32 = .ok (.iaload, 1) := by decide +kernel
theorem dX1_divide_33 : decode cX1_divide 33 = .ok (.iload_n 1, 1) := by decide +kernel
theorem dX1_divide_34 : decode cX1_divide 34 = .ok (.idiv, 1) := by decide +kernel
theorem dX1_divide_35 : decode cX1_divide 35 = .ok (.iastore, 1) := by decide +kernel
theorem dX1_divide_36 : decode cX1_divide 36 = .ok (.iinc 2 1, 3) := by decide +kernel
theorem dX1_divide_39 : decode cX1_divide 39 = .ok (.goto (-23), 3) := by decide +kernel
theorem dX1_divide_42 : decode cX1_divide 42 = .ok (.aload_n 0, 1) := by decide +kernel
theorem dX1_divide_43 : decode cX1_divide 43 = .ok (.getfield 39, 3) := by decide +kernel
theorem dX1_divide_46 : decode cX1_divide 46 = .ok (.ireturn, 1) := by decide +kernel
end
section
set_option maxRecDepth 100000
theorem dX1_take_0 : decode cX1_take 0 = .ok (.iload_n 1, 1) := by decide +kernel
theorem dX1_take_1 : decode cX1_take 1 = .ok (.ifCond .lt 8, 3) := by decide +kernel
theorem dX1_take_4 : decode cX1_take 4 = .ok (.iload_n 1, 1) := by decide +kernel
theorem dX1_take_5 : decode cX1_take 5 = .ok (.iconst 1, 1) := by decide +kernel
theorem dX1_take_6 : decode cX1_take 6 = .ok (.if_icmp .le 6, 3) := by decide +kernel
theorem dX1_take_9 : decode cX1_take 9 = .ok (.ldc 26, 2) := by decide +kernel
theorem dX1_take_11 : decode cX1_take 11 = .ok (.ireturn, 1) := by decide +kernel
theorem dX1_take_12 : decode cX1_take 12 = .ok (.iconst 0, 1) := by decide +kernel
theorem dX1_take_13 : decode cX1_take 13 = .ok (.istore_n 2, 1) := by decide +kernel
theorem dX1_take_14 : decode cX1_take 14 = .ok (.iconst 0, 1) := by decide +kernel
theorem dX1_take_15 : decode cX1_take 15 = .ok (.istore_n 3, 1) := by decide +kernel
theorem dX1_take_16 : decode cX1_take 16 = .ok (.iload_n 3, 1) := by decide +kernel
theorem dX1_take_17 : decode cX1_take 17 = .ok (.bipush 64, 2) := by decide +kernel
theorem dX1_take_19 : decode cX1_take 19 = .ok (.if_icmp .ge 68, 3) := by decide +kernel
theorem dX1_take_22 : decode cX1_take 22 = .ok (.aload_n 0, 1) := by decide +kernel
theorem dX1_take_23 : decode cX1_take 23 = .ok (.iload_n 3, 1) := by decide +kernel
theorem dX1_take_24 : decode cX1_take 24 = .ok (.bipush 8, 2) := by decide +kernel
theorem dX1_take_26 : decode cX1_take 26 = .ok (.irem, 1) := by decide +kernel
theorem dX1_take_27 : decode cX1_take 27 = .ok (.iload_n 3, 1) := by decide +kernel
theorem dX1_take_28 : decode cX1_take 28 = .ok (.bipush 8, 2) := by decide +kernel
theorem dX1_take_30 : decode cX1_take 30 = .ok (.idiv, 1) := by decide +kernel
theorem dX1_take_31 : decode cX1_take 31 = .ok (.invokevirtual 49, 3) := by decide +kernel
theorem dX1_take_34 : decode cX1_take 34 = .ok (.istore 4, 2) := by decide +kernel
theorem dX1_take_36 : decode cX1_take 36 = .ok (.aload_n 0, 1) := by decide +kernel
theorem dX1_take_37 : decode cX1_take 37 = .ok (.iload 4, 2) := by decide +kernel
theorem dX1_take_39 : decode cX1_take 39 = .ok (.invokevirtual 27, 3) := by decide +kernel
theorem dX1_take_42 : decode cX1_take 42 = .ok (.istore 5, 2) := by decide +kernel
theorem dX1_take_44 : decode cX1_take 44 = .ok (.aload_n 0, 1) := by decide +kernel
theorem dX1_take_45 : decode cX1_take 45 = .ok (.getfield 7, 3) := by decide +kernel
theorem dX1_take_48 : decode cX1_take 48 = .ok (.bipush 64, 2) := by decide +kernel
theorem dX1_take_50 : decode cX1_take 50 = .ok (.iload_n 1, 1) := by decide +kernel
theorem dX1_take_51 : decode cX1_take 51 = .ok (.imul, 1) := by decide +kernel
theorem dX1_take_52 : decode cX1_take 52 = .ok (.iload_n 3, 1) := by decide +kernel
theorem dX1_take_53 : decode cX1_take 53 = .ok (.iadd, 1) := by decide +kernel
theorem dX1_take_54 : decode cX1_take 54 = .ok (.iaload, 1) := by decide +kernel
theorem dX1_take_55 : decode cX1_take 55 = .ok (.iload 5, 2) := by decide +kernel
theorem dX1_take_57 : decode cX1_take 57 = .ok (.if_icmp .eq 9, 3) := by decide +kernel
theorem dX1_take_60 : decode cX1_take 60 = .ok (.iload_n 2, 1) := by decide +kernel
theorem dX1_take_61 : decode cX1_take 61 = .ok (.iconst 1, 1) := by decide +kernel
theorem dX1_take_62 : decode cX1_take 62 = .ok (.iadd, 1) := by decide +kernel
theorem dX1_take_63 : decode cX1_take 63 = .ok (.goto 4, 3) := by decide +kernel
theorem dX1_take_66 : decode cX1_take 66 = .ok (.iload_n 2, 1) := by decide +kernel
theorem dX1_take_67 : decode cX1_take 67 = .ok (.istore_n 2, 1) := by decide +kernel
theorem dX1_take_68 : decode cX1_take 68 = .ok (.aload_n 0, 1) := by decide +kernel
theorem dX1_take_69 : decode cX1_take 69 = .ok (.getfield 7, 3) := by decide +kernel
theorem dX1_take_72 : decode cX1_take 72 = .ok (.bipush 64, 2) := by decide +kernel
theorem dX1_take_74 : decode cX1_take 74 = .ok (.iload_n 1, 1) := by decide +kernel
theorem dX1_take_75 : decode cX1_take 75 = .ok (.imul, 1) := by decide +kernel
theorem dX1_take_76 : decode cX1_take 76 = .ok (.iload_n 3, 1) := by decide +kernel
theorem dX1_take_77 : decode cX1_take 77 = .ok (.iadd, 1) := by decide +kernel
theorem dX1_take_78 : decode cX1_take 78 = .ok (.iload 5, 2) := by decide +kernel
theorem dX1_take_80 : decode cX1_take 80 = .ok (.iastore, 1) := by decide +kernel
theorem dX1_take_81 : decode cX1_take 81 = .ok (.iinc 3 1, 3) := by decide +kernel
theorem dX1_take_84 : decode cX1_take 84 = .ok (.goto (-68), 3) := by decide +kernel
theorem dX1_take_87 : decode cX1_take 87 = .ok (.iload_n 2, 1) := by decide +kernel
theorem dX1_take_88 : decode cX1_take 88 = .ok (.ireturn, 1) := by decide +kernel
theorem dX1_sum_0 : decode cX1_sum 0 = .ok (.iconst 0, 1) := by decide +kernel
theorem dX1_sum_1 : decode cX1_sum 1 = .ok (.istore_n 1, 1) := by decide +kernel
theorem dX1_sum_2 : decode cX1_sum 2 = .ok (.iconst 0, 1) := by decide +kernel
theorem dX1_sum_3 : decode cX1_sum 3 = .ok (.istore_n 2, 1) := by decide +kernel
theorem dX1_sum_4 : decode cX1_sum 4 = .ok (.iload_n 2, 1) := by decide +kernel
theorem dX1_sum_5 : decode cX1_sum 5 = .ok (.bipush 64, 2) := by decide +kernel
theorem dX1_sum_7 : decode cX1_sum 7 = .ok (.if_icmp .ge 24, 3) := by decide +kernel
theorem dX1_sum_10 : decode cX1_sum 10 = .ok (.iload_n 1, 1) := by decide +kernel
theorem dX1_sum_11 : decode cX1_sum 11 = .ok (.aload_n 0, 1) := by decide +kernel
theorem dX1_sum_12 : decode cX1_sum 12 = .ok (.iload_n 2, 1) := by decide +kernel
theorem dX1_sum_13 : decode cX1_sum 13 = .ok (.bipush 8, 2) := by decide +kernel
theorem dX1_sum_15 : decode cX1_sum 15 = .ok (.irem, 1) := by decide +kernel
theorem dX1_sum_16 : decode cX1_sum 16 = .ok (.iload_n 2, 1) := by decide +kernel
theorem dX1_sum_17 : decode cX1_sum 17 = .ok (.bipush 8, 2) := by decide +kernel
theorem dX1_sum_19 : decode cX1_sum 19 = .ok (.idiv, 1) := by decide +kernel
theorem dX1_sum_20 : decode cX1_sum 20 = .ok (.invokevirtual 49, 3) := by decide +kernel
theorem dX1_sum_23 : decode cX1_sum 23 = .ok (.iadd, 1) := by decide +kernel
theorem dX1_sum_24 : decode cX1_sum 24 = .ok (.istore_n 1, 1) := by decide +kernel
theorem dX1_sum_25 : decode cX1_sum 25 = .ok (.iinc 2 1, 3) := by decide +kernel
theorem dX1_sum_28 : decode cX1_sum 28 = .ok (.goto (-24), 3) := by decide +kernel
theorem dX1_sum_31 : decode cX1_sum 31 = .ok (.iload_n 1, 1) := by decide +kernel
theorem dX1_sum_32 : decode cX1_sum 32 = .ok (.ireturn, 1) := by decide +kernel
theorem dX1_peak_0 : decode cX1_peak 0 = .ok (.iconst (-1), 1) := by decide +kernel
theorem dX1_peak_1 : decode cX1_peak 1 = .ok (.istore_n 1, 1) := by decide +kernel
theorem dX1_peak_2 : decode cX1_peak 2 = .ok (.iconst 0, 1) := by decide +kernel
theorem dX1_peak_3 : decode cX1_peak 3 = .ok (.istore_n 2, 1) := by decide +kernel
theorem dX1_peak_4 : decode cX1_peak 4 = .ok (.iload_n 2, 1) := by decide +kernel
theorem dX1_peak_5 : decode cX1_peak 5 = .ok (.bipush 64, 2) := by decide +kernel
theorem dX1_peak_7 : decode cX1_peak 7 = .ok (.if_icmp .ge 52, 3) := by decide +kernel
theorem dX1_peak_10 : decode cX1_peak 10 = .ok (.iload_n 2, 1) := by decide +kernel
theorem dX1_peak_11 : decode cX1_peak 11 = .ok (.bipush 8, 2) := by decide +kernel
theorem dX1_peak_13 : decode cX1_peak 13 = .ok (.irem, 1) := by decide +kernel
theorem dX1_peak_14 : decode cX1_peak 14 = .ok (.aload_n 0, 1) := by decide +kernel
theorem dX1_peak_15 : decode cX1_peak 15 = .ok (.getfield 39, 3) := by decide +kernel
theorem dX1_peak_18 : decode cX1_peak 18 = .ok (.if_icmp .ge 35, 3) := by decide +kernel
theorem dX1_peak_21 : decode cX1_peak 21 = .ok (.iload_n 2, 1) := by decide +kernel
theorem dX1_peak_22 : decode cX1_peak 22 = .ok (.bipush 8, 2) := by decide +kernel
theorem dX1_peak_24 : decode cX1_peak 24 = .ok (.idiv, 1) := by decide +kernel
theorem dX1_peak_25 : decode cX1_peak 25 = .ok (.aload_n 0, 1) := by decide +kernel
theorem dX1_peak_26 : decode cX1_peak 26 = .ok (.getfield 39, 3) := by decide +kernel
theorem dX1_peak_29 : decode cX1_peak 29 = .ok (.if_icmp .ge 24, 3) := by decide +kernel
theorem dX1_peak_32 : decode cX1_peak 32 = .ok (.iload_n 1, 1) := by decide +kernel
theorem dX1_peak_33 : decode cX1_peak 33 = .ok (.ifCond .lt 18, 3) := by decide +kernel
theorem dX1_peak_36 : decode cX1_peak 36 = .ok (.aload_n 0, 1) := by decide +kernel
theorem dX1_peak_37 : decode cX1_peak 37 = .ok (.getfield 16, 3) := by decide +kernel
theorem dX1_peak_40 : decode cX1_peak 40 = .ok (.iload_n 2, 1) := by decide +kernel
theorem dX1_peak_41 : decode cX1_peak 41 = .ok (.iaload, 1) := by decide +kernel
theorem dX1_peak_42 : decode cX1_peak 42 = .ok (.aload_n 0, 1) := by decide +kernel
theorem dX1_peak_43 : decode cX1_peak 43 = .ok (.getfield 16, 3) := by decide +kernel
theorem dX1_peak_46 : decode cX1_peak 46 = .ok (.iload_n 1, 1) := by decide +kernel
theorem dX1_peak_47 : decode cX1_peak 47 = .ok (.iaload, 1) := by decide +kernel
theorem dX1_peak_48 : decode cX1_peak 48 = .ok (.if_icmp .le 5, 3) := by decide +kernel
theorem dX1_peak_51 : decode cX1_peak 51 = .ok (.iload_n 2, 1) := by decide +kernel
theorem dX1_peak_52 : decode cX1_peak 52 = .ok (.istore_n 1, 1) := by decide +kernel
theorem dX1_peak_53 : decode cX1_peak 53 = .ok (.iinc 2 1, 3) := by decide +kernel
theorem dX1_peak_56 : decode cX1_peak 56 = .ok (.goto (-52), 3) := by decide +kernel
theorem dX1_peak_59 : decode cX1_peak 59 = .ok (.iload_n 1, 1) := by decide +kernel
theorem dX1_peak_60 : decode cX1_peak 60 = .ok (.ireturn, 1) := by decide +kernel
theorem dX1_way_0 : decode cX1_way 0 = .ok (.iload_n 1, 1) := by decide +kernel
theorem dX1_way_1 : decode cX1_way 1 = .ok (.ifCond .lt 8, 3) := by decide +kernel
theorem dX1_way_4 : decode cX1_way 4 = .ok (.iload_n 1, 1) := by decide +kernel
theorem dX1_way_5 : decode cX1_way 5 = .ok (.iconst 3, 1) := by decide +kernel
theorem dX1_way_6 : decode cX1_way 6 = .ok (.if_icmp .le 8, 3) := by decide +kernel
theorem dX1_way_9 : decode cX1_way 9 = .ok (.ldc 26, 2) := by decide +kernel
theorem dX1_way_11 : decode cX1_way 11 = .ok (.goto 4, 3) := by decide +kernel
theorem dX1_way_14 : decode cX1_way 14 = .ok (.iconst 0, 1) := by decide +kernel
theorem dX1_way_15 : decode cX1_way 15 = .ok (.ireturn, 1) := by decide +kernel
theorem dL_law_0 : decode cL_law 0 = .ok (.new 7, 3) := by decide +kernel
theorem dL_law_3 : decode cL_law 3 = .ok (.dup, 1) := by decide +kernel
theorem dL_law_4 : decode cL_law 4 = .ok (.invokespecial 9, 3) := by decide +kernel
theorem dL_law_7 : decode cL_law 7 = .ok (.astore_n 1, 1) := by decide +kernel
theorem dL_law_8 : decode cL_law 8 = .ok (.new 10, 3) := by decide +kernel
theorem dL_law_11 : decode cL_law 11 = .ok (.dup, 1) := by decide +kernel
theorem dL_law_12 : decode cL_law 12 = .ok (.invokespecial 12, 3) := by decide +kernel
theorem dL_law_15 : decode cL_law 15 = .ok (.astore_n 2, 1) := by decide +kernel
theorem dL_law_16 : decode cL_law 16 = .ok (.iconst 0, 1) := by decide +kernel
theorem dL_law_17 : decode cL_law 17 = .ok (.istore_n 3, 1) := by decide +kernel
theorem dL_law_18 : decode cL_law 18 = .ok (.iload_n 3, 1) := by decide +kernel
theorem dL_law_19 : decode cL_law 19 = .ok (.aload_n 0, 1) := by decide +kernel
theorem dL_law_20 : decode cL_law 20 = .ok (.arraylength, 1) := by decide +kernel
theorem dL_law_21 : decode cL_law 21 = .ok (.iconst 5, 1) := by decide +kernel
theorem dL_law_22 : decode cL_law 22 = .ok (.isub, 1) := by decide +kernel
theorem dL_law_23 : decode cL_law 23 = .ok (.if_icmp .gt 446, 3) := by decide +kernel
theorem dL_law_26 : decode cL_law 26 = .ok (.aload_n 0, 1) := by decide +kernel
theorem dL_law_27 : decode cL_law 27 = .ok (.iload_n 3, 1) := by decide +kernel
theorem dL_law_28 : decode cL_law 28 = .ok (.iaload, 1) := by decide +kernel
theorem dL_law_29 : decode cL_law 29 = .ok (.bipush 15, 2) := by decide +kernel
theorem dL_law_31 : decode cL_law 31 = .ok (.iand, 1) := by decide +kernel
theorem dL_law_32 : decode cL_law 32 = .ok (.tableswitch 431 0 14 #[76, 109, 162, 195, 218, 251, 264, 277, 310, 323, 336, 359, 382, 395, 408], 76) := by decide +kernel
theorem dL_law_108 : decode cL_law 108 = .ok (.aload_n 1, 1) := by decide +kernel
theorem dL_law_109 : decode cL_law 109 = .ok (.aload_n 0, 1) := by decide +kernel
theorem dL_law_110 : decode cL_law 110 = .ok (.iload_n 3, 1) := by decide +kernel
theorem dL_law_111 : decode cL_law 111 = .ok (.iconst 1, 1) := by decide +kernel
theorem dL_law_112 : decode cL_law 112 = .ok (.iadd, 1) := by decide +kernel
theorem dL_law_113 : decode cL_law 113 = .ok (.iaload, 1) := by decide +kernel
theorem dL_law_114 : decode cL_law 114 = .ok (.aload_n 0, 1) := by decide +kernel
theorem dL_law_115 : decode cL_law 115 = .ok (.iload_n 3, 1) := by decide +kernel
theorem dL_law_116 : decode cL_law 116 = .ok (.iconst 2, 1) := by decide +kernel
theorem dL_law_117 : decode cL_law 117 = .ok (.iadd, 1) := by decide +kernel
theorem dL_law_118 : decode cL_law 118 = .ok (.iaload, 1) := by decide +kernel
theorem dL_law_119 : decode cL_law 119 = .ok (.invokevirtual 13, 3) := by decide +kernel
theorem dL_law_122 : decode cL_law 122 = .ok (.aload_n 2, 1) := by decide +kernel
theorem dL_law_123 : decode cL_law 123 = .ok (.aload_n 0, 1) := by decide +kernel
theorem dL_law_124 : decode cL_law 124 = .ok (.iload_n 3, 1) := by decide +kernel
theorem dL_law_125 : decode cL_law 125 = .ok (.iconst 1, 1) := by decide +kernel
theorem dL_law_126 : decode cL_law 126 = .ok (.iadd, 1) := by decide +kernel
theorem dL_law_127 : decode cL_law 127 = .ok (.iaload, 1) := by decide +kernel
theorem dL_law_128 : decode cL_law 128 = .ok (.aload_n 0, 1) := by decide +kernel
theorem dL_law_129 : decode cL_law 129 = .ok (.iload_n 3, 1) := by decide +kernel
theorem dL_law_130 : decode cL_law 130 = .ok (.iconst 2, 1) := by decide +kernel
theorem dL_law_131 : decode cL_law 131 = .ok (.iadd, 1) := by decide +kernel
theorem dL_law_132 : decode cL_law 132 = .ok (.iaload, 1) := by decide +kernel
theorem dL_law_133 : decode cL_law 133 = .ok (.invokevirtual 17, 3) := by decide +kernel
theorem dL_law_136 : decode cL_law 136 = .ok (.if_icmp .eq 327, 3) := by decide +kernel
theorem dL_law_139 : decode cL_law 139 = .ok (.iconst 0, 1) := by decide +kernel
theorem dL_law_140 : decode cL_law 140 = .ok (.ireturn, 1) := by decide +kernel
theorem dL_law_141 : decode cL_law 141 = .ok (.aload_n 1, 1) := by decide +kernel
theorem dL_law_142 : decode cL_law 142 = .ok (.aload_n 0, 1) := by decide +kernel
theorem dL_law_143 : decode cL_law 143 = .ok (.iload_n 3, 1) := by decide +kernel
theorem dL_law_144 : decode cL_law 144 = .ok (.iconst 1, 1) := by decide +kernel
theorem dL_law_145 : decode cL_law 145 = .ok (.iadd, 1) := by decide +kernel
theorem dL_law_146 : decode cL_law 146 = .ok (.iaload, 1) := by decide +kernel
theorem dL_law_147 : decode cL_law 147 = .ok (.aload_n 0, 1) := by decide +kernel
theorem dL_law_148 : decode cL_law 148 = .ok (.iload_n 3, 1) := by decide +kernel
theorem dL_law_149 : decode cL_law 149 = .ok (.iconst 2, 1) := by decide +kernel
theorem dL_law_150 : decode cL_law 150 = .ok (.iadd, 1) := by decide +kernel
theorem dL_law_151 : decode cL_law 151 = .ok (.iaload, 1) := by decide +kernel
theorem dL_law_152 : decode cL_law 152 = .ok (.aload_n 0, 1) := by decide +kernel
theorem dL_law_153 : decode cL_law 153 = .ok (.iload_n 3, 1) := by decide +kernel
theorem dL_law_154 : decode cL_law 154 = .ok (.iconst 3, 1) := by decide +kernel
theorem dL_law_155 : decode cL_law 155 = .ok (.iadd, 1) := by decide +kernel
theorem dL_law_156 : decode cL_law 156 = .ok (.iaload, 1) := by decide +kernel
theorem dL_law_157 : decode cL_law 157 = .ok (.aload_n 0, 1) := by decide +kernel
theorem dL_law_158 : decode cL_law 158 = .ok (.iload_n 3, 1) := by decide +kernel
theorem dL_law_159 : decode cL_law 159 = .ok (.iconst 4, 1) := by decide +kernel
theorem dL_law_160 : decode cL_law 160 = .ok (.iadd, 1) := by decide +kernel
theorem dL_law_161 : decode cL_law 161 = .ok (.iaload, 1) := by decide +kernel
theorem dL_law_162 : decode cL_law 162 = .ok (.invokevirtual 18, 3) := by decide +kernel
theorem dL_law_165 : decode cL_law 165 = .ok (.aload_n 2, 1) := by decide +kernel
theorem dL_law_166 : decode cL_law 166 = .ok (.aload_n 0, 1) := by decide +kernel
theorem dL_law_167 : decode cL_law 167 = .ok (.iload_n 3, 1) := by decide +kernel
theorem dL_law_168 : decode cL_law 168 = .ok (.iconst 1, 1) := by decide +kernel
theorem dL_law_169 : decode cL_law 169 = .ok (.iadd, 1) := by decide +kernel
theorem dL_law_170 : decode cL_law 170 = .ok (.iaload, 1) := by decide +kernel
theorem dL_law_171 : decode cL_law 171 = .ok (.aload_n 0, 1) := by decide +kernel
theorem dL_law_172 : decode cL_law 172 = .ok (.iload_n 3, 1) := by decide +kernel
theorem dL_law_173 : decode cL_law 173 = .ok (.iconst 2, 1) := by decide +kernel
theorem dL_law_174 : decode cL_law 174 = .ok (.iadd, 1) := by decide +kernel
theorem dL_law_175 : decode cL_law 175 = .ok (.iaload, 1) := by decide +kernel
theorem dL_law_176 : decode cL_law 176 = .ok (.aload_n 0, 1) := by decide +kernel
theorem dL_law_177 : decode cL_law 177 = .ok (.iload_n 3, 1) := by decide +kernel
theorem dL_law_178 : decode cL_law 178 = .ok (.iconst 3, 1) := by decide +kernel
theorem dL_law_179 : decode cL_law 179 = .ok (.iadd, 1) := by decide +kernel
theorem dL_law_180 : decode cL_law 180 = .ok (.iaload, 1) := by decide +kernel
theorem dL_law_181 : decode cL_law 181 = .ok (.aload_n 0, 1) := by decide +kernel
theorem dL_law_182 : decode cL_law 182 = .ok (.iload_n 3, 1) := by decide +kernel
theorem dL_law_183 : decode cL_law 183 = .ok (.iconst 4, 1) := by decide +kernel
theorem dL_law_184 : decode cL_law 184 = .ok (.iadd, 1) := by decide +kernel
theorem dL_law_185 : decode cL_law 185 = .ok (.iaload, 1) := by decide +kernel
theorem dL_law_186 : decode cL_law 186 = .ok (.invokevirtual 22, 3) := by decide +kernel
theorem dL_law_189 : decode cL_law 189 = .ok (.if_icmp .eq 274, 3) := by decide +kernel
theorem dL_law_192 : decode cL_law 192 = .ok (.iconst 0, 1) := by decide +kernel
theorem dL_law_193 : decode cL_law 193 = .ok (.ireturn, 1) := by decide +kernel
theorem dL_law_194 : decode cL_law 194 = .ok (.aload_n 1, 1) := by decide +kernel
theorem dL_law_195 : decode cL_law 195 = .ok (.aload_n 0, 1) := by decide +kernel
theorem dL_law_196 : decode cL_law 196 = .ok (.iload_n 3, 1) := by decide +kernel
theorem dL_law_197 : decode cL_law 197 = .ok (.iconst 1, 1) := by decide +kernel
theorem dL_law_198 : decode cL_law 198 = .ok (.iadd, 1) := by decide +kernel
theorem dL_law_199 : decode cL_law 199 = .ok (.iaload, 1) := by decide +kernel
theorem dL_law_200 : decode cL_law 200 = .ok (.aload_n 0, 1) := by decide +kernel
theorem dL_law_201 : decode cL_law 201 = .ok (.iload_n 3, 1) := by decide +kernel
theorem dL_law_202 : decode cL_law 202 = .ok (.iconst 2, 1) := by decide +kernel
theorem dL_law_203 : decode cL_law 203 = .ok (.iadd, 1) := by decide +kernel
theorem dL_law_204 : decode cL_law 204 = .ok (.iaload, 1) := by decide +kernel
theorem dL_law_205 : decode cL_law 205 = .ok (.invokevirtual 23, 3) := by decide +kernel
theorem dL_law_208 : decode cL_law 208 = .ok (.aload_n 2, 1) := by decide +kernel
theorem dL_law_209 : decode cL_law 209 = .ok (.aload_n 0, 1) := by decide +kernel
theorem dL_law_210 : decode cL_law 210 = .ok (.iload_n 3, 1) := by decide +kernel
theorem dL_law_211 : decode cL_law 211 = .ok (.iconst 1, 1) := by decide +kernel
theorem dL_law_212 : decode cL_law 212 = .ok (.iadd, 1) := by decide +kernel
theorem dL_law_213 : decode cL_law 213 = .ok (.iaload, 1) := by decide +kernel
theorem dL_law_214 : decode cL_law 214 = .ok (.aload_n 0, 1) := by decide +kernel
theorem dL_law_215 : decode cL_law 215 = .ok (.iload_n 3, 1) := by decide +kernel
theorem dL_law_216 : decode cL_law 216 = .ok (.iconst 2, 1) := by decide +kernel
theorem dL_law_217 : decode cL_law 217 = .ok (.iadd, 1) := by decide +kernel
theorem dL_law_218 : decode cL_law 218 = .ok (.iaload, 1) := by decide +kernel
theorem dL_law_219 : decode cL_law 219 = .ok (.invokevirtual 26, 3) := by decide +kernel
theorem dL_law_222 : decode cL_law 222 = .ok (.if_icmp .eq 241, 3) := by decide +kernel
theorem dL_law_225 : decode cL_law 225 = .ok (.iconst 0, 1) := by decide +kernel
theorem dL_law_226 : decode cL_law 226 = .ok (.ireturn, 1) := by decide +kernel
theorem dL_law_227 : decode cL_law 227 = .ok (.aload_n 1, 1) := by decide +kernel
theorem dL_law_228 : decode cL_law 228 = .ok (.aload_n 0, 1) := by decide +kernel
theorem dL_law_229 : decode cL_law 229 = .ok (.iload_n 3, 1) := by decide +kernel
theorem dL_law_230 : decode cL_law 230 = .ok (.iconst 1, 1) := by decide +kernel
theorem dL_law_231 : decode cL_law 231 = .ok (.iadd, 1) := by decide +kernel
theorem dL_law_232 : decode cL_law 232 = .ok (.iaload, 1) := by decide +kernel
theorem dL_law_233 : decode cL_law 233 = .ok (.invokevirtual 27, 3) := by decide +kernel
theorem dL_law_236 : decode cL_law 236 = .ok (.aload_n 2, 1) := by decide +kernel
theorem dL_law_237 : decode cL_law 237 = .ok (.aload_n 0, 1) := by decide +kernel
theorem dL_law_238 : decode cL_law 238 = .ok (.iload_n 3, 1) := by decide +kernel
theorem dL_law_239 : decode cL_law 239 = .ok (.iconst 1, 1) := by decide +kernel
theorem dL_law_240 : decode cL_law 240 = .ok (.iadd, 1) := by decide +kernel
theorem dL_law_241 : decode cL_law 241 = .ok (.iaload, 1) := by decide +kernel
theorem dL_law_242 : decode cL_law 242 = .ok (.invokevirtual 31, 3) := by decide +kernel
theorem dL_law_245 : decode cL_law 245 = .ok (.if_icmp .eq 218, 3) := by decide +kernel
theorem dL_law_248 : decode cL_law 248 = .ok (.iconst 0, 1) := by decide +kernel
theorem dL_law_249 : decode cL_law 249 = .ok (.ireturn, 1) := by decide +kernel
theorem dL_law_250 : decode cL_law 250 = .ok (.aload_n 1, 1) := by decide +kernel
theorem dL_law_251 : decode cL_law 251 = .ok (.aload_n 0, 1) := by decide +kernel
theorem dL_law_252 : decode cL_law 252 = .ok (.iload_n 3, 1) := by decide +kernel
theorem dL_law_253 : decode cL_law 253 = .ok (.iconst 1, 1) := by decide +kernel
theorem dL_law_254 : decode cL_law 254 = .ok (.iadd, 1) := by decide +kernel
theorem dL_law_255 : decode cL_law 255 = .ok (.iaload, 1) := by decide +kernel
theorem dL_law_256 : decode cL_law 256 = .ok (.aload_n 0, 1) := by decide +kernel
theorem dL_law_257 : decode cL_law 257 = .ok (.iload_n 3, 1) := by decide +kernel
theorem dL_law_258 : decode cL_law 258 = .ok (.iconst 2, 1) := by decide +kernel
theorem dL_law_259 : decode cL_law 259 = .ok (.iadd, 1) := by decide +kernel
theorem dL_law_260 : decode cL_law 260 = .ok (.iaload, 1) := by decide +kernel
theorem dL_law_261 : decode cL_law 261 = .ok (.invokevirtual 32, 3) := by decide +kernel
theorem dL_law_264 : decode cL_law 264 = .ok (.aload_n 2, 1) := by decide +kernel
theorem dL_law_265 : decode cL_law 265 = .ok (.aload_n 0, 1) := by decide +kernel
theorem dL_law_266 : decode cL_law 266 = .ok (.iload_n 3, 1) := by decide +kernel
theorem dL_law_267 : decode cL_law 267 = .ok (.iconst 1, 1) := by decide +kernel
theorem dL_law_268 : decode cL_law 268 = .ok (.iadd, 1) := by decide +kernel
theorem dL_law_269 : decode cL_law 269 = .ok (.iaload, 1) := by decide +kernel
theorem dL_law_270 : decode cL_law 270 = .ok (.aload_n 0, 1) := by decide +kernel
theorem dL_law_271 : decode cL_law 271 = .ok (.iload_n 3, 1) := by decide +kernel
theorem dL_law_272 : decode cL_law 272 = .ok (.iconst 2, 1) := by decide +kernel
theorem dL_law_273 : decode cL_law 273 = .ok (.iadd, 1) := by decide +kernel
theorem dL_law_274 : decode cL_law 274 = .ok (.iaload, 1) := by decide +kernel
theorem dL_law_275 : decode cL_law 275 = .ok (.invokevirtual 35, 3) := by decide +kernel
theorem dL_law_278 : decode cL_law 278 = .ok (.if_icmp .eq 185, 3) := by decide +kernel
theorem dL_law_281 : decode cL_law 281 = .ok (.iconst 0, 1) := by decide +kernel
theorem dL_law_282 : decode cL_law 282 = .ok (.ireturn, 1) := by decide +kernel
theorem dL_law_283 : decode cL_law 283 = .ok (.aload_n 1, 1) := by decide +kernel
theorem dL_law_284 : decode cL_law 284 = .ok (.invokevirtual 36, 3) := by decide +kernel
theorem dL_law_287 : decode cL_law 287 = .ok (.aload_n 2, 1) := by decide +kernel
theorem dL_law_288 : decode cL_law 288 = .ok (.invokevirtual 40, 3) := by decide +kernel
theorem dL_law_291 : decode cL_law 291 = .ok (.if_icmp .eq 172, 3) := by decide +kernel
theorem dL_law_294 : decode cL_law 294 = .ok (.iconst 0, 1) := by decide +kernel
theorem dL_law_295 : decode cL_law 295 = .ok (.ireturn, 1) := by decide +kernel
theorem dL_law_296 : decode cL_law 296 = .ok (.aload_n 1, 1) := by decide +kernel
theorem dL_law_297 : decode cL_law 297 = .ok (.invokevirtual 41, 3) := by decide +kernel
theorem dL_law_300 : decode cL_law 300 = .ok (.aload_n 2, 1) := by decide +kernel
theorem dL_law_301 : decode cL_law 301 = .ok (.invokevirtual 44, 3) := by decide +kernel
theorem dL_law_304 : decode cL_law 304 = .ok (.if_icmp .eq 159, 3) := by decide +kernel
theorem dL_law_307 : decode cL_law 307 = .ok (.iconst 0, 1) := by decide +kernel
theorem dL_law_308 : decode cL_law 308 = .ok (.ireturn, 1) := by decide +kernel
theorem dL_law_309 : decode cL_law 309 = .ok (.aload_n 1, 1) := by decide +kernel
theorem dL_law_310 : decode cL_law 310 = .ok (.aload_n 0, 1) := by decide +kernel
theorem dL_law_311 : decode cL_law 311 = .ok (.iload_n 3, 1) := by decide +kernel
theorem dL_law_312 : decode cL_law 312 = .ok (.iconst 1, 1) := by decide +kernel
theorem dL_law_313 : decode cL_law 313 = .ok (.iadd, 1) := by decide +kernel
theorem dL_law_314 : decode cL_law 314 = .ok (.iaload, 1) := by decide +kernel
theorem dL_law_315 : decode cL_law 315 = .ok (.aload_n 0, 1) := by decide +kernel
theorem dL_law_316 : decode cL_law 316 = .ok (.iload_n 3, 1) := by decide +kernel
theorem dL_law_317 : decode cL_law 317 = .ok (.iconst 2, 1) := by decide +kernel
theorem dL_law_318 : decode cL_law 318 = .ok (.iadd, 1) := by decide +kernel
theorem dL_law_319 : decode cL_law 319 = .ok (.iaload, 1) := by decide +kernel
theorem dL_law_320 : decode cL_law 320 = .ok (.invokevirtual 45, 3) := by decide +kernel
theorem dL_law_323 : decode cL_law 323 = .ok (.aload_n 2, 1) := by decide +kernel
theorem dL_law_324 : decode cL_law 324 = .ok (.aload_n 0, 1) := by decide +kernel
theorem dL_law_325 : decode cL_law 325 = .ok (.iload_n 3, 1) := by decide +kernel
theorem dL_law_326 : decode cL_law 326 = .ok (.iconst 1, 1) := by decide +kernel
theorem dL_law_327 : decode cL_law 327 = .ok (.iadd, 1) := by decide +kernel
theorem dL_law_328 : decode cL_law 328 = .ok (.iaload, 1) := by decide +kernel
theorem dL_law_329 : decode cL_law 329 = .ok (.aload_n 0, 1) := by decide +kernel
theorem dL_law_330 : decode cL_law 330 = .ok (.iload_n 3, 1) := by decide +kernel
theorem dL_law_331 : decode cL_law 331 = .ok (.iconst 2, 1) := by decide +kernel
theorem dL_law_332 : decode cL_law 332 = .ok (.iadd, 1) := by decide +kernel
theorem dL_law_333 : decode cL_law 333 = .ok (.iaload, 1) := by decide +kernel
theorem dL_law_334 : decode cL_law 334 = .ok (.invokevirtual 48, 3) := by decide +kernel
theorem dL_law_337 : decode cL_law 337 = .ok (.if_icmp .eq 126, 3) := by decide +kernel
theorem dL_law_340 : decode cL_law 340 = .ok (.iconst 0, 1) := by decide +kernel
theorem dL_law_341 : decode cL_law 341 = .ok (.ireturn, 1) := by decide +kernel
theorem dL_law_342 : decode cL_law 342 = .ok (.aload_n 1, 1) := by decide +kernel
theorem dL_law_343 : decode cL_law 343 = .ok (.invokevirtual 49, 3) := by decide +kernel
theorem dL_law_346 : decode cL_law 346 = .ok (.aload_n 2, 1) := by decide +kernel
theorem dL_law_347 : decode cL_law 347 = .ok (.invokevirtual 52, 3) := by decide +kernel
theorem dL_law_350 : decode cL_law 350 = .ok (.if_icmp .eq 113, 3) := by decide +kernel
theorem dL_law_353 : decode cL_law 353 = .ok (.iconst 0, 1) := by decide +kernel
theorem dL_law_354 : decode cL_law 354 = .ok (.ireturn, 1) := by decide +kernel
theorem dL_law_355 : decode cL_law 355 = .ok (.aload_n 1, 1) := by decide +kernel
theorem dL_law_356 : decode cL_law 356 = .ok (.invokevirtual 53, 3) := by decide +kernel
theorem dL_law_359 : decode cL_law 359 = .ok (.aload_n 2, 1) := by decide +kernel
theorem dL_law_360 : decode cL_law 360 = .ok (.invokevirtual 56, 3) := by decide +kernel
theorem dL_law_363 : decode cL_law 363 = .ok (.if_icmp .eq 100, 3) := by decide +kernel
theorem dL_law_366 : decode cL_law 366 = .ok (.iconst 0, 1) := by decide +kernel
theorem dL_law_367 : decode cL_law 367 = .ok (.ireturn, 1) := by decide +kernel
theorem dL_law_368 : decode cL_law 368 = .ok (.aload_n 1, 1) := by decide +kernel
theorem dL_law_369 : decode cL_law 369 = .ok (.aload_n 0, 1) := by decide +kernel
theorem dL_law_370 : decode cL_law 370 = .ok (.iload_n 3, 1) := by decide +kernel
theorem dL_law_371 : decode cL_law 371 = .ok (.iconst 1, 1) := by decide +kernel
theorem dL_law_372 : decode cL_law 372 = .ok (.iadd, 1) := by decide +kernel
theorem dL_law_373 : decode cL_law 373 = .ok (.iaload, 1) := by decide +kernel
theorem dL_law_374 : decode cL_law 374 = .ok (.invokevirtual 57, 3) := by decide +kernel
theorem dL_law_377 : decode cL_law 377 = .ok (.aload_n 2, 1) := by decide +kernel
theorem dL_law_378 : decode cL_law 378 = .ok (.aload_n 0, 1) := by decide +kernel
theorem dL_law_379 : decode cL_law 379 = .ok (.iload_n 3, 1) := by decide +kernel
theorem dL_law_380 : decode cL_law 380 = .ok (.iconst 1, 1) := by decide +kernel
theorem dL_law_381 : decode cL_law 381 = .ok (.iadd, 1) := by decide +kernel
theorem dL_law_382 : decode cL_law 382 = .ok (.iaload, 1) := by decide +kernel
theorem dL_law_383 : decode cL_law 383 = .ok (.invokevirtual 60, 3) := by decide +kernel
theorem dL_law_386 : decode cL_law 386 = .ok (.if_icmp .eq 77, 3) := by decide +kernel
theorem dL_law_389 : decode cL_law 389 = .ok (.iconst 0, 1) := by decide +kernel
theorem dL_law_390 : decode cL_law 390 = .ok (.ireturn, 1) := by decide +kernel
theorem dL_law_391 : decode cL_law 391 = .ok (.aload_n 1, 1) := by decide +kernel
theorem dL_law_392 : decode cL_law 392 = .ok (.aload_n 0, 1) := by decide +kernel
theorem dL_law_393 : decode cL_law 393 = .ok (.iload_n 3, 1) := by decide +kernel
theorem dL_law_394 : decode cL_law 394 = .ok (.iconst 1, 1) := by decide +kernel
theorem dL_law_395 : decode cL_law 395 = .ok (.iadd, 1) := by decide +kernel
theorem dL_law_396 : decode cL_law 396 = .ok (.iaload, 1) := by decide +kernel
theorem dL_law_397 : decode cL_law 397 = .ok (.invokevirtual 61, 3) := by decide +kernel
theorem dL_law_400 : decode cL_law 400 = .ok (.aload_n 2, 1) := by decide +kernel
theorem dL_law_401 : decode cL_law 401 = .ok (.aload_n 0, 1) := by decide +kernel
theorem dL_law_402 : decode cL_law 402 = .ok (.iload_n 3, 1) := by decide +kernel
theorem dL_law_403 : decode cL_law 403 = .ok (.iconst 1, 1) := by decide +kernel
theorem dL_law_404 : decode cL_law 404 = .ok (.iadd, 1) := by decide +kernel
theorem dL_law_405 : decode cL_law 405 = .ok (.iaload, 1) := by decide +kernel
theorem dL_law_406 : decode cL_law 406 = .ok (.invokevirtual 64, 3) := by decide +kernel
theorem dL_law_409 : decode cL_law 409 = .ok (.if_icmp .eq 54, 3) := by decide +kernel
theorem dL_law_412 : decode cL_law 412 = .ok (.iconst 0, 1) := by decide +kernel
theorem dL_law_413 : decode cL_law 413 = .ok (.ireturn, 1) := by decide +kernel
theorem dL_law_414 : decode cL_law 414 = .ok (.aload_n 1, 1) := by decide +kernel
theorem dL_law_415 : decode cL_law 415 = .ok (.invokevirtual 65, 3) := by decide +kernel
theorem dL_law_418 : decode cL_law 418 = .ok (.aload_n 2, 1) := by decide +kernel
theorem dL_law_419 : decode cL_law 419 = .ok (.invokevirtual 68, 3) := by decide +kernel
theorem dL_law_422 : decode cL_law 422 = .ok (.if_icmp .eq 41, 3) := by decide +kernel
theorem dL_law_425 : decode cL_law 425 = .ok (.iconst 0, 1) := by decide +kernel
theorem dL_law_426 : decode cL_law 426 = .ok (.ireturn, 1) := by decide +kernel
theorem dL_law_427 : decode cL_law 427 = .ok (.aload_n 1, 1) := by decide +kernel
theorem dL_law_428 : decode cL_law 428 = .ok (.invokevirtual 69, 3) := by decide +kernel
theorem dL_law_431 : decode cL_law 431 = .ok (.aload_n 2, 1) := by decide +kernel
theorem dL_law_432 : decode cL_law 432 = .ok (.invokevirtual 72, 3) := by decide +kernel
theorem dL_law_435 : decode cL_law 435 = .ok (.if_icmp .eq 28, 3) := by decide +kernel
theorem dL_law_438 : decode cL_law 438 = .ok (.iconst 0, 1) := by decide +kernel
theorem dL_law_439 : decode cL_law 439 = .ok (.ireturn, 1) := by decide +kernel
theorem dL_law_440 : decode cL_law 440 = .ok (.aload_n 1, 1) := by decide +kernel
theorem dL_law_441 : decode cL_law 441 = .ok (.aload_n 0, 1) := by decide +kernel
theorem dL_law_442 : decode cL_law 442 = .ok (.iload_n 3, 1) := by decide +kernel
theorem dL_law_443 : decode cL_law 443 = .ok (.iconst 1, 1) := by decide +kernel
theorem dL_law_444 : decode cL_law 444 = .ok (.iadd, 1) := by decide +kernel
theorem dL_law_445 : decode cL_law 445 = .ok (.iaload, 1) := by decide +kernel
theorem dL_law_446 : decode cL_law 446 = .ok (.invokevirtual 73, 3) := by decide +kernel
theorem dL_law_449 : decode cL_law 449 = .ok (.aload_n 2, 1) := by decide +kernel
theorem dL_law_450 : decode cL_law 450 = .ok (.aload_n 0, 1) := by decide +kernel
theorem dL_law_451 : decode cL_law 451 = .ok (.iload_n 3, 1) := by decide +kernel
theorem dL_law_452 : decode cL_law 452 = .ok (.iconst 1, 1) := by decide +kernel
theorem dL_law_453 : decode cL_law 453 = .ok (.iadd, 1) := by decide +kernel
theorem dL_law_454 : decode cL_law 454 = .ok (.iaload, 1) := by decide +kernel
theorem dL_law_455 : decode cL_law 455 = .ok (.invokevirtual 76, 3) := by decide +kernel
theorem dL_law_458 : decode cL_law 458 = .ok (.if_icmp .eq 5, 3) := by decide +kernel
theorem dL_law_461 : decode cL_law 461 = .ok (.iconst 0, 1) := by decide +kernel
theorem dL_law_462 : decode cL_law 462 = .ok (.ireturn, 1) := by decide +kernel
theorem dL_law_463 : decode cL_law 463 = .ok (.iinc 3 5, 3) := by decide +kernel
theorem dL_law_466 : decode cL_law 466 = .ok (.goto (-448), 3) := by decide +kernel
theorem dL_law_469 : decode cL_law 469 = .ok (.iconst 1, 1) := by decide +kernel
theorem dL_law_470 : decode cL_law 470 = .ok (.ireturn, 1) := by decide +kernel
end
section
set_option maxRecDepth 100000
section GROWS2
variable {l : Launch} {cc : ByteArray} {nL : Nat} {R : Room} {C : String} {T : u_T} {N ci : Nat} {len : Nat → Nat} {h : Nat} {ad : Nat → Nat} {ret : Option FieldType} {Post : Option Int32 → gS → Prop} {G : gS → Nat → List Value → List Value → Prop} {S : gS} {pc : Nat} {lv st : List Value}
theorem cv_nI0 {a : Nat} (ha : a < 2 ^ 31) : nI a = 0 ↔ a = 0 := by rw [← nI_0]; exact nI_eq ha (by decide)
theorem cv_if_eqN (X : gOK l cc nL R C T N ci len h ad ret Post G) {a : Nat} {off : Int} (tgt : Nat) (ha : a < 2 ^ 31) (hd : decode cc pc = .ok (.ifCond .eq off, 3)) (ht : (pc : Int) + off = (tgt : Int)) (kt : a = 0 → G S tgt lv st) (kf : a ≠ 0 → G S (pc + 3) lv st) : G S pc lv (.int (nI a) :: st) := cv_if_eq X tgt hd ht (fun q => kt ((cv_nI0 ha).mp q)) (fun q => kf (fun z => q ((cv_nI0 ha).mpr z)))
theorem cv_if_eqT (X : gOK l cc nL R C T N ci len h ad ret Post G) {a : Nat} {off : Int} (tgt : Nat) (ha : a < 2 ^ 31) (hd : decode cc pc = .ok (.ifCond .eq off, 3)) (ht : (pc : Int) + off = (tgt : Int)) (z : a = 0) (kt : G S tgt lv st) : G S pc lv (.int (nI a) :: st) := cv_if_eqN X tgt ha hd ht (fun _ => kt) (fun q => absurd z q)
theorem cv_if_eqF (X : gOK l cc nL R C T N ci len h ad ret Post G) {a : Nat} {off : Int} (tgt : Nat) (ha : a < 2 ^ 31) (hd : decode cc pc = .ok (.ifCond .eq off, 3)) (ht : (pc : Int) + off = (tgt : Int)) (z : a ≠ 0) (kf : G S (pc + 3) lv st) : G S pc lv (.int (nI a) :: st) := cv_if_eqN X tgt ha hd ht (fun q => absurd q z) (fun _ => kf)
theorem cv_if_neN (X : gOK l cc nL R C T N ci len h ad ret Post G) {a : Nat} {off : Int} (tgt : Nat) (ha : a < 2 ^ 31) (hd : decode cc pc = .ok (.ifCond .ne off, 3)) (ht : (pc : Int) + off = (tgt : Int)) (kt : a ≠ 0 → G S tgt lv st) (kf : a = 0 → G S (pc + 3) lv st) : G S pc lv (.int (nI a) :: st) := cv_if_ne X tgt hd ht (fun q => kt (fun z => q ((cv_nI0 ha).mpr z))) (fun q => kf ((cv_nI0 ha).mp q))
theorem cv_if_neT (X : gOK l cc nL R C T N ci len h ad ret Post G) {a : Nat} {off : Int} (tgt : Nat) (ha : a < 2 ^ 31) (hd : decode cc pc = .ok (.ifCond .ne off, 3)) (ht : (pc : Int) + off = (tgt : Int)) (z : a ≠ 0) (kt : G S tgt lv st) : G S pc lv (.int (nI a) :: st) := cv_if_neN X tgt ha hd ht (fun _ => kt) (fun q => absurd q z)
theorem cv_if_neF (X : gOK l cc nL R C T N ci len h ad ret Post G) {a : Nat} {off : Int} (tgt : Nat) (ha : a < 2 ^ 31) (hd : decode cc pc = .ok (.ifCond .ne off, 3)) (ht : (pc : Int) + off = (tgt : Int)) (z : a = 0) (kf : G S (pc + 3) lv st) : G S pc lv (.int (nI a) :: st) := cv_if_neN X tgt ha hd ht (fun q => absurd z q) (fun _ => kf)
end GROWS2
theorem wX0_power : GoodIn lw_all (wsV RX0 59 RX0 yX0_power (ws_ yX0_power cX0_power 6 (some .int))) := lw_V q35 q37 qs0 q25 q38
theorem hX0_power : yX0_power.cls = RX0 ∧ yX0_power.cls ≠ "java/lang/invoke/MethodHandle" ∧ yX0_power.cls ≠ "java/lang/invoke/VarHandle" ∧ (parseMethodDescriptor yX0_power.desc).map (fun d => d.parameters.length) = some 2 := by decide +kernel
theorem wX0_clamp : GoodIn lw_all (wsV RX0 64 RX0 yX0_clamp (ws_ yX0_clamp cX0_clamp 2 (some .int))) := lw_V q104 q106 qs1 q25 q107
theorem hX0_clamp : yX0_clamp.cls = RX0 ∧ yX0_clamp.cls ≠ "java/lang/invoke/MethodHandle" ∧ yX0_clamp.cls ≠ "java/lang/invoke/VarHandle" ∧ (parseMethodDescriptor yX0_clamp.desc).map (fun d => d.parameters.length) = some 1 := by decide +kernel
theorem wX0_widthNow : GoodIn lw_all (wsV RX0 68 RX0 yX0_widthNow (ws_ yX0_widthNow cX0_widthNow 2 (some .int))) := lw_V q120 q122 qs2 q25 q123
theorem hX0_widthNow : yX0_widthNow.cls = RX0 ∧ yX0_widthNow.cls ≠ "java/lang/invoke/MethodHandle" ∧ yX0_widthNow.cls ≠ "java/lang/invoke/VarHandle" ∧ (parseMethodDescriptor yX0_widthNow.desc).map (fun d => d.parameters.length) = some 0 := by decide +kernel
theorem wX0_at : GoodIn lw_all (wsV RX0 72 RX0 yX0_at (ws_ yX0_at cX0_at 4 (some .int))) := lw_V q140 q142 qs6 q25 q143
theorem hX0_at : yX0_at.cls = RX0 ∧ yX0_at.cls ≠ "java/lang/invoke/MethodHandle" ∧ yX0_at.cls ≠ "java/lang/invoke/VarHandle" ∧ (parseMethodDescriptor yX0_at.desc).map (fun d => d.parameters.length) = some 3 := by decide +kernel
theorem wX0_shapeFour : GoodIn lw_all (wsV RX0 76 RX0 yX0_shapeFour (ws_ yX0_shapeFour cX0_shapeFour 7 none)) := lw_V q144 q146 qs7 q25 q147
theorem hX0_shapeFour : yX0_shapeFour.cls = RX0 ∧ yX0_shapeFour.cls ≠ "java/lang/invoke/MethodHandle" ∧ yX0_shapeFour.cls ≠ "java/lang/invoke/VarHandle" ∧ (parseMethodDescriptor yX0_shapeFour.desc).map (fun d => d.parameters.length) = some 2 := by decide +kernel
theorem wX0_add : GoodIn lw_all (wsV RX0 80 RX0 yX0_add (ws_ yX0_add cX0_add 4 none)) := lw_V q148 q150 qs8 q25 q151
theorem hX0_add : yX0_add.cls = RX0 ∧ yX0_add.cls ≠ "java/lang/invoke/MethodHandle" ∧ yX0_add.cls ≠ "java/lang/invoke/VarHandle" ∧ (parseMethodDescriptor yX0_add.desc).map (fun d => d.parameters.length) = some 3 := by decide +kernel
theorem wX0_shapeKernel : GoodIn lw_all (wsV RX0 87 RX0 yX0_shapeKernel (ws_ yX0_shapeKernel cX0_shapeKernel 6 none)) := lw_V q132 q134 qs4 q25 q135
theorem hX0_shapeKernel : yX0_shapeKernel.cls = RX0 ∧ yX0_shapeKernel.cls ≠ "java/lang/invoke/MethodHandle" ∧ yX0_shapeKernel.cls ≠ "java/lang/invoke/VarHandle" ∧ (parseMethodDescriptor yX0_shapeKernel.desc).map (fun d => d.parameters.length) = some 1 := by decide +kernel
theorem wX0_addTile : GoodIn lw_all (wsV RX0 91 RX0 yX0_addTile (ws_ yX0_addTile cX0_addTile 7 none)) := lw_V q136 q138 qs5 q25 q139
theorem hX0_addTile : yX0_addTile.cls = RX0 ∧ yX0_addTile.cls ≠ "java/lang/invoke/MethodHandle" ∧ yX0_addTile.cls ≠ "java/lang/invoke/VarHandle" ∧ (parseMethodDescriptor yX0_addTile.desc).map (fun d => d.parameters.length) = some 3 := by decide +kernel
theorem wX0_transformLine : GoodIn lw_all (wsV RX0 94 RX0 yX0_transformLine (ws_ yX0_transformLine cX0_transformLine 8 none)) := lw_V q172 q174 qs14 q25 q175
theorem hX0_transformLine : yX0_transformLine.cls = RX0 ∧ yX0_transformLine.cls ≠ "java/lang/invoke/MethodHandle" ∧ yX0_transformLine.cls ≠ "java/lang/invoke/VarHandle" ∧ (parseMethodDescriptor yX0_transformLine.desc).map (fun d => d.parameters.length) = some 3 := by decide +kernel
theorem wX0_clearPlane : GoodIn lw_all (wsV RX0 98 RX0 yX0_clearPlane (ws_ yX0_clearPlane cX0_clearPlane 2 none)) := lw_V q160 q162 qs11 q25 q163
theorem hX0_clearPlane : yX0_clearPlane.cls = RX0 ∧ yX0_clearPlane.cls ≠ "java/lang/invoke/MethodHandle" ∧ yX0_clearPlane.cls ≠ "java/lang/invoke/VarHandle" ∧ (parseMethodDescriptor yX0_clearPlane.desc).map (fun d => d.parameters.length) = some 0 := by decide +kernel
theorem wX0_reduce : GoodIn lw_all (wsV RX0 101 RX0 yX0_reduce (ws_ yX0_reduce cX0_reduce 3 (some .int))) := lw_V q164 q166 qs12 q25 q167
theorem hX0_reduce : yX0_reduce.cls = RX0 ∧ yX0_reduce.cls ≠ "java/lang/invoke/MethodHandle" ∧ yX0_reduce.cls ≠ "java/lang/invoke/VarHandle" ∧ (parseMethodDescriptor yX0_reduce.desc).map (fun d => d.parameters.length) = some 1 := by decide +kernel
theorem wX0_transform : GoodIn lw_all (wsV RX0 104 RX0 yX0_transform (ws_ yX0_transform cX0_transform 3 none)) := lw_V q168 q170 qs13 q25 q171
theorem hX0_transform : yX0_transform.cls = RX0 ∧ yX0_transform.cls ≠ "java/lang/invoke/MethodHandle" ∧ yX0_transform.cls ≠ "java/lang/invoke/VarHandle" ∧ (parseMethodDescriptor yX0_transform.desc).map (fun d => d.parameters.length) = some 1 := by decide +kernel
theorem wX0_addTransformed : GoodIn lw_all (wsV RX0 108 RX0 yX0_addTransformed (ws_ yX0_addTransformed cX0_addTransformed 4 none)) := lw_V q156 q158 qs10 q25 q159
theorem hX0_addTransformed : yX0_addTransformed.cls = RX0 ∧ yX0_addTransformed.cls ≠ "java/lang/invoke/MethodHandle" ∧ yX0_addTransformed.cls ≠ "java/lang/invoke/VarHandle" ∧ (parseMethodDescriptor yX0_addTransformed.desc).map (fun d => d.parameters.length) = some 1 := by decide +kernel
theorem wX0_stretch : GoodIn lw_all (wsV RX0 111 RX0 yX0_stretch (ws_ yX0_stretch cX0_stretch 6 none)) := lw_V q180 q182 qs16 q25 q183
theorem hX0_stretch : yX0_stretch.cls = RX0 ∧ yX0_stretch.cls ≠ "java/lang/invoke/MethodHandle" ∧ yX0_stretch.cls ≠ "java/lang/invoke/VarHandle" ∧ (parseMethodDescriptor yX0_stretch.desc).map (fun d => d.parameters.length) = some 3 := by decide +kernel
theorem wX0_addColumn : GoodIn lw_all (wsV RX0 114 RX0 yX0_addColumn (ws_ yX0_addColumn cX0_addColumn 4 none)) := lw_V q184 q186 qs17 q25 q187
theorem hX0_addColumn : yX0_addColumn.cls = RX0 ∧ yX0_addColumn.cls ≠ "java/lang/invoke/MethodHandle" ∧ yX0_addColumn.cls ≠ "java/lang/invoke/VarHandle" ∧ (parseMethodDescriptor yX0_addColumn.desc).map (fun d => d.parameters.length) = some 2 := by decide +kernel
theorem wX0_moveByTiles : GoodIn lw_all (wsV RX0 120 RX0 yX0_moveByTiles (ws_ yX0_moveByTiles cX0_moveByTiles 4 none)) := lw_V q128 q130 qs3 q25 q131
theorem hX0_moveByTiles : yX0_moveByTiles.cls = RX0 ∧ yX0_moveByTiles.cls ≠ "java/lang/invoke/MethodHandle" ∧ yX0_moveByTiles.cls ≠ "java/lang/invoke/VarHandle" ∧ (parseMethodDescriptor yX0_moveByTiles.desc).map (fun d => d.parameters.length) = some 0 := by decide +kernel
theorem wX0_moveByTransforms : GoodIn lw_all (wsV RX0 123 RX0 yX0_moveByTransforms (ws_ yX0_moveByTransforms cX0_moveByTransforms 6 none)) := lw_V q152 q154 qs9 q25 q155
theorem hX0_moveByTransforms : yX0_moveByTransforms.cls = RX0 ∧ yX0_moveByTransforms.cls ≠ "java/lang/invoke/MethodHandle" ∧ yX0_moveByTransforms.cls ≠ "java/lang/invoke/VarHandle" ∧ (parseMethodDescriptor yX0_moveByTransforms.desc).map (fun d => d.parameters.length) = some 0 := by decide +kernel
theorem wX0_moveByWindows : GoodIn lw_all (wsV RX0 126 RX0 yX0_moveByWindows (ws_ yX0_moveByWindows cX0_moveByWindows 3 none)) := lw_V q176 q178 qs15 q25 q179
theorem hX0_moveByWindows : yX0_moveByWindows.cls = RX0 ∧ yX0_moveByWindows.cls ≠ "java/lang/invoke/MethodHandle" ∧ yX0_moveByWindows.cls ≠ "java/lang/invoke/VarHandle" ∧ (parseMethodDescriptor yX0_moveByWindows.desc).map (fun d => d.parameters.length) = some 0 := by decide +kernel
theorem wX0_greater : GoodIn lw_all (wsV RX0 129 RX0 yX0_greater (ws_ yX0_greater cX0_greater 3 (some .int))) := lw_V q204 q206 qs18 q25 q207
theorem hX0_greater : yX0_greater.cls = RX0 ∧ yX0_greater.cls ≠ "java/lang/invoke/MethodHandle" ∧ yX0_greater.cls ≠ "java/lang/invoke/VarHandle" ∧ (parseMethodDescriptor yX0_greater.desc).map (fun d => d.parameters.length) = some 2 := by decide +kernel
theorem wX0_result : GoodIn lw_all (wsV RX0 132 RX0 yX0_result (ws_ yX0_result cX0_result 3 (some .int))) := lw_V q216 q193 q194 q25 q195
theorem hX0_result : yX0_result.cls = RX0 ∧ yX0_result.cls ≠ "java/lang/invoke/MethodHandle" ∧ yX0_result.cls ≠ "java/lang/invoke/VarHandle" ∧ (parseMethodDescriptor yX0_result.desc).map (fun d => d.parameters.length) = some 2 := by decide +kernel
theorem wX1_cut : GoodIn lw_all (wsV RX1 27 RX1 yX1_cut (ws_ yX1_cut cX1_cut 2 (some .int))) := lw_V q263 q265 qs19 q26 q266
theorem hX1_cut : yX1_cut.cls = RX1 ∧ yX1_cut.cls ≠ "java/lang/invoke/MethodHandle" ∧ yX1_cut.cls ≠ "java/lang/invoke/VarHandle" ∧ (parseMethodDescriptor yX1_cut.desc).map (fun d => d.parameters.length) = some 1 := by decide +kernel
theorem wX1_widthAfter : GoodIn lw_all (wsV RX1 31 RX1 yX1_widthAfter (ws_ yX1_widthAfter cX1_widthAfter 1 (some .int))) := lw_V q279 q281 qs20 q26 q282
theorem hX1_widthAfter : yX1_widthAfter.cls = RX1 ∧ yX1_widthAfter.cls ≠ "java/lang/invoke/MethodHandle" ∧ yX1_widthAfter.cls ≠ "java/lang/invoke/VarHandle" ∧ (parseMethodDescriptor yX1_widthAfter.desc).map (fun d => d.parameters.length) = some 0 := by decide +kernel
theorem wX1_pixelAt : GoodIn lw_all (wsV RX1 35 RX1 yX1_pixelAt (ws_ yX1_pixelAt cX1_pixelAt 4 (some .int))) := lw_V q291 q293 qs22 q26 q294
theorem hX1_pixelAt : yX1_pixelAt.cls = RX1 ∧ yX1_pixelAt.cls ≠ "java/lang/invoke/MethodHandle" ∧ yX1_pixelAt.cls ≠ "java/lang/invoke/VarHandle" ∧ (parseMethodDescriptor yX1_pixelAt.desc).map (fun d => d.parameters.length) = some 3 := by decide +kernel
theorem wX1_product : GoodIn lw_all (wsV RX1 42 RX1 yX1_product (ws_ yX1_product cX1_product 8 (some .int))) := lw_V q287 q289 qs21 q26 q290
theorem hX1_product : yX1_product.cls = RX1 ∧ yX1_product.cls ≠ "java/lang/invoke/MethodHandle" ∧ yX1_product.cls ≠ "java/lang/invoke/VarHandle" ∧ (parseMethodDescriptor yX1_product.desc).map (fun d => d.parameters.length) = some 2 := by decide +kernel
theorem wX1_greatestOf : GoodIn lw_all (wsV RX1 46 RX1 yX1_greatestOf (ws_ yX1_greatestOf cX1_greatestOf 6 (some .int))) := lw_V q311 q313 qs23 q26 q314
theorem hX1_greatestOf : yX1_greatestOf.cls = RX1 ∧ yX1_greatestOf.cls ≠ "java/lang/invoke/MethodHandle" ∧ yX1_greatestOf.cls ≠ "java/lang/invoke/VarHandle" ∧ (parseMethodDescriptor yX1_greatestOf.desc).map (fun d => d.parameters.length) = some 2 := by decide +kernel
theorem wX1_result : GoodIn lw_all (wsV RX1 49 RX1 yX1_result (ws_ yX1_result cX1_result 3 (some .int))) := lw_V q323 q300 q301 q26 q302
theorem hX1_result : yX1_result.cls = RX1 ∧ yX1_result.cls ≠ "java/lang/invoke/MethodHandle" ∧ yX1_result.cls ≠ "java/lang/invoke/VarHandle" ∧ (parseMethodDescriptor yX1_result.desc).map (fun d => d.parameters.length) = some 2 := by decide +kernel
abbrev bad : Int32 := -1000000
abbrev P7 : Int32 := nI 7681
/-- clamp, cut -/
def zcl (x : Int32) : Int32 := if -20 ≤ x then (if x ≤ nI 20 then x else nI 20) else -20
/-- put, kernel: the answer and the new array -/
def zput (f : Nat → Int32) (hi lo up : Int32) (p v : Int32) : Int32 × (Nat → Int32) := if p < 0 then (bad, f) else if hi < p then (bad, f) else if v < lo then (bad, f) else if v ≤ up then (f p.toNatClampNeg, upd f p.toNatClampNeg v) else (bad, f)
def zpix (f : Nat → Int32) (p : Int32) : Int32 := if p < 0 then bad else if p ≤ nI 127 then f p.toNatClampNeg else bad
def zwid (st mg : Nat) : Nat := (8 + 2 * mg - 3) / st + 1
/-- shape: is it taken -/
def zsh (s m : Int32) : Bool := if s < nI 1 then false else if nI 2 < s then false else if m < 0 then false else if m ≤ nI 1 then true else false
def zat (f : Nat → Int32) (c : Nat) (x y : Int32) : Int32 := if x < 0 then nI 0 else if nI 8 ≤ x then nI 0 else if y < 0 then nI 0 else if y < nI 8 then f (64 * c + 8 * y.toNatClampNeg + x.toNatClampNeg) else nI 0
def zfour (p : Nat → Int32) (f s : Nat) : Nat → Int32 := upd (upd (upd (upd p f (p f - p (f + 2 * s))) (f + s) (p (f + s) + p (f + 2 * s))) (f + 2 * s) (p (f + 2 * s) - p (f + s))) (f + 3 * s) (p (f + s) - p (f + 3 * s))
def zhalf (ke : Nat → Int32) (c : Nat) (j : Nat) (h : Nat → Int32) : Nat → Int32 := upd (upd (upd (upd h (4 * j) (nI 2 * ke (9 * c + 3 * j))) (4 * j + 1) (ke (9 * c + 3 * j) + ke (9 * c + 3 * j + 1) + ke (9 * c + 3 * j + 2))) (4 * j + 2) (ke (9 * c + 3 * j) - ke (9 * c + 3 * j + 1) + ke (9 * c + 3 * j + 2))) (4 * j + 3) (nI 2 * ke (9 * c + 3 * j + 2))
def zshaped (hf : Nat → Int32) (i : Nat) (s : Nat → Int32) : Nat → Int32 := upd (upd (upd (upd s i (nI 2 * hf i)) (4 + i) (hf i + hf (4 + i) + hf (8 + i))) (8 + i) (hf i - hf (4 + i) + hf (8 + i))) (12 + i) (nI 2 * hf (8 + i))
def zadd (w : Nat) (o : Nat → Int32) (x y : Nat) (v : Int32) : Nat → Int32 := if w ≤ x then o else if w ≤ y then o else upd o (8 * y + x) (o (8 * y + x) + v)
/-- addTile: the piece, the products, the results -/
def zpc (pi : Nat → Int32) (mg c x y : Nat) (p : Nat → Int32) : Nat → Int32 := it (fun j p => it (fun i p => upd p (4 * j + i) (zat pi c (nI (x + i) - nI mg) (nI (y + j) - nI mg))) p 4) p 4
def zfr (p : Nat → Int32) : Nat → Int32 := it (fun j p => zfour p (4 * j) 1) p 4
def zfc (p : Nat → Int32) : Nat → Int32 := it (fun i p => zfour p i 4) p 4
def zmul (p sh q : Nat → Int32) : Nat → Int32 := it (fun k q => upd q k (p k * sh k)) q 16
def zcol (q : Nat → Int32) : Nat → Int32 := it (fun i q => upd (upd q i (q i + q (4 + i) + q (8 + i))) (4 + i) (q (4 + i) - q (8 + i) - q (12 + i))) q 4
def zrow (w x y : Nat) (q o : Nat → Int32) : Nat → Int32 := it (fun j o => zadd w (zadd w o x (y + j) ((q (4 * j) + q (4 * j + 1) + q (4 * j + 2)) / nI 4)) (x + 1) (y + j) ((q (4 * j + 1) - q (4 * j + 2) - q (4 * j + 3)) / nI 4)) o 2
abbrev A3 : Type := (Nat → Int32) × (Nat → Int32) × (Nat → Int32)
def ztile (pi sh : Nat → Int32) (w mg c x y : Nat) (t : A3) : A3 := (zfc (zfr (zpc pi mg c x y t.1)), zcol (zmul (zfc (zfr (zpc pi mg c x y t.1))) sh t.2.1), zrow w x y (zcol (zmul (zfc (zfr (zpc pi mg c x y t.1))) sh t.2.1)) t.2.2)
def zhs (ke : Nat → Int32) (c : Nat) (h : Nat → Int32) : Nat → Int32 := it (zhalf ke c) h 3
def zss (hf s : Nat → Int32) : Nat → Int32 := it (zshaped hf) s 4
abbrev A5 : Type := (Nat → Int32) × (Nat → Int32) × A3
/-- moveByTiles: half, shaped, piece, product, out -/
def ztiles (pi ke : Nat → Int32) (w mg : Nat) (c : Nat) (t : A5) : A5 := (zhs ke c t.1, zss (zhs ke c t.1) t.2.1, it (fun i u => it (fun j u => ztile pi (zss (zhs ke c t.1) t.2.1) w mg c (2 * j) (2 * i) u) u (w / 2)) t.2.2 (w / 2))
/-- transforms -/
def zred (v : Int32) : Int32 := if 0 ≤ rmd v P7 then rmd v P7 else rmd v P7 + P7
def zsum (pl tb : Nat → Int32) (f s k : Nat) (n : Nat) : Int32 := it (fun i a => a + rmd (pl (f + i * s) * tb (k * i % 16)) P7) (nI 0) n
def zline (pl tb : Nat → Int32) (f s : Nat) (li : Nat → Int32) : Nat → Int32 := it (fun k li => upd li k (rmd (zsum pl tb f s k 16) P7)) li 16
def zback (f s : Nat) (li pl : Nat → Int32) : Nat → Int32 := it (fun k p => upd p (f + k * s) (li k)) pl 16
abbrev A2 : Type := (Nat → Int32) × (Nat → Int32)
/-- transformLine: plane, line -/
def ztl (tb : Nat → Int32) (f s : Nat) (t : A2) : A2 := (zback f s (zline t.1 tb f s t.2) t.1, zline t.1 tb f s t.2)
def ztr (tb : Nat → Int32) (t : A2) : A2 := it (fun i t => ztl tb i 16 t) (it (fun i t => ztl tb (16 * i) 1 t) t 16) 16
def zclr (n : Nat) (f : Nat → Int32) : Nat → Int32 := it (fun k p => upd p k (nI 0)) f n
def zcpy (g f : Nat → Int32) : Nat → Int32 := it (fun k p => upd p k (g k)) f 256
def zkp (ke : Nat → Int32) (c : Nat) (p : Nat → Int32) : Nat → Int32 := it (fun j p => it (fun i p => upd p (16 * (2 - j) + 2 - i) (zred (ke (9 * c + 3 * j + i)))) p 3) p 3
def zpp (pi : Nat → Int32) (c : Nat) (p : Nat → Int32) : Nat → Int32 := it (fun y p => it (fun x p => upd p (16 * (y + 1) + x + 1) (zred (pi (64 * c + 8 * y + x)))) p 8) p 8
def ztot (pl ot t : Nat → Int32) : Nat → Int32 := it (fun k t => upd t k (rmd (t k + pl k * ot k) P7)) t 256
abbrev A4 : Type := (Nat → Int32) × (Nat → Int32) × (Nat → Int32) × (Nat → Int32)
/-- the kernel's transform: plane, line -/
def zk1 (ke ro : Nat → Int32) (c : Nat) (t : A2) : A2 := ztr ro (zkp ke c (zclr 256 t.1), t.2)
def zk2 (pi ro : Nat → Int32) (c : Nat) (t : A2) : A2 := ztr ro (zpp pi c (zclr 256 t.1), t.2)
/-- addTransformed: plane, other, total, line -/
def zat2 (pi ke ro : Nat → Int32) (c : Nat) (t : A4) : A4 := ((zk2 pi ro c (zk1 ke ro c (t.1, t.2.2.2))).1, zcpy (zk1 ke ro c (t.1, t.2.2.2)).1 t.2.1, ztot (zk2 pi ro c (zk1 ke ro c (t.1, t.2.2.2))).1 (zcpy (zk1 ke ro c (t.1, t.2.2.2)).1 t.2.1) t.2.2.1, (zk2 pi ro c (zk1 ke ro c (t.1, t.2.2.2))).2)
def zpw (a : Int32) (n : Nat) : Nat → Int32 × Int32 := it (fun i t => (if n / 2 ^ i % 2 = 1 then rmd (t.1 * t.2) P7 else t.1, rmd (t.2 * t.2) P7)) (nI 1, a)
def zpow (a : Int32) (n : Nat) : Int32 := (zpw a n 14).1
def zcen (v : Int32) : Int32 := if v ≤ nI 3840 then v else v - P7
def zout (pl : Nat → Int32) (sc : Int32) (w st mg : Nat) (o : Nat → Int32) : Nat → Int32 := it (fun y o => it (fun x o => upd o (8 * y + x) (zcen (rmd (pl (16 * (st * y + 3 - mg) + st * x + 3 - mg) * sc) P7))) o w) o w
/-- moveByTransforms -/
def zmt0 (pi ke ro : Nat → Int32) (t : A4) : A4 := zat2 pi ke ro 1 (zat2 pi ke ro 0 (t.1, t.2.1, zclr 256 t.2.2.1, t.2.2.2))
def zmt1 (ba : Nat → Int32) (t : A4) : A2 := ztr ba (zcpy t.2.2.1 t.1, t.2.2.2)
/-- windows -/
def zst (pi : Nat → Int32) (a : Nat) (x y : Int32) (wi : Nat → Int32) : Nat → Int32 := it (fun c w => it (fun k w => upd w (a + 9 * c + k) (zat pi c (x + nI (k % 3)) (y + nI (k / 3)))) w 9) wi 2
def zac (wi ke : Nat → Int32) (w k f : Nat) (o : Nat → Int32) : Nat → Int32 := it (fun i o => upd o (f + i) (o (f + i) + wi (18 * (f + i) + k) * ke k)) o w
def zws (pi : Nat → Int32) (w st mg : Nat) (wi : Nat → Int32) : Nat → Int32 := it (fun y u => it (fun x u => zst pi (18 * (8 * y + x)) (nI (st * x) - nI mg) (nI (st * y) - nI mg) u) u w) wi w
def zwo (wi ke : Nat → Int32) (w : Nat) (o : Nat → Int32) : Nat → Int32 := it (fun k o => it (fun y o => zac wi ke w k (8 * y) o) o w) o 18
/-- results -/
def zres (w : Nat) (o : Nat → Int32) (x y : Int32) : Int32 := if x < 0 then nI 0 else if nI w ≤ x then nI 0 else if y < 0 then nI 0 else if y < nI w then o (8 * y.toNatClampNeg + x.toNatClampNeg) else nI 0
abbrev AN : Type := Nat × (Nat → Int32)
def zfl (w : Nat) (o : Nat → Int32) : AN := it (fun y t => it (fun x t => if 0 ≤ t.2 (8 * y + x) then t else (t.1 + 1, upd t.2 (8 * y + x) (nI 0))) t w) (0, o) w
def zmx (a b : Int32) : Int32 := if a ≤ b then b else a
def zth (w : Nat) (o : Nat → Int32) : Nat → Int32 := it (fun y o => it (fun x o => upd o (8 * y + x) (zmx (zmx (o (16 * y + 2 * x)) (o (16 * y + 2 * x + 1))) (zmx (o (16 * y + 2 * x + 8)) (o (16 * y + 2 * x + 9))))) o w) o w
def zdv (d : Int32) (o : Nat → Int32) : Nat → Int32 := it (fun k o => upd o k (o k / d)) o 64
def ztk (w : Nat) (o : Nat → Int32) (c : Nat) (pi : Nat → Int32) : AN := it (fun y t => it (fun x t => (if t.2 (64 * c + 8 * y + x) = zcl (zres w o (nI x) (nI y)) then t.1 else t.1 + 1, upd t.2 (64 * c + 8 * y + x) (zcl (zres w o (nI x) (nI y))))) t 8) (0, pi) 8
def zsm (w : Nat) (o : Nat → Int32) : Int32 := it (fun y a => it (fun x a => a + o (8 * y + x)) a w) (nI 0) w
/-- peak: 0 for none, j + 1 for the place j -/
def zpb : Nat → Int32
  | 0 => -1
  | j + 1 => nI j
def zpk1 (o : Nat → Int32) (b j : Nat) : Nat := if b = 0 then j + 1 else if o j ≤ o (b - 1) then b else j + 1
def zpk (w : Nat) (o : Nat → Int32) : Nat := it (fun y b => it (fun x b => zpk1 o b (8 * y + x)) b w) 0 w
def zfill (c : Nat) (a b d e : Int32) (f : Nat → Int32) : Nat → Int32 := it (fun y f => it (fun x f => upd f (64 * c + 8 * y + x) (zcl (a + b * nI x + d * nI y + e * nI x * nI y))) f 8) f 8
end
section
set_option maxRecDepth 100000
theorem cv_in {x : Int32} {n : Nat} (hn : n < 2 ^ 31) (h0 : ¬ x < 0) (h1 : ¬ nI n ≤ x) : ∃ j : Nat, j < n ∧ x = nI j := by
  obtain ⟨j, hj, rfl⟩ := nI_of h0
  exact ⟨j, Nat.lt_of_not_le (fun q => h1 (nI_le q hj)), rfl⟩
theorem cv_inl {x : Int32} {n : Nat} (hn : n < 2 ^ 31) (h0 : ¬ x < 0) (h1 : x < nI n) : ∃ j : Nat, j < n ∧ x = nI j := by
  obtain ⟨j, hj, rfl⟩ := nI_of h0
  exact ⟨j, (nI_ltI hj hn).mp h1, rfl⟩
theorem cv_ile {x : Int32} {n : Nat} (hn : n < 2 ^ 31) (h0 : ¬ x < 0) (h1 : x ≤ nI n) : ∃ j : Nat, j ≤ n ∧ x = nI j := by
  obtain ⟨j, hj, rfl⟩ := nI_of h0
  exact ⟨j, (nI_leI hj hn).mp h1, rfl⟩
theorem cv_ige {x : Int32} {n : Nat} (hn : n < 2 ^ 31) (h0 : ¬ x < 0) (h1 : ¬ nI n < x) : ∃ j : Nat, j ≤ n ∧ x = nI j := by
  obtain ⟨j, hj, rfl⟩ := nI_of h0
  exact ⟨j, Nat.le_of_not_lt (fun q => h1 (nI_lt q hj)), rfl⟩
theorem cv_n1 {x : Int32} (h : ¬ x < nI 1) : ¬ x < 0 := fun q => h (Int32.lt_trans q (by decide))
theorem zpw_s (a : Int32) (n i : Nat) : zpw a n (i + 1) = (if n / 2 ^ i % 2 = 1 then rmd ((zpw a n i).1 * (zpw a n i).2) P7 else (zpw a n i).1, rmd ((zpw a n i).2 * (zpw a n i).2) P7) := rfl
def zwv (n : Int32) (ch : Nat) : Int32 × Nat := if n < 0 then (bad, ch) else if n ≤ nI 3 then (nI 0, n.toNatClampNeg) else (bad, ch)
def zshp (s m : Int32) (st mg : Nat) : Int32 × Nat × Nat := if s < nI 1 then (bad, st, mg) else if nI 2 < s then (bad, st, mg) else if m < 0 then (bad, st, mg) else if m ≤ nI 1 then (nI (zwid s.toNatClampNeg m.toNatClampNeg), s.toNatClampNeg, m.toNatClampNeg) else (bad, st, mg)
abbrev rX0_clamp : Room := { frames := 0, cells := 0, slots := 0, locals := 0 }
set_option maxHeartbeats 4000000 in
set_option maxRecDepth 100000 in
/-- clamp(x) -/
theorem mX0_clamp (l : Launch) {S : gS} {x : Int32} : DX l yX0_clamp cX0_clamp 2 rX0_clamp 0 len0 [.int x] (S) (zcl x) (S) := by
  refine dx_of cl0 rfl (by decide) (List.forall_mem_cons.mpr ⟨rfl, fun _ h => absurd h List.not_mem_nil⟩) (Nat.le_of_ble_eq_true rfl) ?_
  intro h ad G X
  refine cv_iload_n X dX0_clamp_0 rfl ?_
  refine cv_bipush X (v := (-20)) dX0_clamp_1 (by decide) ?_
  refine cv_icmp_ge X 9 dX0_clamp_3 (by decide) (fun b3 => ?_) (fun b3 => ?_)
  · skip
    refine cv_iload_n X dX0_clamp_9 rfl ?_
    refine cv_bipush X (v := nI 20) dX0_clamp_10 (by decide) ?_
    refine cv_icmp_le X 20 dX0_clamp_12 (by decide) (fun b12 => ?_) (fun b12 => ?_)
    · skip
      refine cv_iload_n X dX0_clamp_20 rfl ?_
      exact cv_ireturn X dX0_clamp_21 ⟨by simp only [zcl, if_pos b3, if_pos b12], rfl⟩
    · skip
      refine cv_bipush X (v := nI 20) dX0_clamp_15 (by decide) ?_
      refine cv_goto X (tgt := 21) dX0_clamp_17 (by decide) ?_
      exact cv_ireturn X dX0_clamp_21 ⟨by simp only [zcl, if_pos b3, if_neg b12], rfl⟩
  · skip
    refine cv_bipush X (v := (-20)) dX0_clamp_6 (by decide) ?_
    exact cv_ireturn X dX0_clamp_8 ⟨by simp only [zcl, if_neg b3], rfl⟩
abbrev rX0_put : Room := { frames := 0, cells := 0, slots := 0, locals := 0 }
set_option maxHeartbeats 4000000 in
set_option maxRecDepth 100000 in
/-- put(p, v) -/
theorem mX0_put (l : Launch) {pi ke : Nat → Int32} {st mg ch wd : Nat} {ou pc hf sh pr pl ot tt li ro ba wi : Nat → Int32} {p v : Int32} : DX l yX0_put cX0_put 4 rX0_put 0 len0 [.int p, .int v] (xs pi ke st mg ch wd ou pc hf sh pr pl ot tt li ro ba wi) ((zput pi (nI 127) (-20) (nI 20) p v).1) (xs ((zput pi (nI 127) (-20) (nI 20) p v).2) ke st mg ch wd ou pc hf sh pr pl ot tt li ro ba wi) := by
  refine dx_of cl0 rfl (by decide) (List.forall_mem_cons.mpr ⟨rfl, List.forall_mem_cons.mpr ⟨rfl, fun _ h => absurd h List.not_mem_nil⟩⟩) (Nat.le_of_ble_eq_true rfl) ?_
  intro h ad G X
  refine cv_iload_n X dX0_put_0 rfl ?_
  refine cv_if_lt X 22 dX0_put_1 (by decide) (fun b1 => ?_) (fun b1 => ?_)
  · skip
    refine cv_ldc X q99 dX0_put_22 ?_
    exact cv_ireturn X dX0_put_24 ⟨by simp only [zput, if_pos b1], by simp only [zput, if_pos b1]⟩
  · skip
    refine cv_iload_n X dX0_put_4 rfl ?_
    refine cv_bipush X (v := nI 127) dX0_put_5 (by decide) ?_
    refine cv_icmp_gt X 22 dX0_put_7 (by decide) (fun b7 => ?_) (fun b7 => ?_)
    · skip
      refine cv_ldc X q99 dX0_put_22 ?_
      exact cv_ireturn X dX0_put_24 ⟨by simp only [zput, if_neg b1, if_pos b7], by simp only [zput, if_neg b1, if_pos b7]⟩
    · skip
      refine cv_iload_n X dX0_put_10 rfl ?_
      refine cv_bipush X (v := (-20)) dX0_put_11 (by decide) ?_
      refine cv_icmp_lt X 22 dX0_put_13 (by decide) (fun b13 => ?_) (fun b13 => ?_)
      · skip
        refine cv_ldc X q99 dX0_put_22 ?_
        exact cv_ireturn X dX0_put_24 ⟨by simp only [zput, if_neg b1, if_neg b7, if_pos b13], by simp only [zput, if_neg b1, if_neg b7, if_pos b13]⟩
      · skip
        refine cv_iload_n X dX0_put_16 rfl ?_
        refine cv_bipush X (v := nI 20) dX0_put_17 (by decide) ?_
        refine cv_icmp_le X 25 dX0_put_19 (by decide) (fun b19 => ?_) (fun b19 => ?_)
        · skip
          obtain ⟨j, hj, rfl⟩ := cv_ige (by decide) b1 b7
          have hcl := nI_clamp (show j < 2 ^ 31 by omega)
          refine cv_aload_n X dX0_put_25 rfl ?_
          refine cv_getA X 0 q39 (by decide) rfl rfl dX0_put_26 ?_
          refine cv_iload_n X dX0_put_29 rfl ?_
          refine cv_iald X 128 rfl rfl (by omega) dX0_put_30 ?_
          refine cv_istore_n X (lv' := [_, _, _, _]) dX0_put_31 (by decide) rfl ?_
          refine cv_aload_n X dX0_put_32 rfl ?_
          refine cv_getA X 0 q39 (by decide) rfl rfl dX0_put_33 ?_
          refine cv_iload_n X dX0_put_36 rfl ?_
          refine cv_iload_n X dX0_put_37 rfl ?_
          refine cv_iast X 128 (S' := [_, _, _, _, _, _, _, _, _, _, _, _, _, _, _, _, _, _]) rfl rfl (by omega) rfl dX0_put_38 ?_
          refine cv_iload_n X dX0_put_39 rfl ?_
          exact cv_ireturn X dX0_put_40 ⟨by simp only [zput, if_neg b1, if_neg b7, if_neg b13, if_pos b19, hcl], by simp only [zput, if_neg b1, if_neg b7, if_neg b13, if_pos b19, hcl]⟩
        · skip
          refine cv_ldc X q99 dX0_put_22 ?_
          exact cv_ireturn X dX0_put_24 ⟨by simp only [zput, if_neg b1, if_neg b7, if_neg b13, if_neg b19], by simp only [zput, if_neg b1, if_neg b7, if_neg b13, if_neg b19]⟩
abbrev rX0_kernel : Room := { frames := 0, cells := 0, slots := 0, locals := 0 }
set_option maxHeartbeats 4000000 in
set_option maxRecDepth 100000 in
/-- kernel(p, v) -/
theorem mX0_kernel (l : Launch) {pi ke : Nat → Int32} {st mg ch wd : Nat} {ou pc hf sh pr pl ot tt li ro ba wi : Nat → Int32} {p v : Int32} : DX l yX0_kernel cX0_kernel 4 rX0_kernel 0 len0 [.int p, .int v] (xs pi ke st mg ch wd ou pc hf sh pr pl ot tt li ro ba wi) ((zput ke (nI 17) (-9) (nI 9) p v).1) (xs pi ((zput ke (nI 17) (-9) (nI 9) p v).2) st mg ch wd ou pc hf sh pr pl ot tt li ro ba wi) := by
  refine dx_of cl0 rfl (by decide) (List.forall_mem_cons.mpr ⟨rfl, List.forall_mem_cons.mpr ⟨rfl, fun _ h => absurd h List.not_mem_nil⟩⟩) (Nat.le_of_ble_eq_true rfl) ?_
  intro h ad G X
  refine cv_iload_n X dX0_kernel_0 rfl ?_
  refine cv_if_lt X 22 dX0_kernel_1 (by decide) (fun b1 => ?_) (fun b1 => ?_)
  · skip
    refine cv_ldc X q99 dX0_kernel_22 ?_
    exact cv_ireturn X dX0_kernel_24 ⟨by simp only [zput, if_pos b1], by simp only [zput, if_pos b1]⟩
  · skip
    refine cv_iload_n X dX0_kernel_4 rfl ?_
    refine cv_bipush X (v := nI 17) dX0_kernel_5 (by decide) ?_
    refine cv_icmp_gt X 22 dX0_kernel_7 (by decide) (fun b7 => ?_) (fun b7 => ?_)
    · skip
      refine cv_ldc X q99 dX0_kernel_22 ?_
      exact cv_ireturn X dX0_kernel_24 ⟨by simp only [zput, if_neg b1, if_pos b7], by simp only [zput, if_neg b1, if_pos b7]⟩
    · skip
      refine cv_iload_n X dX0_kernel_10 rfl ?_
      refine cv_bipush X (v := (-9)) dX0_kernel_11 (by decide) ?_
      refine cv_icmp_lt X 22 dX0_kernel_13 (by decide) (fun b13 => ?_) (fun b13 => ?_)
      · skip
        refine cv_ldc X q99 dX0_kernel_22 ?_
        exact cv_ireturn X dX0_kernel_24 ⟨by simp only [zput, if_neg b1, if_neg b7, if_pos b13], by simp only [zput, if_neg b1, if_neg b7, if_pos b13]⟩
      · skip
        refine cv_iload_n X dX0_kernel_16 rfl ?_
        refine cv_bipush X (v := nI 9) dX0_kernel_17 (by decide) ?_
        refine cv_icmp_le X 25 dX0_kernel_19 (by decide) (fun b19 => ?_) (fun b19 => ?_)
        · skip
          obtain ⟨j, hj, rfl⟩ := cv_ige (by decide) b1 b7
          have hcl := nI_clamp (show j < 2 ^ 31 by omega)
          refine cv_aload_n X dX0_kernel_25 rfl ?_
          refine cv_getA X 1 q40 (by decide) rfl rfl dX0_kernel_26 ?_
          refine cv_iload_n X dX0_kernel_29 rfl ?_
          refine cv_iald X 18 rfl rfl (by omega) dX0_kernel_30 ?_
          refine cv_istore_n X (lv' := [_, _, _, _]) dX0_kernel_31 (by decide) rfl ?_
          refine cv_aload_n X dX0_kernel_32 rfl ?_
          refine cv_getA X 1 q40 (by decide) rfl rfl dX0_kernel_33 ?_
          refine cv_iload_n X dX0_kernel_36 rfl ?_
          refine cv_iload_n X dX0_kernel_37 rfl ?_
          refine cv_iast X 18 (S' := [_, _, _, _, _, _, _, _, _, _, _, _, _, _, _, _, _, _]) rfl rfl (by omega) rfl dX0_kernel_38 ?_
          refine cv_iload_n X dX0_kernel_39 rfl ?_
          exact cv_ireturn X dX0_kernel_40 ⟨by simp only [zput, if_neg b1, if_neg b7, if_neg b13, if_pos b19, hcl], by simp only [zput, if_neg b1, if_neg b7, if_neg b13, if_pos b19, hcl]⟩
        · skip
          refine cv_ldc X q99 dX0_kernel_22 ?_
          exact cv_ireturn X dX0_kernel_24 ⟨by simp only [zput, if_neg b1, if_neg b7, if_neg b13, if_neg b19], by simp only [zput, if_neg b1, if_neg b7, if_neg b13, if_neg b19]⟩
abbrev rX0_pixel : Room := { frames := 0, cells := 0, slots := 0, locals := 0 }
set_option maxHeartbeats 4000000 in
set_option maxRecDepth 100000 in
/-- pixel(p) -/
theorem mX0_pixel (l : Launch) {pi ke : Nat → Int32} {st mg ch wd : Nat} {ou pc hf sh pr pl ot tt li ro ba wi : Nat → Int32} {p : Int32} : DX l yX0_pixel cX0_pixel 2 rX0_pixel 0 len0 [.int p] (xs pi ke st mg ch wd ou pc hf sh pr pl ot tt li ro ba wi) (zpix pi p) (xs pi ke st mg ch wd ou pc hf sh pr pl ot tt li ro ba wi) := by
  refine dx_of cl0 rfl (by decide) (List.forall_mem_cons.mpr ⟨rfl, fun _ h => absurd h List.not_mem_nil⟩) (Nat.le_of_ble_eq_true rfl) ?_
  intro h ad G X
  refine cv_iload_n X dX0_pixel_0 rfl ?_
  refine cv_if_lt X 10 dX0_pixel_1 (by decide) (fun b1 => ?_) (fun b1 => ?_)
  · skip
    refine cv_ldc X q99 dX0_pixel_10 ?_
    refine cv_goto X (tgt := 21) dX0_pixel_12 (by decide) ?_
    exact cv_ireturn X dX0_pixel_21 ⟨by first | (simp only [zpix, if_pos b1]; done) | simp only [zpix, if_pos b1, hcl], rfl⟩
  · skip
    refine cv_iload_n X dX0_pixel_4 rfl ?_
    refine cv_bipush X (v := nI 127) dX0_pixel_5 (by decide) ?_
    refine cv_icmp_le X 15 dX0_pixel_7 (by decide) (fun b7 => ?_) (fun b7 => ?_)
    · skip
      obtain ⟨j, hj, rfl⟩ := cv_ile (by decide) b1 b7
      have hcl := nI_clamp (show j < 2 ^ 31 by omega)
      refine cv_aload_n X dX0_pixel_15 rfl ?_
      refine cv_getA X 0 q39 (by decide) rfl rfl dX0_pixel_16 ?_
      refine cv_iload_n X dX0_pixel_19 rfl ?_
      refine cv_iald X 128 rfl rfl (by omega) dX0_pixel_20 ?_
      exact cv_ireturn X dX0_pixel_21 ⟨by first | (simp only [zpix, if_neg b1, if_pos b7]; done) | simp only [zpix, if_neg b1, if_pos b7, hcl], rfl⟩
    · skip
      refine cv_ldc X q99 dX0_pixel_10 ?_
      refine cv_goto X (tgt := 21) dX0_pixel_12 (by decide) ?_
      exact cv_ireturn X dX0_pixel_21 ⟨by first | (simp only [zpix, if_neg b1, if_neg b7]; done) | simp only [zpix, if_neg b1, if_neg b7, hcl], rfl⟩
abbrev rX0_widthNow : Room := { frames := 0, cells := 0, slots := 0, locals := 0 }
set_option maxHeartbeats 4000000 in
set_option maxRecDepth 100000 in
/-- widthNow() -/
theorem mX0_widthNow (l : Launch) {pi ke : Nat → Int32} {st mg ch wd : Nat} {ou pc hf sh pr pl ot tt li ro ba wi : Nat → Int32} (hst : st = 1 ∨ st = 2) (hmg : mg ≤ 1) : DX l yX0_widthNow cX0_widthNow 2 rX0_widthNow 0 len0 [] (xs pi ke st mg ch wd ou pc hf sh pr pl ot tt li ro ba wi) (nI (zwid st mg)) (xs pi ke st mg ch wd ou pc hf sh pr pl ot tt li ro ba wi) := by
  refine dx_of cl0 rfl (by decide) (fun _ h => absurd h List.not_mem_nil) (Nat.le_of_ble_eq_true rfl) ?_
  intro h ad G X
  refine cv_bipush X (v := nI 8) dX0_widthNow_0 (by decide) ?_
  refine cv_iconst X (v := nI 2) dX0_widthNow_2 (by decide) ?_
  refine cv_aload_n X dX0_widthNow_3 rfl ?_
  refine cv_getI X 3 q42 (by decide) rfl rfl dX0_widthNow_4 ?_
  refine cv_imulN X dX0_widthNow_7 ?_
  refine cv_iaddN X dX0_widthNow_8 ?_
  refine cv_iconst X (v := nI 3) dX0_widthNow_9 (by decide) ?_
  refine cv_isubN X (by omega) dX0_widthNow_10 ?_
  refine cv_istore_n X (lv' := [_, _]) dX0_widthNow_11 (by decide) rfl ?_
  refine cv_aload_n X dX0_widthNow_12 rfl ?_
  refine cv_getI X 2 q41 (by decide) rfl rfl dX0_widthNow_13 ?_
  refine cv_iconst X (v := nI 1) dX0_widthNow_16 (by decide) ?_
  refine cv_icmp_neN X 24 (by omega) (by omega) dX0_widthNow_17 (by decide) (fun b17 => ?_) (fun b17 => ?_)
  · skip
    refine cv_iload_n X dX0_widthNow_24 rfl ?_
    refine cv_iconst X (v := nI 1) dX0_widthNow_25 (by decide) ?_
    refine cv_ishrN X (by omega) (by omega) dX0_widthNow_26 ?_
    refine cv_iconst X (v := nI 1) dX0_widthNow_27 (by decide) ?_
    refine cv_iaddN X dX0_widthNow_28 ?_
    exact cv_ireturn X dX0_widthNow_29 ⟨by first | (simp only [zwid, b17, Nat.div_one]; done) | (rw [show st = 2 by omega]; rfl), rfl⟩
  · skip
    refine cv_iload_n X dX0_widthNow_20 rfl ?_
    refine cv_goto X (tgt := 27) dX0_widthNow_21 (by decide) ?_
    refine cv_iconst X (v := nI 1) dX0_widthNow_27 (by decide) ?_
    refine cv_iaddN X dX0_widthNow_28 ?_
    exact cv_ireturn X dX0_widthNow_29 ⟨by first | (simp only [zwid, b17, Nat.div_one]; done) | (rw [show st = 2 by omega]; rfl), rfl⟩
abbrev rX0_shape : Room := { frames := 1, cells := 0, slots := 0, locals := 21 }
set_option maxHeartbeats 4000000 in
set_option maxRecDepth 100000 in
/-- shape(s, m) -/
theorem mX0_shape (l : Launch) {pi ke : Nat → Int32} {st mg ch wd : Nat} {ou pc hf sh pr pl ot tt li ro ba wi : Nat → Int32} {s m : Int32} : DX l yX0_shape cX0_shape 3 rX0_shape 0 len0 [.int s, .int m] (xs pi ke st mg ch wd ou pc hf sh pr pl ot tt li ro ba wi) ((zshp s m st mg).1) (xs pi ke ((zshp s m st mg).2.1) ((zshp s m st mg).2.2) ch wd ou pc hf sh pr pl ot tt li ro ba wi) := by
  refine dx_of cl0 rfl (by decide) (List.forall_mem_cons.mpr ⟨rfl, List.forall_mem_cons.mpr ⟨rfl, fun _ h => absurd h List.not_mem_nil⟩⟩) (Nat.le_of_ble_eq_true rfl) ?_
  intro h ad G X
  refine cv_iload_n X dX0_shape_0 rfl ?_
  refine cv_iconst X (v := nI 1) dX0_shape_1 (by decide) ?_
  refine cv_icmp_lt X 19 dX0_shape_2 (by decide) (fun b2 => ?_) (fun b2 => ?_)
  · skip
    refine cv_ldc X q99 dX0_shape_19 ?_
    exact cv_ireturn X dX0_shape_21 ⟨by simp only [zshp, if_pos b2], by simp only [zshp, if_pos b2]⟩
  · skip
    refine cv_iload_n X dX0_shape_5 rfl ?_
    refine cv_iconst X (v := nI 2) dX0_shape_6 (by decide) ?_
    refine cv_icmp_gt X 19 dX0_shape_7 (by decide) (fun b7 => ?_) (fun b7 => ?_)
    · skip
      refine cv_ldc X q99 dX0_shape_19 ?_
      exact cv_ireturn X dX0_shape_21 ⟨by simp only [zshp, if_neg b2, if_pos b7], by simp only [zshp, if_neg b2, if_pos b7]⟩
    · skip
      refine cv_iload_n X dX0_shape_10 rfl ?_
      refine cv_if_lt X 19 dX0_shape_11 (by decide) (fun b11 => ?_) (fun b11 => ?_)
      · skip
        refine cv_ldc X q99 dX0_shape_19 ?_
        exact cv_ireturn X dX0_shape_21 ⟨by simp only [zshp, if_neg b2, if_neg b7, if_pos b11], by simp only [zshp, if_neg b2, if_neg b7, if_pos b11]⟩
      · skip
        refine cv_iload_n X dX0_shape_14 rfl ?_
        refine cv_iconst X (v := nI 1) dX0_shape_15 (by decide) ?_
        refine cv_icmp_le X 22 dX0_shape_16 (by decide) (fun b16 => ?_) (fun b16 => ?_)
        · skip
          obtain ⟨a, ha, rfl⟩ := cv_ige (by decide) (cv_n1 b2) b7
          obtain ⟨b, hb, rfl⟩ := cv_ile (by decide) b11 b16
          have ha1 : 1 ≤ a := Nat.le_of_not_lt (fun q => b2 (nI_lt q (by decide)))
          have hcl := nI_clamp (show a < 2 ^ 31 by omega)
          have hcl2 := nI_clamp (show b < 2 ^ 31 by omega)
          refine cv_aload_n X dX0_shape_22 rfl ?_
          refine cv_iload_n X dX0_shape_23 rfl ?_
          refine cv_putI X 2 (S' := [_, _, _, _, _, _, _, _, _, _, _, _, _, _, _, _, _, _]) q41 (by decide) rfl rfl (by decide +kernel) rfl rfl dX0_shape_24 ?_
          refine cv_aload_n X dX0_shape_27 rfl ?_
          refine cv_iload_n X dX0_shape_28 rfl ?_
          refine cv_putI X 3 (S' := [_, _, _, _, _, _, _, _, _, _, _, _, _, _, _, _, _, _]) q42 (by decide) rfl rfl (by decide +kernel) rfl rfl dX0_shape_29 ?_
          refine cv_aload_n X dX0_shape_32 rfl ?_
          refine cv_calli X (mX0_widthNow l (by omega) (by omega)) wX0_widthNow 0 hX0_widthNow rfl ⟨rfl, rfl⟩ ⟨by decide, by decide⟩ rfl (Nat.le_of_ble_eq_true rfl) dX0_shape_33 ?_
          exact cv_ireturn X dX0_shape_36 ⟨by simp only [zshp, if_neg b2, if_neg b7, if_neg b11, if_pos b16, hcl, hcl2], by simp only [zshp, if_neg b2, if_neg b7, if_neg b11, if_pos b16, hcl, hcl2]⟩
        · skip
          refine cv_ldc X q99 dX0_shape_19 ?_
          exact cv_ireturn X dX0_shape_21 ⟨by simp only [zshp, if_neg b2, if_neg b7, if_neg b11, if_neg b16], by simp only [zshp, if_neg b2, if_neg b7, if_neg b11, if_neg b16]⟩
abbrev rX0_at : Room := { frames := 0, cells := 0, slots := 0, locals := 0 }
set_option maxHeartbeats 4000000 in
set_option maxRecDepth 100000 in
/-- at(c, x, y) -/
theorem mX0_at (l : Launch) {pi ke : Nat → Int32} {st mg ch wd : Nat} {ou pc hf sh pr pl ot tt li ro ba wi : Nat → Int32} {c : Nat} (hc : c < 2) {x y : Int32} : DX l yX0_at cX0_at 4 rX0_at 0 len0 [.int (nI c), .int x, .int y] (xs pi ke st mg ch wd ou pc hf sh pr pl ot tt li ro ba wi) (zat pi c x y) (xs pi ke st mg ch wd ou pc hf sh pr pl ot tt li ro ba wi) := by
  refine dx_of cl0 rfl (by decide) (List.forall_mem_cons.mpr ⟨rfl, List.forall_mem_cons.mpr ⟨rfl, List.forall_mem_cons.mpr ⟨rfl, fun _ h => absurd h List.not_mem_nil⟩⟩⟩) (Nat.le_of_ble_eq_true rfl) ?_
  intro h ad G X
  refine cv_iload_n X dX0_at_0 rfl ?_
  refine cv_if_lt X 20 dX0_at_1 (by decide) (fun b1 => ?_) (fun b1 => ?_)
  · skip
    refine cv_iconst X (v := nI 0) dX0_at_20 (by decide) ?_
    exact cv_ireturn X dX0_at_21 ⟨by simp only [zat, if_pos b1], rfl⟩
  · skip
    refine cv_iload_n X dX0_at_4 rfl ?_
    refine cv_bipush X (v := nI 8) dX0_at_5 (by decide) ?_
    refine cv_icmp_ge X 20 dX0_at_7 (by decide) (fun b7 => ?_) (fun b7 => ?_)
    · skip
      refine cv_iconst X (v := nI 0) dX0_at_20 (by decide) ?_
      exact cv_ireturn X dX0_at_21 ⟨by simp only [zat, if_neg b1, if_pos b7], rfl⟩
    · skip
      refine cv_iload_n X dX0_at_10 rfl ?_
      refine cv_if_lt X 20 dX0_at_11 (by decide) (fun b11 => ?_) (fun b11 => ?_)
      · skip
        refine cv_iconst X (v := nI 0) dX0_at_20 (by decide) ?_
        exact cv_ireturn X dX0_at_21 ⟨by simp only [zat, if_neg b1, if_neg b7, if_pos b11], rfl⟩
      · skip
        refine cv_iload_n X dX0_at_14 rfl ?_
        refine cv_bipush X (v := nI 8) dX0_at_15 (by decide) ?_
        refine cv_icmp_lt X 22 dX0_at_17 (by decide) (fun b17 => ?_) (fun b17 => ?_)
        · skip
          obtain ⟨i, hi, rfl⟩ := cv_in (by decide) b1 b7
          obtain ⟨j, hj, rfl⟩ := cv_inl (by decide) b11 b17
          have hcl := nI_clamp (show i < 2 ^ 31 by omega)
          have hcl2 := nI_clamp (show j < 2 ^ 31 by omega)
          refine cv_aload_n X dX0_at_22 rfl ?_
          refine cv_getA X 0 q39 (by decide) rfl rfl dX0_at_23 ?_
          refine cv_bipush X (v := nI 64) dX0_at_26 (by decide) ?_
          refine cv_iload_n X dX0_at_28 rfl ?_
          refine cv_imulN X dX0_at_29 ?_
          refine cv_bipush X (v := nI 8) dX0_at_30 (by decide) ?_
          refine cv_iload_n X dX0_at_32 rfl ?_
          refine cv_imulN X dX0_at_33 ?_
          refine cv_iaddN X dX0_at_34 ?_
          refine cv_iload_n X dX0_at_35 rfl ?_
          refine cv_iaddN X dX0_at_36 ?_
          refine cv_iald X 128 rfl rfl (by omega) dX0_at_37 ?_
          exact cv_ireturn X dX0_at_38 ⟨by simp only [zat, if_neg b1, if_neg b7, if_neg b11, if_pos b17, hcl, hcl2], rfl⟩
        · skip
          refine cv_iconst X (v := nI 0) dX0_at_20 (by decide) ?_
          exact cv_ireturn X dX0_at_21 ⟨by simp only [zat, if_neg b1, if_neg b7, if_neg b11, if_neg b17], rfl⟩
abbrev rX0_shapeFour : Room := { frames := 0, cells := 0, slots := 0, locals := 0 }
set_option maxHeartbeats 4000000 in
set_option maxRecDepth 100000 in
/-- shapeFour(f, s) -/
theorem mX0_shapeFour (l : Launch) {pi ke : Nat → Int32} {st mg ch wd : Nat} {ou pc hf sh pr pl ot tt li ro ba wi : Nat → Int32} {f s : Nat} (hfs : f + 3 * s < 16) : DXv l yX0_shapeFour cX0_shapeFour 7 rX0_shapeFour 0 len0 [.int (nI f), .int (nI s)] (xs pi ke st mg ch wd ou pc hf sh pr pl ot tt li ro ba wi) (xs pi ke st mg ch wd ou (zfour pc f s) hf sh pr pl ot tt li ro ba wi) := by
  refine dxv_of cl0 rfl (by decide) (List.forall_mem_cons.mpr ⟨rfl, List.forall_mem_cons.mpr ⟨rfl, fun _ h => absurd h List.not_mem_nil⟩⟩) (Nat.le_of_ble_eq_true rfl) ?_
  intro h ad G X
  refine cv_aload_n X dX0_shapeFour_0 rfl ?_
  refine cv_getA X 7 q46 (by decide) rfl rfl dX0_shapeFour_1 ?_
  refine cv_iload_n X dX0_shapeFour_4 rfl ?_
  refine cv_iald X 16 rfl rfl (by omega) dX0_shapeFour_5 ?_
  refine cv_istore_n X (lv' := [_, _, _, _]) dX0_shapeFour_6 (by decide) rfl ?_
  refine cv_aload_n X dX0_shapeFour_7 rfl ?_
  refine cv_getA X 7 q46 (by decide) rfl rfl dX0_shapeFour_8 ?_
  refine cv_iload_n X dX0_shapeFour_11 rfl ?_
  refine cv_iload_n X dX0_shapeFour_12 rfl ?_
  refine cv_iaddN X dX0_shapeFour_13 ?_
  refine cv_iald X 16 rfl rfl (by omega) dX0_shapeFour_14 ?_
  refine cv_istore X (lv' := [_, _, _, _, _]) dX0_shapeFour_15 (by decide) rfl ?_
  refine cv_aload_n X dX0_shapeFour_17 rfl ?_
  refine cv_getA X 7 q46 (by decide) rfl rfl dX0_shapeFour_18 ?_
  refine cv_iload_n X dX0_shapeFour_21 rfl ?_
  refine cv_iconst X (v := nI 2) dX0_shapeFour_22 (by decide) ?_
  refine cv_iload_n X dX0_shapeFour_23 rfl ?_
  refine cv_imulN X dX0_shapeFour_24 ?_
  refine cv_iaddN X dX0_shapeFour_25 ?_
  refine cv_iald X 16 rfl rfl (by omega) dX0_shapeFour_26 ?_
  refine cv_istore X (lv' := [_, _, _, _, _, _]) dX0_shapeFour_27 (by decide) rfl ?_
  refine cv_aload_n X dX0_shapeFour_29 rfl ?_
  refine cv_getA X 7 q46 (by decide) rfl rfl dX0_shapeFour_30 ?_
  refine cv_iload_n X dX0_shapeFour_33 rfl ?_
  refine cv_iconst X (v := nI 3) dX0_shapeFour_34 (by decide) ?_
  refine cv_iload_n X dX0_shapeFour_35 rfl ?_
  refine cv_imulN X dX0_shapeFour_36 ?_
  refine cv_iaddN X dX0_shapeFour_37 ?_
  refine cv_iald X 16 rfl rfl (by omega) dX0_shapeFour_38 ?_
  refine cv_istore X (lv' := [_, _, _, _, _, _, _]) dX0_shapeFour_39 (by decide) rfl ?_
  refine cv_aload_n X dX0_shapeFour_41 rfl ?_
  refine cv_getA X 7 q46 (by decide) rfl rfl dX0_shapeFour_42 ?_
  refine cv_iload_n X dX0_shapeFour_45 rfl ?_
  refine cv_iload_n X dX0_shapeFour_46 rfl ?_
  refine cv_iload X dX0_shapeFour_47 rfl ?_
  refine cv_isub X dX0_shapeFour_49 ?_
  refine cv_iast X 16 (S' := [_, _, _, _, _, _, _, _, _, _, _, _, _, _, _, _, _, _]) rfl rfl (by omega) rfl dX0_shapeFour_50 ?_
  refine cv_aload_n X dX0_shapeFour_51 rfl ?_
  refine cv_getA X 7 q46 (by decide) rfl rfl dX0_shapeFour_52 ?_
  refine cv_iload_n X dX0_shapeFour_55 rfl ?_
  refine cv_iload_n X dX0_shapeFour_56 rfl ?_
  refine cv_iaddN X dX0_shapeFour_57 ?_
  refine cv_iload X dX0_shapeFour_58 rfl ?_
  refine cv_iload X dX0_shapeFour_60 rfl ?_
  refine cv_iadd X dX0_shapeFour_62 ?_
  refine cv_iast X 16 (S' := [_, _, _, _, _, _, _, _, _, _, _, _, _, _, _, _, _, _]) rfl rfl (by omega) rfl dX0_shapeFour_63 ?_
  refine cv_aload_n X dX0_shapeFour_64 rfl ?_
  refine cv_getA X 7 q46 (by decide) rfl rfl dX0_shapeFour_65 ?_
  refine cv_iload_n X dX0_shapeFour_68 rfl ?_
  refine cv_iconst X (v := nI 2) dX0_shapeFour_69 (by decide) ?_
  refine cv_iload_n X dX0_shapeFour_70 rfl ?_
  refine cv_imulN X dX0_shapeFour_71 ?_
  refine cv_iaddN X dX0_shapeFour_72 ?_
  refine cv_iload X dX0_shapeFour_73 rfl ?_
  refine cv_iload X dX0_shapeFour_75 rfl ?_
  refine cv_isub X dX0_shapeFour_77 ?_
  refine cv_iast X 16 (S' := [_, _, _, _, _, _, _, _, _, _, _, _, _, _, _, _, _, _]) rfl rfl (by omega) rfl dX0_shapeFour_78 ?_
  refine cv_aload_n X dX0_shapeFour_79 rfl ?_
  refine cv_getA X 7 q46 (by decide) rfl rfl dX0_shapeFour_80 ?_
  refine cv_iload_n X dX0_shapeFour_83 rfl ?_
  refine cv_iconst X (v := nI 3) dX0_shapeFour_84 (by decide) ?_
  refine cv_iload_n X dX0_shapeFour_85 rfl ?_
  refine cv_imulN X dX0_shapeFour_86 ?_
  refine cv_iaddN X dX0_shapeFour_87 ?_
  refine cv_iload X dX0_shapeFour_88 rfl ?_
  refine cv_iload X dX0_shapeFour_90 rfl ?_
  refine cv_isub X dX0_shapeFour_92 ?_
  refine cv_iast X 16 (S' := [_, _, _, _, _, _, _, _, _, _, _, _, _, _, _, _, _, _]) rfl rfl (by omega) rfl dX0_shapeFour_93 ?_
  exact cv_return X dX0_shapeFour_94 ⟨rfl, rfl⟩
abbrev rX0_shapeKernel : Room := { frames := 0, cells := 0, slots := 0, locals := 0 }
set_option maxHeartbeats 4000000 in
set_option maxRecDepth 100000 in
/-- shapeKernel(c) -/
theorem mX0_shapeKernel (l : Launch) {pi ke : Nat → Int32} {st mg ch wd : Nat} {ou pc hf sh pr pl ot tt li ro ba wi : Nat → Int32} {c : Nat} (hc : c < 2) : DXv l yX0_shapeKernel cX0_shapeKernel 6 rX0_shapeKernel 0 len0 [.int (nI c)] (xs pi ke st mg ch wd ou pc hf sh pr pl ot tt li ro ba wi) (xs pi ke st mg ch wd ou pc (zhs ke c hf) (zss (zhs ke c hf) sh) pr pl ot tt li ro ba wi) := by
  refine dxv_of cl0 rfl (by decide) (List.forall_mem_cons.mpr ⟨rfl, fun _ h => absurd h List.not_mem_nil⟩) (Nat.le_of_ble_eq_true rfl) ?_
  intro h ad G X
  refine cv_iconst X (v := nI 0) dX0_shapeKernel_0 (by decide) ?_
  refine cv_istore_n X (lv' := [_, _, _]) dX0_shapeKernel_1 (by decide) rfl ?_
  refine up_loop0 (P := fun j1 => G (xs pi ke st mg ch wd ou pc (it (zhalf ke c) hf j1) sh pr pl ot tt li ro ba wi) 2 [.ref h, .int (nI c), .int (nI j1)] []) (3) ?_ ?_
  · show G (xs pi ke st mg ch wd ou pc (it (zhalf ke c) hf (3)) sh pr pl ot tt li ro ba wi) 2 [.ref h, .int (nI c), .int (nI (3))] []
    refine cv_iload_n X dX0_shapeKernel_2 rfl ?_
    refine cv_iconst X (v := nI 3) dX0_shapeKernel_3 (by decide) ?_
    refine cv_icmp_geT X 120 (by omega) (by omega) dX0_shapeKernel_4 (by decide) (by omega) ?_
    refine cv_iconst X (v := nI 0) dX0_shapeKernel_120 (by decide) ?_
    refine cv_istore_n X (lv' := [_, _, _]) dX0_shapeKernel_121 (by decide) rfl ?_
    refine up_loop0 (P := fun i2 => G (xs pi ke st mg ch wd ou pc (zhs ke c hf) (it (zshaped (zhs ke c hf)) sh i2) pr pl ot tt li ro ba wi) 122 [.ref h, .int (nI c), .int (nI i2)] []) (4) ?_ ?_
    · show G (xs pi ke st mg ch wd ou pc (zhs ke c hf) (it (zshaped (zhs ke c hf)) sh (4)) pr pl ot tt li ro ba wi) 122 [.ref h, .int (nI c), .int (nI (4))] []
      refine cv_iload_n X dX0_shapeKernel_122 rfl ?_
      refine cv_iconst X (v := nI 4) dX0_shapeKernel_123 (by decide) ?_
      refine cv_icmp_geT X 214 (by omega) (by omega) dX0_shapeKernel_124 (by decide) (by omega) ?_
      exact cv_return X dX0_shapeKernel_214 ⟨rfl, rfl⟩
    · intro i2 h_i2 ih_i2
      show G (xs pi ke st mg ch wd ou pc (zhs ke c hf) (it (zshaped (zhs ke c hf)) sh i2) pr pl ot tt li ro ba wi) 122 [.ref h, .int (nI c), .int (nI i2)] []
      refine cv_iload_n X dX0_shapeKernel_122 rfl ?_
      refine cv_iconst X (v := nI 4) dX0_shapeKernel_123 (by decide) ?_
      refine cv_icmp_geF X 214 (by omega) (by omega) dX0_shapeKernel_124 (by decide) (by omega) ?_
      refine cv_aload_n X dX0_shapeKernel_127 rfl ?_
      refine cv_getA X 8 q47 (by decide) rfl rfl dX0_shapeKernel_128 ?_
      refine cv_iload_n X dX0_shapeKernel_131 rfl ?_
      refine cv_iald X 16 rfl rfl (by omega) dX0_shapeKernel_132 ?_
      refine cv_istore_n X (lv' := [_, _, _, _]) dX0_shapeKernel_133 (by decide) rfl ?_
      refine cv_aload_n X dX0_shapeKernel_134 rfl ?_
      refine cv_getA X 8 q47 (by decide) rfl rfl dX0_shapeKernel_135 ?_
      refine cv_iconst X (v := nI 4) dX0_shapeKernel_138 (by decide) ?_
      refine cv_iload_n X dX0_shapeKernel_139 rfl ?_
      refine cv_iaddN X dX0_shapeKernel_140 ?_
      refine cv_iald X 16 rfl rfl (by omega) dX0_shapeKernel_141 ?_
      refine cv_istore X (lv' := [_, _, _, _, _]) dX0_shapeKernel_142 (by decide) rfl ?_
      refine cv_aload_n X dX0_shapeKernel_144 rfl ?_
      refine cv_getA X 8 q47 (by decide) rfl rfl dX0_shapeKernel_145 ?_
      refine cv_bipush X (v := nI 8) dX0_shapeKernel_148 (by decide) ?_
      refine cv_iload_n X dX0_shapeKernel_150 rfl ?_
      refine cv_iaddN X dX0_shapeKernel_151 ?_
      refine cv_iald X 16 rfl rfl (by omega) dX0_shapeKernel_152 ?_
      refine cv_istore X (lv' := [_, _, _, _, _, _]) dX0_shapeKernel_153 (by decide) rfl ?_
      refine cv_aload_n X dX0_shapeKernel_155 rfl ?_
      refine cv_getA X 9 q48 (by decide) rfl rfl dX0_shapeKernel_156 ?_
      refine cv_iload_n X dX0_shapeKernel_159 rfl ?_
      refine cv_iconst X (v := nI 2) dX0_shapeKernel_160 (by decide) ?_
      refine cv_iload_n X dX0_shapeKernel_161 rfl ?_
      refine cv_imul X dX0_shapeKernel_162 ?_
      refine cv_iast X 16 (S' := [_, _, _, _, _, _, _, _, _, _, _, _, _, _, _, _, _, _]) rfl rfl (by omega) rfl dX0_shapeKernel_163 ?_
      refine cv_aload_n X dX0_shapeKernel_164 rfl ?_
      refine cv_getA X 9 q48 (by decide) rfl rfl dX0_shapeKernel_165 ?_
      refine cv_iconst X (v := nI 4) dX0_shapeKernel_168 (by decide) ?_
      refine cv_iload_n X dX0_shapeKernel_169 rfl ?_
      refine cv_iaddN X dX0_shapeKernel_170 ?_
      refine cv_iload_n X dX0_shapeKernel_171 rfl ?_
      refine cv_iload X dX0_shapeKernel_172 rfl ?_
      refine cv_iadd X dX0_shapeKernel_174 ?_
      refine cv_iload X dX0_shapeKernel_175 rfl ?_
      refine cv_iadd X dX0_shapeKernel_177 ?_
      refine cv_iast X 16 (S' := [_, _, _, _, _, _, _, _, _, _, _, _, _, _, _, _, _, _]) rfl rfl (by omega) rfl dX0_shapeKernel_178 ?_
      refine cv_aload_n X dX0_shapeKernel_179 rfl ?_
      refine cv_getA X 9 q48 (by decide) rfl rfl dX0_shapeKernel_180 ?_
      refine cv_bipush X (v := nI 8) dX0_shapeKernel_183 (by decide) ?_
      refine cv_iload_n X dX0_shapeKernel_185 rfl ?_
      refine cv_iaddN X dX0_shapeKernel_186 ?_
      refine cv_iload_n X dX0_shapeKernel_187 rfl ?_
      refine cv_iload X dX0_shapeKernel_188 rfl ?_
      refine cv_isub X dX0_shapeKernel_190 ?_
      refine cv_iload X dX0_shapeKernel_191 rfl ?_
      refine cv_iadd X dX0_shapeKernel_193 ?_
      refine cv_iast X 16 (S' := [_, _, _, _, _, _, _, _, _, _, _, _, _, _, _, _, _, _]) rfl rfl (by omega) rfl dX0_shapeKernel_194 ?_
      refine cv_aload_n X dX0_shapeKernel_195 rfl ?_
      refine cv_getA X 9 q48 (by decide) rfl rfl dX0_shapeKernel_196 ?_
      refine cv_bipush X (v := nI 12) dX0_shapeKernel_199 (by decide) ?_
      refine cv_iload_n X dX0_shapeKernel_201 rfl ?_
      refine cv_iaddN X dX0_shapeKernel_202 ?_
      refine cv_iconst X (v := nI 2) dX0_shapeKernel_203 (by decide) ?_
      refine cv_iload X dX0_shapeKernel_204 rfl ?_
      refine cv_imul X dX0_shapeKernel_206 ?_
      refine cv_iast X 16 (S' := [_, _, _, _, _, _, _, _, _, _, _, _, _, _, _, _, _, _]) rfl rfl (by omega) rfl dX0_shapeKernel_207 ?_
      refine cv_iincN X (lv' := [_, _, _, _, _, _]) dX0_shapeKernel_208 (by decide) rfl rfl ?_
      refine cv_goto X (tgt := 122) dX0_shapeKernel_211 (by decide) ?_
      exact cv_take X 3 ih_i2
  · intro j1 h_j1 ih_j1
    show G (xs pi ke st mg ch wd ou pc (it (zhalf ke c) hf j1) sh pr pl ot tt li ro ba wi) 2 [.ref h, .int (nI c), .int (nI j1)] []
    refine cv_iload_n X dX0_shapeKernel_2 rfl ?_
    refine cv_iconst X (v := nI 3) dX0_shapeKernel_3 (by decide) ?_
    refine cv_icmp_geF X 120 (by omega) (by omega) dX0_shapeKernel_4 (by decide) (by omega) ?_
    refine cv_aload_n X dX0_shapeKernel_7 rfl ?_
    refine cv_getA X 1 q40 (by decide) rfl rfl dX0_shapeKernel_8 ?_
    refine cv_bipush X (v := nI 9) dX0_shapeKernel_11 (by decide) ?_
    refine cv_iload_n X dX0_shapeKernel_13 rfl ?_
    refine cv_imulN X dX0_shapeKernel_14 ?_
    refine cv_iconst X (v := nI 3) dX0_shapeKernel_15 (by decide) ?_
    refine cv_iload_n X dX0_shapeKernel_16 rfl ?_
    refine cv_imulN X dX0_shapeKernel_17 ?_
    refine cv_iaddN X dX0_shapeKernel_18 ?_
    refine cv_iald X 18 rfl rfl (by omega) dX0_shapeKernel_19 ?_
    refine cv_istore_n X (lv' := [_, _, _, _]) dX0_shapeKernel_20 (by decide) rfl ?_
    refine cv_aload_n X dX0_shapeKernel_21 rfl ?_
    refine cv_getA X 1 q40 (by decide) rfl rfl dX0_shapeKernel_22 ?_
    refine cv_bipush X (v := nI 9) dX0_shapeKernel_25 (by decide) ?_
    refine cv_iload_n X dX0_shapeKernel_27 rfl ?_
    refine cv_imulN X dX0_shapeKernel_28 ?_
    refine cv_iconst X (v := nI 3) dX0_shapeKernel_29 (by decide) ?_
    refine cv_iload_n X dX0_shapeKernel_30 rfl ?_
    refine cv_imulN X dX0_shapeKernel_31 ?_
    refine cv_iaddN X dX0_shapeKernel_32 ?_
    refine cv_iconst X (v := nI 1) dX0_shapeKernel_33 (by decide) ?_
    refine cv_iaddN X dX0_shapeKernel_34 ?_
    refine cv_iald X 18 rfl rfl (by omega) dX0_shapeKernel_35 ?_
    refine cv_istore X (lv' := [_, _, _, _, _]) dX0_shapeKernel_36 (by decide) rfl ?_
    refine cv_aload_n X dX0_shapeKernel_38 rfl ?_
    refine cv_getA X 1 q40 (by decide) rfl rfl dX0_shapeKernel_39 ?_
    refine cv_bipush X (v := nI 9) dX0_shapeKernel_42 (by decide) ?_
    refine cv_iload_n X dX0_shapeKernel_44 rfl ?_
    refine cv_imulN X dX0_shapeKernel_45 ?_
    refine cv_iconst X (v := nI 3) dX0_shapeKernel_46 (by decide) ?_
    refine cv_iload_n X dX0_shapeKernel_47 rfl ?_
    refine cv_imulN X dX0_shapeKernel_48 ?_
    refine cv_iaddN X dX0_shapeKernel_49 ?_
    refine cv_iconst X (v := nI 2) dX0_shapeKernel_50 (by decide) ?_
    refine cv_iaddN X dX0_shapeKernel_51 ?_
    refine cv_iald X 18 rfl rfl (by omega) dX0_shapeKernel_52 ?_
    refine cv_istore X (lv' := [_, _, _, _, _, _]) dX0_shapeKernel_53 (by decide) rfl ?_
    refine cv_aload_n X dX0_shapeKernel_55 rfl ?_
    refine cv_getA X 8 q47 (by decide) rfl rfl dX0_shapeKernel_56 ?_
    refine cv_iconst X (v := nI 4) dX0_shapeKernel_59 (by decide) ?_
    refine cv_iload_n X dX0_shapeKernel_60 rfl ?_
    refine cv_imulN X dX0_shapeKernel_61 ?_
    refine cv_iconst X (v := nI 2) dX0_shapeKernel_62 (by decide) ?_
    refine cv_iload_n X dX0_shapeKernel_63 rfl ?_
    refine cv_imul X dX0_shapeKernel_64 ?_
    refine cv_iast X 16 (S' := [_, _, _, _, _, _, _, _, _, _, _, _, _, _, _, _, _, _]) rfl rfl (by omega) rfl dX0_shapeKernel_65 ?_
    refine cv_aload_n X dX0_shapeKernel_66 rfl ?_
    refine cv_getA X 8 q47 (by decide) rfl rfl dX0_shapeKernel_67 ?_
    refine cv_iconst X (v := nI 4) dX0_shapeKernel_70 (by decide) ?_
    refine cv_iload_n X dX0_shapeKernel_71 rfl ?_
    refine cv_imulN X dX0_shapeKernel_72 ?_
    refine cv_iconst X (v := nI 1) dX0_shapeKernel_73 (by decide) ?_
    refine cv_iaddN X dX0_shapeKernel_74 ?_
    refine cv_iload_n X dX0_shapeKernel_75 rfl ?_
    refine cv_iload X dX0_shapeKernel_76 rfl ?_
    refine cv_iadd X dX0_shapeKernel_78 ?_
    refine cv_iload X dX0_shapeKernel_79 rfl ?_
    refine cv_iadd X dX0_shapeKernel_81 ?_
    refine cv_iast X 16 (S' := [_, _, _, _, _, _, _, _, _, _, _, _, _, _, _, _, _, _]) rfl rfl (by omega) rfl dX0_shapeKernel_82 ?_
    refine cv_aload_n X dX0_shapeKernel_83 rfl ?_
    refine cv_getA X 8 q47 (by decide) rfl rfl dX0_shapeKernel_84 ?_
    refine cv_iconst X (v := nI 4) dX0_shapeKernel_87 (by decide) ?_
    refine cv_iload_n X dX0_shapeKernel_88 rfl ?_
    refine cv_imulN X dX0_shapeKernel_89 ?_
    refine cv_iconst X (v := nI 2) dX0_shapeKernel_90 (by decide) ?_
    refine cv_iaddN X dX0_shapeKernel_91 ?_
    refine cv_iload_n X dX0_shapeKernel_92 rfl ?_
    refine cv_iload X dX0_shapeKernel_93 rfl ?_
    refine cv_isub X dX0_shapeKernel_95 ?_
    refine cv_iload X dX0_shapeKernel_96 rfl ?_
    refine cv_iadd X dX0_shapeKernel_98 ?_
    refine cv_iast X 16 (S' := [_, _, _, _, _, _, _, _, _, _, _, _, _, _, _, _, _, _]) rfl rfl (by omega) rfl dX0_shapeKernel_99 ?_
    refine cv_aload_n X dX0_shapeKernel_100 rfl ?_
    refine cv_getA X 8 q47 (by decide) rfl rfl dX0_shapeKernel_101 ?_
    refine cv_iconst X (v := nI 4) dX0_shapeKernel_104 (by decide) ?_
    refine cv_iload_n X dX0_shapeKernel_105 rfl ?_
    refine cv_imulN X dX0_shapeKernel_106 ?_
    refine cv_iconst X (v := nI 3) dX0_shapeKernel_107 (by decide) ?_
    refine cv_iaddN X dX0_shapeKernel_108 ?_
    refine cv_iconst X (v := nI 2) dX0_shapeKernel_109 (by decide) ?_
    refine cv_iload X dX0_shapeKernel_110 rfl ?_
    refine cv_imul X dX0_shapeKernel_112 ?_
    refine cv_iast X 16 (S' := [_, _, _, _, _, _, _, _, _, _, _, _, _, _, _, _, _, _]) rfl rfl (by omega) rfl dX0_shapeKernel_113 ?_
    refine cv_iincN X (lv' := [_, _, _, _, _, _]) dX0_shapeKernel_114 (by decide) rfl rfl ?_
    refine cv_goto X (tgt := 2) dX0_shapeKernel_117 (by decide) ?_
    exact cv_take X 3 ih_j1
abbrev rX0_add : Room := { frames := 0, cells := 0, slots := 0, locals := 0 }
set_option maxHeartbeats 4000000 in
set_option maxRecDepth 100000 in
/-- add(x, y, v) -/
theorem mX0_add (l : Launch) {pi ke : Nat → Int32} {st mg ch wd : Nat} {ou pc hf sh pr pl ot tt li ro ba wi : Nat → Int32} (hw : wd ≤ 8) {x y : Nat} (hx : x ≤ 20) (hy : y ≤ 20) {v : Int32} : DXv l yX0_add cX0_add 4 rX0_add 0 len0 [.int (nI x), .int (nI y), .int v] (xs pi ke st mg ch wd ou pc hf sh pr pl ot tt li ro ba wi) (xs pi ke st mg ch wd (zadd wd ou x y v) pc hf sh pr pl ot tt li ro ba wi) := by
  refine dxv_of cl0 rfl (by decide) (List.forall_mem_cons.mpr ⟨rfl, List.forall_mem_cons.mpr ⟨rfl, List.forall_mem_cons.mpr ⟨rfl, fun _ h => absurd h List.not_mem_nil⟩⟩⟩) (Nat.le_of_ble_eq_true rfl) ?_
  intro h ad G X
  refine cv_iload_n X dX0_add_0 rfl ?_
  refine cv_aload_n X dX0_add_1 rfl ?_
  refine cv_getI X 5 q44 (by decide) rfl rfl dX0_add_2 ?_
  refine cv_icmp_geN X 40 (by omega) (by omega) dX0_add_5 (by decide) (fun b5 => ?_) (fun b5 => ?_)
  · skip
    exact cv_return X dX0_add_40 ⟨rfl, by simp only [zadd, if_pos b5]⟩
  · skip
    refine cv_iload_n X dX0_add_8 rfl ?_
    refine cv_aload_n X dX0_add_9 rfl ?_
    refine cv_getI X 5 q44 (by decide) rfl rfl dX0_add_10 ?_
    refine cv_icmp_geN X 40 (by omega) (by omega) dX0_add_13 (by decide) (fun b13 => ?_) (fun b13 => ?_)
    · skip
      exact cv_return X dX0_add_40 ⟨rfl, by simp only [zadd, if_neg (Nat.not_le.mpr b5), if_pos b13]⟩
    · skip
      refine cv_aload_n X dX0_add_16 rfl ?_
      refine cv_getA X 6 q45 (by decide) rfl rfl dX0_add_17 ?_
      refine cv_bipush X (v := nI 8) dX0_add_20 (by decide) ?_
      refine cv_iload_n X dX0_add_22 rfl ?_
      refine cv_imulN X dX0_add_23 ?_
      refine cv_iload_n X dX0_add_24 rfl ?_
      refine cv_iaddN X dX0_add_25 ?_
      refine cv_aload_n X dX0_add_26 rfl ?_
      refine cv_getA X 6 q45 (by decide) rfl rfl dX0_add_27 ?_
      refine cv_bipush X (v := nI 8) dX0_add_30 (by decide) ?_
      refine cv_iload_n X dX0_add_32 rfl ?_
      refine cv_imulN X dX0_add_33 ?_
      refine cv_iload_n X dX0_add_34 rfl ?_
      refine cv_iaddN X dX0_add_35 ?_
      refine cv_iald X 64 rfl rfl (by omega) dX0_add_36 ?_
      refine cv_iload_n X dX0_add_37 rfl ?_
      refine cv_iadd X dX0_add_38 ?_
      refine cv_iast X 64 (S' := [_, _, _, _, _, _, _, _, _, _, _, _, _, _, _, _, _, _]) rfl rfl (by omega) rfl dX0_add_39 ?_
      exact cv_return X dX0_add_40 ⟨rfl, by simp only [zadd, if_neg (Nat.not_le.mpr b5), if_neg (Nat.not_le.mpr b13)]⟩
abbrev rX0_reduce : Room := { frames := 0, cells := 0, slots := 0, locals := 0 }
set_option maxHeartbeats 4000000 in
set_option maxRecDepth 100000 in
/-- reduce(v) -/
theorem mX0_reduce (l : Launch) {S : gS} {v : Int32} : DX l yX0_reduce cX0_reduce 3 rX0_reduce 0 len0 [.int v] (S) (zred v) (S) := by
  refine dx_of cl0 rfl (by decide) (List.forall_mem_cons.mpr ⟨rfl, fun _ h => absurd h List.not_mem_nil⟩) (Nat.le_of_ble_eq_true rfl) ?_
  intro h ad G X
  refine cv_iload_n X dX0_reduce_0 rfl ?_
  refine cv_sipush X (v := nI 7681) dX0_reduce_1 (by decide) ?_
  refine cv_irem X dX0_reduce_4 (by decide) ?_
  refine cv_istore_n X (lv' := [_, _, _]) dX0_reduce_5 (by decide) rfl ?_
  refine cv_iload_n X dX0_reduce_6 rfl ?_
  refine cv_if_ge X 18 dX0_reduce_7 (by decide) (fun b7 => ?_) (fun b7 => ?_)
  · skip
    refine cv_iload_n X dX0_reduce_18 rfl ?_
    exact cv_ireturn X dX0_reduce_19 ⟨by simp only [zred, P7, if_pos b7], rfl⟩
  · skip
    refine cv_iload_n X dX0_reduce_10 rfl ?_
    refine cv_sipush X (v := nI 7681) dX0_reduce_11 (by decide) ?_
    refine cv_iadd X dX0_reduce_14 ?_
    refine cv_goto X (tgt := 19) dX0_reduce_15 (by decide) ?_
    exact cv_ireturn X dX0_reduce_19 ⟨by simp only [zred, P7, if_neg b7], rfl⟩
abbrev rX0_power : Room := { frames := 0, cells := 0, slots := 0, locals := 0 }
set_option maxHeartbeats 4000000 in
set_option maxRecDepth 100000 in
/-- power(a, n) -/
theorem mX0_power (l : Launch) {S : gS} {a : Int32} {n : Nat} (hn : n < 2 ^ 31) : DX l yX0_power cX0_power 6 rX0_power 0 len0 [.int a, .int (nI n)] (S) (zpow a n) (S) := by
  refine dx_of cl0 rfl (by decide) (List.forall_mem_cons.mpr ⟨rfl, List.forall_mem_cons.mpr ⟨rfl, fun _ h => absurd h List.not_mem_nil⟩⟩) (Nat.le_of_ble_eq_true rfl) ?_
  intro h ad G X
  refine cv_iconst X (v := nI 1) dX0_power_0 (by decide) ?_
  refine cv_istore_n X (lv' := [_, _, _, _]) dX0_power_1 (by decide) rfl ?_
  refine cv_iload_n X dX0_power_2 rfl ?_
  refine cv_istore X (lv' := [_, _, _, _, _]) dX0_power_3 (by decide) rfl ?_
  refine cv_iconst X (v := nI 0) dX0_power_5 (by decide) ?_
  refine cv_istore X (lv' := [_, _, _, _, _, _]) dX0_power_6 (by decide) rfl ?_
  refine up_loop0 (P := fun i1 => G (S) 8 [.ref h, .int a, .int (nI n), .int (zpw a n i1).1, .int (zpw a n i1).2, .int (nI i1)] []) (14) ?_ ?_
  · show G (S) 8 [.ref h, .int a, .int (nI n), .int (zpw a n (14)).1, .int (zpw a n (14)).2, .int (nI (14))] []
    refine cv_iload X dX0_power_8 rfl ?_
    refine cv_bipush X (v := nI 14) dX0_power_10 (by decide) ?_
    refine cv_icmp_geT X 51 (by omega) (by omega) dX0_power_12 (by decide) (by omega) ?_
    refine cv_iload_n X dX0_power_51 rfl ?_
    exact cv_ireturn X dX0_power_52 ⟨rfl, rfl⟩
  · intro i1 h_i1 ih_i1
    show G (S) 8 [.ref h, .int a, .int (nI n), .int (zpw a n i1).1, .int (zpw a n i1).2, .int (nI i1)] []
    refine cv_iload X dX0_power_8 rfl ?_
    refine cv_bipush X (v := nI 14) dX0_power_10 (by decide) ?_
    refine cv_icmp_geF X 51 (by omega) (by omega) dX0_power_12 (by decide) (by omega) ?_
    refine cv_iload_n X dX0_power_15 rfl ?_
    refine cv_iload X dX0_power_16 rfl ?_
    refine cv_ishrN X (by omega) (by omega) dX0_power_18 ?_
    refine cv_iconst X (v := nI 1) dX0_power_19 (by decide) ?_
    refine cv_iand1 X (Nat.lt_of_le_of_lt (Nat.div_le_self _ _) (by omega)) dX0_power_20 ?_
    refine cv_iconst X (v := nI 1) dX0_power_21 (by decide) ?_
    refine cv_icmp_neN X 34 (by omega) (by omega) dX0_power_22 (by decide) (fun b22 => ?_) (fun b22 => ?_)
    · skip
      refine cv_iload X dX0_power_34 rfl ?_
      refine cv_iload X dX0_power_36 rfl ?_
      refine cv_imul X dX0_power_38 ?_
      refine cv_sipush X (v := nI 7681) dX0_power_39 (by decide) ?_
      refine cv_irem X dX0_power_42 (by decide) ?_
      refine cv_istore X (lv' := [_, _, _, _, _, _]) dX0_power_43 (by decide) rfl ?_
      refine cv_iincN X (lv' := [_, _, _, _, _, _]) dX0_power_45 (by decide) rfl rfl ?_
      refine cv_goto X (tgt := 8) dX0_power_48 (by decide) ?_
      exact cv_eql rfl (by simp only [zpw_s, if_neg b22]) ih_i1
    · skip
      refine cv_iload_n X dX0_power_25 rfl ?_
      refine cv_iload X dX0_power_26 rfl ?_
      refine cv_imul X dX0_power_28 ?_
      refine cv_sipush X (v := nI 7681) dX0_power_29 (by decide) ?_
      refine cv_irem X dX0_power_32 (by decide) ?_
      refine cv_istore_n X (lv' := [_, _, _, _, _, _]) dX0_power_33 (by decide) rfl ?_
      refine cv_iload X dX0_power_34 rfl ?_
      refine cv_iload X dX0_power_36 rfl ?_
      refine cv_imul X dX0_power_38 ?_
      refine cv_sipush X (v := nI 7681) dX0_power_39 (by decide) ?_
      refine cv_irem X dX0_power_42 (by decide) ?_
      refine cv_istore X (lv' := [_, _, _, _, _, _]) dX0_power_43 (by decide) rfl ?_
      refine cv_iincN X (lv' := [_, _, _, _, _, _]) dX0_power_45 (by decide) rfl rfl ?_
      refine cv_goto X (tgt := 8) dX0_power_48 (by decide) ?_
      exact cv_eql rfl (by simp only [zpw_s, if_pos b22]) ih_i1
abbrev rX0_clearPlane : Room := { frames := 0, cells := 0, slots := 0, locals := 0 }
set_option maxHeartbeats 4000000 in
set_option maxRecDepth 100000 in
/-- clearPlane() -/
theorem mX0_clearPlane (l : Launch) {pi ke : Nat → Int32} {st mg ch wd : Nat} {ou pc hf sh pr pl ot tt li ro ba wi : Nat → Int32} : DXv l yX0_clearPlane cX0_clearPlane 2 rX0_clearPlane 0 len0 [] (xs pi ke st mg ch wd ou pc hf sh pr pl ot tt li ro ba wi) (xs pi ke st mg ch wd ou pc hf sh pr (zclr 256 pl) ot tt li ro ba wi) := by
  refine dxv_of cl0 rfl (by decide) (fun _ h => absurd h List.not_mem_nil) (Nat.le_of_ble_eq_true rfl) ?_
  intro h ad G X
  refine cv_iconst X (v := nI 0) dX0_clearPlane_0 (by decide) ?_
  refine cv_istore_n X (lv' := [_, _]) dX0_clearPlane_1 (by decide) rfl ?_
  refine up_loop0 (P := fun k1 => G (xs pi ke st mg ch wd ou pc hf sh pr (it (fun k p => upd p k (nI 0)) pl k1) ot tt li ro ba wi) 2 [.ref h, .int (nI k1)] []) (256) ?_ ?_
  · show G (xs pi ke st mg ch wd ou pc hf sh pr (it (fun k p => upd p k (nI 0)) pl (256)) ot tt li ro ba wi) 2 [.ref h, .int (nI (256))] []
    refine cv_iload_n X dX0_clearPlane_2 rfl ?_
    refine cv_sipush X (v := nI 256) dX0_clearPlane_3 (by decide) ?_
    refine cv_icmp_geT X 22 (by omega) (by omega) dX0_clearPlane_6 (by decide) (by omega) ?_
    exact cv_return X dX0_clearPlane_22 ⟨rfl, rfl⟩
  · intro k1 h_k1 ih_k1
    show G (xs pi ke st mg ch wd ou pc hf sh pr (it (fun k p => upd p k (nI 0)) pl k1) ot tt li ro ba wi) 2 [.ref h, .int (nI k1)] []
    refine cv_iload_n X dX0_clearPlane_2 rfl ?_
    refine cv_sipush X (v := nI 256) dX0_clearPlane_3 (by decide) ?_
    refine cv_icmp_geF X 22 (by omega) (by omega) dX0_clearPlane_6 (by decide) (by omega) ?_
    refine cv_aload_n X dX0_clearPlane_9 rfl ?_
    refine cv_getA X 11 q50 (by decide) rfl rfl dX0_clearPlane_10 ?_
    refine cv_iload_n X dX0_clearPlane_13 rfl ?_
    refine cv_iconst X (v := nI 0) dX0_clearPlane_14 (by decide) ?_
    refine cv_iast X 256 (S' := [_, _, _, _, _, _, _, _, _, _, _, _, _, _, _, _, _, _]) rfl rfl (by omega) rfl dX0_clearPlane_15 ?_
    refine cv_iincN X (lv' := [_, _]) dX0_clearPlane_16 (by decide) rfl rfl ?_
    refine cv_goto X (tgt := 2) dX0_clearPlane_19 (by decide) ?_
    exact cv_take X 2 ih_k1
abbrev rX0_greater : Room := { frames := 0, cells := 0, slots := 0, locals := 0 }
set_option maxHeartbeats 4000000 in
set_option maxRecDepth 100000 in
/-- greater(a, b) -/
theorem mX0_greater (l : Launch) {S : gS} {a b : Int32} : DX l yX0_greater cX0_greater 3 rX0_greater 0 len0 [.int a, .int b] (S) (zmx a b) (S) := by
  refine dx_of cl0 rfl (by decide) (List.forall_mem_cons.mpr ⟨rfl, List.forall_mem_cons.mpr ⟨rfl, fun _ h => absurd h List.not_mem_nil⟩⟩) (Nat.le_of_ble_eq_true rfl) ?_
  intro h ad G X
  refine cv_iload_n X dX0_greater_0 rfl ?_
  refine cv_iload_n X dX0_greater_1 rfl ?_
  refine cv_icmp_le X 9 dX0_greater_2 (by decide) (fun b2 => ?_) (fun b2 => ?_)
  · skip
    refine cv_iload_n X dX0_greater_9 rfl ?_
    exact cv_ireturn X dX0_greater_10 ⟨by simp only [zmx, if_pos b2], rfl⟩
  · skip
    refine cv_iload_n X dX0_greater_5 rfl ?_
    refine cv_goto X (tgt := 10) dX0_greater_6 (by decide) ?_
    exact cv_ireturn X dX0_greater_10 ⟨by simp only [zmx, if_neg b2], rfl⟩
abbrev rX0_way : Room := { frames := 0, cells := 0, slots := 0, locals := 0 }
set_option maxHeartbeats 4000000 in
set_option maxRecDepth 100000 in
/-- way(n) -/
theorem mX0_way (l : Launch) {pi ke : Nat → Int32} {st mg ch wd : Nat} {ou pc hf sh pr pl ot tt li ro ba wi : Nat → Int32} {n : Int32} : DX l yX0_way cX0_way 2 rX0_way 0 len0 [.int n] (xs pi ke st mg ch wd ou pc hf sh pr pl ot tt li ro ba wi) ((zwv n ch).1) (xs pi ke st mg ((zwv n ch).2) wd ou pc hf sh pr pl ot tt li ro ba wi) := by
  refine dx_of cl0 rfl (by decide) (List.forall_mem_cons.mpr ⟨rfl, fun _ h => absurd h List.not_mem_nil⟩) (Nat.le_of_ble_eq_true rfl) ?_
  intro h ad G X
  refine cv_iload_n X dX0_way_0 rfl ?_
  refine cv_if_lt X 9 dX0_way_1 (by decide) (fun b1 => ?_) (fun b1 => ?_)
  · skip
    refine cv_ldc X q99 dX0_way_9 ?_
    exact cv_ireturn X dX0_way_11 ⟨by simp only [zwv, if_pos b1], by simp only [zwv, if_pos b1]⟩
  · skip
    refine cv_iload_n X dX0_way_4 rfl ?_
    refine cv_iconst X (v := nI 3) dX0_way_5 (by decide) ?_
    refine cv_icmp_le X 12 dX0_way_6 (by decide) (fun b6 => ?_) (fun b6 => ?_)
    · skip
      obtain ⟨j, hj, rfl⟩ := cv_ile (by decide) b1 b6
      have hcl := nI_clamp (show j < 2 ^ 31 by omega)
      refine cv_aload_n X dX0_way_12 rfl ?_
      refine cv_iload_n X dX0_way_13 rfl ?_
      refine cv_putI X 4 (S' := [_, _, _, _, _, _, _, _, _, _, _, _, _, _, _, _, _, _]) q43 (by decide) rfl rfl (by decide +kernel) rfl rfl dX0_way_14 ?_
      refine cv_iconst X (v := nI 0) dX0_way_17 (by decide) ?_
      exact cv_ireturn X dX0_way_18 ⟨by simp only [zwv, if_neg b1, if_pos b6, hcl], by simp only [zwv, if_neg b1, if_pos b6, hcl]⟩
    · skip
      refine cv_ldc X q99 dX0_way_9 ?_
      exact cv_ireturn X dX0_way_11 ⟨by simp only [zwv, if_neg b1, if_neg b6], by simp only [zwv, if_neg b1, if_neg b6]⟩
abbrev rX0_width : Room := { frames := 0, cells := 0, slots := 0, locals := 0 }
set_option maxHeartbeats 4000000 in
set_option maxRecDepth 100000 in
/-- width() -/
theorem mX0_width (l : Launch) {pi ke : Nat → Int32} {st mg ch wd : Nat} {ou pc hf sh pr pl ot tt li ro ba wi : Nat → Int32} : DX l yX0_width cX0_width 1 rX0_width 0 len0 [] (xs pi ke st mg ch wd ou pc hf sh pr pl ot tt li ro ba wi) (nI wd) (xs pi ke st mg ch wd ou pc hf sh pr pl ot tt li ro ba wi) := by
  refine dx_of cl0 rfl (by decide) (fun _ h => absurd h List.not_mem_nil) (Nat.le_of_ble_eq_true rfl) ?_
  intro h ad G X
  refine cv_aload_n X dX0_width_0 rfl ?_
  refine cv_getI X 5 q44 (by decide) rfl rfl dX0_width_1 ?_
  exact cv_ireturn X dX0_width_4 ⟨rfl, rfl⟩
abbrev rX0_result : Room := { frames := 0, cells := 0, slots := 0, locals := 0 }
set_option maxHeartbeats 4000000 in
set_option maxRecDepth 100000 in
/-- result(x, y) -/
theorem mX0_result (l : Launch) {pi ke : Nat → Int32} {st mg ch wd : Nat} {ou pc hf sh pr pl ot tt li ro ba wi : Nat → Int32} (hw : wd ≤ 8) {x y : Int32} : DX l yX0_result cX0_result 3 rX0_result 0 len0 [.int x, .int y] (xs pi ke st mg ch wd ou pc hf sh pr pl ot tt li ro ba wi) (zres wd ou x y) (xs pi ke st mg ch wd ou pc hf sh pr pl ot tt li ro ba wi) := by
  refine dx_of cl0 rfl (by decide) (List.forall_mem_cons.mpr ⟨rfl, List.forall_mem_cons.mpr ⟨rfl, fun _ h => absurd h List.not_mem_nil⟩⟩) (Nat.le_of_ble_eq_true rfl) ?_
  intro h ad G X
  refine cv_iload_n X dX0_result_0 rfl ?_
  refine cv_if_lt X 24 dX0_result_1 (by decide) (fun b1 => ?_) (fun b1 => ?_)
  · skip
    refine cv_iconst X (v := nI 0) dX0_result_24 (by decide) ?_
    exact cv_ireturn X dX0_result_25 ⟨by simp only [zres, if_pos b1], rfl⟩
  · skip
    refine cv_iload_n X dX0_result_4 rfl ?_
    refine cv_aload_n X dX0_result_5 rfl ?_
    refine cv_getI X 5 q44 (by decide) rfl rfl dX0_result_6 ?_
    refine cv_icmp_ge X 24 dX0_result_9 (by decide) (fun b9 => ?_) (fun b9 => ?_)
    · skip
      refine cv_iconst X (v := nI 0) dX0_result_24 (by decide) ?_
      exact cv_ireturn X dX0_result_25 ⟨by simp only [zres, if_neg b1, if_pos b9], rfl⟩
    · skip
      refine cv_iload_n X dX0_result_12 rfl ?_
      refine cv_if_lt X 24 dX0_result_13 (by decide) (fun b13 => ?_) (fun b13 => ?_)
      · skip
        refine cv_iconst X (v := nI 0) dX0_result_24 (by decide) ?_
        exact cv_ireturn X dX0_result_25 ⟨by simp only [zres, if_neg b1, if_neg b9, if_pos b13], rfl⟩
      · skip
        refine cv_iload_n X dX0_result_16 rfl ?_
        refine cv_aload_n X dX0_result_17 rfl ?_
        refine cv_getI X 5 q44 (by decide) rfl rfl dX0_result_18 ?_
        refine cv_icmp_lt X 26 dX0_result_21 (by decide) (fun b21 => ?_) (fun b21 => ?_)
        · skip
          obtain ⟨i, hi, rfl⟩ := cv_in (by omega) b1 b9
          obtain ⟨j, hj, rfl⟩ := cv_inl (by omega) b13 b21
          have hcl := nI_clamp (show i < 2 ^ 31 by omega)
          have hcl2 := nI_clamp (show j < 2 ^ 31 by omega)
          refine cv_aload_n X dX0_result_26 rfl ?_
          refine cv_getA X 6 q45 (by decide) rfl rfl dX0_result_27 ?_
          refine cv_bipush X (v := nI 8) dX0_result_30 (by decide) ?_
          refine cv_iload_n X dX0_result_32 rfl ?_
          refine cv_imulN X dX0_result_33 ?_
          refine cv_iload_n X dX0_result_34 rfl ?_
          refine cv_iaddN X dX0_result_35 ?_
          refine cv_iald X 64 rfl rfl (by omega) dX0_result_36 ?_
          exact cv_ireturn X dX0_result_37 ⟨by simp only [zres, if_neg b1, if_neg b9, if_neg b13, if_pos b21, hcl, hcl2], rfl⟩
        · skip
          refine cv_iconst X (v := nI 0) dX0_result_24 (by decide) ?_
          exact cv_ireturn X dX0_result_25 ⟨by simp only [zres, if_neg b1, if_neg b9, if_neg b13, if_neg b21], rfl⟩
end
section
set_option maxRecDepth 100000
abbrev rX0_addTile : Room := { frames := 1, cells := 0, slots := 0, locals := 26 }
set_option maxHeartbeats 4000000 in
set_option maxRecDepth 100000 in
/-- addTile(c, x, y) -/
theorem mX0_addTile (l : Launch) {pi ke : Nat → Int32} {st mg ch wd : Nat} {ou pc hf sh pr pl ot tt li ro ba wi : Nat → Int32} (hw : wd ≤ 8) {c x y : Nat} (hc : c < 2) (hx : x ≤ 8) (hy : y ≤ 8) : DXv l yX0_addTile cX0_addTile 7 rX0_addTile 0 len0 [.int (nI c), .int (nI x), .int (nI y)] (xs pi ke st mg ch wd ou pc hf sh pr pl ot tt li ro ba wi) (xs pi ke st mg ch wd ((ztile pi sh wd mg c x y (pc, pr, ou)).2.2) ((ztile pi sh wd mg c x y (pc, pr, ou)).1) hf sh ((ztile pi sh wd mg c x y (pc, pr, ou)).2.1) pl ot tt li ro ba wi) := by
  refine dxv_of cl0 rfl (by decide) (List.forall_mem_cons.mpr ⟨rfl, List.forall_mem_cons.mpr ⟨rfl, List.forall_mem_cons.mpr ⟨rfl, fun _ h => absurd h List.not_mem_nil⟩⟩⟩) (Nat.le_of_ble_eq_true rfl) ?_
  intro h ad G X
  refine cv_iconst X (v := nI 0) dX0_addTile_0 (by decide) ?_
  refine cv_istore X (lv' := [_, _, _, _, _]) dX0_addTile_1 (by decide) rfl ?_
  refine up_loop0 (P := fun j1 => G (xs pi ke st mg ch wd ou (it (fun j p => it (fun i p => upd p (4 * j + i) (zat pi c (nI (x + i) - nI mg) (nI (y + j) - nI mg))) p 4) pc j1) hf sh pr pl ot tt li ro ba wi) 3 [.ref h, .int (nI c), .int (nI x), .int (nI y), .int (nI j1)] []) (4) ?_ ?_
  · show G (xs pi ke st mg ch wd ou (it (fun j p => it (fun i p => upd p (4 * j + i) (zat pi c (nI (x + i) - nI mg) (nI (y + j) - nI mg))) p 4) pc (4)) hf sh pr pl ot tt li ro ba wi) 3 [.ref h, .int (nI c), .int (nI x), .int (nI y), .int (nI (4))] []
    refine cv_iload X dX0_addTile_3 rfl ?_
    refine cv_iconst X (v := nI 4) dX0_addTile_5 (by decide) ?_
    refine cv_icmp_geT X 65 (by omega) (by omega) dX0_addTile_6 (by decide) (by omega) ?_
    refine cv_iconst X (v := nI 0) dX0_addTile_65 (by decide) ?_
    refine cv_istore X (lv' := [_, _, _, _, _]) dX0_addTile_66 (by decide) rfl ?_
    refine up_loop0 (P := fun j2 => G (xs pi ke st mg ch wd ou (it (fun j p => zfour p (4 * j) 1) (zpc pi mg c x y pc) j2) hf sh pr pl ot tt li ro ba wi) 68 [.ref h, .int (nI c), .int (nI x), .int (nI y), .int (nI j2)] []) (4) ?_ ?_
    · show G (xs pi ke st mg ch wd ou (it (fun j p => zfour p (4 * j) 1) (zpc pi mg c x y pc) (4)) hf sh pr pl ot tt li ro ba wi) 68 [.ref h, .int (nI c), .int (nI x), .int (nI y), .int (nI (4))] []
      refine cv_iload X dX0_addTile_68 rfl ?_
      refine cv_iconst X (v := nI 4) dX0_addTile_70 (by decide) ?_
      refine cv_icmp_geT X 89 (by omega) (by omega) dX0_addTile_71 (by decide) (by omega) ?_
      refine cv_iconst X (v := nI 0) dX0_addTile_89 (by decide) ?_
      refine cv_istore X (lv' := [_, _, _, _, _]) dX0_addTile_90 (by decide) rfl ?_
      refine up_loop0 (P := fun i3 => G (xs pi ke st mg ch wd ou (it (fun i p => zfour p i 4) (zfr (zpc pi mg c x y pc)) i3) hf sh pr pl ot tt li ro ba wi) 92 [.ref h, .int (nI c), .int (nI x), .int (nI y), .int (nI i3)] []) (4) ?_ ?_
      · show G (xs pi ke st mg ch wd ou (it (fun i p => zfour p i 4) (zfr (zpc pi mg c x y pc)) (4)) hf sh pr pl ot tt li ro ba wi) 92 [.ref h, .int (nI c), .int (nI x), .int (nI y), .int (nI (4))] []
        refine cv_iload X dX0_addTile_92 rfl ?_
        refine cv_iconst X (v := nI 4) dX0_addTile_94 (by decide) ?_
        refine cv_icmp_geT X 111 (by omega) (by omega) dX0_addTile_95 (by decide) (by omega) ?_
        refine cv_iconst X (v := nI 0) dX0_addTile_111 (by decide) ?_
        refine cv_istore X (lv' := [_, _, _, _, _]) dX0_addTile_112 (by decide) rfl ?_
        refine up_loop0 (P := fun k4 => G (xs pi ke st mg ch wd ou (zfc (zfr (zpc pi mg c x y pc))) hf sh (it (fun k q => upd q k ((zfc (zfr (zpc pi mg c x y pc))) k * sh k)) pr k4) pl ot tt li ro ba wi) 114 [.ref h, .int (nI c), .int (nI x), .int (nI y), .int (nI k4)] []) (16) ?_ ?_
        · show G (xs pi ke st mg ch wd ou (zfc (zfr (zpc pi mg c x y pc))) hf sh (it (fun k q => upd q k ((zfc (zfr (zpc pi mg c x y pc))) k * sh k)) pr (16)) pl ot tt li ro ba wi) 114 [.ref h, .int (nI c), .int (nI x), .int (nI y), .int (nI (16))] []
          refine cv_iload X dX0_addTile_114 rfl ?_
          refine cv_bipush X (v := nI 16) dX0_addTile_116 (by decide) ?_
          refine cv_icmp_geT X 149 (by omega) (by omega) dX0_addTile_118 (by decide) (by omega) ?_
          refine cv_iconst X (v := nI 0) dX0_addTile_149 (by decide) ?_
          refine cv_istore X (lv' := [_, _, _, _, _]) dX0_addTile_150 (by decide) rfl ?_
          refine up_loop0 (P := fun i5 => G (xs pi ke st mg ch wd ou (zfc (zfr (zpc pi mg c x y pc))) hf sh (it (fun i q => upd (upd q i (q i + q (4 + i) + q (8 + i))) (4 + i) (q (4 + i) - q (8 + i) - q (12 + i))) (zmul (zfc (zfr (zpc pi mg c x y pc))) sh pr) i5) pl ot tt li ro ba wi) 152 [.ref h, .int (nI c), .int (nI x), .int (nI y), .int (nI i5)] []) (4) ?_ ?_
          · show G (xs pi ke st mg ch wd ou (zfc (zfr (zpc pi mg c x y pc))) hf sh (it (fun i q => upd (upd q i (q i + q (4 + i) + q (8 + i))) (4 + i) (q (4 + i) - q (8 + i) - q (12 + i))) (zmul (zfc (zfr (zpc pi mg c x y pc))) sh pr) (4)) pl ot tt li ro ba wi) 152 [.ref h, .int (nI c), .int (nI x), .int (nI y), .int (nI (4))] []
            refine cv_iload X dX0_addTile_152 rfl ?_
            refine cv_iconst X (v := nI 4) dX0_addTile_154 (by decide) ?_
            refine cv_icmp_geT X 247 (by omega) (by omega) dX0_addTile_155 (by decide) (by omega) ?_
            refine cv_iconst X (v := nI 0) dX0_addTile_247 (by decide) ?_
            refine cv_istore X (lv' := [_, _, _, _, _]) dX0_addTile_248 (by decide) rfl ?_
            refine up_loop0 (P := fun j6 => G (xs pi ke st mg ch wd (it (fun j o => zadd wd (zadd wd o x (y + j) (((zcol (zmul (zfc (zfr (zpc pi mg c x y pc))) sh pr)) (4 * j) + (zcol (zmul (zfc (zfr (zpc pi mg c x y pc))) sh pr)) (4 * j + 1) + (zcol (zmul (zfc (zfr (zpc pi mg c x y pc))) sh pr)) (4 * j + 2)) / nI 4)) (x + 1) (y + j) (((zcol (zmul (zfc (zfr (zpc pi mg c x y pc))) sh pr)) (4 * j + 1) - (zcol (zmul (zfc (zfr (zpc pi mg c x y pc))) sh pr)) (4 * j + 2) - (zcol (zmul (zfc (zfr (zpc pi mg c x y pc))) sh pr)) (4 * j + 3)) / nI 4)) ou j6) (zfc (zfr (zpc pi mg c x y pc))) hf sh (zcol (zmul (zfc (zfr (zpc pi mg c x y pc))) sh pr)) pl ot tt li ro ba wi) 250 [.ref h, .int (nI c), .int (nI x), .int (nI y), .int (nI j6)] []) (2) ?_ ?_
            · show G (xs pi ke st mg ch wd (it (fun j o => zadd wd (zadd wd o x (y + j) (((zcol (zmul (zfc (zfr (zpc pi mg c x y pc))) sh pr)) (4 * j) + (zcol (zmul (zfc (zfr (zpc pi mg c x y pc))) sh pr)) (4 * j + 1) + (zcol (zmul (zfc (zfr (zpc pi mg c x y pc))) sh pr)) (4 * j + 2)) / nI 4)) (x + 1) (y + j) (((zcol (zmul (zfc (zfr (zpc pi mg c x y pc))) sh pr)) (4 * j + 1) - (zcol (zmul (zfc (zfr (zpc pi mg c x y pc))) sh pr)) (4 * j + 2) - (zcol (zmul (zfc (zfr (zpc pi mg c x y pc))) sh pr)) (4 * j + 3)) / nI 4)) ou (2)) (zfc (zfr (zpc pi mg c x y pc))) hf sh (zcol (zmul (zfc (zfr (zpc pi mg c x y pc))) sh pr)) pl ot tt li ro ba wi) 250 [.ref h, .int (nI c), .int (nI x), .int (nI y), .int (nI (2))] []
              refine cv_iload X dX0_addTile_250 rfl ?_
              refine cv_iconst X (v := nI 2) dX0_addTile_252 (by decide) ?_
              refine cv_icmp_geT X 362 (by omega) (by omega) dX0_addTile_253 (by decide) (by omega) ?_
              exact cv_return X dX0_addTile_362 ⟨rfl, rfl⟩
            · intro j6 h_j6 ih_j6
              show G (xs pi ke st mg ch wd (it (fun j o => zadd wd (zadd wd o x (y + j) (((zcol (zmul (zfc (zfr (zpc pi mg c x y pc))) sh pr)) (4 * j) + (zcol (zmul (zfc (zfr (zpc pi mg c x y pc))) sh pr)) (4 * j + 1) + (zcol (zmul (zfc (zfr (zpc pi mg c x y pc))) sh pr)) (4 * j + 2)) / nI 4)) (x + 1) (y + j) (((zcol (zmul (zfc (zfr (zpc pi mg c x y pc))) sh pr)) (4 * j + 1) - (zcol (zmul (zfc (zfr (zpc pi mg c x y pc))) sh pr)) (4 * j + 2) - (zcol (zmul (zfc (zfr (zpc pi mg c x y pc))) sh pr)) (4 * j + 3)) / nI 4)) ou j6) (zfc (zfr (zpc pi mg c x y pc))) hf sh (zcol (zmul (zfc (zfr (zpc pi mg c x y pc))) sh pr)) pl ot tt li ro ba wi) 250 [.ref h, .int (nI c), .int (nI x), .int (nI y), .int (nI j6)] []
              refine cv_iload X dX0_addTile_250 rfl ?_
              refine cv_iconst X (v := nI 2) dX0_addTile_252 (by decide) ?_
              refine cv_icmp_geF X 362 (by omega) (by omega) dX0_addTile_253 (by decide) (by omega) ?_
              refine cv_aload_n X dX0_addTile_256 rfl ?_
              refine cv_getA X 10 q49 (by decide) rfl rfl dX0_addTile_257 ?_
              refine cv_iconst X (v := nI 4) dX0_addTile_260 (by decide) ?_
              refine cv_iload X dX0_addTile_261 rfl ?_
              refine cv_imulN X dX0_addTile_263 ?_
              refine cv_iald X 16 rfl rfl (by omega) dX0_addTile_264 ?_
              refine cv_aload_n X dX0_addTile_265 rfl ?_
              refine cv_getA X 10 q49 (by decide) rfl rfl dX0_addTile_266 ?_
              refine cv_iconst X (v := nI 4) dX0_addTile_269 (by decide) ?_
              refine cv_iload X dX0_addTile_270 rfl ?_
              refine cv_imulN X dX0_addTile_272 ?_
              refine cv_iconst X (v := nI 1) dX0_addTile_273 (by decide) ?_
              refine cv_iaddN X dX0_addTile_274 ?_
              refine cv_iald X 16 rfl rfl (by omega) dX0_addTile_275 ?_
              refine cv_iadd X dX0_addTile_276 ?_
              refine cv_aload_n X dX0_addTile_277 rfl ?_
              refine cv_getA X 10 q49 (by decide) rfl rfl dX0_addTile_278 ?_
              refine cv_iconst X (v := nI 4) dX0_addTile_281 (by decide) ?_
              refine cv_iload X dX0_addTile_282 rfl ?_
              refine cv_imulN X dX0_addTile_284 ?_
              refine cv_iconst X (v := nI 2) dX0_addTile_285 (by decide) ?_
              refine cv_iaddN X dX0_addTile_286 ?_
              refine cv_iald X 16 rfl rfl (by omega) dX0_addTile_287 ?_
              refine cv_iadd X dX0_addTile_288 ?_
              refine cv_istore X (lv' := [_, _, _, _, _, _]) dX0_addTile_289 (by decide) rfl ?_
              refine cv_aload_n X dX0_addTile_291 rfl ?_
              refine cv_getA X 10 q49 (by decide) rfl rfl dX0_addTile_292 ?_
              refine cv_iconst X (v := nI 4) dX0_addTile_295 (by decide) ?_
              refine cv_iload X dX0_addTile_296 rfl ?_
              refine cv_imulN X dX0_addTile_298 ?_
              refine cv_iconst X (v := nI 1) dX0_addTile_299 (by decide) ?_
              refine cv_iaddN X dX0_addTile_300 ?_
              refine cv_iald X 16 rfl rfl (by omega) dX0_addTile_301 ?_
              refine cv_aload_n X dX0_addTile_302 rfl ?_
              refine cv_getA X 10 q49 (by decide) rfl rfl dX0_addTile_303 ?_
              refine cv_iconst X (v := nI 4) dX0_addTile_306 (by decide) ?_
              refine cv_iload X dX0_addTile_307 rfl ?_
              refine cv_imulN X dX0_addTile_309 ?_
              refine cv_iconst X (v := nI 2) dX0_addTile_310 (by decide) ?_
              refine cv_iaddN X dX0_addTile_311 ?_
              refine cv_iald X 16 rfl rfl (by omega) dX0_addTile_312 ?_
              refine cv_isub X dX0_addTile_313 ?_
              refine cv_aload_n X dX0_addTile_314 rfl ?_
              refine cv_getA X 10 q49 (by decide) rfl rfl dX0_addTile_315 ?_
              refine cv_iconst X (v := nI 4) dX0_addTile_318 (by decide) ?_
              refine cv_iload X dX0_addTile_319 rfl ?_
              refine cv_imulN X dX0_addTile_321 ?_
              refine cv_iconst X (v := nI 3) dX0_addTile_322 (by decide) ?_
              refine cv_iaddN X dX0_addTile_323 ?_
              refine cv_iald X 16 rfl rfl (by omega) dX0_addTile_324 ?_
              refine cv_isub X dX0_addTile_325 ?_
              refine cv_istore X (lv' := [_, _, _, _, _, _, _]) dX0_addTile_326 (by decide) rfl ?_
              refine cv_aload_n X dX0_addTile_328 rfl ?_
              refine cv_iload_n X dX0_addTile_329 rfl ?_
              refine cv_iload_n X dX0_addTile_330 rfl ?_
              refine cv_iload X dX0_addTile_331 rfl ?_
              refine cv_iaddN X dX0_addTile_333 ?_
              refine cv_iload X dX0_addTile_334 rfl ?_
              refine cv_iconst X (v := nI 4) dX0_addTile_336 (by decide) ?_
              refine cv_idiv X dX0_addTile_337 (by decide) ?_
              refine cv_callv X (mX0_add l hw (by omega) (by omega)) wX0_add 3 hX0_add rfl ⟨rfl, rfl⟩ ⟨by decide, by decide⟩ rfl (Nat.le_of_ble_eq_true rfl) dX0_addTile_338 ?_
              refine cv_aload_n X dX0_addTile_341 rfl ?_
              refine cv_iload_n X dX0_addTile_342 rfl ?_
              refine cv_iconst X (v := nI 1) dX0_addTile_343 (by decide) ?_
              refine cv_iaddN X dX0_addTile_344 ?_
              refine cv_iload_n X dX0_addTile_345 rfl ?_
              refine cv_iload X dX0_addTile_346 rfl ?_
              refine cv_iaddN X dX0_addTile_348 ?_
              refine cv_iload X dX0_addTile_349 rfl ?_
              refine cv_iconst X (v := nI 4) dX0_addTile_351 (by decide) ?_
              refine cv_idiv X dX0_addTile_352 (by decide) ?_
              refine cv_callv X (mX0_add l hw (by omega) (by omega)) wX0_add 3 hX0_add rfl ⟨rfl, rfl⟩ ⟨by decide, by decide⟩ rfl (Nat.le_of_ble_eq_true rfl) dX0_addTile_353 ?_
              refine cv_iincN X (lv' := [_, _, _, _, _, _, _]) dX0_addTile_356 (by decide) rfl rfl ?_
              refine cv_goto X (tgt := 250) dX0_addTile_359 (by decide) ?_
              exact cv_take X 5 ih_j6
          · intro i5 h_i5 ih_i5
            show G (xs pi ke st mg ch wd ou (zfc (zfr (zpc pi mg c x y pc))) hf sh (it (fun i q => upd (upd q i (q i + q (4 + i) + q (8 + i))) (4 + i) (q (4 + i) - q (8 + i) - q (12 + i))) (zmul (zfc (zfr (zpc pi mg c x y pc))) sh pr) i5) pl ot tt li ro ba wi) 152 [.ref h, .int (nI c), .int (nI x), .int (nI y), .int (nI i5)] []
            refine cv_iload X dX0_addTile_152 rfl ?_
            refine cv_iconst X (v := nI 4) dX0_addTile_154 (by decide) ?_
            refine cv_icmp_geF X 247 (by omega) (by omega) dX0_addTile_155 (by decide) (by omega) ?_
            refine cv_aload_n X dX0_addTile_158 rfl ?_
            refine cv_getA X 10 q49 (by decide) rfl rfl dX0_addTile_159 ?_
            refine cv_iload X dX0_addTile_162 rfl ?_
            refine cv_iald X 16 rfl rfl (by omega) dX0_addTile_164 ?_
            refine cv_aload_n X dX0_addTile_165 rfl ?_
            refine cv_getA X 10 q49 (by decide) rfl rfl dX0_addTile_166 ?_
            refine cv_iconst X (v := nI 4) dX0_addTile_169 (by decide) ?_
            refine cv_iload X dX0_addTile_170 rfl ?_
            refine cv_iaddN X dX0_addTile_172 ?_
            refine cv_iald X 16 rfl rfl (by omega) dX0_addTile_173 ?_
            refine cv_iadd X dX0_addTile_174 ?_
            refine cv_aload_n X dX0_addTile_175 rfl ?_
            refine cv_getA X 10 q49 (by decide) rfl rfl dX0_addTile_176 ?_
            refine cv_bipush X (v := nI 8) dX0_addTile_179 (by decide) ?_
            refine cv_iload X dX0_addTile_181 rfl ?_
            refine cv_iaddN X dX0_addTile_183 ?_
            refine cv_iald X 16 rfl rfl (by omega) dX0_addTile_184 ?_
            refine cv_iadd X dX0_addTile_185 ?_
            refine cv_istore X (lv' := [_, _, _, _, _, _]) dX0_addTile_186 (by decide) rfl ?_
            refine cv_aload_n X dX0_addTile_188 rfl ?_
            refine cv_getA X 10 q49 (by decide) rfl rfl dX0_addTile_189 ?_
            refine cv_iconst X (v := nI 4) dX0_addTile_192 (by decide) ?_
            refine cv_iload X dX0_addTile_193 rfl ?_
            refine cv_iaddN X dX0_addTile_195 ?_
            refine cv_iald X 16 rfl rfl (by omega) dX0_addTile_196 ?_
            refine cv_aload_n X dX0_addTile_197 rfl ?_
            refine cv_getA X 10 q49 (by decide) rfl rfl dX0_addTile_198 ?_
            refine cv_bipush X (v := nI 8) dX0_addTile_201 (by decide) ?_
            refine cv_iload X dX0_addTile_203 rfl ?_
            refine cv_iaddN X dX0_addTile_205 ?_
            refine cv_iald X 16 rfl rfl (by omega) dX0_addTile_206 ?_
            refine cv_isub X dX0_addTile_207 ?_
            refine cv_aload_n X dX0_addTile_208 rfl ?_
            refine cv_getA X 10 q49 (by decide) rfl rfl dX0_addTile_209 ?_
            refine cv_bipush X (v := nI 12) dX0_addTile_212 (by decide) ?_
            refine cv_iload X dX0_addTile_214 rfl ?_
            refine cv_iaddN X dX0_addTile_216 ?_
            refine cv_iald X 16 rfl rfl (by omega) dX0_addTile_217 ?_
            refine cv_isub X dX0_addTile_218 ?_
            refine cv_istore X (lv' := [_, _, _, _, _, _, _]) dX0_addTile_219 (by decide) rfl ?_
            refine cv_aload_n X dX0_addTile_221 rfl ?_
            refine cv_getA X 10 q49 (by decide) rfl rfl dX0_addTile_222 ?_
            refine cv_iload X dX0_addTile_225 rfl ?_
            refine cv_iload X dX0_addTile_227 rfl ?_
            refine cv_iast X 16 (S' := [_, _, _, _, _, _, _, _, _, _, _, _, _, _, _, _, _, _]) rfl rfl (by omega) rfl dX0_addTile_229 ?_
            refine cv_aload_n X dX0_addTile_230 rfl ?_
            refine cv_getA X 10 q49 (by decide) rfl rfl dX0_addTile_231 ?_
            refine cv_iconst X (v := nI 4) dX0_addTile_234 (by decide) ?_
            refine cv_iload X dX0_addTile_235 rfl ?_
            refine cv_iaddN X dX0_addTile_237 ?_
            refine cv_iload X dX0_addTile_238 rfl ?_
            refine cv_iast X 16 (S' := [_, _, _, _, _, _, _, _, _, _, _, _, _, _, _, _, _, _]) rfl rfl (by omega) rfl dX0_addTile_240 ?_
            refine cv_iincN X (lv' := [_, _, _, _, _, _, _]) dX0_addTile_241 (by decide) rfl rfl ?_
            refine cv_goto X (tgt := 152) dX0_addTile_244 (by decide) ?_
            exact cv_take X 5 ih_i5
        · intro k4 h_k4 ih_k4
          show G (xs pi ke st mg ch wd ou (zfc (zfr (zpc pi mg c x y pc))) hf sh (it (fun k q => upd q k ((zfc (zfr (zpc pi mg c x y pc))) k * sh k)) pr k4) pl ot tt li ro ba wi) 114 [.ref h, .int (nI c), .int (nI x), .int (nI y), .int (nI k4)] []
          refine cv_iload X dX0_addTile_114 rfl ?_
          refine cv_bipush X (v := nI 16) dX0_addTile_116 (by decide) ?_
          refine cv_icmp_geF X 149 (by omega) (by omega) dX0_addTile_118 (by decide) (by omega) ?_
          refine cv_aload_n X dX0_addTile_121 rfl ?_
          refine cv_getA X 10 q49 (by decide) rfl rfl dX0_addTile_122 ?_
          refine cv_iload X dX0_addTile_125 rfl ?_
          refine cv_aload_n X dX0_addTile_127 rfl ?_
          refine cv_getA X 7 q46 (by decide) rfl rfl dX0_addTile_128 ?_
          refine cv_iload X dX0_addTile_131 rfl ?_
          refine cv_iald X 16 rfl rfl (by omega) dX0_addTile_133 ?_
          refine cv_aload_n X dX0_addTile_134 rfl ?_
          refine cv_getA X 9 q48 (by decide) rfl rfl dX0_addTile_135 ?_
          refine cv_iload X dX0_addTile_138 rfl ?_
          refine cv_iald X 16 rfl rfl (by omega) dX0_addTile_140 ?_
          refine cv_imul X dX0_addTile_141 ?_
          refine cv_iast X 16 (S' := [_, _, _, _, _, _, _, _, _, _, _, _, _, _, _, _, _, _]) rfl rfl (by omega) rfl dX0_addTile_142 ?_
          refine cv_iincN X (lv' := [_, _, _, _, _]) dX0_addTile_143 (by decide) rfl rfl ?_
          refine cv_goto X (tgt := 114) dX0_addTile_146 (by decide) ?_
          exact cv_take X 5 ih_k4
      · intro i3 h_i3 ih_i3
        show G (xs pi ke st mg ch wd ou (it (fun i p => zfour p i 4) (zfr (zpc pi mg c x y pc)) i3) hf sh pr pl ot tt li ro ba wi) 92 [.ref h, .int (nI c), .int (nI x), .int (nI y), .int (nI i3)] []
        refine cv_iload X dX0_addTile_92 rfl ?_
        refine cv_iconst X (v := nI 4) dX0_addTile_94 (by decide) ?_
        refine cv_icmp_geF X 111 (by omega) (by omega) dX0_addTile_95 (by decide) (by omega) ?_
        refine cv_aload_n X dX0_addTile_98 rfl ?_
        refine cv_iload X dX0_addTile_99 rfl ?_
        refine cv_iconst X (v := nI 4) dX0_addTile_101 (by decide) ?_
        refine cv_callv X (mX0_shapeFour l (by omega)) wX0_shapeFour 2 hX0_shapeFour rfl ⟨rfl, rfl⟩ ⟨by decide, by decide⟩ rfl (Nat.le_of_ble_eq_true rfl) dX0_addTile_102 ?_
        refine cv_iincN X (lv' := [_, _, _, _, _]) dX0_addTile_105 (by decide) rfl rfl ?_
        refine cv_goto X (tgt := 92) dX0_addTile_108 (by decide) ?_
        exact cv_take X 5 ih_i3
    · intro j2 h_j2 ih_j2
      show G (xs pi ke st mg ch wd ou (it (fun j p => zfour p (4 * j) 1) (zpc pi mg c x y pc) j2) hf sh pr pl ot tt li ro ba wi) 68 [.ref h, .int (nI c), .int (nI x), .int (nI y), .int (nI j2)] []
      refine cv_iload X dX0_addTile_68 rfl ?_
      refine cv_iconst X (v := nI 4) dX0_addTile_70 (by decide) ?_
      refine cv_icmp_geF X 89 (by omega) (by omega) dX0_addTile_71 (by decide) (by omega) ?_
      refine cv_aload_n X dX0_addTile_74 rfl ?_
      refine cv_iconst X (v := nI 4) dX0_addTile_75 (by decide) ?_
      refine cv_iload X dX0_addTile_76 rfl ?_
      refine cv_imulN X dX0_addTile_78 ?_
      refine cv_iconst X (v := nI 1) dX0_addTile_79 (by decide) ?_
      refine cv_callv X (mX0_shapeFour l (by omega)) wX0_shapeFour 2 hX0_shapeFour rfl ⟨rfl, rfl⟩ ⟨by decide, by decide⟩ rfl (Nat.le_of_ble_eq_true rfl) dX0_addTile_80 ?_
      refine cv_iincN X (lv' := [_, _, _, _, _]) dX0_addTile_83 (by decide) rfl rfl ?_
      refine cv_goto X (tgt := 68) dX0_addTile_86 (by decide) ?_
      exact cv_take X 5 ih_j2
  · intro j1 h_j1 ih_j1
    show G (xs pi ke st mg ch wd ou (it (fun j p => it (fun i p => upd p (4 * j + i) (zat pi c (nI (x + i) - nI mg) (nI (y + j) - nI mg))) p 4) pc j1) hf sh pr pl ot tt li ro ba wi) 3 [.ref h, .int (nI c), .int (nI x), .int (nI y), .int (nI j1)] []
    refine cv_iload X dX0_addTile_3 rfl ?_
    refine cv_iconst X (v := nI 4) dX0_addTile_5 (by decide) ?_
    refine cv_icmp_geF X 65 (by omega) (by omega) dX0_addTile_6 (by decide) (by omega) ?_
    refine cv_iconst X (v := nI 0) dX0_addTile_9 (by decide) ?_
    refine cv_istore X (lv' := [_, _, _, _, _, _]) dX0_addTile_10 (by decide) rfl ?_
    refine up_loop0 (P := fun i1 => G (xs pi ke st mg ch wd ou (it (fun i p => upd p (4 * j1 + i) (zat pi c (nI (x + i) - nI mg) (nI (y + j1) - nI mg))) (it (fun j p => it (fun i p => upd p (4 * j + i) (zat pi c (nI (x + i) - nI mg) (nI (y + j) - nI mg))) p 4) pc j1) i1) hf sh pr pl ot tt li ro ba wi) 12 [.ref h, .int (nI c), .int (nI x), .int (nI y), .int (nI j1), .int (nI i1)] []) (4) ?_ ?_
    · show G (xs pi ke st mg ch wd ou (it (fun i p => upd p (4 * j1 + i) (zat pi c (nI (x + i) - nI mg) (nI (y + j1) - nI mg))) (it (fun j p => it (fun i p => upd p (4 * j + i) (zat pi c (nI (x + i) - nI mg) (nI (y + j) - nI mg))) p 4) pc j1) (4)) hf sh pr pl ot tt li ro ba wi) 12 [.ref h, .int (nI c), .int (nI x), .int (nI y), .int (nI j1), .int (nI (4))] []
      refine cv_iload X dX0_addTile_12 rfl ?_
      refine cv_iconst X (v := nI 4) dX0_addTile_14 (by decide) ?_
      refine cv_icmp_geT X 59 (by omega) (by omega) dX0_addTile_15 (by decide) (by omega) ?_
      refine cv_iincN X (lv' := [_, _, _, _, _, _]) dX0_addTile_59 (by decide) rfl rfl ?_
      refine cv_goto X (tgt := 3) dX0_addTile_62 (by decide) ?_
      exact cv_take X 5 ih_j1
    · intro i1 h_i1 ih_i1
      show G (xs pi ke st mg ch wd ou (it (fun i p => upd p (4 * j1 + i) (zat pi c (nI (x + i) - nI mg) (nI (y + j1) - nI mg))) (it (fun j p => it (fun i p => upd p (4 * j + i) (zat pi c (nI (x + i) - nI mg) (nI (y + j) - nI mg))) p 4) pc j1) i1) hf sh pr pl ot tt li ro ba wi) 12 [.ref h, .int (nI c), .int (nI x), .int (nI y), .int (nI j1), .int (nI i1)] []
      refine cv_iload X dX0_addTile_12 rfl ?_
      refine cv_iconst X (v := nI 4) dX0_addTile_14 (by decide) ?_
      refine cv_icmp_geF X 59 (by omega) (by omega) dX0_addTile_15 (by decide) (by omega) ?_
      refine cv_aload_n X dX0_addTile_18 rfl ?_
      refine cv_getA X 7 q46 (by decide) rfl rfl dX0_addTile_19 ?_
      refine cv_iconst X (v := nI 4) dX0_addTile_22 (by decide) ?_
      refine cv_iload X dX0_addTile_23 rfl ?_
      refine cv_imulN X dX0_addTile_25 ?_
      refine cv_iload X dX0_addTile_26 rfl ?_
      refine cv_iaddN X dX0_addTile_28 ?_
      refine cv_aload_n X dX0_addTile_29 rfl ?_
      refine cv_iload_n X dX0_addTile_30 rfl ?_
      refine cv_iload_n X dX0_addTile_31 rfl ?_
      refine cv_iload X dX0_addTile_32 rfl ?_
      refine cv_iaddN X dX0_addTile_34 ?_
      refine cv_aload_n X dX0_addTile_35 rfl ?_
      refine cv_getI X 3 q42 (by decide) rfl rfl dX0_addTile_36 ?_
      refine cv_isub X dX0_addTile_39 ?_
      refine cv_iload_n X dX0_addTile_40 rfl ?_
      refine cv_iload X dX0_addTile_41 rfl ?_
      refine cv_iaddN X dX0_addTile_43 ?_
      refine cv_aload_n X dX0_addTile_44 rfl ?_
      refine cv_getI X 3 q42 (by decide) rfl rfl dX0_addTile_45 ?_
      refine cv_isub X dX0_addTile_48 ?_
      refine cv_calli X (mX0_at l hc) wX0_at 3 hX0_at rfl ⟨rfl, rfl⟩ ⟨by decide, by decide⟩ rfl (Nat.le_of_ble_eq_true rfl) dX0_addTile_49 ?_
      refine cv_iast X 16 (S' := [_, _, _, _, _, _, _, _, _, _, _, _, _, _, _, _, _, _]) rfl rfl (by omega) rfl dX0_addTile_52 ?_
      refine cv_iincN X (lv' := [_, _, _, _, _, _]) dX0_addTile_53 (by decide) rfl rfl ?_
      refine cv_goto X (tgt := 12) dX0_addTile_56 (by decide) ?_
      exact cv_take X 6 ih_i1
abbrev rX0_moveByTiles : Room := { frames := 2, cells := 0, slots := 0, locals := 52 }
set_option maxHeartbeats 4000000 in
set_option maxRecDepth 100000 in
/-- moveByTiles() -/
theorem mX0_moveByTiles (l : Launch) {pi ke : Nat → Int32} {st mg ch wd : Nat} {ou pc hf sh pr pl ot tt li ro ba wi : Nat → Int32} (hw : wd ≤ 8) (he : wd = 2 * (wd / 2)) : DXv l yX0_moveByTiles cX0_moveByTiles 4 rX0_moveByTiles 0 len0 [] (xs pi ke st mg ch wd ou pc hf sh pr pl ot tt li ro ba wi) (xs pi ke st mg ch wd ((it (ztiles pi ke wd mg) (hf, sh, pc, pr, ou) 2).2.2.2.2) ((it (ztiles pi ke wd mg) (hf, sh, pc, pr, ou) 2).2.2.1) ((it (ztiles pi ke wd mg) (hf, sh, pc, pr, ou) 2).1) ((it (ztiles pi ke wd mg) (hf, sh, pc, pr, ou) 2).2.1) ((it (ztiles pi ke wd mg) (hf, sh, pc, pr, ou) 2).2.2.2.1) pl ot tt li ro ba wi) := by
  refine dxv_of cl0 rfl (by decide) (fun _ h => absurd h List.not_mem_nil) (Nat.le_of_ble_eq_true rfl) ?_
  intro h ad G X
  refine cv_iconst X (v := nI 0) dX0_moveByTiles_0 (by decide) ?_
  refine cv_istore_n X (lv' := [_, _]) dX0_moveByTiles_1 (by decide) rfl ?_
  refine up_loop0 (P := fun c1 => G (xs pi ke st mg ch wd ((it (ztiles pi ke wd mg) (hf, sh, pc, pr, ou) c1).2.2.2.2) ((it (ztiles pi ke wd mg) (hf, sh, pc, pr, ou) c1).2.2.1) ((it (ztiles pi ke wd mg) (hf, sh, pc, pr, ou) c1).1) ((it (ztiles pi ke wd mg) (hf, sh, pc, pr, ou) c1).2.1) ((it (ztiles pi ke wd mg) (hf, sh, pc, pr, ou) c1).2.2.2.1) pl ot tt li ro ba wi) 2 [.ref h, .int (nI c1)] []) (2) ?_ ?_
  · show G (xs pi ke st mg ch wd ((it (ztiles pi ke wd mg) (hf, sh, pc, pr, ou) (2)).2.2.2.2) ((it (ztiles pi ke wd mg) (hf, sh, pc, pr, ou) (2)).2.2.1) ((it (ztiles pi ke wd mg) (hf, sh, pc, pr, ou) (2)).1) ((it (ztiles pi ke wd mg) (hf, sh, pc, pr, ou) (2)).2.1) ((it (ztiles pi ke wd mg) (hf, sh, pc, pr, ou) (2)).2.2.2.1) pl ot tt li ro ba wi) 2 [.ref h, .int (nI (2))] []
    refine cv_iload_n X dX0_moveByTiles_2 rfl ?_
    refine cv_iconst X (v := nI 2) dX0_moveByTiles_3 (by decide) ?_
    refine cv_icmp_geT X 59 (by omega) (by omega) dX0_moveByTiles_4 (by decide) (by omega) ?_
    exact cv_return X dX0_moveByTiles_59 ⟨rfl, rfl⟩
  · intro c1 h_c1 ih_c1
    show G (xs pi ke st mg ch wd ((it (ztiles pi ke wd mg) (hf, sh, pc, pr, ou) c1).2.2.2.2) ((it (ztiles pi ke wd mg) (hf, sh, pc, pr, ou) c1).2.2.1) ((it (ztiles pi ke wd mg) (hf, sh, pc, pr, ou) c1).1) ((it (ztiles pi ke wd mg) (hf, sh, pc, pr, ou) c1).2.1) ((it (ztiles pi ke wd mg) (hf, sh, pc, pr, ou) c1).2.2.2.1) pl ot tt li ro ba wi) 2 [.ref h, .int (nI c1)] []
    refine cv_iload_n X dX0_moveByTiles_2 rfl ?_
    refine cv_iconst X (v := nI 2) dX0_moveByTiles_3 (by decide) ?_
    refine cv_icmp_geF X 59 (by omega) (by omega) dX0_moveByTiles_4 (by decide) (by omega) ?_
    refine cv_aload_n X dX0_moveByTiles_7 rfl ?_
    refine cv_iload_n X dX0_moveByTiles_8 rfl ?_
    refine cv_callv X (mX0_shapeKernel l h_c1) wX0_shapeKernel 1 hX0_shapeKernel rfl ⟨rfl, rfl⟩ ⟨by decide, by decide⟩ rfl (Nat.le_of_ble_eq_true rfl) dX0_moveByTiles_9 ?_
    refine cv_iconst X (v := nI 0) dX0_moveByTiles_12 (by decide) ?_
    refine cv_istore_n X (lv' := [_, _, _]) dX0_moveByTiles_13 (by decide) rfl ?_
    refine up_loop0 (P := fun y2 => G (xs pi ke st mg ch wd ((it (fun i u => it (fun j u => ztile pi (zss (zhs ke c1 (it (ztiles pi ke wd mg) (hf, sh, pc, pr, ou) c1).1) (it (ztiles pi ke wd mg) (hf, sh, pc, pr, ou) c1).2.1) wd mg c1 (2 * j) (2 * i) u) u (wd / 2)) (it (ztiles pi ke wd mg) (hf, sh, pc, pr, ou) c1).2.2 y2).2.2) ((it (fun i u => it (fun j u => ztile pi (zss (zhs ke c1 (it (ztiles pi ke wd mg) (hf, sh, pc, pr, ou) c1).1) (it (ztiles pi ke wd mg) (hf, sh, pc, pr, ou) c1).2.1) wd mg c1 (2 * j) (2 * i) u) u (wd / 2)) (it (ztiles pi ke wd mg) (hf, sh, pc, pr, ou) c1).2.2 y2).1) (zhs ke c1 (it (ztiles pi ke wd mg) (hf, sh, pc, pr, ou) c1).1) (zss (zhs ke c1 (it (ztiles pi ke wd mg) (hf, sh, pc, pr, ou) c1).1) (it (ztiles pi ke wd mg) (hf, sh, pc, pr, ou) c1).2.1) ((it (fun i u => it (fun j u => ztile pi (zss (zhs ke c1 (it (ztiles pi ke wd mg) (hf, sh, pc, pr, ou) c1).1) (it (ztiles pi ke wd mg) (hf, sh, pc, pr, ou) c1).2.1) wd mg c1 (2 * j) (2 * i) u) u (wd / 2)) (it (ztiles pi ke wd mg) (hf, sh, pc, pr, ou) c1).2.2 y2).2.1) pl ot tt li ro ba wi) 14 [.ref h, .int (nI c1), .int (nI (2 * y2))] []) (wd / 2) ?_ ?_
    · show G (xs pi ke st mg ch wd ((it (fun i u => it (fun j u => ztile pi (zss (zhs ke c1 (it (ztiles pi ke wd mg) (hf, sh, pc, pr, ou) c1).1) (it (ztiles pi ke wd mg) (hf, sh, pc, pr, ou) c1).2.1) wd mg c1 (2 * j) (2 * i) u) u (wd / 2)) (it (ztiles pi ke wd mg) (hf, sh, pc, pr, ou) c1).2.2 (wd / 2)).2.2) ((it (fun i u => it (fun j u => ztile pi (zss (zhs ke c1 (it (ztiles pi ke wd mg) (hf, sh, pc, pr, ou) c1).1) (it (ztiles pi ke wd mg) (hf, sh, pc, pr, ou) c1).2.1) wd mg c1 (2 * j) (2 * i) u) u (wd / 2)) (it (ztiles pi ke wd mg) (hf, sh, pc, pr, ou) c1).2.2 (wd / 2)).1) (zhs ke c1 (it (ztiles pi ke wd mg) (hf, sh, pc, pr, ou) c1).1) (zss (zhs ke c1 (it (ztiles pi ke wd mg) (hf, sh, pc, pr, ou) c1).1) (it (ztiles pi ke wd mg) (hf, sh, pc, pr, ou) c1).2.1) ((it (fun i u => it (fun j u => ztile pi (zss (zhs ke c1 (it (ztiles pi ke wd mg) (hf, sh, pc, pr, ou) c1).1) (it (ztiles pi ke wd mg) (hf, sh, pc, pr, ou) c1).2.1) wd mg c1 (2 * j) (2 * i) u) u (wd / 2)) (it (ztiles pi ke wd mg) (hf, sh, pc, pr, ou) c1).2.2 (wd / 2)).2.1) pl ot tt li ro ba wi) 14 [.ref h, .int (nI c1), .int (nI (2 * (wd / 2)))] []
      refine cv_iload_n X dX0_moveByTiles_14 rfl ?_
      refine cv_aload_n X dX0_moveByTiles_15 rfl ?_
      refine cv_getI X 5 q44 (by decide) rfl rfl dX0_moveByTiles_16 ?_
      refine cv_icmp_geT X 53 (by omega) (by omega) dX0_moveByTiles_19 (by decide) (by omega) ?_
      refine cv_iincN X (lv' := [_, _, _]) dX0_moveByTiles_53 (by decide) rfl rfl ?_
      refine cv_goto X (tgt := 2) dX0_moveByTiles_56 (by decide) ?_
      exact cv_take X 2 ih_c1
    · intro y2 h_y2 ih_y2
      show G (xs pi ke st mg ch wd ((it (fun i u => it (fun j u => ztile pi (zss (zhs ke c1 (it (ztiles pi ke wd mg) (hf, sh, pc, pr, ou) c1).1) (it (ztiles pi ke wd mg) (hf, sh, pc, pr, ou) c1).2.1) wd mg c1 (2 * j) (2 * i) u) u (wd / 2)) (it (ztiles pi ke wd mg) (hf, sh, pc, pr, ou) c1).2.2 y2).2.2) ((it (fun i u => it (fun j u => ztile pi (zss (zhs ke c1 (it (ztiles pi ke wd mg) (hf, sh, pc, pr, ou) c1).1) (it (ztiles pi ke wd mg) (hf, sh, pc, pr, ou) c1).2.1) wd mg c1 (2 * j) (2 * i) u) u (wd / 2)) (it (ztiles pi ke wd mg) (hf, sh, pc, pr, ou) c1).2.2 y2).1) (zhs ke c1 (it (ztiles pi ke wd mg) (hf, sh, pc, pr, ou) c1).1) (zss (zhs ke c1 (it (ztiles pi ke wd mg) (hf, sh, pc, pr, ou) c1).1) (it (ztiles pi ke wd mg) (hf, sh, pc, pr, ou) c1).2.1) ((it (fun i u => it (fun j u => ztile pi (zss (zhs ke c1 (it (ztiles pi ke wd mg) (hf, sh, pc, pr, ou) c1).1) (it (ztiles pi ke wd mg) (hf, sh, pc, pr, ou) c1).2.1) wd mg c1 (2 * j) (2 * i) u) u (wd / 2)) (it (ztiles pi ke wd mg) (hf, sh, pc, pr, ou) c1).2.2 y2).2.1) pl ot tt li ro ba wi) 14 [.ref h, .int (nI c1), .int (nI (2 * y2))] []
      refine cv_iload_n X dX0_moveByTiles_14 rfl ?_
      refine cv_aload_n X dX0_moveByTiles_15 rfl ?_
      refine cv_getI X 5 q44 (by decide) rfl rfl dX0_moveByTiles_16 ?_
      refine cv_icmp_geF X 53 (by omega) (by omega) dX0_moveByTiles_19 (by decide) (by omega) ?_
      refine cv_iconst X (v := nI 0) dX0_moveByTiles_22 (by decide) ?_
      refine cv_istore_n X (lv' := [_, _, _, _]) dX0_moveByTiles_23 (by decide) rfl ?_
      refine up_loop0 (P := fun x3 => G (xs pi ke st mg ch wd ((it (fun j u => ztile pi (zss (zhs ke c1 (it (ztiles pi ke wd mg) (hf, sh, pc, pr, ou) c1).1) (it (ztiles pi ke wd mg) (hf, sh, pc, pr, ou) c1).2.1) wd mg c1 (2 * j) (2 * y2) u) (it (fun i u => it (fun j u => ztile pi (zss (zhs ke c1 (it (ztiles pi ke wd mg) (hf, sh, pc, pr, ou) c1).1) (it (ztiles pi ke wd mg) (hf, sh, pc, pr, ou) c1).2.1) wd mg c1 (2 * j) (2 * i) u) u (wd / 2)) (it (ztiles pi ke wd mg) (hf, sh, pc, pr, ou) c1).2.2 y2) x3).2.2) ((it (fun j u => ztile pi (zss (zhs ke c1 (it (ztiles pi ke wd mg) (hf, sh, pc, pr, ou) c1).1) (it (ztiles pi ke wd mg) (hf, sh, pc, pr, ou) c1).2.1) wd mg c1 (2 * j) (2 * y2) u) (it (fun i u => it (fun j u => ztile pi (zss (zhs ke c1 (it (ztiles pi ke wd mg) (hf, sh, pc, pr, ou) c1).1) (it (ztiles pi ke wd mg) (hf, sh, pc, pr, ou) c1).2.1) wd mg c1 (2 * j) (2 * i) u) u (wd / 2)) (it (ztiles pi ke wd mg) (hf, sh, pc, pr, ou) c1).2.2 y2) x3).1) (zhs ke c1 (it (ztiles pi ke wd mg) (hf, sh, pc, pr, ou) c1).1) (zss (zhs ke c1 (it (ztiles pi ke wd mg) (hf, sh, pc, pr, ou) c1).1) (it (ztiles pi ke wd mg) (hf, sh, pc, pr, ou) c1).2.1) ((it (fun j u => ztile pi (zss (zhs ke c1 (it (ztiles pi ke wd mg) (hf, sh, pc, pr, ou) c1).1) (it (ztiles pi ke wd mg) (hf, sh, pc, pr, ou) c1).2.1) wd mg c1 (2 * j) (2 * y2) u) (it (fun i u => it (fun j u => ztile pi (zss (zhs ke c1 (it (ztiles pi ke wd mg) (hf, sh, pc, pr, ou) c1).1) (it (ztiles pi ke wd mg) (hf, sh, pc, pr, ou) c1).2.1) wd mg c1 (2 * j) (2 * i) u) u (wd / 2)) (it (ztiles pi ke wd mg) (hf, sh, pc, pr, ou) c1).2.2 y2) x3).2.1) pl ot tt li ro ba wi) 24 [.ref h, .int (nI c1), .int (nI (2 * y2)), .int (nI (2 * x3))] []) (wd / 2) ?_ ?_
      · show G (xs pi ke st mg ch wd ((it (fun j u => ztile pi (zss (zhs ke c1 (it (ztiles pi ke wd mg) (hf, sh, pc, pr, ou) c1).1) (it (ztiles pi ke wd mg) (hf, sh, pc, pr, ou) c1).2.1) wd mg c1 (2 * j) (2 * y2) u) (it (fun i u => it (fun j u => ztile pi (zss (zhs ke c1 (it (ztiles pi ke wd mg) (hf, sh, pc, pr, ou) c1).1) (it (ztiles pi ke wd mg) (hf, sh, pc, pr, ou) c1).2.1) wd mg c1 (2 * j) (2 * i) u) u (wd / 2)) (it (ztiles pi ke wd mg) (hf, sh, pc, pr, ou) c1).2.2 y2) (wd / 2)).2.2) ((it (fun j u => ztile pi (zss (zhs ke c1 (it (ztiles pi ke wd mg) (hf, sh, pc, pr, ou) c1).1) (it (ztiles pi ke wd mg) (hf, sh, pc, pr, ou) c1).2.1) wd mg c1 (2 * j) (2 * y2) u) (it (fun i u => it (fun j u => ztile pi (zss (zhs ke c1 (it (ztiles pi ke wd mg) (hf, sh, pc, pr, ou) c1).1) (it (ztiles pi ke wd mg) (hf, sh, pc, pr, ou) c1).2.1) wd mg c1 (2 * j) (2 * i) u) u (wd / 2)) (it (ztiles pi ke wd mg) (hf, sh, pc, pr, ou) c1).2.2 y2) (wd / 2)).1) (zhs ke c1 (it (ztiles pi ke wd mg) (hf, sh, pc, pr, ou) c1).1) (zss (zhs ke c1 (it (ztiles pi ke wd mg) (hf, sh, pc, pr, ou) c1).1) (it (ztiles pi ke wd mg) (hf, sh, pc, pr, ou) c1).2.1) ((it (fun j u => ztile pi (zss (zhs ke c1 (it (ztiles pi ke wd mg) (hf, sh, pc, pr, ou) c1).1) (it (ztiles pi ke wd mg) (hf, sh, pc, pr, ou) c1).2.1) wd mg c1 (2 * j) (2 * y2) u) (it (fun i u => it (fun j u => ztile pi (zss (zhs ke c1 (it (ztiles pi ke wd mg) (hf, sh, pc, pr, ou) c1).1) (it (ztiles pi ke wd mg) (hf, sh, pc, pr, ou) c1).2.1) wd mg c1 (2 * j) (2 * i) u) u (wd / 2)) (it (ztiles pi ke wd mg) (hf, sh, pc, pr, ou) c1).2.2 y2) (wd / 2)).2.1) pl ot tt li ro ba wi) 24 [.ref h, .int (nI c1), .int (nI (2 * y2)), .int (nI (2 * (wd / 2)))] []
        refine cv_iload_n X dX0_moveByTiles_24 rfl ?_
        refine cv_aload_n X dX0_moveByTiles_25 rfl ?_
        refine cv_getI X 5 q44 (by decide) rfl rfl dX0_moveByTiles_26 ?_
        refine cv_icmp_geT X 46 (by omega) (by omega) dX0_moveByTiles_29 (by decide) (by omega) ?_
        refine cv_iload_n X dX0_moveByTiles_46 rfl ?_
        refine cv_iconst X (v := nI 2) dX0_moveByTiles_47 (by decide) ?_
        refine cv_iaddN X dX0_moveByTiles_48 ?_
        refine cv_istore_n X (lv' := [_, _, _, _]) dX0_moveByTiles_49 (by decide) rfl ?_
        refine cv_goto X (tgt := 14) dX0_moveByTiles_50 (by decide) ?_
        exact cv_take X 3 ih_y2
      · intro x3 h_x3 ih_x3
        show G (xs pi ke st mg ch wd ((it (fun j u => ztile pi (zss (zhs ke c1 (it (ztiles pi ke wd mg) (hf, sh, pc, pr, ou) c1).1) (it (ztiles pi ke wd mg) (hf, sh, pc, pr, ou) c1).2.1) wd mg c1 (2 * j) (2 * y2) u) (it (fun i u => it (fun j u => ztile pi (zss (zhs ke c1 (it (ztiles pi ke wd mg) (hf, sh, pc, pr, ou) c1).1) (it (ztiles pi ke wd mg) (hf, sh, pc, pr, ou) c1).2.1) wd mg c1 (2 * j) (2 * i) u) u (wd / 2)) (it (ztiles pi ke wd mg) (hf, sh, pc, pr, ou) c1).2.2 y2) x3).2.2) ((it (fun j u => ztile pi (zss (zhs ke c1 (it (ztiles pi ke wd mg) (hf, sh, pc, pr, ou) c1).1) (it (ztiles pi ke wd mg) (hf, sh, pc, pr, ou) c1).2.1) wd mg c1 (2 * j) (2 * y2) u) (it (fun i u => it (fun j u => ztile pi (zss (zhs ke c1 (it (ztiles pi ke wd mg) (hf, sh, pc, pr, ou) c1).1) (it (ztiles pi ke wd mg) (hf, sh, pc, pr, ou) c1).2.1) wd mg c1 (2 * j) (2 * i) u) u (wd / 2)) (it (ztiles pi ke wd mg) (hf, sh, pc, pr, ou) c1).2.2 y2) x3).1) (zhs ke c1 (it (ztiles pi ke wd mg) (hf, sh, pc, pr, ou) c1).1) (zss (zhs ke c1 (it (ztiles pi ke wd mg) (hf, sh, pc, pr, ou) c1).1) (it (ztiles pi ke wd mg) (hf, sh, pc, pr, ou) c1).2.1) ((it (fun j u => ztile pi (zss (zhs ke c1 (it (ztiles pi ke wd mg) (hf, sh, pc, pr, ou) c1).1) (it (ztiles pi ke wd mg) (hf, sh, pc, pr, ou) c1).2.1) wd mg c1 (2 * j) (2 * y2) u) (it (fun i u => it (fun j u => ztile pi (zss (zhs ke c1 (it (ztiles pi ke wd mg) (hf, sh, pc, pr, ou) c1).1) (it (ztiles pi ke wd mg) (hf, sh, pc, pr, ou) c1).2.1) wd mg c1 (2 * j) (2 * i) u) u (wd / 2)) (it (ztiles pi ke wd mg) (hf, sh, pc, pr, ou) c1).2.2 y2) x3).2.1) pl ot tt li ro ba wi) 24 [.ref h, .int (nI c1), .int (nI (2 * y2)), .int (nI (2 * x3))] []
        refine cv_iload_n X dX0_moveByTiles_24 rfl ?_
        refine cv_aload_n X dX0_moveByTiles_25 rfl ?_
        refine cv_getI X 5 q44 (by decide) rfl rfl dX0_moveByTiles_26 ?_
        refine cv_icmp_geF X 46 (by omega) (by omega) dX0_moveByTiles_29 (by decide) (by omega) ?_
        refine cv_aload_n X dX0_moveByTiles_32 rfl ?_
        refine cv_iload_n X dX0_moveByTiles_33 rfl ?_
        refine cv_iload_n X dX0_moveByTiles_34 rfl ?_
        refine cv_iload_n X dX0_moveByTiles_35 rfl ?_
        refine cv_callv X (mX0_addTile l hw h_c1 (by omega) (by omega)) wX0_addTile 3 hX0_addTile rfl ⟨rfl, rfl⟩ ⟨by decide, by decide⟩ rfl (Nat.le_of_ble_eq_true rfl) dX0_moveByTiles_36 ?_
        refine cv_iload_n X dX0_moveByTiles_39 rfl ?_
        refine cv_iconst X (v := nI 2) dX0_moveByTiles_40 (by decide) ?_
        refine cv_iaddN X dX0_moveByTiles_41 ?_
        refine cv_istore_n X (lv' := [_, _, _, _]) dX0_moveByTiles_42 (by decide) rfl ?_
        refine cv_goto X (tgt := 24) dX0_moveByTiles_43 (by decide) ?_
        exact cv_take X 4 ih_x3
end
section
set_option maxRecDepth 100000
abbrev rX0_transformLine : Room := { frames := 0, cells := 0, slots := 0, locals := 0 }
set_option maxHeartbeats 4000000 in
set_option maxRecDepth 100000 in
/-- transformLine(f, s, bw) -/
theorem mX0_transformLine (l : Launch) {pi ke : Nat → Int32} {st mg ch wd : Nat} {ou pc hf sh pr pl ot tt li ro ba wi : Nat → Int32} {f s bw : Nat} (hfs : ∀ i, i < 16 → f + i * s < 256) (hbw : bw < 2) : DXv l yX0_transformLine cX0_transformLine 8 rX0_transformLine 0 len0 [.int (nI f), .int (nI s), .int (nI bw)] (xs pi ke st mg ch wd ou pc hf sh pr pl ot tt li ro ba wi) (xs pi ke st mg ch wd ou pc hf sh pr ((ztl (if bw = 0 then ro else ba) f s (pl, li)).1) ot tt ((ztl (if bw = 0 then ro else ba) f s (pl, li)).2) ro ba wi) := by
  refine dxv_of cl0 rfl (by decide) (List.forall_mem_cons.mpr ⟨rfl, List.forall_mem_cons.mpr ⟨rfl, List.forall_mem_cons.mpr ⟨rfl, fun _ h => absurd h List.not_mem_nil⟩⟩⟩) (Nat.le_of_ble_eq_true rfl) ?_
  intro h ad G X
  refine cv_iconst X (v := nI 0) dX0_transformLine_0 (by decide) ?_
  refine cv_istore X (lv' := [_, _, _, _, _]) dX0_transformLine_1 (by decide) rfl ?_
  refine up_loop0 (P := fun k1 => G (xs pi ke st mg ch wd ou pc hf sh pr pl ot tt (it (fun k li => upd li k (rmd (zsum pl (if bw = 0 then ro else ba) f s k 16) P7)) li k1) ro ba wi) 3 [.ref h, .int (nI f), .int (nI s), .int (nI bw), .int (nI k1)] []) (16) ?_ ?_
  · show G (xs pi ke st mg ch wd ou pc hf sh pr pl ot tt (it (fun k li => upd li k (rmd (zsum pl (if bw = 0 then ro else ba) f s k 16) P7)) li (16)) ro ba wi) 3 [.ref h, .int (nI f), .int (nI s), .int (nI bw), .int (nI (16))] []
    refine cv_iload X dX0_transformLine_3 rfl ?_
    refine cv_bipush X (v := nI 16) dX0_transformLine_5 (by decide) ?_
    refine cv_icmp_geT X 106 (by omega) (by omega) dX0_transformLine_7 (by decide) (by omega) ?_
    refine cv_iconst X (v := nI 0) dX0_transformLine_106 (by decide) ?_
    refine cv_istore X (lv' := [_, _, _, _, _]) dX0_transformLine_107 (by decide) rfl ?_
    refine up_loop0 (P := fun k3 => G (xs pi ke st mg ch wd ou pc hf sh pr (it (fun k p => upd p (f + k * s) ((zline pl (if bw = 0 then ro else ba) f s li) k)) pl k3) ot tt (zline pl (if bw = 0 then ro else ba) f s li) ro ba wi) 109 [.ref h, .int (nI f), .int (nI s), .int (nI bw), .int (nI k3)] []) (16) ?_ ?_
    · show G (xs pi ke st mg ch wd ou pc hf sh pr (it (fun k p => upd p (f + k * s) ((zline pl (if bw = 0 then ro else ba) f s li) k)) pl (16)) ot tt (zline pl (if bw = 0 then ro else ba) f s li) ro ba wi) 109 [.ref h, .int (nI f), .int (nI s), .int (nI bw), .int (nI (16))] []
      refine cv_iload X dX0_transformLine_109 rfl ?_
      refine cv_bipush X (v := nI 16) dX0_transformLine_111 (by decide) ?_
      refine cv_icmp_geT X 140 (by omega) (by omega) dX0_transformLine_113 (by decide) (by omega) ?_
      exact cv_return X dX0_transformLine_140 ⟨rfl, rfl⟩
    · intro k3 h_k3 ih_k3
      show G (xs pi ke st mg ch wd ou pc hf sh pr (it (fun k p => upd p (f + k * s) ((zline pl (if bw = 0 then ro else ba) f s li) k)) pl k3) ot tt (zline pl (if bw = 0 then ro else ba) f s li) ro ba wi) 109 [.ref h, .int (nI f), .int (nI s), .int (nI bw), .int (nI k3)] []
      refine cv_iload X dX0_transformLine_109 rfl ?_
      refine cv_bipush X (v := nI 16) dX0_transformLine_111 (by decide) ?_
      refine cv_icmp_geF X 140 (by omega) (by omega) dX0_transformLine_113 (by decide) (by omega) ?_
      refine cv_aload_n X dX0_transformLine_116 rfl ?_
      refine cv_getA X 11 q50 (by decide) rfl rfl dX0_transformLine_117 ?_
      refine cv_iload_n X dX0_transformLine_120 rfl ?_
      refine cv_iload X dX0_transformLine_121 rfl ?_
      refine cv_iload_n X dX0_transformLine_123 rfl ?_
      refine cv_imulN X dX0_transformLine_124 ?_
      refine cv_iaddN X dX0_transformLine_125 ?_
      refine cv_aload_n X dX0_transformLine_126 rfl ?_
      refine cv_getA X 14 q53 (by decide) rfl rfl dX0_transformLine_127 ?_
      refine cv_iload X dX0_transformLine_130 rfl ?_
      refine cv_iald X 16 rfl rfl (by omega) dX0_transformLine_132 ?_
      refine cv_iast X 256 (S' := [_, _, _, _, _, _, _, _, _, _, _, _, _, _, _, _, _, _]) rfl rfl (hfs _ h_k3) rfl dX0_transformLine_133 ?_
      refine cv_iincN X (lv' := [_, _, _, _, _]) dX0_transformLine_134 (by decide) rfl rfl ?_
      refine cv_goto X (tgt := 109) dX0_transformLine_137 (by decide) ?_
      exact cv_take X 5 ih_k3
  · intro k1 h_k1 ih_k1
    show G (xs pi ke st mg ch wd ou pc hf sh pr pl ot tt (it (fun k li => upd li k (rmd (zsum pl (if bw = 0 then ro else ba) f s k 16) P7)) li k1) ro ba wi) 3 [.ref h, .int (nI f), .int (nI s), .int (nI bw), .int (nI k1)] []
    refine cv_iload X dX0_transformLine_3 rfl ?_
    refine cv_bipush X (v := nI 16) dX0_transformLine_5 (by decide) ?_
    refine cv_icmp_geF X 106 (by omega) (by omega) dX0_transformLine_7 (by decide) (by omega) ?_
    refine cv_iconst X (v := nI 0) dX0_transformLine_10 (by decide) ?_
    refine cv_istore X (lv' := [_, _, _, _, _, _]) dX0_transformLine_11 (by decide) rfl ?_
    refine cv_iconst X (v := nI 0) dX0_transformLine_13 (by decide) ?_
    refine cv_istore X (lv' := [_, _, _, _, _, _, _]) dX0_transformLine_14 (by decide) rfl ?_
    refine up_loop0 (P := fun i2 => G (xs pi ke st mg ch wd ou pc hf sh pr pl ot tt (it (fun k li => upd li k (rmd (zsum pl (if bw = 0 then ro else ba) f s k 16) P7)) li k1) ro ba wi) 16 [.ref h, .int (nI f), .int (nI s), .int (nI bw), .int (nI k1), .int (zsum pl (if bw = 0 then ro else ba) f s k1 i2), .int (nI i2)] []) (16) ?_ ?_
    · show G (xs pi ke st mg ch wd ou pc hf sh pr pl ot tt (it (fun k li => upd li k (rmd (zsum pl (if bw = 0 then ro else ba) f s k 16) P7)) li k1) ro ba wi) 16 [.ref h, .int (nI f), .int (nI s), .int (nI bw), .int (nI k1), .int (zsum pl (if bw = 0 then ro else ba) f s k1 (16)), .int (nI (16))] []
      refine cv_iload X dX0_transformLine_16 rfl ?_
      refine cv_bipush X (v := nI 16) dX0_transformLine_18 (by decide) ?_
      refine cv_icmp_geT X 87 (by omega) (by omega) dX0_transformLine_20 (by decide) (by omega) ?_
      refine cv_aload_n X dX0_transformLine_87 rfl ?_
      refine cv_getA X 14 q53 (by decide) rfl rfl dX0_transformLine_88 ?_
      refine cv_iload X dX0_transformLine_91 rfl ?_
      refine cv_iload X dX0_transformLine_93 rfl ?_
      refine cv_sipush X (v := nI 7681) dX0_transformLine_95 (by decide) ?_
      refine cv_irem X dX0_transformLine_98 (by decide) ?_
      refine cv_iast X 16 (S' := [_, _, _, _, _, _, _, _, _, _, _, _, _, _, _, _, _, _]) rfl rfl (by omega) rfl dX0_transformLine_99 ?_
      refine cv_iincN X (lv' := [_, _, _, _, _, _, _]) dX0_transformLine_100 (by decide) rfl rfl ?_
      refine cv_goto X (tgt := 3) dX0_transformLine_103 (by decide) ?_
      exact cv_take X 5 ih_k1
    · intro i2 h_i2 ih_i2
      show G (xs pi ke st mg ch wd ou pc hf sh pr pl ot tt (it (fun k li => upd li k (rmd (zsum pl (if bw = 0 then ro else ba) f s k 16) P7)) li k1) ro ba wi) 16 [.ref h, .int (nI f), .int (nI s), .int (nI bw), .int (nI k1), .int (zsum pl (if bw = 0 then ro else ba) f s k1 i2), .int (nI i2)] []
      refine cv_iload X dX0_transformLine_16 rfl ?_
      refine cv_bipush X (v := nI 16) dX0_transformLine_18 (by decide) ?_
      refine cv_icmp_geF X 87 (by omega) (by omega) dX0_transformLine_20 (by decide) (by omega) ?_
      refine cv_iload_n X dX0_transformLine_23 rfl ?_
      refine cv_if_eqN X 43 (by omega) dX0_transformLine_24 (by decide) (fun b24 => ?_) (fun b24 => ?_)
      · skip
        refine cv_aload_n X dX0_transformLine_43 rfl ?_
        refine cv_getA X 15 q54 (by decide) rfl rfl dX0_transformLine_44 ?_
        refine cv_iload X dX0_transformLine_47 rfl ?_
        refine cv_iload X dX0_transformLine_49 rfl ?_
        refine cv_imulN X dX0_transformLine_51 ?_
        refine cv_bipush X (v := nI 15) dX0_transformLine_52 (by decide) ?_
        refine cv_iand15 X (Nat.lt_of_lt_of_le (Nat.mul_lt_mul'' h_k1 h_i2) (by decide)) dX0_transformLine_54 ?_
        refine cv_iald X 16 rfl rfl (Nat.mod_lt _ (by decide)) dX0_transformLine_55 ?_
        refine cv_istore X (lv' := [_, _, _, _, _, _, _, _]) dX0_transformLine_56 (by decide) rfl ?_
        refine cv_iload X dX0_transformLine_58 rfl ?_
        refine cv_aload_n X dX0_transformLine_60 rfl ?_
        refine cv_getA X 11 q50 (by decide) rfl rfl dX0_transformLine_61 ?_
        refine cv_iload_n X dX0_transformLine_64 rfl ?_
        refine cv_iload X dX0_transformLine_65 rfl ?_
        refine cv_iload_n X dX0_transformLine_67 rfl ?_
        refine cv_imulN X dX0_transformLine_68 ?_
        refine cv_iaddN X dX0_transformLine_69 ?_
        refine cv_iald X 256 rfl rfl (hfs _ h_i2) dX0_transformLine_70 ?_
        refine cv_iload X dX0_transformLine_71 rfl ?_
        refine cv_imul X dX0_transformLine_73 ?_
        refine cv_sipush X (v := nI 7681) dX0_transformLine_74 (by decide) ?_
        refine cv_irem X dX0_transformLine_77 (by decide) ?_
        refine cv_iadd X dX0_transformLine_78 ?_
        refine cv_istore X (lv' := [_, _, _, _, _, _, _, _]) dX0_transformLine_79 (by decide) rfl ?_
        refine cv_iincN X (lv' := [_, _, _, _, _, _, _, _]) dX0_transformLine_81 (by decide) rfl rfl ?_
        refine cv_goto X (tgt := 16) dX0_transformLine_84 (by decide) ?_
        exact cv_take X 7 (cv_eql rfl (by simp only [zsum, it, if_pos b24, P7]; rfl) ih_i2)
      · skip
        refine cv_aload_n X dX0_transformLine_27 rfl ?_
        refine cv_getA X 16 q55 (by decide) rfl rfl dX0_transformLine_28 ?_
        refine cv_iload X dX0_transformLine_31 rfl ?_
        refine cv_iload X dX0_transformLine_33 rfl ?_
        refine cv_imulN X dX0_transformLine_35 ?_
        refine cv_bipush X (v := nI 15) dX0_transformLine_36 (by decide) ?_
        refine cv_iand15 X (Nat.lt_of_lt_of_le (Nat.mul_lt_mul'' h_k1 h_i2) (by decide)) dX0_transformLine_38 ?_
        refine cv_iald X 16 rfl rfl (Nat.mod_lt _ (by decide)) dX0_transformLine_39 ?_
        refine cv_goto X (tgt := 56) dX0_transformLine_40 (by decide) ?_
        refine cv_istore X (lv' := [_, _, _, _, _, _, _, _]) dX0_transformLine_56 (by decide) rfl ?_
        refine cv_iload X dX0_transformLine_58 rfl ?_
        refine cv_aload_n X dX0_transformLine_60 rfl ?_
        refine cv_getA X 11 q50 (by decide) rfl rfl dX0_transformLine_61 ?_
        refine cv_iload_n X dX0_transformLine_64 rfl ?_
        refine cv_iload X dX0_transformLine_65 rfl ?_
        refine cv_iload_n X dX0_transformLine_67 rfl ?_
        refine cv_imulN X dX0_transformLine_68 ?_
        refine cv_iaddN X dX0_transformLine_69 ?_
        refine cv_iald X 256 rfl rfl (hfs _ h_i2) dX0_transformLine_70 ?_
        refine cv_iload X dX0_transformLine_71 rfl ?_
        refine cv_imul X dX0_transformLine_73 ?_
        refine cv_sipush X (v := nI 7681) dX0_transformLine_74 (by decide) ?_
        refine cv_irem X dX0_transformLine_77 (by decide) ?_
        refine cv_iadd X dX0_transformLine_78 ?_
        refine cv_istore X (lv' := [_, _, _, _, _, _, _, _]) dX0_transformLine_79 (by decide) rfl ?_
        refine cv_iincN X (lv' := [_, _, _, _, _, _, _, _]) dX0_transformLine_81 (by decide) rfl rfl ?_
        refine cv_goto X (tgt := 16) dX0_transformLine_84 (by decide) ?_
        exact cv_take X 7 (cv_eql rfl (by simp only [zsum, it, if_neg b24, P7]; rfl) ih_i2)
abbrev rX0_transform : Room := { frames := 1, cells := 0, slots := 0, locals := 27 }
set_option maxHeartbeats 4000000 in
set_option maxRecDepth 100000 in
/-- transform(bw) -/
theorem mX0_transform (l : Launch) {pi ke : Nat → Int32} {st mg ch wd : Nat} {ou pc hf sh pr pl ot tt li ro ba wi : Nat → Int32} {bw : Nat} (hbw : bw < 2) : DXv l yX0_transform cX0_transform 3 rX0_transform 0 len0 [.int (nI bw)] (xs pi ke st mg ch wd ou pc hf sh pr pl ot tt li ro ba wi) (xs pi ke st mg ch wd ou pc hf sh pr ((ztr (if bw = 0 then ro else ba) (pl, li)).1) ot tt ((ztr (if bw = 0 then ro else ba) (pl, li)).2) ro ba wi) := by
  refine dxv_of cl0 rfl (by decide) (List.forall_mem_cons.mpr ⟨rfl, fun _ h => absurd h List.not_mem_nil⟩) (Nat.le_of_ble_eq_true rfl) ?_
  intro h ad G X
  refine cv_iconst X (v := nI 0) dX0_transform_0 (by decide) ?_
  refine cv_istore_n X (lv' := [_, _, _]) dX0_transform_1 (by decide) rfl ?_
  refine up_loop0 (P := fun i1 => G (xs pi ke st mg ch wd ou pc hf sh pr ((it (fun i t => ztl (if bw = 0 then ro else ba) (16 * i) 1 t) (pl, li) i1).1) ot tt ((it (fun i t => ztl (if bw = 0 then ro else ba) (16 * i) 1 t) (pl, li) i1).2) ro ba wi) 2 [.ref h, .int (nI bw), .int (nI i1)] []) (16) ?_ ?_
  · show G (xs pi ke st mg ch wd ou pc hf sh pr ((it (fun i t => ztl (if bw = 0 then ro else ba) (16 * i) 1 t) (pl, li) (16)).1) ot tt ((it (fun i t => ztl (if bw = 0 then ro else ba) (16 * i) 1 t) (pl, li) (16)).2) ro ba wi) 2 [.ref h, .int (nI bw), .int (nI (16))] []
    refine cv_iload_n X dX0_transform_2 rfl ?_
    refine cv_bipush X (v := nI 16) dX0_transform_3 (by decide) ?_
    refine cv_icmp_geT X 24 (by omega) (by omega) dX0_transform_5 (by decide) (by omega) ?_
    refine cv_iconst X (v := nI 0) dX0_transform_24 (by decide) ?_
    refine cv_istore_n X (lv' := [_, _, _]) dX0_transform_25 (by decide) rfl ?_
    refine up_loop0 (P := fun i2 => G (xs pi ke st mg ch wd ou pc hf sh pr ((it (fun i t => ztl (if bw = 0 then ro else ba) i 16 t) (it (fun i t => ztl (if bw = 0 then ro else ba) (16 * i) 1 t) (pl, li) 16) i2).1) ot tt ((it (fun i t => ztl (if bw = 0 then ro else ba) i 16 t) (it (fun i t => ztl (if bw = 0 then ro else ba) (16 * i) 1 t) (pl, li) 16) i2).2) ro ba wi) 26 [.ref h, .int (nI bw), .int (nI i2)] []) (16) ?_ ?_
    · show G (xs pi ke st mg ch wd ou pc hf sh pr ((it (fun i t => ztl (if bw = 0 then ro else ba) i 16 t) (it (fun i t => ztl (if bw = 0 then ro else ba) (16 * i) 1 t) (pl, li) 16) (16)).1) ot tt ((it (fun i t => ztl (if bw = 0 then ro else ba) i 16 t) (it (fun i t => ztl (if bw = 0 then ro else ba) (16 * i) 1 t) (pl, li) 16) (16)).2) ro ba wi) 26 [.ref h, .int (nI bw), .int (nI (16))] []
      refine cv_iload_n X dX0_transform_26 rfl ?_
      refine cv_bipush X (v := nI 16) dX0_transform_27 (by decide) ?_
      refine cv_icmp_geT X 46 (by omega) (by omega) dX0_transform_29 (by decide) (by omega) ?_
      exact cv_return X dX0_transform_46 ⟨rfl, rfl⟩
    · intro i2 h_i2 ih_i2
      show G (xs pi ke st mg ch wd ou pc hf sh pr ((it (fun i t => ztl (if bw = 0 then ro else ba) i 16 t) (it (fun i t => ztl (if bw = 0 then ro else ba) (16 * i) 1 t) (pl, li) 16) i2).1) ot tt ((it (fun i t => ztl (if bw = 0 then ro else ba) i 16 t) (it (fun i t => ztl (if bw = 0 then ro else ba) (16 * i) 1 t) (pl, li) 16) i2).2) ro ba wi) 26 [.ref h, .int (nI bw), .int (nI i2)] []
      refine cv_iload_n X dX0_transform_26 rfl ?_
      refine cv_bipush X (v := nI 16) dX0_transform_27 (by decide) ?_
      refine cv_icmp_geF X 46 (by omega) (by omega) dX0_transform_29 (by decide) (by omega) ?_
      refine cv_aload_n X dX0_transform_32 rfl ?_
      refine cv_iload_n X dX0_transform_33 rfl ?_
      refine cv_bipush X (v := nI 16) dX0_transform_34 (by decide) ?_
      refine cv_iload_n X dX0_transform_36 rfl ?_
      refine cv_callv X (mX0_transformLine l (by intro i hi; omega) hbw) wX0_transformLine 3 hX0_transformLine rfl ⟨rfl, rfl⟩ ⟨by decide, by decide⟩ rfl (Nat.le_of_ble_eq_true rfl) dX0_transform_37 ?_
      refine cv_iincN X (lv' := [_, _, _]) dX0_transform_40 (by decide) rfl rfl ?_
      refine cv_goto X (tgt := 26) dX0_transform_43 (by decide) ?_
      exact cv_take X 3 ih_i2
  · intro i1 h_i1 ih_i1
    show G (xs pi ke st mg ch wd ou pc hf sh pr ((it (fun i t => ztl (if bw = 0 then ro else ba) (16 * i) 1 t) (pl, li) i1).1) ot tt ((it (fun i t => ztl (if bw = 0 then ro else ba) (16 * i) 1 t) (pl, li) i1).2) ro ba wi) 2 [.ref h, .int (nI bw), .int (nI i1)] []
    refine cv_iload_n X dX0_transform_2 rfl ?_
    refine cv_bipush X (v := nI 16) dX0_transform_3 (by decide) ?_
    refine cv_icmp_geF X 24 (by omega) (by omega) dX0_transform_5 (by decide) (by omega) ?_
    refine cv_aload_n X dX0_transform_8 rfl ?_
    refine cv_bipush X (v := nI 16) dX0_transform_9 (by decide) ?_
    refine cv_iload_n X dX0_transform_11 rfl ?_
    refine cv_imulN X dX0_transform_12 ?_
    refine cv_iconst X (v := nI 1) dX0_transform_13 (by decide) ?_
    refine cv_iload_n X dX0_transform_14 rfl ?_
    refine cv_callv X (mX0_transformLine l (by intro i hi; omega) hbw) wX0_transformLine 3 hX0_transformLine rfl ⟨rfl, rfl⟩ ⟨by decide, by decide⟩ rfl (Nat.le_of_ble_eq_true rfl) dX0_transform_15 ?_
    refine cv_iincN X (lv' := [_, _, _]) dX0_transform_18 (by decide) rfl rfl ?_
    refine cv_goto X (tgt := 2) dX0_transform_21 (by decide) ?_
    exact cv_take X 3 ih_i1
abbrev rX0_addTransformed : Room := { frames := 2, cells := 0, slots := 0, locals := 49 }
set_option maxHeartbeats 4000000 in
set_option maxRecDepth 100000 in
/-- addTransformed(c) -/
theorem mX0_addTransformed (l : Launch) {pi ke : Nat → Int32} {st mg ch wd : Nat} {ou pc hf sh pr pl ot tt li ro ba wi : Nat → Int32} {c : Nat} (hc : c < 2) : DXv l yX0_addTransformed cX0_addTransformed 4 rX0_addTransformed 0 len0 [.int (nI c)] (xs pi ke st mg ch wd ou pc hf sh pr pl ot tt li ro ba wi) (xs pi ke st mg ch wd ou pc hf sh pr ((zat2 pi ke ro c (pl, ot, tt, li)).1) ((zat2 pi ke ro c (pl, ot, tt, li)).2.1) ((zat2 pi ke ro c (pl, ot, tt, li)).2.2.1) ((zat2 pi ke ro c (pl, ot, tt, li)).2.2.2) ro ba wi) := by
  refine dxv_of cl0 rfl (by decide) (List.forall_mem_cons.mpr ⟨rfl, fun _ h => absurd h List.not_mem_nil⟩) (Nat.le_of_ble_eq_true rfl) ?_
  intro h ad G X
  refine cv_aload_n X dX0_addTransformed_0 rfl ?_
  refine cv_callv X (mX0_clearPlane l) wX0_clearPlane 0 hX0_clearPlane rfl ⟨rfl, rfl⟩ ⟨by decide, by decide⟩ rfl (Nat.le_of_ble_eq_true rfl) dX0_addTransformed_1 ?_
  refine cv_iconst X (v := nI 0) dX0_addTransformed_4 (by decide) ?_
  refine cv_istore_n X (lv' := [_, _, _]) dX0_addTransformed_5 (by decide) rfl ?_
  refine up_loop0 (P := fun j1 => G (xs pi ke st mg ch wd ou pc hf sh pr (it (fun j p => it (fun i p => upd p (16 * (2 - j) + 2 - i) (zred (ke (9 * c + 3 * j + i)))) p 3) (zclr 256 pl) j1) ot tt li ro ba wi) 6 [.ref h, .int (nI c), .int (nI j1)] []) (3) ?_ ?_
  · show G (xs pi ke st mg ch wd ou pc hf sh pr (it (fun j p => it (fun i p => upd p (16 * (2 - j) + 2 - i) (zred (ke (9 * c + 3 * j + i)))) p 3) (zclr 256 pl) (3)) ot tt li ro ba wi) 6 [.ref h, .int (nI c), .int (nI (3))] []
    refine cv_iload_n X dX0_addTransformed_6 rfl ?_
    refine cv_iconst X (v := nI 3) dX0_addTransformed_7 (by decide) ?_
    refine cv_icmp_geT X 64 (by omega) (by omega) dX0_addTransformed_8 (by decide) (by omega) ?_
    refine cv_aload_n X dX0_addTransformed_64 rfl ?_
    refine cv_iconst X (v := nI 0) dX0_addTransformed_65 (by decide) ?_
    refine cv_callv X (mX0_transform l (by decide)) wX0_transform 1 hX0_transform rfl ⟨rfl, rfl⟩ ⟨by decide, by decide⟩ rfl (Nat.le_of_ble_eq_true rfl) dX0_addTransformed_66 ?_
    refine cv_iconst X (v := nI 0) dX0_addTransformed_69 (by decide) ?_
    refine cv_istore_n X (lv' := [_, _, _]) dX0_addTransformed_70 (by decide) rfl ?_
    refine up_loop0 (P := fun k2 => G (xs pi ke st mg ch wd ou pc hf sh pr ((zk1 ke ro c (pl, li)).1) (it (fun k p => upd p k ((zk1 ke ro c (pl, li)).1 k)) ot k2) tt ((zk1 ke ro c (pl, li)).2) ro ba wi) 71 [.ref h, .int (nI c), .int (nI k2)] []) (256) ?_ ?_
    · show G (xs pi ke st mg ch wd ou pc hf sh pr ((zk1 ke ro c (pl, li)).1) (it (fun k p => upd p k ((zk1 ke ro c (pl, li)).1 k)) ot (256)) tt ((zk1 ke ro c (pl, li)).2) ro ba wi) 71 [.ref h, .int (nI c), .int (nI (256))] []
      refine cv_iload_n X dX0_addTransformed_71 rfl ?_
      refine cv_sipush X (v := nI 256) dX0_addTransformed_72 (by decide) ?_
      refine cv_icmp_geT X 96 (by omega) (by omega) dX0_addTransformed_75 (by decide) (by omega) ?_
      refine cv_aload_n X dX0_addTransformed_96 rfl ?_
      refine cv_callv X (mX0_clearPlane l) wX0_clearPlane 0 hX0_clearPlane rfl ⟨rfl, rfl⟩ ⟨by decide, by decide⟩ rfl (Nat.le_of_ble_eq_true rfl) dX0_addTransformed_97 ?_
      refine cv_iconst X (v := nI 0) dX0_addTransformed_100 (by decide) ?_
      refine cv_istore_n X (lv' := [_, _, _]) dX0_addTransformed_101 (by decide) rfl ?_
      refine up_loop0 (P := fun y3 => G (xs pi ke st mg ch wd ou pc hf sh pr (it (fun y p => it (fun x p => upd p (16 * (y + 1) + x + 1) (zred (pi (64 * c + 8 * y + x)))) p 8) (zclr 256 (zk1 ke ro c (pl, li)).1) y3) (zcpy (zk1 ke ro c (pl, li)).1 ot) tt ((zk1 ke ro c (pl, li)).2) ro ba wi) 102 [.ref h, .int (nI c), .int (nI y3)] []) (8) ?_ ?_
      · show G (xs pi ke st mg ch wd ou pc hf sh pr (it (fun y p => it (fun x p => upd p (16 * (y + 1) + x + 1) (zred (pi (64 * c + 8 * y + x)))) p 8) (zclr 256 (zk1 ke ro c (pl, li)).1) (8)) (zcpy (zk1 ke ro c (pl, li)).1 ot) tt ((zk1 ke ro c (pl, li)).2) ro ba wi) 102 [.ref h, .int (nI c), .int (nI (8))] []
        refine cv_iload_n X dX0_addTransformed_102 rfl ?_
        refine cv_bipush X (v := nI 8) dX0_addTransformed_103 (by decide) ?_
        refine cv_icmp_geT X 163 (by omega) (by omega) dX0_addTransformed_105 (by decide) (by omega) ?_
        refine cv_aload_n X dX0_addTransformed_163 rfl ?_
        refine cv_iconst X (v := nI 0) dX0_addTransformed_164 (by decide) ?_
        refine cv_callv X (mX0_transform l (by decide)) wX0_transform 1 hX0_transform rfl ⟨rfl, rfl⟩ ⟨by decide, by decide⟩ rfl (Nat.le_of_ble_eq_true rfl) dX0_addTransformed_165 ?_
        refine cv_iconst X (v := nI 0) dX0_addTransformed_168 (by decide) ?_
        refine cv_istore_n X (lv' := [_, _, _]) dX0_addTransformed_169 (by decide) rfl ?_
        refine up_loop0 (P := fun k4 => G (xs pi ke st mg ch wd ou pc hf sh pr ((zk2 pi ro c (zk1 ke ro c (pl, li))).1) (zcpy (zk1 ke ro c (pl, li)).1 ot) (it (fun k t => upd t k (rmd (t k + (zk2 pi ro c (zk1 ke ro c (pl, li))).1 k * (zcpy (zk1 ke ro c (pl, li)).1 ot) k) P7)) tt k4) ((zk2 pi ro c (zk1 ke ro c (pl, li))).2) ro ba wi) 170 [.ref h, .int (nI c), .int (nI k4)] []) (256) ?_ ?_
        · show G (xs pi ke st mg ch wd ou pc hf sh pr ((zk2 pi ro c (zk1 ke ro c (pl, li))).1) (zcpy (zk1 ke ro c (pl, li)).1 ot) (it (fun k t => upd t k (rmd (t k + (zk2 pi ro c (zk1 ke ro c (pl, li))).1 k * (zcpy (zk1 ke ro c (pl, li)).1 ot) k) P7)) tt (256)) ((zk2 pi ro c (zk1 ke ro c (pl, li))).2) ro ba wi) 170 [.ref h, .int (nI c), .int (nI (256))] []
          refine cv_iload_n X dX0_addTransformed_170 rfl ?_
          refine cv_sipush X (v := nI 256) dX0_addTransformed_171 (by decide) ?_
          refine cv_icmp_geT X 213 (by omega) (by omega) dX0_addTransformed_174 (by decide) (by omega) ?_
          exact cv_return X dX0_addTransformed_213 ⟨rfl, rfl⟩
        · intro k4 h_k4 ih_k4
          show G (xs pi ke st mg ch wd ou pc hf sh pr ((zk2 pi ro c (zk1 ke ro c (pl, li))).1) (zcpy (zk1 ke ro c (pl, li)).1 ot) (it (fun k t => upd t k (rmd (t k + (zk2 pi ro c (zk1 ke ro c (pl, li))).1 k * (zcpy (zk1 ke ro c (pl, li)).1 ot) k) P7)) tt k4) ((zk2 pi ro c (zk1 ke ro c (pl, li))).2) ro ba wi) 170 [.ref h, .int (nI c), .int (nI k4)] []
          refine cv_iload_n X dX0_addTransformed_170 rfl ?_
          refine cv_sipush X (v := nI 256) dX0_addTransformed_171 (by decide) ?_
          refine cv_icmp_geF X 213 (by omega) (by omega) dX0_addTransformed_174 (by decide) (by omega) ?_
          refine cv_aload_n X dX0_addTransformed_177 rfl ?_
          refine cv_getA X 13 q52 (by decide) rfl rfl dX0_addTransformed_178 ?_
          refine cv_iload_n X dX0_addTransformed_181 rfl ?_
          refine cv_aload_n X dX0_addTransformed_182 rfl ?_
          refine cv_getA X 13 q52 (by decide) rfl rfl dX0_addTransformed_183 ?_
          refine cv_iload_n X dX0_addTransformed_186 rfl ?_
          refine cv_iald X 256 rfl rfl (by omega) dX0_addTransformed_187 ?_
          refine cv_aload_n X dX0_addTransformed_188 rfl ?_
          refine cv_getA X 11 q50 (by decide) rfl rfl dX0_addTransformed_189 ?_
          refine cv_iload_n X dX0_addTransformed_192 rfl ?_
          refine cv_iald X 256 rfl rfl (by omega) dX0_addTransformed_193 ?_
          refine cv_aload_n X dX0_addTransformed_194 rfl ?_
          refine cv_getA X 12 q51 (by decide) rfl rfl dX0_addTransformed_195 ?_
          refine cv_iload_n X dX0_addTransformed_198 rfl ?_
          refine cv_iald X 256 rfl rfl (by omega) dX0_addTransformed_199 ?_
          refine cv_imul X dX0_addTransformed_200 ?_
          refine cv_iadd X dX0_addTransformed_201 ?_
          refine cv_sipush X (v := nI 7681) dX0_addTransformed_202 (by decide) ?_
          refine cv_irem X dX0_addTransformed_205 (by decide) ?_
          refine cv_iast X 256 (S' := [_, _, _, _, _, _, _, _, _, _, _, _, _, _, _, _, _, _]) rfl rfl (by omega) rfl dX0_addTransformed_206 ?_
          refine cv_iincN X (lv' := [_, _, _]) dX0_addTransformed_207 (by decide) rfl rfl ?_
          refine cv_goto X (tgt := 170) dX0_addTransformed_210 (by decide) ?_
          exact cv_take X 3 ih_k4
      · intro y3 h_y3 ih_y3
        show G (xs pi ke st mg ch wd ou pc hf sh pr (it (fun y p => it (fun x p => upd p (16 * (y + 1) + x + 1) (zred (pi (64 * c + 8 * y + x)))) p 8) (zclr 256 (zk1 ke ro c (pl, li)).1) y3) (zcpy (zk1 ke ro c (pl, li)).1 ot) tt ((zk1 ke ro c (pl, li)).2) ro ba wi) 102 [.ref h, .int (nI c), .int (nI y3)] []
        refine cv_iload_n X dX0_addTransformed_102 rfl ?_
        refine cv_bipush X (v := nI 8) dX0_addTransformed_103 (by decide) ?_
        refine cv_icmp_geF X 163 (by omega) (by omega) dX0_addTransformed_105 (by decide) (by omega) ?_
        refine cv_iconst X (v := nI 0) dX0_addTransformed_108 (by decide) ?_
        refine cv_istore_n X (lv' := [_, _, _, _]) dX0_addTransformed_109 (by decide) rfl ?_
        refine up_loop0 (P := fun x3 => G (xs pi ke st mg ch wd ou pc hf sh pr (it (fun x p => upd p (16 * (y3 + 1) + x + 1) (zred (pi (64 * c + 8 * y3 + x)))) (it (fun y p => it (fun x p => upd p (16 * (y + 1) + x + 1) (zred (pi (64 * c + 8 * y + x)))) p 8) (zclr 256 (zk1 ke ro c (pl, li)).1) y3) x3) (zcpy (zk1 ke ro c (pl, li)).1 ot) tt ((zk1 ke ro c (pl, li)).2) ro ba wi) 110 [.ref h, .int (nI c), .int (nI y3), .int (nI x3)] []) (8) ?_ ?_
        · show G (xs pi ke st mg ch wd ou pc hf sh pr (it (fun x p => upd p (16 * (y3 + 1) + x + 1) (zred (pi (64 * c + 8 * y3 + x)))) (it (fun y p => it (fun x p => upd p (16 * (y + 1) + x + 1) (zred (pi (64 * c + 8 * y + x)))) p 8) (zclr 256 (zk1 ke ro c (pl, li)).1) y3) (8)) (zcpy (zk1 ke ro c (pl, li)).1 ot) tt ((zk1 ke ro c (pl, li)).2) ro ba wi) 110 [.ref h, .int (nI c), .int (nI y3), .int (nI (8))] []
          refine cv_iload_n X dX0_addTransformed_110 rfl ?_
          refine cv_bipush X (v := nI 8) dX0_addTransformed_111 (by decide) ?_
          refine cv_icmp_geT X 157 (by omega) (by omega) dX0_addTransformed_113 (by decide) (by omega) ?_
          refine cv_iincN X (lv' := [_, _, _, _]) dX0_addTransformed_157 (by decide) rfl rfl ?_
          refine cv_goto X (tgt := 102) dX0_addTransformed_160 (by decide) ?_
          exact cv_take X 3 ih_y3
        · intro x3 h_x3 ih_x3
          show G (xs pi ke st mg ch wd ou pc hf sh pr (it (fun x p => upd p (16 * (y3 + 1) + x + 1) (zred (pi (64 * c + 8 * y3 + x)))) (it (fun y p => it (fun x p => upd p (16 * (y + 1) + x + 1) (zred (pi (64 * c + 8 * y + x)))) p 8) (zclr 256 (zk1 ke ro c (pl, li)).1) y3) x3) (zcpy (zk1 ke ro c (pl, li)).1 ot) tt ((zk1 ke ro c (pl, li)).2) ro ba wi) 110 [.ref h, .int (nI c), .int (nI y3), .int (nI x3)] []
          refine cv_iload_n X dX0_addTransformed_110 rfl ?_
          refine cv_bipush X (v := nI 8) dX0_addTransformed_111 (by decide) ?_
          refine cv_icmp_geF X 157 (by omega) (by omega) dX0_addTransformed_113 (by decide) (by omega) ?_
          refine cv_aload_n X dX0_addTransformed_116 rfl ?_
          refine cv_getA X 11 q50 (by decide) rfl rfl dX0_addTransformed_117 ?_
          refine cv_bipush X (v := nI 16) dX0_addTransformed_120 (by decide) ?_
          refine cv_iload_n X dX0_addTransformed_122 rfl ?_
          refine cv_iconst X (v := nI 1) dX0_addTransformed_123 (by decide) ?_
          refine cv_iaddN X dX0_addTransformed_124 ?_
          refine cv_imulN X dX0_addTransformed_125 ?_
          refine cv_iload_n X dX0_addTransformed_126 rfl ?_
          refine cv_iaddN X dX0_addTransformed_127 ?_
          refine cv_iconst X (v := nI 1) dX0_addTransformed_128 (by decide) ?_
          refine cv_iaddN X dX0_addTransformed_129 ?_
          refine cv_aload_n X dX0_addTransformed_130 rfl ?_
          refine cv_aload_n X dX0_addTransformed_131 rfl ?_
          refine cv_getA X 0 q39 (by decide) rfl rfl dX0_addTransformed_132 ?_
          refine cv_bipush X (v := nI 64) dX0_addTransformed_135 (by decide) ?_
          refine cv_iload_n X dX0_addTransformed_137 rfl ?_
          refine cv_imulN X dX0_addTransformed_138 ?_
          refine cv_bipush X (v := nI 8) dX0_addTransformed_139 (by decide) ?_
          refine cv_iload_n X dX0_addTransformed_141 rfl ?_
          refine cv_imulN X dX0_addTransformed_142 ?_
          refine cv_iaddN X dX0_addTransformed_143 ?_
          refine cv_iload_n X dX0_addTransformed_144 rfl ?_
          refine cv_iaddN X dX0_addTransformed_145 ?_
          refine cv_iald X 128 rfl rfl (by omega) dX0_addTransformed_146 ?_
          refine cv_calli X (mX0_reduce l) wX0_reduce 1 hX0_reduce rfl ⟨rfl, rfl⟩ ⟨by decide, by decide⟩ rfl (Nat.le_of_ble_eq_true rfl) dX0_addTransformed_147 ?_
          refine cv_iast X 256 (S' := [_, _, _, _, _, _, _, _, _, _, _, _, _, _, _, _, _, _]) rfl rfl (by omega) rfl dX0_addTransformed_150 ?_
          refine cv_iincN X (lv' := [_, _, _, _]) dX0_addTransformed_151 (by decide) rfl rfl ?_
          refine cv_goto X (tgt := 110) dX0_addTransformed_154 (by decide) ?_
          exact cv_take X 4 ih_x3
    · intro k2 h_k2 ih_k2
      show G (xs pi ke st mg ch wd ou pc hf sh pr ((zk1 ke ro c (pl, li)).1) (it (fun k p => upd p k ((zk1 ke ro c (pl, li)).1 k)) ot k2) tt ((zk1 ke ro c (pl, li)).2) ro ba wi) 71 [.ref h, .int (nI c), .int (nI k2)] []
      refine cv_iload_n X dX0_addTransformed_71 rfl ?_
      refine cv_sipush X (v := nI 256) dX0_addTransformed_72 (by decide) ?_
      refine cv_icmp_geF X 96 (by omega) (by omega) dX0_addTransformed_75 (by decide) (by omega) ?_
      refine cv_aload_n X dX0_addTransformed_78 rfl ?_
      refine cv_getA X 12 q51 (by decide) rfl rfl dX0_addTransformed_79 ?_
      refine cv_iload_n X dX0_addTransformed_82 rfl ?_
      refine cv_aload_n X dX0_addTransformed_83 rfl ?_
      refine cv_getA X 11 q50 (by decide) rfl rfl dX0_addTransformed_84 ?_
      refine cv_iload_n X dX0_addTransformed_87 rfl ?_
      refine cv_iald X 256 rfl rfl (by omega) dX0_addTransformed_88 ?_
      refine cv_iast X 256 (S' := [_, _, _, _, _, _, _, _, _, _, _, _, _, _, _, _, _, _]) rfl rfl (by omega) rfl dX0_addTransformed_89 ?_
      refine cv_iincN X (lv' := [_, _, _]) dX0_addTransformed_90 (by decide) rfl rfl ?_
      refine cv_goto X (tgt := 71) dX0_addTransformed_93 (by decide) ?_
      exact cv_take X 3 ih_k2
  · intro j1 h_j1 ih_j1
    show G (xs pi ke st mg ch wd ou pc hf sh pr (it (fun j p => it (fun i p => upd p (16 * (2 - j) + 2 - i) (zred (ke (9 * c + 3 * j + i)))) p 3) (zclr 256 pl) j1) ot tt li ro ba wi) 6 [.ref h, .int (nI c), .int (nI j1)] []
    refine cv_iload_n X dX0_addTransformed_6 rfl ?_
    refine cv_iconst X (v := nI 3) dX0_addTransformed_7 (by decide) ?_
    refine cv_icmp_geF X 64 (by omega) (by omega) dX0_addTransformed_8 (by decide) (by omega) ?_
    refine cv_iconst X (v := nI 0) dX0_addTransformed_11 (by decide) ?_
    refine cv_istore_n X (lv' := [_, _, _, _]) dX0_addTransformed_12 (by decide) rfl ?_
    refine up_loop0 (P := fun i1 => G (xs pi ke st mg ch wd ou pc hf sh pr (it (fun i p => upd p (16 * (2 - j1) + 2 - i) (zred (ke (9 * c + 3 * j1 + i)))) (it (fun j p => it (fun i p => upd p (16 * (2 - j) + 2 - i) (zred (ke (9 * c + 3 * j + i)))) p 3) (zclr 256 pl) j1) i1) ot tt li ro ba wi) 13 [.ref h, .int (nI c), .int (nI j1), .int (nI i1)] []) (3) ?_ ?_
    · show G (xs pi ke st mg ch wd ou pc hf sh pr (it (fun i p => upd p (16 * (2 - j1) + 2 - i) (zred (ke (9 * c + 3 * j1 + i)))) (it (fun j p => it (fun i p => upd p (16 * (2 - j) + 2 - i) (zred (ke (9 * c + 3 * j + i)))) p 3) (zclr 256 pl) j1) (3)) ot tt li ro ba wi) 13 [.ref h, .int (nI c), .int (nI j1), .int (nI (3))] []
      refine cv_iload_n X dX0_addTransformed_13 rfl ?_
      refine cv_iconst X (v := nI 3) dX0_addTransformed_14 (by decide) ?_
      refine cv_icmp_geT X 58 (by omega) (by omega) dX0_addTransformed_15 (by decide) (by omega) ?_
      refine cv_iincN X (lv' := [_, _, _, _]) dX0_addTransformed_58 (by decide) rfl rfl ?_
      refine cv_goto X (tgt := 6) dX0_addTransformed_61 (by decide) ?_
      exact cv_take X 3 ih_j1
    · intro i1 h_i1 ih_i1
      show G (xs pi ke st mg ch wd ou pc hf sh pr (it (fun i p => upd p (16 * (2 - j1) + 2 - i) (zred (ke (9 * c + 3 * j1 + i)))) (it (fun j p => it (fun i p => upd p (16 * (2 - j) + 2 - i) (zred (ke (9 * c + 3 * j + i)))) p 3) (zclr 256 pl) j1) i1) ot tt li ro ba wi) 13 [.ref h, .int (nI c), .int (nI j1), .int (nI i1)] []
      refine cv_iload_n X dX0_addTransformed_13 rfl ?_
      refine cv_iconst X (v := nI 3) dX0_addTransformed_14 (by decide) ?_
      refine cv_icmp_geF X 58 (by omega) (by omega) dX0_addTransformed_15 (by decide) (by omega) ?_
      refine cv_aload_n X dX0_addTransformed_18 rfl ?_
      refine cv_getA X 11 q50 (by decide) rfl rfl dX0_addTransformed_19 ?_
      refine cv_bipush X (v := nI 16) dX0_addTransformed_22 (by decide) ?_
      refine cv_iconst X (v := nI 2) dX0_addTransformed_24 (by decide) ?_
      refine cv_iload_n X dX0_addTransformed_25 rfl ?_
      refine cv_isubN X (by omega) dX0_addTransformed_26 ?_
      refine cv_imulN X dX0_addTransformed_27 ?_
      refine cv_iconst X (v := nI 2) dX0_addTransformed_28 (by decide) ?_
      refine cv_iaddN X dX0_addTransformed_29 ?_
      refine cv_iload_n X dX0_addTransformed_30 rfl ?_
      refine cv_isubN X (by omega) dX0_addTransformed_31 ?_
      refine cv_aload_n X dX0_addTransformed_32 rfl ?_
      refine cv_aload_n X dX0_addTransformed_33 rfl ?_
      refine cv_getA X 1 q40 (by decide) rfl rfl dX0_addTransformed_34 ?_
      refine cv_bipush X (v := nI 9) dX0_addTransformed_37 (by decide) ?_
      refine cv_iload_n X dX0_addTransformed_39 rfl ?_
      refine cv_imulN X dX0_addTransformed_40 ?_
      refine cv_iconst X (v := nI 3) dX0_addTransformed_41 (by decide) ?_
      refine cv_iload_n X dX0_addTransformed_42 rfl ?_
      refine cv_imulN X dX0_addTransformed_43 ?_
      refine cv_iaddN X dX0_addTransformed_44 ?_
      refine cv_iload_n X dX0_addTransformed_45 rfl ?_
      refine cv_iaddN X dX0_addTransformed_46 ?_
      refine cv_iald X 18 rfl rfl (by omega) dX0_addTransformed_47 ?_
      refine cv_calli X (mX0_reduce l) wX0_reduce 1 hX0_reduce rfl ⟨rfl, rfl⟩ ⟨by decide, by decide⟩ rfl (Nat.le_of_ble_eq_true rfl) dX0_addTransformed_48 ?_
      refine cv_iast X 256 (S' := [_, _, _, _, _, _, _, _, _, _, _, _, _, _, _, _, _, _]) rfl rfl (by omega) rfl dX0_addTransformed_51 ?_
      refine cv_iincN X (lv' := [_, _, _, _]) dX0_addTransformed_52 (by decide) rfl rfl ?_
      refine cv_goto X (tgt := 13) dX0_addTransformed_55 (by decide) ?_
      exact cv_take X 4 ih_i1
end
section
set_option maxRecDepth 100000
theorem zcen_T {v : Int32} (h : v ≤ nI 3840) : v = zcen v := by unfold zcen; rw [if_pos h]
theorem zcen_F {v : Int32} (h : ¬ v ≤ nI 3840) : v - nI 7681 = zcen v := by unfold zcen; rw [if_neg h]
theorem it_s {α : Type} (f : Nat → α → α) (a : α) (n : Nat) : it f a (n + 1) = f n (it f a n) := rfl
abbrev rX0_moveByTransforms : Room := { frames := 3, cells := 0, slots := 0, locals := 72 }
set_option maxHeartbeats 4000000 in
set_option maxRecDepth 100000 in
/-- moveByTransforms() -/
theorem mX0_moveByTransforms (l : Launch) {pi ke : Nat → Int32} {st mg ch wd : Nat} {ou pc hf sh pr pl ot tt li ro ba wi : Nat → Int32} (hst : st = 1 ∨ st = 2) (hmg : mg ≤ 1) (hw : wd ≤ 8) (hsw : st * wd ≤ 8) : DXv l yX0_moveByTransforms cX0_moveByTransforms 6 rX0_moveByTransforms 0 len0 [] (xs pi ke st mg ch wd ou pc hf sh pr pl ot tt li ro ba wi) (xs pi ke st mg ch wd (zout (zmt1 ba (zmt0 pi ke ro (pl, ot, tt, li))).1 (zpow (nI 256) 7679) wd st mg ou) pc hf sh pr ((zmt1 ba (zmt0 pi ke ro (pl, ot, tt, li))).1) ((zmt0 pi ke ro (pl, ot, tt, li)).2.1) ((zmt0 pi ke ro (pl, ot, tt, li)).2.2.1) ((zmt1 ba (zmt0 pi ke ro (pl, ot, tt, li))).2) ro ba wi) := by
  refine dxv_of cl0 rfl (by decide) (fun _ h => absurd h List.not_mem_nil) (Nat.le_of_ble_eq_true rfl) ?_
  intro h ad G X
  refine cv_iconst X (v := nI 0) dX0_moveByTransforms_0 (by decide) ?_
  refine cv_istore_n X (lv' := [_, _]) dX0_moveByTransforms_1 (by decide) rfl ?_
  refine up_loop0 (P := fun k1 => G (xs pi ke st mg ch wd ou pc hf sh pr pl ot (it (fun k p => upd p k (nI 0)) tt k1) li ro ba wi) 2 [.ref h, .int (nI k1)] []) (256) ?_ ?_
  · show G (xs pi ke st mg ch wd ou pc hf sh pr pl ot (it (fun k p => upd p k (nI 0)) tt (256)) li ro ba wi) 2 [.ref h, .int (nI (256))] []
    refine cv_iload_n X dX0_moveByTransforms_2 rfl ?_
    refine cv_sipush X (v := nI 256) dX0_moveByTransforms_3 (by decide) ?_
    refine cv_icmp_geT X 22 (by omega) (by omega) dX0_moveByTransforms_6 (by decide) (by omega) ?_
    refine cv_aload_n X dX0_moveByTransforms_22 rfl ?_
    refine cv_iconst X (v := nI 0) dX0_moveByTransforms_23 (by decide) ?_
    refine cv_callv X (mX0_addTransformed l (by decide)) wX0_addTransformed 1 hX0_addTransformed rfl ⟨rfl, rfl⟩ ⟨by decide, by decide⟩ rfl (Nat.le_of_ble_eq_true rfl) dX0_moveByTransforms_24 ?_
    refine cv_aload_n X dX0_moveByTransforms_27 rfl ?_
    refine cv_iconst X (v := nI 1) dX0_moveByTransforms_28 (by decide) ?_
    refine cv_callv X (mX0_addTransformed l (by decide)) wX0_addTransformed 1 hX0_addTransformed rfl ⟨rfl, rfl⟩ ⟨by decide, by decide⟩ rfl (Nat.le_of_ble_eq_true rfl) dX0_moveByTransforms_29 ?_
    refine cv_iconst X (v := nI 0) dX0_moveByTransforms_32 (by decide) ?_
    refine cv_istore_n X (lv' := [_, _]) dX0_moveByTransforms_33 (by decide) rfl ?_
    refine up_loop0 (P := fun k2 => G (xs pi ke st mg ch wd ou pc hf sh pr (it (fun k p => upd p k ((zmt0 pi ke ro (pl, ot, tt, li)).2.2.1 k)) (zmt0 pi ke ro (pl, ot, tt, li)).1 k2) ((zmt0 pi ke ro (pl, ot, tt, li)).2.1) ((zmt0 pi ke ro (pl, ot, tt, li)).2.2.1) ((zmt0 pi ke ro (pl, ot, tt, li)).2.2.2) ro ba wi) 34 [.ref h, .int (nI k2)] []) (256) ?_ ?_
    · show G (xs pi ke st mg ch wd ou pc hf sh pr (it (fun k p => upd p k ((zmt0 pi ke ro (pl, ot, tt, li)).2.2.1 k)) (zmt0 pi ke ro (pl, ot, tt, li)).1 (256)) ((zmt0 pi ke ro (pl, ot, tt, li)).2.1) ((zmt0 pi ke ro (pl, ot, tt, li)).2.2.1) ((zmt0 pi ke ro (pl, ot, tt, li)).2.2.2) ro ba wi) 34 [.ref h, .int (nI (256))] []
      refine cv_iload_n X dX0_moveByTransforms_34 rfl ?_
      refine cv_sipush X (v := nI 256) dX0_moveByTransforms_35 (by decide) ?_
      refine cv_icmp_geT X 59 (by omega) (by omega) dX0_moveByTransforms_38 (by decide) (by omega) ?_
      refine cv_aload_n X dX0_moveByTransforms_59 rfl ?_
      refine cv_iconst X (v := nI 1) dX0_moveByTransforms_60 (by decide) ?_
      refine cv_callv X (mX0_transform l (by decide)) wX0_transform 1 hX0_transform rfl ⟨rfl, rfl⟩ ⟨by decide, by decide⟩ rfl (Nat.le_of_ble_eq_true rfl) dX0_moveByTransforms_61 ?_
      refine cv_aload_n X dX0_moveByTransforms_64 rfl ?_
      refine cv_sipush X (v := nI 256) dX0_moveByTransforms_65 (by decide) ?_
      refine cv_sipush X (v := nI 7679) dX0_moveByTransforms_68 (by decide) ?_
      refine cv_calli X (mX0_power l (by decide)) wX0_power 2 hX0_power rfl ⟨rfl, rfl⟩ ⟨by decide, by decide⟩ rfl (Nat.le_of_ble_eq_true rfl) dX0_moveByTransforms_71 ?_
      refine cv_istore_n X (lv' := [_, _]) dX0_moveByTransforms_74 (by decide) rfl ?_
      refine cv_iconst X (v := nI 0) dX0_moveByTransforms_75 (by decide) ?_
      refine cv_istore_n X (lv' := [_, _, _]) dX0_moveByTransforms_76 (by decide) rfl ?_
      refine up_loop0 (P := fun y3 => G (xs pi ke st mg ch wd (it (fun y o => it (fun x o => upd o (8 * y + x) (zcen (rmd ((zmt1 ba (zmt0 pi ke ro (pl, ot, tt, li))).1 (16 * (st * y + 3 - mg) + st * x + 3 - mg) * zpow (nI 256) 7679) P7))) o wd) ou y3) pc hf sh pr ((zmt1 ba (zmt0 pi ke ro (pl, ot, tt, li))).1) ((zmt0 pi ke ro (pl, ot, tt, li)).2.1) ((zmt0 pi ke ro (pl, ot, tt, li)).2.2.1) ((zmt1 ba (zmt0 pi ke ro (pl, ot, tt, li))).2) ro ba wi) 77 [.ref h, .int (zpow (nI 256) 7679), .int (nI y3)] []) (wd) ?_ ?_
      · show G (xs pi ke st mg ch wd (it (fun y o => it (fun x o => upd o (8 * y + x) (zcen (rmd ((zmt1 ba (zmt0 pi ke ro (pl, ot, tt, li))).1 (16 * (st * y + 3 - mg) + st * x + 3 - mg) * zpow (nI 256) 7679) P7))) o wd) ou (wd)) pc hf sh pr ((zmt1 ba (zmt0 pi ke ro (pl, ot, tt, li))).1) ((zmt0 pi ke ro (pl, ot, tt, li)).2.1) ((zmt0 pi ke ro (pl, ot, tt, li)).2.2.1) ((zmt1 ba (zmt0 pi ke ro (pl, ot, tt, li))).2) ro ba wi) 77 [.ref h, .int (zpow (nI 256) 7679), .int (nI (wd))] []
        refine cv_iload_n X dX0_moveByTransforms_77 rfl ?_
        refine cv_aload_n X dX0_moveByTransforms_78 rfl ?_
        refine cv_getI X 5 q44 (by decide) rfl rfl dX0_moveByTransforms_79 ?_
        refine cv_icmp_geT X 184 (by omega) (by omega) dX0_moveByTransforms_82 (by decide) (by omega) ?_
        exact cv_return X dX0_moveByTransforms_184 ⟨rfl, rfl⟩
      · intro y3 h_y3 ih_y3
        show G (xs pi ke st mg ch wd (it (fun y o => it (fun x o => upd o (8 * y + x) (zcen (rmd ((zmt1 ba (zmt0 pi ke ro (pl, ot, tt, li))).1 (16 * (st * y + 3 - mg) + st * x + 3 - mg) * zpow (nI 256) 7679) P7))) o wd) ou y3) pc hf sh pr ((zmt1 ba (zmt0 pi ke ro (pl, ot, tt, li))).1) ((zmt0 pi ke ro (pl, ot, tt, li)).2.1) ((zmt0 pi ke ro (pl, ot, tt, li)).2.2.1) ((zmt1 ba (zmt0 pi ke ro (pl, ot, tt, li))).2) ro ba wi) 77 [.ref h, .int (zpow (nI 256) 7679), .int (nI y3)] []
        have hy3 : st * y3 ≤ 7 := by rcases hst with q | q <;> subst q <;> omega
        refine cv_iload_n X dX0_moveByTransforms_77 rfl ?_
        refine cv_aload_n X dX0_moveByTransforms_78 rfl ?_
        refine cv_getI X 5 q44 (by decide) rfl rfl dX0_moveByTransforms_79 ?_
        refine cv_icmp_geF X 184 (by omega) (by omega) dX0_moveByTransforms_82 (by decide) (by omega) ?_
        refine cv_iconst X (v := nI 0) dX0_moveByTransforms_85 (by decide) ?_
        refine cv_istore_n X (lv' := [_, _, _, _]) dX0_moveByTransforms_86 (by decide) rfl ?_
        refine up_loop0 (P := fun x3 => G (xs pi ke st mg ch wd (it (fun x o => upd o (8 * y3 + x) (zcen (rmd ((zmt1 ba (zmt0 pi ke ro (pl, ot, tt, li))).1 (16 * (st * y3 + 3 - mg) + st * x + 3 - mg) * zpow (nI 256) 7679) P7))) (it (fun y o => it (fun x o => upd o (8 * y + x) (zcen (rmd ((zmt1 ba (zmt0 pi ke ro (pl, ot, tt, li))).1 (16 * (st * y + 3 - mg) + st * x + 3 - mg) * zpow (nI 256) 7679) P7))) o wd) ou y3) x3) pc hf sh pr ((zmt1 ba (zmt0 pi ke ro (pl, ot, tt, li))).1) ((zmt0 pi ke ro (pl, ot, tt, li)).2.1) ((zmt0 pi ke ro (pl, ot, tt, li)).2.2.1) ((zmt1 ba (zmt0 pi ke ro (pl, ot, tt, li))).2) ro ba wi) 87 [.ref h, .int (zpow (nI 256) 7679), .int (nI y3), .int (nI x3)] []) (wd) ?_ ?_
        · show G (xs pi ke st mg ch wd (it (fun x o => upd o (8 * y3 + x) (zcen (rmd ((zmt1 ba (zmt0 pi ke ro (pl, ot, tt, li))).1 (16 * (st * y3 + 3 - mg) + st * x + 3 - mg) * zpow (nI 256) 7679) P7))) (it (fun y o => it (fun x o => upd o (8 * y + x) (zcen (rmd ((zmt1 ba (zmt0 pi ke ro (pl, ot, tt, li))).1 (16 * (st * y + 3 - mg) + st * x + 3 - mg) * zpow (nI 256) 7679) P7))) o wd) ou y3) (wd)) pc hf sh pr ((zmt1 ba (zmt0 pi ke ro (pl, ot, tt, li))).1) ((zmt0 pi ke ro (pl, ot, tt, li)).2.1) ((zmt0 pi ke ro (pl, ot, tt, li)).2.2.1) ((zmt1 ba (zmt0 pi ke ro (pl, ot, tt, li))).2) ro ba wi) 87 [.ref h, .int (zpow (nI 256) 7679), .int (nI y3), .int (nI (wd))] []
          refine cv_iload_n X dX0_moveByTransforms_87 rfl ?_
          refine cv_aload_n X dX0_moveByTransforms_88 rfl ?_
          refine cv_getI X 5 q44 (by decide) rfl rfl dX0_moveByTransforms_89 ?_
          refine cv_icmp_geT X 178 (by omega) (by omega) dX0_moveByTransforms_92 (by decide) (by omega) ?_
          refine cv_iincN X (lv' := [_, _, _, _]) dX0_moveByTransforms_178 (by decide) rfl rfl ?_
          refine cv_goto X (tgt := 77) dX0_moveByTransforms_181 (by decide) ?_
          exact cv_take X 3 ih_y3
        · intro x3 h_x3 ih_x3
          show G (xs pi ke st mg ch wd (it (fun x o => upd o (8 * y3 + x) (zcen (rmd ((zmt1 ba (zmt0 pi ke ro (pl, ot, tt, li))).1 (16 * (st * y3 + 3 - mg) + st * x + 3 - mg) * zpow (nI 256) 7679) P7))) (it (fun y o => it (fun x o => upd o (8 * y + x) (zcen (rmd ((zmt1 ba (zmt0 pi ke ro (pl, ot, tt, li))).1 (16 * (st * y + 3 - mg) + st * x + 3 - mg) * zpow (nI 256) 7679) P7))) o wd) ou y3) x3) pc hf sh pr ((zmt1 ba (zmt0 pi ke ro (pl, ot, tt, li))).1) ((zmt0 pi ke ro (pl, ot, tt, li)).2.1) ((zmt0 pi ke ro (pl, ot, tt, li)).2.2.1) ((zmt1 ba (zmt0 pi ke ro (pl, ot, tt, li))).2) ro ba wi) 87 [.ref h, .int (zpow (nI 256) 7679), .int (nI y3), .int (nI x3)] []
          have hx3 : st * x3 ≤ 7 := by rcases hst with q | q <;> subst q <;> omega
          refine cv_iload_n X dX0_moveByTransforms_87 rfl ?_
          refine cv_aload_n X dX0_moveByTransforms_88 rfl ?_
          refine cv_getI X 5 q44 (by decide) rfl rfl dX0_moveByTransforms_89 ?_
          refine cv_icmp_geF X 178 (by omega) (by omega) dX0_moveByTransforms_92 (by decide) (by omega) ?_
          refine cv_bipush X (v := nI 16) dX0_moveByTransforms_95 (by decide) ?_
          refine cv_aload_n X dX0_moveByTransforms_97 rfl ?_
          refine cv_getI X 2 q41 (by decide) rfl rfl dX0_moveByTransforms_98 ?_
          refine cv_iload_n X dX0_moveByTransforms_101 rfl ?_
          refine cv_imulN X dX0_moveByTransforms_102 ?_
          refine cv_iconst X (v := nI 3) dX0_moveByTransforms_103 (by decide) ?_
          refine cv_iaddN X dX0_moveByTransforms_104 ?_
          refine cv_aload_n X dX0_moveByTransforms_105 rfl ?_
          refine cv_getI X 3 q42 (by decide) rfl rfl dX0_moveByTransforms_106 ?_
          refine cv_isubN X (by omega) dX0_moveByTransforms_109 ?_
          refine cv_imulN X dX0_moveByTransforms_110 ?_
          refine cv_aload_n X dX0_moveByTransforms_111 rfl ?_
          refine cv_getI X 2 q41 (by decide) rfl rfl dX0_moveByTransforms_112 ?_
          refine cv_iload_n X dX0_moveByTransforms_115 rfl ?_
          refine cv_imulN X dX0_moveByTransforms_116 ?_
          refine cv_iaddN X dX0_moveByTransforms_117 ?_
          refine cv_iconst X (v := nI 3) dX0_moveByTransforms_118 (by decide) ?_
          refine cv_iaddN X dX0_moveByTransforms_119 ?_
          refine cv_aload_n X dX0_moveByTransforms_120 rfl ?_
          refine cv_getI X 3 q42 (by decide) rfl rfl dX0_moveByTransforms_121 ?_
          refine cv_isubN X (by omega) dX0_moveByTransforms_124 ?_
          refine cv_istore X (lv' := [_, _, _, _, _]) dX0_moveByTransforms_125 (by decide) rfl ?_
          refine cv_aload_n X dX0_moveByTransforms_127 rfl ?_
          refine cv_getA X 11 q50 (by decide) rfl rfl dX0_moveByTransforms_128 ?_
          refine cv_iload X dX0_moveByTransforms_131 rfl ?_
          refine cv_iald X 256 rfl rfl (by omega) dX0_moveByTransforms_133 ?_
          refine cv_iload_n X dX0_moveByTransforms_134 rfl ?_
          refine cv_imul X dX0_moveByTransforms_135 ?_
          refine cv_sipush X (v := nI 7681) dX0_moveByTransforms_136 (by decide) ?_
          refine cv_irem X dX0_moveByTransforms_139 (by decide) ?_
          refine cv_istore X (lv' := [_, _, _, _, _, _]) dX0_moveByTransforms_140 (by decide) rfl ?_
          refine cv_aload_n X dX0_moveByTransforms_142 rfl ?_
          refine cv_getA X 6 q45 (by decide) rfl rfl dX0_moveByTransforms_143 ?_
          refine cv_bipush X (v := nI 8) dX0_moveByTransforms_146 (by decide) ?_
          refine cv_iload_n X dX0_moveByTransforms_148 rfl ?_
          refine cv_imulN X dX0_moveByTransforms_149 ?_
          refine cv_iload_n X dX0_moveByTransforms_150 rfl ?_
          refine cv_iaddN X dX0_moveByTransforms_151 ?_
          refine cv_iload X dX0_moveByTransforms_152 rfl ?_
          refine cv_sipush X (v := nI 3840) dX0_moveByTransforms_154 (by decide) ?_
          refine cv_icmp_le X 169 dX0_moveByTransforms_157 (by decide) (fun b157 => ?_) (fun b157 => ?_)
          · rw [zcen_T b157]
            refine cv_iload X dX0_moveByTransforms_169 rfl ?_
            try rw [zcen_F b157]
            refine cv_iast X 64 (S' := [_, _, _, _, _, _, _, _, _, _, _, _, _, _, _, _, _, _]) rfl rfl (by omega) rfl dX0_moveByTransforms_171 ?_
            refine cv_iincN X (lv' := [_, _, _, _, _, _]) dX0_moveByTransforms_172 (by decide) rfl rfl ?_
            refine cv_goto X (tgt := 87) dX0_moveByTransforms_175 (by decide) ?_
            exact cv_take X 4 ih_x3
          · skip
            refine cv_iload X dX0_moveByTransforms_160 rfl ?_
            refine cv_sipush X (v := nI 7681) dX0_moveByTransforms_162 (by decide) ?_
            refine cv_isub X dX0_moveByTransforms_165 ?_
            refine cv_goto X (tgt := 171) dX0_moveByTransforms_166 (by decide) ?_
            try rw [zcen_F b157]
            refine cv_iast X 64 (S' := [_, _, _, _, _, _, _, _, _, _, _, _, _, _, _, _, _, _]) rfl rfl (by omega) rfl dX0_moveByTransforms_171 ?_
            refine cv_iincN X (lv' := [_, _, _, _, _, _]) dX0_moveByTransforms_172 (by decide) rfl rfl ?_
            refine cv_goto X (tgt := 87) dX0_moveByTransforms_175 (by decide) ?_
            exact cv_take X 4 ih_x3
    · intro k2 h_k2 ih_k2
      show G (xs pi ke st mg ch wd ou pc hf sh pr (it (fun k p => upd p k ((zmt0 pi ke ro (pl, ot, tt, li)).2.2.1 k)) (zmt0 pi ke ro (pl, ot, tt, li)).1 k2) ((zmt0 pi ke ro (pl, ot, tt, li)).2.1) ((zmt0 pi ke ro (pl, ot, tt, li)).2.2.1) ((zmt0 pi ke ro (pl, ot, tt, li)).2.2.2) ro ba wi) 34 [.ref h, .int (nI k2)] []
      refine cv_iload_n X dX0_moveByTransforms_34 rfl ?_
      refine cv_sipush X (v := nI 256) dX0_moveByTransforms_35 (by decide) ?_
      refine cv_icmp_geF X 59 (by omega) (by omega) dX0_moveByTransforms_38 (by decide) (by omega) ?_
      refine cv_aload_n X dX0_moveByTransforms_41 rfl ?_
      refine cv_getA X 11 q50 (by decide) rfl rfl dX0_moveByTransforms_42 ?_
      refine cv_iload_n X dX0_moveByTransforms_45 rfl ?_
      refine cv_aload_n X dX0_moveByTransforms_46 rfl ?_
      refine cv_getA X 13 q52 (by decide) rfl rfl dX0_moveByTransforms_47 ?_
      refine cv_iload_n X dX0_moveByTransforms_50 rfl ?_
      refine cv_iald X 256 rfl rfl (by omega) dX0_moveByTransforms_51 ?_
      refine cv_iast X 256 (S' := [_, _, _, _, _, _, _, _, _, _, _, _, _, _, _, _, _, _]) rfl rfl (by omega) rfl dX0_moveByTransforms_52 ?_
      refine cv_iincN X (lv' := [_, _]) dX0_moveByTransforms_53 (by decide) rfl rfl ?_
      refine cv_goto X (tgt := 34) dX0_moveByTransforms_56 (by decide) ?_
      exact cv_take X 2 ih_k2
  · intro k1 h_k1 ih_k1
    show G (xs pi ke st mg ch wd ou pc hf sh pr pl ot (it (fun k p => upd p k (nI 0)) tt k1) li ro ba wi) 2 [.ref h, .int (nI k1)] []
    refine cv_iload_n X dX0_moveByTransforms_2 rfl ?_
    refine cv_sipush X (v := nI 256) dX0_moveByTransforms_3 (by decide) ?_
    refine cv_icmp_geF X 22 (by omega) (by omega) dX0_moveByTransforms_6 (by decide) (by omega) ?_
    refine cv_aload_n X dX0_moveByTransforms_9 rfl ?_
    refine cv_getA X 13 q52 (by decide) rfl rfl dX0_moveByTransforms_10 ?_
    refine cv_iload_n X dX0_moveByTransforms_13 rfl ?_
    refine cv_iconst X (v := nI 0) dX0_moveByTransforms_14 (by decide) ?_
    refine cv_iast X 256 (S' := [_, _, _, _, _, _, _, _, _, _, _, _, _, _, _, _, _, _]) rfl rfl (by omega) rfl dX0_moveByTransforms_15 ?_
    refine cv_iincN X (lv' := [_, _]) dX0_moveByTransforms_16 (by decide) rfl rfl ?_
    refine cv_goto X (tgt := 2) dX0_moveByTransforms_19 (by decide) ?_
    exact cv_take X 2 ih_k1
abbrev rX0_stretch : Room := { frames := 1, cells := 0, slots := 0, locals := 23 }
set_option maxHeartbeats 4000000 in
set_option maxRecDepth 100000 in
/-- stretch(a, x, y) -/
theorem mX0_stretch (l : Launch) {pi ke : Nat → Int32} {st mg ch wd : Nat} {ou pc hf sh pr pl ot tt li ro ba wi : Nat → Int32} {a : Nat} (ha : a + 18 ≤ 1152) {x y : Int32} : DXv l yX0_stretch cX0_stretch 6 rX0_stretch 0 len0 [.int (nI a), .int x, .int y] (xs pi ke st mg ch wd ou pc hf sh pr pl ot tt li ro ba wi) (xs pi ke st mg ch wd ou pc hf sh pr pl ot tt li ro ba (zst pi a x y wi)) := by
  refine dxv_of cl0 rfl (by decide) (List.forall_mem_cons.mpr ⟨rfl, List.forall_mem_cons.mpr ⟨rfl, List.forall_mem_cons.mpr ⟨rfl, fun _ h => absurd h List.not_mem_nil⟩⟩⟩) (Nat.le_of_ble_eq_true rfl) ?_
  intro h ad G X
  refine cv_iconst X (v := nI 0) dX0_stretch_0 (by decide) ?_
  refine cv_istore X (lv' := [_, _, _, _, _]) dX0_stretch_1 (by decide) rfl ?_
  refine up_loop0 (P := fun c1 => G (xs pi ke st mg ch wd ou pc hf sh pr pl ot tt li ro ba (it (fun c w => it (fun k w => upd w (a + 9 * c + k) (zat pi c (x + nI (k % 3)) (y + nI (k / 3)))) w 9) wi c1)) 3 [.ref h, .int (nI a), .int x, .int y, .int (nI c1)] []) (2) ?_ ?_
  · show G (xs pi ke st mg ch wd ou pc hf sh pr pl ot tt li ro ba (it (fun c w => it (fun k w => upd w (a + 9 * c + k) (zat pi c (x + nI (k % 3)) (y + nI (k / 3)))) w 9) wi (2))) 3 [.ref h, .int (nI a), .int x, .int y, .int (nI (2))] []
    refine cv_iload X dX0_stretch_3 rfl ?_
    refine cv_iconst X (v := nI 2) dX0_stretch_5 (by decide) ?_
    refine cv_icmp_geT X 64 (by omega) (by omega) dX0_stretch_6 (by decide) (by omega) ?_
    exact cv_return X dX0_stretch_64 ⟨rfl, rfl⟩
  · intro c1 h_c1 ih_c1
    show G (xs pi ke st mg ch wd ou pc hf sh pr pl ot tt li ro ba (it (fun c w => it (fun k w => upd w (a + 9 * c + k) (zat pi c (x + nI (k % 3)) (y + nI (k / 3)))) w 9) wi c1)) 3 [.ref h, .int (nI a), .int x, .int y, .int (nI c1)] []
    refine cv_iload X dX0_stretch_3 rfl ?_
    refine cv_iconst X (v := nI 2) dX0_stretch_5 (by decide) ?_
    refine cv_icmp_geF X 64 (by omega) (by omega) dX0_stretch_6 (by decide) (by omega) ?_
    refine cv_iconst X (v := nI 0) dX0_stretch_9 (by decide) ?_
    refine cv_istore X (lv' := [_, _, _, _, _, _]) dX0_stretch_10 (by decide) rfl ?_
    refine up_loop0 (P := fun k1 => G (xs pi ke st mg ch wd ou pc hf sh pr pl ot tt li ro ba (it (fun k w => upd w (a + 9 * c1 + k) (zat pi c1 (x + nI (k % 3)) (y + nI (k / 3)))) (it (fun c w => it (fun k w => upd w (a + 9 * c + k) (zat pi c (x + nI (k % 3)) (y + nI (k / 3)))) w 9) wi c1) k1)) 12 [.ref h, .int (nI a), .int x, .int y, .int (nI c1), .int (nI k1)] []) (9) ?_ ?_
    · show G (xs pi ke st mg ch wd ou pc hf sh pr pl ot tt li ro ba (it (fun k w => upd w (a + 9 * c1 + k) (zat pi c1 (x + nI (k % 3)) (y + nI (k / 3)))) (it (fun c w => it (fun k w => upd w (a + 9 * c + k) (zat pi c (x + nI (k % 3)) (y + nI (k / 3)))) w 9) wi c1) (9))) 12 [.ref h, .int (nI a), .int x, .int y, .int (nI c1), .int (nI (9))] []
      refine cv_iload X dX0_stretch_12 rfl ?_
      refine cv_bipush X (v := nI 9) dX0_stretch_14 (by decide) ?_
      refine cv_icmp_geT X 58 (by omega) (by omega) dX0_stretch_16 (by decide) (by omega) ?_
      refine cv_iincN X (lv' := [_, _, _, _, _, _]) dX0_stretch_58 (by decide) rfl rfl ?_
      refine cv_goto X (tgt := 3) dX0_stretch_61 (by decide) ?_
      exact cv_take X 5 ih_c1
    · intro k1 h_k1 ih_k1
      show G (xs pi ke st mg ch wd ou pc hf sh pr pl ot tt li ro ba (it (fun k w => upd w (a + 9 * c1 + k) (zat pi c1 (x + nI (k % 3)) (y + nI (k / 3)))) (it (fun c w => it (fun k w => upd w (a + 9 * c + k) (zat pi c (x + nI (k % 3)) (y + nI (k / 3)))) w 9) wi c1) k1)) 12 [.ref h, .int (nI a), .int x, .int y, .int (nI c1), .int (nI k1)] []
      refine cv_iload X dX0_stretch_12 rfl ?_
      refine cv_bipush X (v := nI 9) dX0_stretch_14 (by decide) ?_
      refine cv_icmp_geF X 58 (by omega) (by omega) dX0_stretch_16 (by decide) (by omega) ?_
      refine cv_aload_n X dX0_stretch_19 rfl ?_
      refine cv_getA X 17 q56 (by decide) rfl rfl dX0_stretch_20 ?_
      refine cv_iload_n X dX0_stretch_23 rfl ?_
      refine cv_bipush X (v := nI 9) dX0_stretch_24 (by decide) ?_
      refine cv_iload X dX0_stretch_26 rfl ?_
      refine cv_imulN X dX0_stretch_28 ?_
      refine cv_iaddN X dX0_stretch_29 ?_
      refine cv_iload X dX0_stretch_30 rfl ?_
      refine cv_iaddN X dX0_stretch_32 ?_
      refine cv_aload_n X dX0_stretch_33 rfl ?_
      refine cv_iload X dX0_stretch_34 rfl ?_
      refine cv_iload_n X dX0_stretch_36 rfl ?_
      refine cv_iload X dX0_stretch_37 rfl ?_
      refine cv_iconst X (v := nI 3) dX0_stretch_39 (by decide) ?_
      refine cv_iremN X (by omega) (by omega) (by omega) dX0_stretch_40 ?_
      refine cv_iadd X dX0_stretch_41 ?_
      refine cv_iload_n X dX0_stretch_42 rfl ?_
      refine cv_iload X dX0_stretch_43 rfl ?_
      refine cv_iconst X (v := nI 3) dX0_stretch_45 (by decide) ?_
      refine cv_idivN X (by omega) (by omega) (by omega) dX0_stretch_46 ?_
      refine cv_iadd X dX0_stretch_47 ?_
      refine cv_calli X (mX0_at l h_c1) wX0_at 3 hX0_at rfl ⟨rfl, rfl⟩ ⟨by decide, by decide⟩ rfl (Nat.le_of_ble_eq_true rfl) dX0_stretch_48 ?_
      refine cv_iast X 1152 (S' := [_, _, _, _, _, _, _, _, _, _, _, _, _, _, _, _, _, _]) rfl rfl (by omega) rfl dX0_stretch_51 ?_
      refine cv_iincN X (lv' := [_, _, _, _, _, _]) dX0_stretch_52 (by decide) rfl rfl ?_
      refine cv_goto X (tgt := 12) dX0_stretch_55 (by decide) ?_
      exact cv_take X 6 ih_k1
abbrev rX0_addColumn : Room := { frames := 0, cells := 0, slots := 0, locals := 0 }
set_option maxHeartbeats 4000000 in
set_option maxRecDepth 100000 in
/-- addColumn(k, f) -/
theorem mX0_addColumn (l : Launch) {pi ke : Nat → Int32} {st mg ch wd : Nat} {ou pc hf sh pr pl ot tt li ro ba wi : Nat → Int32} (hw : wd ≤ 8) {k f : Nat} (hk : k < 18) (hf8 : f + 8 ≤ 64) : DXv l yX0_addColumn cX0_addColumn 4 rX0_addColumn 0 len0 [.int (nI k), .int (nI f)] (xs pi ke st mg ch wd ou pc hf sh pr pl ot tt li ro ba wi) (xs pi ke st mg ch wd (zac wi ke wd k f ou) pc hf sh pr pl ot tt li ro ba wi) := by
  refine dxv_of cl0 rfl (by decide) (List.forall_mem_cons.mpr ⟨rfl, List.forall_mem_cons.mpr ⟨rfl, fun _ h => absurd h List.not_mem_nil⟩⟩) (Nat.le_of_ble_eq_true rfl) ?_
  intro h ad G X
  refine cv_iload_n X dX0_addColumn_0 rfl ?_
  refine cv_istore_n X (lv' := [_, _, _, _]) dX0_addColumn_1 (by decide) rfl ?_
  refine up_loop0 (P := fun i1 => G (xs pi ke st mg ch wd (it (fun i o => upd o (f + i) (o (f + i) + wi (18 * (f + i) + k) * ke k)) ou i1) pc hf sh pr pl ot tt li ro ba wi) 2 [.ref h, .int (nI k), .int (nI f), .int (nI (f + i1))] []) (wd) ?_ ?_
  · show G (xs pi ke st mg ch wd (it (fun i o => upd o (f + i) (o (f + i) + wi (18 * (f + i) + k) * ke k)) ou (wd)) pc hf sh pr pl ot tt li ro ba wi) 2 [.ref h, .int (nI k), .int (nI f), .int (nI (f + (wd)))] []
    refine cv_iload_n X dX0_addColumn_2 rfl ?_
    refine cv_iload_n X dX0_addColumn_3 rfl ?_
    refine cv_aload_n X dX0_addColumn_4 rfl ?_
    refine cv_getI X 5 q44 (by decide) rfl rfl dX0_addColumn_5 ?_
    refine cv_iaddN X dX0_addColumn_8 ?_
    refine cv_icmp_geT X 49 (by omega) (by omega) dX0_addColumn_9 (by decide) (by omega) ?_
    exact cv_return X dX0_addColumn_49 ⟨rfl, rfl⟩
  · intro i1 h_i1 ih_i1
    show G (xs pi ke st mg ch wd (it (fun i o => upd o (f + i) (o (f + i) + wi (18 * (f + i) + k) * ke k)) ou i1) pc hf sh pr pl ot tt li ro ba wi) 2 [.ref h, .int (nI k), .int (nI f), .int (nI (f + i1))] []
    refine cv_iload_n X dX0_addColumn_2 rfl ?_
    refine cv_iload_n X dX0_addColumn_3 rfl ?_
    refine cv_aload_n X dX0_addColumn_4 rfl ?_
    refine cv_getI X 5 q44 (by decide) rfl rfl dX0_addColumn_5 ?_
    refine cv_iaddN X dX0_addColumn_8 ?_
    refine cv_icmp_geF X 49 (by omega) (by omega) dX0_addColumn_9 (by decide) (by omega) ?_
    refine cv_aload_n X dX0_addColumn_12 rfl ?_
    refine cv_getA X 6 q45 (by decide) rfl rfl dX0_addColumn_13 ?_
    refine cv_iload_n X dX0_addColumn_16 rfl ?_
    refine cv_aload_n X dX0_addColumn_17 rfl ?_
    refine cv_getA X 6 q45 (by decide) rfl rfl dX0_addColumn_18 ?_
    refine cv_iload_n X dX0_addColumn_21 rfl ?_
    refine cv_iald X 64 rfl rfl (by omega) dX0_addColumn_22 ?_
    refine cv_aload_n X dX0_addColumn_23 rfl ?_
    refine cv_getA X 17 q56 (by decide) rfl rfl dX0_addColumn_24 ?_
    refine cv_bipush X (v := nI 18) dX0_addColumn_27 (by decide) ?_
    refine cv_iload_n X dX0_addColumn_29 rfl ?_
    refine cv_imulN X dX0_addColumn_30 ?_
    refine cv_iload_n X dX0_addColumn_31 rfl ?_
    refine cv_iaddN X dX0_addColumn_32 ?_
    refine cv_iald X 1152 rfl rfl (by omega) dX0_addColumn_33 ?_
    refine cv_aload_n X dX0_addColumn_34 rfl ?_
    refine cv_getA X 1 q40 (by decide) rfl rfl dX0_addColumn_35 ?_
    refine cv_iload_n X dX0_addColumn_38 rfl ?_
    refine cv_iald X 18 rfl rfl (by omega) dX0_addColumn_39 ?_
    refine cv_imul X dX0_addColumn_40 ?_
    refine cv_iadd X dX0_addColumn_41 ?_
    refine cv_iast X 64 (S' := [_, _, _, _, _, _, _, _, _, _, _, _, _, _, _, _, _, _]) rfl rfl (by omega) rfl dX0_addColumn_42 ?_
    refine cv_iincN X (lv' := [_, _, _, _]) dX0_addColumn_43 (by decide) rfl rfl ?_
    refine cv_goto X (tgt := 2) dX0_addColumn_46 (by decide) ?_
    exact cv_take X 4 ih_i1
abbrev rX0_moveByWindows : Room := { frames := 2, cells := 0, slots := 0, locals := 48 }
set_option maxHeartbeats 4000000 in
set_option maxRecDepth 100000 in
/-- moveByWindows() -/
theorem mX0_moveByWindows (l : Launch) {pi ke : Nat → Int32} {st mg ch wd : Nat} {ou pc hf sh pr pl ot tt li ro ba wi : Nat → Int32} (hw : wd ≤ 8) : DXv l yX0_moveByWindows cX0_moveByWindows 3 rX0_moveByWindows 0 len0 [] (xs pi ke st mg ch wd ou pc hf sh pr pl ot tt li ro ba wi) (xs pi ke st mg ch wd (zwo (zws pi wd st mg wi) ke wd ou) pc hf sh pr pl ot tt li ro ba (zws pi wd st mg wi)) := by
  refine dxv_of cl0 rfl (by decide) (fun _ h => absurd h List.not_mem_nil) (Nat.le_of_ble_eq_true rfl) ?_
  intro h ad G X
  refine cv_iconst X (v := nI 0) dX0_moveByWindows_0 (by decide) ?_
  refine cv_istore_n X (lv' := [_, _]) dX0_moveByWindows_1 (by decide) rfl ?_
  refine up_loop0 (P := fun y1 => G (xs pi ke st mg ch wd ou pc hf sh pr pl ot tt li ro ba (it (fun y u => it (fun x u => zst pi (18 * (8 * y + x)) (nI (st * x) - nI mg) (nI (st * y) - nI mg) u) u wd) wi y1)) 2 [.ref h, .int (nI y1)] []) (wd) ?_ ?_
  · show G (xs pi ke st mg ch wd ou pc hf sh pr pl ot tt li ro ba (it (fun y u => it (fun x u => zst pi (18 * (8 * y + x)) (nI (st * x) - nI mg) (nI (st * y) - nI mg) u) u wd) wi (wd))) 2 [.ref h, .int (nI (wd))] []
    refine cv_iload_n X dX0_moveByWindows_2 rfl ?_
    refine cv_aload_n X dX0_moveByWindows_3 rfl ?_
    refine cv_getI X 5 q44 (by decide) rfl rfl dX0_moveByWindows_4 ?_
    refine cv_icmp_geT X 67 (by omega) (by omega) dX0_moveByWindows_7 (by decide) (by omega) ?_
    refine cv_iconst X (v := nI 0) dX0_moveByWindows_67 (by decide) ?_
    refine cv_istore_n X (lv' := [_, _]) dX0_moveByWindows_68 (by decide) rfl ?_
    refine up_loop0 (P := fun k2 => G (xs pi ke st mg ch wd (it (fun k o => it (fun y o => zac (zws pi wd st mg wi) ke wd k (8 * y) o) o wd) ou k2) pc hf sh pr pl ot tt li ro ba (zws pi wd st mg wi)) 69 [.ref h, .int (nI k2)] []) (18) ?_ ?_
    · show G (xs pi ke st mg ch wd (it (fun k o => it (fun y o => zac (zws pi wd st mg wi) ke wd k (8 * y) o) o wd) ou (18)) pc hf sh pr pl ot tt li ro ba (zws pi wd st mg wi)) 69 [.ref h, .int (nI (18))] []
      refine cv_iload_n X dX0_moveByWindows_69 rfl ?_
      refine cv_bipush X (v := nI 18) dX0_moveByWindows_70 (by decide) ?_
      refine cv_icmp_geT X 106 (by omega) (by omega) dX0_moveByWindows_72 (by decide) (by omega) ?_
      exact cv_return X dX0_moveByWindows_106 ⟨rfl, rfl⟩
    · intro k2 h_k2 ih_k2
      show G (xs pi ke st mg ch wd (it (fun k o => it (fun y o => zac (zws pi wd st mg wi) ke wd k (8 * y) o) o wd) ou k2) pc hf sh pr pl ot tt li ro ba (zws pi wd st mg wi)) 69 [.ref h, .int (nI k2)] []
      refine cv_iload_n X dX0_moveByWindows_69 rfl ?_
      refine cv_bipush X (v := nI 18) dX0_moveByWindows_70 (by decide) ?_
      refine cv_icmp_geF X 106 (by omega) (by omega) dX0_moveByWindows_72 (by decide) (by omega) ?_
      refine cv_iconst X (v := nI 0) dX0_moveByWindows_75 (by decide) ?_
      refine cv_istore_n X (lv' := [_, _, _]) dX0_moveByWindows_76 (by decide) rfl ?_
      refine up_loop0 (P := fun y2 => G (xs pi ke st mg ch wd (it (fun y o => zac (zws pi wd st mg wi) ke wd k2 (8 * y) o) (it (fun k o => it (fun y o => zac (zws pi wd st mg wi) ke wd k (8 * y) o) o wd) ou k2) y2) pc hf sh pr pl ot tt li ro ba (zws pi wd st mg wi)) 77 [.ref h, .int (nI k2), .int (nI y2)] []) (wd) ?_ ?_
      · show G (xs pi ke st mg ch wd (it (fun y o => zac (zws pi wd st mg wi) ke wd k2 (8 * y) o) (it (fun k o => it (fun y o => zac (zws pi wd st mg wi) ke wd k (8 * y) o) o wd) ou k2) (wd)) pc hf sh pr pl ot tt li ro ba (zws pi wd st mg wi)) 77 [.ref h, .int (nI k2), .int (nI (wd))] []
        refine cv_iload_n X dX0_moveByWindows_77 rfl ?_
        refine cv_aload_n X dX0_moveByWindows_78 rfl ?_
        refine cv_getI X 5 q44 (by decide) rfl rfl dX0_moveByWindows_79 ?_
        refine cv_icmp_geT X 100 (by omega) (by omega) dX0_moveByWindows_82 (by decide) (by omega) ?_
        refine cv_iincN X (lv' := [_, _, _]) dX0_moveByWindows_100 (by decide) rfl rfl ?_
        refine cv_goto X (tgt := 69) dX0_moveByWindows_103 (by decide) ?_
        exact cv_take X 2 ih_k2
      · intro y2 h_y2 ih_y2
        show G (xs pi ke st mg ch wd (it (fun y o => zac (zws pi wd st mg wi) ke wd k2 (8 * y) o) (it (fun k o => it (fun y o => zac (zws pi wd st mg wi) ke wd k (8 * y) o) o wd) ou k2) y2) pc hf sh pr pl ot tt li ro ba (zws pi wd st mg wi)) 77 [.ref h, .int (nI k2), .int (nI y2)] []
        refine cv_iload_n X dX0_moveByWindows_77 rfl ?_
        refine cv_aload_n X dX0_moveByWindows_78 rfl ?_
        refine cv_getI X 5 q44 (by decide) rfl rfl dX0_moveByWindows_79 ?_
        refine cv_icmp_geF X 100 (by omega) (by omega) dX0_moveByWindows_82 (by decide) (by omega) ?_
        refine cv_aload_n X dX0_moveByWindows_85 rfl ?_
        refine cv_iload_n X dX0_moveByWindows_86 rfl ?_
        refine cv_bipush X (v := nI 8) dX0_moveByWindows_87 (by decide) ?_
        refine cv_iload_n X dX0_moveByWindows_89 rfl ?_
        refine cv_imulN X dX0_moveByWindows_90 ?_
        refine cv_callv X (mX0_addColumn l hw h_k2 (by omega)) wX0_addColumn 2 hX0_addColumn rfl ⟨rfl, rfl⟩ ⟨by decide, by decide⟩ rfl (Nat.le_of_ble_eq_true rfl) dX0_moveByWindows_91 ?_
        refine cv_iincN X (lv' := [_, _, _]) dX0_moveByWindows_94 (by decide) rfl rfl ?_
        refine cv_goto X (tgt := 77) dX0_moveByWindows_97 (by decide) ?_
        exact cv_take X 3 ih_y2
  · intro y1 h_y1 ih_y1
    show G (xs pi ke st mg ch wd ou pc hf sh pr pl ot tt li ro ba (it (fun y u => it (fun x u => zst pi (18 * (8 * y + x)) (nI (st * x) - nI mg) (nI (st * y) - nI mg) u) u wd) wi y1)) 2 [.ref h, .int (nI y1)] []
    refine cv_iload_n X dX0_moveByWindows_2 rfl ?_
    refine cv_aload_n X dX0_moveByWindows_3 rfl ?_
    refine cv_getI X 5 q44 (by decide) rfl rfl dX0_moveByWindows_4 ?_
    refine cv_icmp_geF X 67 (by omega) (by omega) dX0_moveByWindows_7 (by decide) (by omega) ?_
    refine cv_iconst X (v := nI 0) dX0_moveByWindows_10 (by decide) ?_
    refine cv_istore_n X (lv' := [_, _, _]) dX0_moveByWindows_11 (by decide) rfl ?_
    refine up_loop0 (P := fun x1 => G (xs pi ke st mg ch wd ou pc hf sh pr pl ot tt li ro ba (it (fun x u => zst pi (18 * (8 * y1 + x)) (nI (st * x) - nI mg) (nI (st * y1) - nI mg) u) (it (fun y u => it (fun x u => zst pi (18 * (8 * y + x)) (nI (st * x) - nI mg) (nI (st * y) - nI mg) u) u wd) wi y1) x1)) 12 [.ref h, .int (nI y1), .int (nI x1)] []) (wd) ?_ ?_
    · show G (xs pi ke st mg ch wd ou pc hf sh pr pl ot tt li ro ba (it (fun x u => zst pi (18 * (8 * y1 + x)) (nI (st * x) - nI mg) (nI (st * y1) - nI mg) u) (it (fun y u => it (fun x u => zst pi (18 * (8 * y + x)) (nI (st * x) - nI mg) (nI (st * y) - nI mg) u) u wd) wi y1) (wd))) 12 [.ref h, .int (nI y1), .int (nI (wd))] []
      refine cv_iload_n X dX0_moveByWindows_12 rfl ?_
      refine cv_aload_n X dX0_moveByWindows_13 rfl ?_
      refine cv_getI X 5 q44 (by decide) rfl rfl dX0_moveByWindows_14 ?_
      refine cv_icmp_geT X 61 (by omega) (by omega) dX0_moveByWindows_17 (by decide) (by omega) ?_
      refine cv_iincN X (lv' := [_, _, _]) dX0_moveByWindows_61 (by decide) rfl rfl ?_
      refine cv_goto X (tgt := 2) dX0_moveByWindows_64 (by decide) ?_
      exact cv_take X 2 ih_y1
    · intro x1 h_x1 ih_x1
      show G (xs pi ke st mg ch wd ou pc hf sh pr pl ot tt li ro ba (it (fun x u => zst pi (18 * (8 * y1 + x)) (nI (st * x) - nI mg) (nI (st * y1) - nI mg) u) (it (fun y u => it (fun x u => zst pi (18 * (8 * y + x)) (nI (st * x) - nI mg) (nI (st * y) - nI mg) u) u wd) wi y1) x1)) 12 [.ref h, .int (nI y1), .int (nI x1)] []
      refine cv_iload_n X dX0_moveByWindows_12 rfl ?_
      refine cv_aload_n X dX0_moveByWindows_13 rfl ?_
      refine cv_getI X 5 q44 (by decide) rfl rfl dX0_moveByWindows_14 ?_
      refine cv_icmp_geF X 61 (by omega) (by omega) dX0_moveByWindows_17 (by decide) (by omega) ?_
      refine cv_aload_n X dX0_moveByWindows_20 rfl ?_
      refine cv_bipush X (v := nI 18) dX0_moveByWindows_21 (by decide) ?_
      refine cv_bipush X (v := nI 8) dX0_moveByWindows_23 (by decide) ?_
      refine cv_iload_n X dX0_moveByWindows_25 rfl ?_
      refine cv_imulN X dX0_moveByWindows_26 ?_
      refine cv_iload_n X dX0_moveByWindows_27 rfl ?_
      refine cv_iaddN X dX0_moveByWindows_28 ?_
      refine cv_imulN X dX0_moveByWindows_29 ?_
      refine cv_aload_n X dX0_moveByWindows_30 rfl ?_
      refine cv_getI X 2 q41 (by decide) rfl rfl dX0_moveByWindows_31 ?_
      refine cv_iload_n X dX0_moveByWindows_34 rfl ?_
      refine cv_imulN X dX0_moveByWindows_35 ?_
      refine cv_aload_n X dX0_moveByWindows_36 rfl ?_
      refine cv_getI X 3 q42 (by decide) rfl rfl dX0_moveByWindows_37 ?_
      refine cv_isub X dX0_moveByWindows_40 ?_
      refine cv_aload_n X dX0_moveByWindows_41 rfl ?_
      refine cv_getI X 2 q41 (by decide) rfl rfl dX0_moveByWindows_42 ?_
      refine cv_iload_n X dX0_moveByWindows_45 rfl ?_
      refine cv_imulN X dX0_moveByWindows_46 ?_
      refine cv_aload_n X dX0_moveByWindows_47 rfl ?_
      refine cv_getI X 3 q42 (by decide) rfl rfl dX0_moveByWindows_48 ?_
      refine cv_isub X dX0_moveByWindows_51 ?_
      refine cv_callv X (mX0_stretch l (by omega)) wX0_stretch 3 hX0_stretch rfl ⟨rfl, rfl⟩ ⟨by decide, by decide⟩ rfl (Nat.le_of_ble_eq_true rfl) dX0_moveByWindows_52 ?_
      refine cv_iincN X (lv' := [_, _, _]) dX0_moveByWindows_55 (by decide) rfl rfl ?_
      refine cv_goto X (tgt := 12) dX0_moveByWindows_58 (by decide) ?_
      exact cv_take X 3 ih_x1
theorem zwid_le {st mg : Nat} (hst : st = 1 ∨ st = 2) (hmg : mg ≤ 1) : zwid st mg ≤ 8 ∧ st * zwid st mg ≤ 8 ∧ (st = 1 → zwid st mg = 2 * (zwid st mg / 2)) ∧ 1 ≤ zwid st mg := by
  rcases hst with rfl | rfl <;> rcases (show mg = 0 ∨ mg = 1 by omega) with rfl | rfl <;> decide
abbrev rX0_move : Room := { frames := 4, cells := 0, slots := 0, locals := 97 }
set_option maxHeartbeats 4000000 in
set_option maxRecDepth 100000 in
/-- move() -/
theorem mX0_move (l : Launch) {pi ke : Nat → Int32} {st mg ch wd : Nat} {ou pc hf sh pr pl ot tt li ro ba wi : Nat → Int32} (hst : st = 1 ∨ st = 2) (hmg : mg ≤ 1) (hch : ch ≤ 3) : DX l yX0_move cX0_move 2 rX0_move 0 len0 [] (xs pi ke st mg ch wd ou pc hf sh pr pl ot tt li ro ba wi) (nI (zwid st mg)) (if (if ch = 0 then st else ch) = 1 then (if st = 1 then xs pi ke st mg ch (zwid st mg) ((it (ztiles pi ke (zwid st mg) mg) (hf, sh, pc, pr, zclr 64 ou) 2).2.2.2.2) ((it (ztiles pi ke (zwid st mg) mg) (hf, sh, pc, pr, zclr 64 ou) 2).2.2.1) ((it (ztiles pi ke (zwid st mg) mg) (hf, sh, pc, pr, zclr 64 ou) 2).1) ((it (ztiles pi ke (zwid st mg) mg) (hf, sh, pc, pr, zclr 64 ou) 2).2.1) ((it (ztiles pi ke (zwid st mg) mg) (hf, sh, pc, pr, zclr 64 ou) 2).2.2.2.1) pl ot tt li ro ba wi else if (if ch = 0 then st else ch) = 2 then xs pi ke st mg ch (zwid st mg) (zout (zmt1 ba (zmt0 pi ke ro (pl, ot, tt, li))).1 (zpow (nI 256) 7679) (zwid st mg) st mg (zclr 64 ou)) pc hf sh pr ((zmt1 ba (zmt0 pi ke ro (pl, ot, tt, li))).1) ((zmt0 pi ke ro (pl, ot, tt, li)).2.1) ((zmt0 pi ke ro (pl, ot, tt, li)).2.2.1) ((zmt1 ba (zmt0 pi ke ro (pl, ot, tt, li))).2) ro ba wi else xs pi ke st mg ch (zwid st mg) (zwo (zws pi (zwid st mg) st mg wi) ke (zwid st mg) (zclr 64 ou)) pc hf sh pr pl ot tt li ro ba (zws pi (zwid st mg) st mg wi)) else if (if ch = 0 then st else ch) = 2 then xs pi ke st mg ch (zwid st mg) (zout (zmt1 ba (zmt0 pi ke ro (pl, ot, tt, li))).1 (zpow (nI 256) 7679) (zwid st mg) st mg (zclr 64 ou)) pc hf sh pr ((zmt1 ba (zmt0 pi ke ro (pl, ot, tt, li))).1) ((zmt0 pi ke ro (pl, ot, tt, li)).2.1) ((zmt0 pi ke ro (pl, ot, tt, li)).2.2.1) ((zmt1 ba (zmt0 pi ke ro (pl, ot, tt, li))).2) ro ba wi else xs pi ke st mg ch (zwid st mg) (zwo (zws pi (zwid st mg) st mg wi) ke (zwid st mg) (zclr 64 ou)) pc hf sh pr pl ot tt li ro ba (zws pi (zwid st mg) st mg wi)) := by
  refine dx_of cl0 rfl (by decide) (fun _ h => absurd h List.not_mem_nil) (Nat.le_of_ble_eq_true rfl) ?_
  intro h ad G X
  obtain ⟨hw8, hsw8, hev, -⟩ := zwid_le hst hmg
  refine cv_aload_n X dX0_move_0 rfl ?_
  refine cv_aload_n X dX0_move_1 rfl ?_
  refine cv_calli X (mX0_widthNow l hst hmg) wX0_widthNow 0 hX0_widthNow rfl ⟨rfl, rfl⟩ ⟨by decide, by decide⟩ rfl (Nat.le_of_ble_eq_true rfl) dX0_move_2 ?_
  refine cv_putI X 5 (S' := [_, _, _, _, _, _, _, _, _, _, _, _, _, _, _, _, _, _]) q44 (by decide) rfl rfl (by decide +kernel) rfl rfl dX0_move_5 ?_
  refine cv_iconst X (v := nI 0) dX0_move_8 (by decide) ?_
  refine cv_istore_n X (lv' := [_, _]) dX0_move_9 (by decide) rfl ?_
  refine up_loop0 (P := fun k1 => G (xs pi ke st mg ch (zwid st mg) (it (fun k p => upd p k (nI 0)) ou k1) pc hf sh pr pl ot tt li ro ba wi) 10 [.ref h, .int (nI k1)] []) (64) ?_ ?_
  · show G (xs pi ke st mg ch (zwid st mg) (it (fun k p => upd p k (nI 0)) ou (64)) pc hf sh pr pl ot tt li ro ba wi) 10 [.ref h, .int (nI (64))] []
    refine cv_iload_n X dX0_move_10 rfl ?_
    refine cv_bipush X (v := nI 64) dX0_move_11 (by decide) ?_
    refine cv_icmp_geT X 29 (by omega) (by omega) dX0_move_13 (by decide) (by omega) ?_
    refine cv_aload_n X dX0_move_29 rfl ?_
    refine cv_getI X 4 q43 (by decide) rfl rfl dX0_move_30 ?_
    refine cv_if_neN X 43 (by omega) dX0_move_33 (by decide) (fun b33 => ?_) (fun b33 => ?_)
    · skip
      refine cv_aload_n X dX0_move_43 rfl ?_
      refine cv_getI X 4 q43 (by decide) rfl rfl dX0_move_44 ?_
      refine cv_istore_n X (lv' := [_, _]) dX0_move_47 (by decide) rfl ?_
      refine cv_iload_n X dX0_move_48 rfl ?_
      refine cv_iconst X (v := nI 1) dX0_move_49 (by decide) ?_
      refine cv_icmp_neN X 68 (by omega) (by omega) dX0_move_50 (by decide) (fun b50 => ?_) (fun b50 => ?_)
      · skip
        refine cv_iload_n X dX0_move_68 rfl ?_
        refine cv_iconst X (v := nI 2) dX0_move_69 (by decide) ?_
        refine cv_icmp_neN X 80 (by omega) (by omega) dX0_move_70 (by decide) (fun b70 => ?_) (fun b70 => ?_)
        · skip
          refine cv_aload_n X dX0_move_80 rfl ?_
          refine cv_callv X (mX0_moveByWindows l hw8) wX0_moveByWindows 0 hX0_moveByWindows rfl ⟨rfl, rfl⟩ ⟨by decide, by decide⟩ rfl (Nat.le_of_ble_eq_true rfl) dX0_move_81 ?_
          refine cv_aload_n X dX0_move_84 rfl ?_
          refine cv_getI X 5 q44 (by decide) rfl rfl dX0_move_85 ?_
          exact cv_ireturn X dX0_move_88 (by first | (exfalso; omega) | exact ⟨rfl, by simp only [if_neg b33, if_neg b50, if_neg b70]; rfl⟩)
        · skip
          refine cv_aload_n X dX0_move_73 rfl ?_
          refine cv_callv X (mX0_moveByTransforms l hst hmg hw8 hsw8) wX0_moveByTransforms 0 hX0_moveByTransforms rfl ⟨rfl, rfl⟩ ⟨by decide, by decide⟩ rfl (Nat.le_of_ble_eq_true rfl) dX0_move_74 ?_
          refine cv_goto X (tgt := 84) dX0_move_77 (by decide) ?_
          refine cv_aload_n X dX0_move_84 rfl ?_
          refine cv_getI X 5 q44 (by decide) rfl rfl dX0_move_85 ?_
          exact cv_ireturn X dX0_move_88 (by first | (exfalso; omega) | exact ⟨rfl, by simp only [if_neg b33, if_neg b50, if_pos b70]; rfl⟩)
      · skip
        refine cv_aload_n X dX0_move_53 rfl ?_
        refine cv_getI X 2 q41 (by decide) rfl rfl dX0_move_54 ?_
        refine cv_iconst X (v := nI 1) dX0_move_57 (by decide) ?_
        refine cv_icmp_neN X 68 (by omega) (by omega) dX0_move_58 (by decide) (fun b58 => ?_) (fun b58 => ?_)
        · skip
          refine cv_iload_n X dX0_move_68 rfl ?_
          refine cv_iconst X (v := nI 2) dX0_move_69 (by decide) ?_
          refine cv_icmp_neN X 80 (by omega) (by omega) dX0_move_70 (by decide) (fun b70 => ?_) (fun b70 => ?_)
          · skip
            refine cv_aload_n X dX0_move_80 rfl ?_
            refine cv_callv X (mX0_moveByWindows l hw8) wX0_moveByWindows 0 hX0_moveByWindows rfl ⟨rfl, rfl⟩ ⟨by decide, by decide⟩ rfl (Nat.le_of_ble_eq_true rfl) dX0_move_81 ?_
            refine cv_aload_n X dX0_move_84 rfl ?_
            refine cv_getI X 5 q44 (by decide) rfl rfl dX0_move_85 ?_
            exact cv_ireturn X dX0_move_88 (by first | (exfalso; omega) | exact ⟨rfl, by simp only [if_neg b33, if_pos b50, if_neg b58, if_neg b70]; rfl⟩)
          · skip
            refine cv_aload_n X dX0_move_73 rfl ?_
            refine cv_callv X (mX0_moveByTransforms l hst hmg hw8 hsw8) wX0_moveByTransforms 0 hX0_moveByTransforms rfl ⟨rfl, rfl⟩ ⟨by decide, by decide⟩ rfl (Nat.le_of_ble_eq_true rfl) dX0_move_74 ?_
            refine cv_goto X (tgt := 84) dX0_move_77 (by decide) ?_
            refine cv_aload_n X dX0_move_84 rfl ?_
            refine cv_getI X 5 q44 (by decide) rfl rfl dX0_move_85 ?_
            exact cv_ireturn X dX0_move_88 (by first | (exfalso; omega) | exact ⟨rfl, by simp only [if_neg b33, if_pos b50, if_neg b58, if_pos b70]; rfl⟩)
        · skip
          refine cv_aload_n X dX0_move_61 rfl ?_
          refine cv_callv X (mX0_moveByTiles l hw8 (hev b58)) wX0_moveByTiles 0 hX0_moveByTiles rfl ⟨rfl, rfl⟩ ⟨by decide, by decide⟩ rfl (Nat.le_of_ble_eq_true rfl) dX0_move_62 ?_
          refine cv_goto X (tgt := 84) dX0_move_65 (by decide) ?_
          refine cv_aload_n X dX0_move_84 rfl ?_
          refine cv_getI X 5 q44 (by decide) rfl rfl dX0_move_85 ?_
          exact cv_ireturn X dX0_move_88 (by first | (exfalso; omega) | exact ⟨rfl, by simp only [if_neg b33, if_pos b50, if_pos b58]; rfl⟩)
    · skip
      refine cv_aload_n X dX0_move_36 rfl ?_
      refine cv_getI X 2 q41 (by decide) rfl rfl dX0_move_37 ?_
      refine cv_goto X (tgt := 47) dX0_move_40 (by decide) ?_
      refine cv_istore_n X (lv' := [_, _]) dX0_move_47 (by decide) rfl ?_
      refine cv_iload_n X dX0_move_48 rfl ?_
      refine cv_iconst X (v := nI 1) dX0_move_49 (by decide) ?_
      refine cv_icmp_neN X 68 (by omega) (by omega) dX0_move_50 (by decide) (fun b50 => ?_) (fun b50 => ?_)
      · skip
        refine cv_iload_n X dX0_move_68 rfl ?_
        refine cv_iconst X (v := nI 2) dX0_move_69 (by decide) ?_
        refine cv_icmp_neN X 80 (by omega) (by omega) dX0_move_70 (by decide) (fun b70 => ?_) (fun b70 => ?_)
        · skip
          refine cv_aload_n X dX0_move_80 rfl ?_
          refine cv_callv X (mX0_moveByWindows l hw8) wX0_moveByWindows 0 hX0_moveByWindows rfl ⟨rfl, rfl⟩ ⟨by decide, by decide⟩ rfl (Nat.le_of_ble_eq_true rfl) dX0_move_81 ?_
          refine cv_aload_n X dX0_move_84 rfl ?_
          refine cv_getI X 5 q44 (by decide) rfl rfl dX0_move_85 ?_
          exact cv_ireturn X dX0_move_88 (by first | (exfalso; omega) | exact ⟨rfl, by simp only [if_pos b33, if_neg b50, if_neg b70]; rfl⟩)
        · skip
          refine cv_aload_n X dX0_move_73 rfl ?_
          refine cv_callv X (mX0_moveByTransforms l hst hmg hw8 hsw8) wX0_moveByTransforms 0 hX0_moveByTransforms rfl ⟨rfl, rfl⟩ ⟨by decide, by decide⟩ rfl (Nat.le_of_ble_eq_true rfl) dX0_move_74 ?_
          refine cv_goto X (tgt := 84) dX0_move_77 (by decide) ?_
          refine cv_aload_n X dX0_move_84 rfl ?_
          refine cv_getI X 5 q44 (by decide) rfl rfl dX0_move_85 ?_
          exact cv_ireturn X dX0_move_88 (by first | (exfalso; omega) | exact ⟨rfl, by simp only [if_pos b33, if_neg b50, if_pos b70]; rfl⟩)
      · skip
        refine cv_aload_n X dX0_move_53 rfl ?_
        refine cv_getI X 2 q41 (by decide) rfl rfl dX0_move_54 ?_
        refine cv_iconst X (v := nI 1) dX0_move_57 (by decide) ?_
        refine cv_icmp_neN X 68 (by omega) (by omega) dX0_move_58 (by decide) (fun b58 => ?_) (fun b58 => ?_)
        · skip
          refine cv_iload_n X dX0_move_68 rfl ?_
          refine cv_iconst X (v := nI 2) dX0_move_69 (by decide) ?_
          refine cv_icmp_neN X 80 (by omega) (by omega) dX0_move_70 (by decide) (fun b70 => ?_) (fun b70 => ?_)
          · skip
            refine cv_aload_n X dX0_move_80 rfl ?_
            refine cv_callv X (mX0_moveByWindows l hw8) wX0_moveByWindows 0 hX0_moveByWindows rfl ⟨rfl, rfl⟩ ⟨by decide, by decide⟩ rfl (Nat.le_of_ble_eq_true rfl) dX0_move_81 ?_
            refine cv_aload_n X dX0_move_84 rfl ?_
            refine cv_getI X 5 q44 (by decide) rfl rfl dX0_move_85 ?_
            exact cv_ireturn X dX0_move_88 (by first | (exfalso; omega) | exact ⟨rfl, by simp only [if_pos b33, if_pos b50, if_neg b58, if_neg b70]; rfl⟩)
          · skip
            refine cv_aload_n X dX0_move_73 rfl ?_
            refine cv_callv X (mX0_moveByTransforms l hst hmg hw8 hsw8) wX0_moveByTransforms 0 hX0_moveByTransforms rfl ⟨rfl, rfl⟩ ⟨by decide, by decide⟩ rfl (Nat.le_of_ble_eq_true rfl) dX0_move_74 ?_
            refine cv_goto X (tgt := 84) dX0_move_77 (by decide) ?_
            refine cv_aload_n X dX0_move_84 rfl ?_
            refine cv_getI X 5 q44 (by decide) rfl rfl dX0_move_85 ?_
            exact cv_ireturn X dX0_move_88 (by first | (exfalso; omega) | exact ⟨rfl, by simp only [if_pos b33, if_pos b50, if_neg b58, if_pos b70]; rfl⟩)
        · skip
          refine cv_aload_n X dX0_move_61 rfl ?_
          refine cv_callv X (mX0_moveByTiles l hw8 (hev b58)) wX0_moveByTiles 0 hX0_moveByTiles rfl ⟨rfl, rfl⟩ ⟨by decide, by decide⟩ rfl (Nat.le_of_ble_eq_true rfl) dX0_move_62 ?_
          refine cv_goto X (tgt := 84) dX0_move_65 (by decide) ?_
          refine cv_aload_n X dX0_move_84 rfl ?_
          refine cv_getI X 5 q44 (by decide) rfl rfl dX0_move_85 ?_
          exact cv_ireturn X dX0_move_88 (by first | (exfalso; omega) | exact ⟨rfl, by simp only [if_pos b33, if_pos b50, if_pos b58]; rfl⟩)
  · intro k1 h_k1 ih_k1
    show G (xs pi ke st mg ch (zwid st mg) (it (fun k p => upd p k (nI 0)) ou k1) pc hf sh pr pl ot tt li ro ba wi) 10 [.ref h, .int (nI k1)] []
    refine cv_iload_n X dX0_move_10 rfl ?_
    refine cv_bipush X (v := nI 64) dX0_move_11 (by decide) ?_
    refine cv_icmp_geF X 29 (by omega) (by omega) dX0_move_13 (by decide) (by omega) ?_
    refine cv_aload_n X dX0_move_16 rfl ?_
    refine cv_getA X 6 q45 (by decide) rfl rfl dX0_move_17 ?_
    refine cv_iload_n X dX0_move_20 rfl ?_
    refine cv_iconst X (v := nI 0) dX0_move_21 (by decide) ?_
    refine cv_iast X 64 (S' := [_, _, _, _, _, _, _, _, _, _, _, _, _, _, _, _, _, _]) rfl rfl (by omega) rfl dX0_move_22 ?_
    refine cv_iincN X (lv' := [_, _]) dX0_move_23 (by decide) rfl rfl ?_
    refine cv_goto X (tgt := 10) dX0_move_26 (by decide) ?_
    exact cv_take X 2 ih_k1
end
section
set_option maxRecDepth 100000
def zfl1 (t : AN) (j : Nat) : AN := if 0 ≤ t.2 j then t else (t.1 + 1, upd t.2 j (nI 0))
def zflo (w : Nat) (o : Nat → Int32) : AN := it (fun y t => it (fun x t => zfl1 t (8 * y + x)) t w) (0, o) w
def ztk1 (w : Nat) (o : Nat → Int32) (c : Nat) (t : AN) (x y : Nat) : AN := (if t.2 (64 * c + 8 * y + x) = zcl (zres w o (nI x) (nI y)) then t.1 else t.1 + 1, upd t.2 (64 * c + 8 * y + x) (zcl (zres w o (nI x) (nI y))))
def ztak (w : Nat) (o : Nat → Int32) (c : Nat) (pi : Nat → Int32) : AN := it (fun y t => it (fun x t => ztk1 w o c t x y) t 8) (0, pi) 8
def zta (w : Nat) (o : Nat → Int32) (c : Int32) (pi : Nat → Int32) : Int32 × (Nat → Int32) := if c < 0 then (bad, pi) else if c ≤ nI 1 then (nI (ztak w o c.toNatClampNeg pi).1, (ztak w o c.toNatClampNeg pi).2) else (bad, pi)
def zdiv (d : Int32) (w : Nat) (o : Nat → Int32) : Int32 × (Nat → Int32) := if d < nI 1 then (bad, o) else if d ≤ nI 100 then (nI w, zdv d o) else (bad, o)
def zfX (c a s e : Int32) (f : Nat → Int32) : Int32 × (Nat → Int32) := if c < 0 then (bad, f) else if nI 1 < c then (bad, f) else if a < -20 then (bad, f) else if nI 20 < a then (bad, f) else if e < -3 then (bad, f) else if e ≤ nI 3 then (if s < 0 then (bad, f) else if nI 10 < s / nI 100 - nI 10 then (bad, f) else if rmd s (nI 100) - nI 10 ≤ nI 10 then (nI 0, zfill c.toNatClampNeg a (s / nI 100 - nI 10) (rmd s (nI 100) - nI 10) e f) else (bad, f)) else (bad, f)
theorem zpk_in (o : Nat → Int32) (y : Nat) (hy : y < 8) (b : Nat) (hb : b ≤ 64) (n : Nat) (hn : n ≤ 8) : it (fun x b => zpk1 o b (8 * y + x)) b n ≤ 64 := by
  induction n with
  | zero => exact hb
  | succ n ih =>
    have h1 := ih (by omega)
    rw [it_s]
    unfold zpk1
    split
    · omega
    · split
      · exact h1
      · omega
theorem zpk_out (o : Nat → Int32) (w : Nat) (hw : w ≤ 8) (n : Nat) (hn : n ≤ 8) : it (fun y b => it (fun x b => zpk1 o b (8 * y + x)) b w) 0 n ≤ 64 := by
  induction n with
  | zero => exact Nat.zero_le _
  | succ n ih => rw [it_s]; exact zpk_in o n (by omega) _ (ih (by omega)) w hw
abbrev rX0_floor : Room := { frames := 0, cells := 0, slots := 0, locals := 0 }
set_option maxHeartbeats 4000000 in
set_option maxRecDepth 100000 in
/-- floor() -/
theorem mX0_floor (l : Launch) {pi ke : Nat → Int32} {st mg ch wd : Nat} {ou pc hf sh pr pl ot tt li ro ba wi : Nat → Int32} (hw : wd ≤ 8) : DX l yX0_floor cX0_floor 4 rX0_floor 0 len0 [] (xs pi ke st mg ch wd ou pc hf sh pr pl ot tt li ro ba wi) (nI (zflo wd ou).1) (xs pi ke st mg ch wd ((zflo wd ou).2) pc hf sh pr pl ot tt li ro ba wi) := by
  refine dx_of cl0 rfl (by decide) (fun _ h => absurd h List.not_mem_nil) (Nat.le_of_ble_eq_true rfl) ?_
  intro h ad G X
  refine cv_iconst X (v := nI 0) dX0_floor_0 (by decide) ?_
  refine cv_istore_n X (lv' := [_, _]) dX0_floor_1 (by decide) rfl ?_
  refine cv_iconst X (v := nI 0) dX0_floor_2 (by decide) ?_
  refine cv_istore_n X (lv' := [_, _, _]) dX0_floor_3 (by decide) rfl ?_
  refine up_loop0 (P := fun y1 => G (xs pi ke st mg ch wd ((it (fun y t => it (fun x t => zfl1 t (8 * y + x)) t wd) (0, ou) y1).2) pc hf sh pr pl ot tt li ro ba wi) 4 [.ref h, .int (nI ((it (fun y t => it (fun x t => zfl1 t (8 * y + x)) t wd) (0, ou) y1).1)), .int (nI y1)] []) (wd) ?_ ?_
  · show G (xs pi ke st mg ch wd ((it (fun y t => it (fun x t => zfl1 t (8 * y + x)) t wd) (0, ou) (wd)).2) pc hf sh pr pl ot tt li ro ba wi) 4 [.ref h, .int (nI ((it (fun y t => it (fun x t => zfl1 t (8 * y + x)) t wd) (0, ou) (wd)).1)), .int (nI (wd))] []
    refine cv_iload_n X dX0_floor_4 rfl ?_
    refine cv_aload_n X dX0_floor_5 rfl ?_
    refine cv_getI X 5 q44 (by decide) rfl rfl dX0_floor_6 ?_
    refine cv_icmp_geT X 63 (by omega) (by omega) dX0_floor_9 (by decide) (by omega) ?_
    refine cv_iload_n X dX0_floor_63 rfl ?_
    exact cv_ireturn X dX0_floor_64 ⟨rfl, rfl⟩
  · intro y1 h_y1 ih_y1
    show G (xs pi ke st mg ch wd ((it (fun y t => it (fun x t => zfl1 t (8 * y + x)) t wd) (0, ou) y1).2) pc hf sh pr pl ot tt li ro ba wi) 4 [.ref h, .int (nI ((it (fun y t => it (fun x t => zfl1 t (8 * y + x)) t wd) (0, ou) y1).1)), .int (nI y1)] []
    refine cv_iload_n X dX0_floor_4 rfl ?_
    refine cv_aload_n X dX0_floor_5 rfl ?_
    refine cv_getI X 5 q44 (by decide) rfl rfl dX0_floor_6 ?_
    refine cv_icmp_geF X 63 (by omega) (by omega) dX0_floor_9 (by decide) (by omega) ?_
    refine cv_iconst X (v := nI 0) dX0_floor_12 (by decide) ?_
    refine cv_istore_n X (lv' := [_, _, _, _]) dX0_floor_13 (by decide) rfl ?_
    refine up_loop0 (P := fun x1 => G (xs pi ke st mg ch wd ((it (fun x t => zfl1 t (8 * y1 + x)) (it (fun y t => it (fun x t => zfl1 t (8 * y + x)) t wd) (0, ou) y1) x1).2) pc hf sh pr pl ot tt li ro ba wi) 14 [.ref h, .int (nI ((it (fun x t => zfl1 t (8 * y1 + x)) (it (fun y t => it (fun x t => zfl1 t (8 * y + x)) t wd) (0, ou) y1) x1).1)), .int (nI y1), .int (nI x1)] []) (wd) ?_ ?_
    · show G (xs pi ke st mg ch wd ((it (fun x t => zfl1 t (8 * y1 + x)) (it (fun y t => it (fun x t => zfl1 t (8 * y + x)) t wd) (0, ou) y1) (wd)).2) pc hf sh pr pl ot tt li ro ba wi) 14 [.ref h, .int (nI ((it (fun x t => zfl1 t (8 * y1 + x)) (it (fun y t => it (fun x t => zfl1 t (8 * y + x)) t wd) (0, ou) y1) (wd)).1)), .int (nI y1), .int (nI (wd))] []
      refine cv_iload_n X dX0_floor_14 rfl ?_
      refine cv_aload_n X dX0_floor_15 rfl ?_
      refine cv_getI X 5 q44 (by decide) rfl rfl dX0_floor_16 ?_
      refine cv_icmp_geT X 57 (by omega) (by omega) dX0_floor_19 (by decide) (by omega) ?_
      refine cv_iincN X (lv' := [_, _, _, _]) dX0_floor_57 (by decide) rfl rfl ?_
      refine cv_goto X (tgt := 4) dX0_floor_60 (by decide) ?_
      exact cv_take X 3 ih_y1
    · intro x1 h_x1 ih_x1
      show G (xs pi ke st mg ch wd ((it (fun x t => zfl1 t (8 * y1 + x)) (it (fun y t => it (fun x t => zfl1 t (8 * y + x)) t wd) (0, ou) y1) x1).2) pc hf sh pr pl ot tt li ro ba wi) 14 [.ref h, .int (nI ((it (fun x t => zfl1 t (8 * y1 + x)) (it (fun y t => it (fun x t => zfl1 t (8 * y + x)) t wd) (0, ou) y1) x1).1)), .int (nI y1), .int (nI x1)] []
      refine cv_iload_n X dX0_floor_14 rfl ?_
      refine cv_aload_n X dX0_floor_15 rfl ?_
      refine cv_getI X 5 q44 (by decide) rfl rfl dX0_floor_16 ?_
      refine cv_icmp_geF X 57 (by omega) (by omega) dX0_floor_19 (by decide) (by omega) ?_
      refine cv_aload_n X dX0_floor_22 rfl ?_
      refine cv_getA X 6 q45 (by decide) rfl rfl dX0_floor_23 ?_
      refine cv_bipush X (v := nI 8) dX0_floor_26 (by decide) ?_
      refine cv_iload_n X dX0_floor_28 rfl ?_
      refine cv_imulN X dX0_floor_29 ?_
      refine cv_iload_n X dX0_floor_30 rfl ?_
      refine cv_iaddN X dX0_floor_31 ?_
      refine cv_iald X 64 rfl rfl (by omega) dX0_floor_32 ?_
      refine cv_if_ge X 51 dX0_floor_33 (by decide) (fun b33 => ?_) (fun b33 => ?_)
      · skip
        refine cv_iincN X (lv' := [_, _, _, _]) dX0_floor_51 (by decide) rfl rfl ?_
        refine cv_goto X (tgt := 14) dX0_floor_54 (by decide) ?_
        rw [it_s, zfl1, if_pos b33] at ih_x1
        exact cv_take X 4 ih_x1
      · skip
        refine cv_aload_n X dX0_floor_36 rfl ?_
        refine cv_getA X 6 q45 (by decide) rfl rfl dX0_floor_37 ?_
        refine cv_bipush X (v := nI 8) dX0_floor_40 (by decide) ?_
        refine cv_iload_n X dX0_floor_42 rfl ?_
        refine cv_imulN X dX0_floor_43 ?_
        refine cv_iload_n X dX0_floor_44 rfl ?_
        refine cv_iaddN X dX0_floor_45 ?_
        refine cv_iconst X (v := nI 0) dX0_floor_46 (by decide) ?_
        refine cv_iast X 64 (S' := [_, _, _, _, _, _, _, _, _, _, _, _, _, _, _, _, _, _]) rfl rfl (by omega) rfl dX0_floor_47 ?_
        refine cv_iincN X (lv' := [_, _, _, _]) dX0_floor_48 (by decide) rfl rfl ?_
        refine cv_iincN X (lv' := [_, _, _, _]) dX0_floor_51 (by decide) rfl rfl ?_
        refine cv_goto X (tgt := 14) dX0_floor_54 (by decide) ?_
        rw [it_s, zfl1, if_neg b33] at ih_x1
        exact cv_take X 4 ih_x1
abbrev rX0_thin : Room := { frames := 1, cells := 0, slots := 0, locals := 22 }
set_option maxHeartbeats 4000000 in
set_option maxRecDepth 100000 in
/-- thin() -/
theorem mX0_thin (l : Launch) {pi ke : Nat → Int32} {st mg ch wd : Nat} {ou pc hf sh pr pl ot tt li ro ba wi : Nat → Int32} (hw : wd ≤ 8) : DX l yX0_thin cX0_thin 7 rX0_thin 0 len0 [] (xs pi ke st mg ch wd ou pc hf sh pr pl ot tt li ro ba wi) (nI (wd / 2)) (xs pi ke st mg ch (wd / 2) (zth (wd / 2) ou) pc hf sh pr pl ot tt li ro ba wi) := by
  refine dx_of cl0 rfl (by decide) (fun _ h => absurd h List.not_mem_nil) (Nat.le_of_ble_eq_true rfl) ?_
  intro h ad G X
  refine cv_aload_n X dX0_thin_0 rfl ?_
  refine cv_getI X 5 q44 (by decide) rfl rfl dX0_thin_1 ?_
  refine cv_iconst X (v := nI 1) dX0_thin_4 (by decide) ?_
  refine cv_ishrN X (by omega) (by omega) dX0_thin_5 ?_
  refine cv_istore_n X (lv' := [_, _]) dX0_thin_6 (by decide) rfl ?_
  refine cv_iconst X (v := nI 0) dX0_thin_7 (by decide) ?_
  refine cv_istore_n X (lv' := [_, _, _]) dX0_thin_8 (by decide) rfl ?_
  refine up_loop0 (P := fun y1 => G (xs pi ke st mg ch wd (it (fun y o => it (fun x o => upd o (8 * y + x) (zmx (zmx (o (16 * y + 2 * x)) (o (16 * y + 2 * x + 1))) (zmx (o (16 * y + 2 * x + 8)) (o (16 * y + 2 * x + 9))))) o (wd / 2)) ou y1) pc hf sh pr pl ot tt li ro ba wi) 9 [.ref h, .int (nI (wd / 2)), .int (nI y1)] []) (wd / 2) ?_ ?_
  · show G (xs pi ke st mg ch wd (it (fun y o => it (fun x o => upd o (8 * y + x) (zmx (zmx (o (16 * y + 2 * x)) (o (16 * y + 2 * x + 1))) (zmx (o (16 * y + 2 * x + 8)) (o (16 * y + 2 * x + 9))))) o (wd / 2)) ou (wd / 2)) pc hf sh pr pl ot tt li ro ba wi) 9 [.ref h, .int (nI (wd / 2)), .int (nI (wd / 2))] []
    refine cv_iload_n X dX0_thin_9 rfl ?_
    refine cv_iload_n X dX0_thin_10 rfl ?_
    refine cv_icmp_geT X 110 (by omega) (by omega) dX0_thin_11 (by decide) (by omega) ?_
    refine cv_aload_n X dX0_thin_110 rfl ?_
    refine cv_iload_n X dX0_thin_111 rfl ?_
    refine cv_putI X 5 (S' := [_, _, _, _, _, _, _, _, _, _, _, _, _, _, _, _, _, _]) q44 (by decide) rfl rfl (by decide +kernel) rfl rfl dX0_thin_112 ?_
    refine cv_iload_n X dX0_thin_115 rfl ?_
    exact cv_ireturn X dX0_thin_116 ⟨rfl, rfl⟩
  · intro y1 h_y1 ih_y1
    show G (xs pi ke st mg ch wd (it (fun y o => it (fun x o => upd o (8 * y + x) (zmx (zmx (o (16 * y + 2 * x)) (o (16 * y + 2 * x + 1))) (zmx (o (16 * y + 2 * x + 8)) (o (16 * y + 2 * x + 9))))) o (wd / 2)) ou y1) pc hf sh pr pl ot tt li ro ba wi) 9 [.ref h, .int (nI (wd / 2)), .int (nI y1)] []
    refine cv_iload_n X dX0_thin_9 rfl ?_
    refine cv_iload_n X dX0_thin_10 rfl ?_
    refine cv_icmp_geF X 110 (by omega) (by omega) dX0_thin_11 (by decide) (by omega) ?_
    refine cv_iconst X (v := nI 0) dX0_thin_14 (by decide) ?_
    refine cv_istore_n X (lv' := [_, _, _, _]) dX0_thin_15 (by decide) rfl ?_
    refine up_loop0 (P := fun x1 => G (xs pi ke st mg ch wd (it (fun x o => upd o (8 * y1 + x) (zmx (zmx (o (16 * y1 + 2 * x)) (o (16 * y1 + 2 * x + 1))) (zmx (o (16 * y1 + 2 * x + 8)) (o (16 * y1 + 2 * x + 9))))) (it (fun y o => it (fun x o => upd o (8 * y + x) (zmx (zmx (o (16 * y + 2 * x)) (o (16 * y + 2 * x + 1))) (zmx (o (16 * y + 2 * x + 8)) (o (16 * y + 2 * x + 9))))) o (wd / 2)) ou y1) x1) pc hf sh pr pl ot tt li ro ba wi) 16 [.ref h, .int (nI (wd / 2)), .int (nI y1), .int (nI x1)] []) (wd / 2) ?_ ?_
    · show G (xs pi ke st mg ch wd (it (fun x o => upd o (8 * y1 + x) (zmx (zmx (o (16 * y1 + 2 * x)) (o (16 * y1 + 2 * x + 1))) (zmx (o (16 * y1 + 2 * x + 8)) (o (16 * y1 + 2 * x + 9))))) (it (fun y o => it (fun x o => upd o (8 * y + x) (zmx (zmx (o (16 * y + 2 * x)) (o (16 * y + 2 * x + 1))) (zmx (o (16 * y + 2 * x + 8)) (o (16 * y + 2 * x + 9))))) o (wd / 2)) ou y1) (wd / 2)) pc hf sh pr pl ot tt li ro ba wi) 16 [.ref h, .int (nI (wd / 2)), .int (nI y1), .int (nI (wd / 2))] []
      refine cv_iload_n X dX0_thin_16 rfl ?_
      refine cv_iload_n X dX0_thin_17 rfl ?_
      refine cv_icmp_geT X 104 (by omega) (by omega) dX0_thin_18 (by decide) (by omega) ?_
      refine cv_iincN X (lv' := [_, _, _, _]) dX0_thin_104 (by decide) rfl rfl ?_
      refine cv_goto X (tgt := 9) dX0_thin_107 (by decide) ?_
      exact cv_take X 3 ih_y1
    · intro x1 h_x1 ih_x1
      show G (xs pi ke st mg ch wd (it (fun x o => upd o (8 * y1 + x) (zmx (zmx (o (16 * y1 + 2 * x)) (o (16 * y1 + 2 * x + 1))) (zmx (o (16 * y1 + 2 * x + 8)) (o (16 * y1 + 2 * x + 9))))) (it (fun y o => it (fun x o => upd o (8 * y + x) (zmx (zmx (o (16 * y + 2 * x)) (o (16 * y + 2 * x + 1))) (zmx (o (16 * y + 2 * x + 8)) (o (16 * y + 2 * x + 9))))) o (wd / 2)) ou y1) x1) pc hf sh pr pl ot tt li ro ba wi) 16 [.ref h, .int (nI (wd / 2)), .int (nI y1), .int (nI x1)] []
      refine cv_iload_n X dX0_thin_16 rfl ?_
      refine cv_iload_n X dX0_thin_17 rfl ?_
      refine cv_icmp_geF X 104 (by omega) (by omega) dX0_thin_18 (by decide) (by omega) ?_
      refine cv_bipush X (v := nI 16) dX0_thin_21 (by decide) ?_
      refine cv_iload_n X dX0_thin_23 rfl ?_
      refine cv_imulN X dX0_thin_24 ?_
      refine cv_iconst X (v := nI 2) dX0_thin_25 (by decide) ?_
      refine cv_iload_n X dX0_thin_26 rfl ?_
      refine cv_imulN X dX0_thin_27 ?_
      refine cv_iaddN X dX0_thin_28 ?_
      refine cv_istore X (lv' := [_, _, _, _, _]) dX0_thin_29 (by decide) rfl ?_
      refine cv_aload_n X dX0_thin_31 rfl ?_
      refine cv_aload_n X dX0_thin_32 rfl ?_
      refine cv_getA X 6 q45 (by decide) rfl rfl dX0_thin_33 ?_
      refine cv_iload X dX0_thin_36 rfl ?_
      refine cv_iald X 64 rfl rfl (by omega) dX0_thin_38 ?_
      refine cv_aload_n X dX0_thin_39 rfl ?_
      refine cv_getA X 6 q45 (by decide) rfl rfl dX0_thin_40 ?_
      refine cv_iload X dX0_thin_43 rfl ?_
      refine cv_iconst X (v := nI 1) dX0_thin_45 (by decide) ?_
      refine cv_iaddN X dX0_thin_46 ?_
      refine cv_iald X 64 rfl rfl (by omega) dX0_thin_47 ?_
      refine cv_calli X (mX0_greater l) wX0_greater 2 hX0_greater rfl ⟨rfl, rfl⟩ ⟨by decide, by decide⟩ rfl (Nat.le_of_ble_eq_true rfl) dX0_thin_48 ?_
      refine cv_istore X (lv' := [_, _, _, _, _, _]) dX0_thin_51 (by decide) rfl ?_
      refine cv_aload_n X dX0_thin_53 rfl ?_
      refine cv_aload_n X dX0_thin_54 rfl ?_
      refine cv_getA X 6 q45 (by decide) rfl rfl dX0_thin_55 ?_
      refine cv_iload X dX0_thin_58 rfl ?_
      refine cv_bipush X (v := nI 8) dX0_thin_60 (by decide) ?_
      refine cv_iaddN X dX0_thin_62 ?_
      refine cv_iald X 64 rfl rfl (by omega) dX0_thin_63 ?_
      refine cv_aload_n X dX0_thin_64 rfl ?_
      refine cv_getA X 6 q45 (by decide) rfl rfl dX0_thin_65 ?_
      refine cv_iload X dX0_thin_68 rfl ?_
      refine cv_bipush X (v := nI 9) dX0_thin_70 (by decide) ?_
      refine cv_iaddN X dX0_thin_72 ?_
      refine cv_iald X 64 rfl rfl (by omega) dX0_thin_73 ?_
      refine cv_calli X (mX0_greater l) wX0_greater 2 hX0_greater rfl ⟨rfl, rfl⟩ ⟨by decide, by decide⟩ rfl (Nat.le_of_ble_eq_true rfl) dX0_thin_74 ?_
      refine cv_istore X (lv' := [_, _, _, _, _, _, _]) dX0_thin_77 (by decide) rfl ?_
      refine cv_aload_n X dX0_thin_79 rfl ?_
      refine cv_getA X 6 q45 (by decide) rfl rfl dX0_thin_80 ?_
      refine cv_bipush X (v := nI 8) dX0_thin_83 (by decide) ?_
      refine cv_iload_n X dX0_thin_85 rfl ?_
      refine cv_imulN X dX0_thin_86 ?_
      refine cv_iload_n X dX0_thin_87 rfl ?_
      refine cv_iaddN X dX0_thin_88 ?_
      refine cv_aload_n X dX0_thin_89 rfl ?_
      refine cv_iload X dX0_thin_90 rfl ?_
      refine cv_iload X dX0_thin_92 rfl ?_
      refine cv_calli X (mX0_greater l) wX0_greater 2 hX0_greater rfl ⟨rfl, rfl⟩ ⟨by decide, by decide⟩ rfl (Nat.le_of_ble_eq_true rfl) dX0_thin_94 ?_
      refine cv_iast X 64 (S' := [_, _, _, _, _, _, _, _, _, _, _, _, _, _, _, _, _, _]) rfl rfl (by omega) rfl dX0_thin_97 ?_
      refine cv_iincN X (lv' := [_, _, _, _, _, _, _]) dX0_thin_98 (by decide) rfl rfl ?_
      refine cv_goto X (tgt := 16) dX0_thin_101 (by decide) ?_
      exact cv_take X 4 ih_x1
abbrev rX0_divide : Room := { frames := 0, cells := 0, slots := 0, locals := 0 }
set_option maxHeartbeats 4000000 in
set_option maxRecDepth 100000 in
/-- divide(d) -/
theorem mX0_divide (l : Launch) {pi ke : Nat → Int32} {st mg ch wd : Nat} {ou pc hf sh pr pl ot tt li ro ba wi : Nat → Int32} {d : Int32} : DX l yX0_divide cX0_divide 3 rX0_divide 0 len0 [.int d] (xs pi ke st mg ch wd ou pc hf sh pr pl ot tt li ro ba wi) ((zdiv d wd ou).1) (xs pi ke st mg ch wd ((zdiv d wd ou).2) pc hf sh pr pl ot tt li ro ba wi) := by
  refine dx_of cl0 rfl (by decide) (List.forall_mem_cons.mpr ⟨rfl, fun _ h => absurd h List.not_mem_nil⟩) (Nat.le_of_ble_eq_true rfl) ?_
  intro h ad G X
  refine cv_iload_n X dX0_divide_0 rfl ?_
  refine cv_iconst X (v := nI 1) dX0_divide_1 (by decide) ?_
  refine cv_icmp_lt X 11 dX0_divide_2 (by decide) (fun b2 => ?_) (fun b2 => ?_)
  · skip
    refine cv_ldc X q99 dX0_divide_11 ?_
    exact cv_ireturn X dX0_divide_13 ⟨by simp only [zdiv, if_pos b2], by simp only [zdiv, if_pos b2]⟩
  · skip
    refine cv_iload_n X dX0_divide_5 rfl ?_
    refine cv_bipush X (v := nI 100) dX0_divide_6 (by decide) ?_
    refine cv_icmp_le X 14 dX0_divide_8 (by decide) (fun b8 => ?_) (fun b8 => ?_)
    · skip
      refine cv_iconst X (v := nI 0) dX0_divide_14 (by decide) ?_
      refine cv_istore_n X (lv' := [_, _, _]) dX0_divide_15 (by decide) rfl ?_
      refine up_loop0 (P := fun k1 => G (xs pi ke st mg ch wd (it (fun k o => upd o k (o k / d)) ou k1) pc hf sh pr pl ot tt li ro ba wi) 16 [.ref h, .int d, .int (nI k1)] []) (64) ?_ ?_
      · show G (xs pi ke st mg ch wd (it (fun k o => upd o k (o k / d)) ou (64)) pc hf sh pr pl ot tt li ro ba wi) 16 [.ref h, .int d, .int (nI (64))] []
        refine cv_iload_n X dX0_divide_16 rfl ?_
        refine cv_bipush X (v := nI 64) dX0_divide_17 (by decide) ?_
        refine cv_icmp_geT X 42 (by omega) (by omega) dX0_divide_19 (by decide) (by omega) ?_
        refine cv_aload_n X dX0_divide_42 rfl ?_
        refine cv_getI X 5 q44 (by decide) rfl rfl dX0_divide_43 ?_
        exact cv_ireturn X dX0_divide_46 ⟨by simp only [zdiv, if_neg b2, if_pos b8], by simp only [zdiv, if_neg b2, if_pos b8]; rfl⟩
      · intro k1 h_k1 ih_k1
        show G (xs pi ke st mg ch wd (it (fun k o => upd o k (o k / d)) ou k1) pc hf sh pr pl ot tt li ro ba wi) 16 [.ref h, .int d, .int (nI k1)] []
        refine cv_iload_n X dX0_divide_16 rfl ?_
        refine cv_bipush X (v := nI 64) dX0_divide_17 (by decide) ?_
        refine cv_icmp_geF X 42 (by omega) (by omega) dX0_divide_19 (by decide) (by omega) ?_
        refine cv_aload_n X dX0_divide_22 rfl ?_
        refine cv_getA X 6 q45 (by decide) rfl rfl dX0_divide_23 ?_
        refine cv_iload_n X dX0_divide_26 rfl ?_
        refine cv_aload_n X dX0_divide_27 rfl ?_
        refine cv_getA X 6 q45 (by decide) rfl rfl dX0_divide_28 ?_
        refine cv_iload_n X dX0_divide_31 rfl ?_
        refine cv_iald X 64 rfl rfl (by omega) dX0_divide_32 ?_
        refine cv_iload_n X dX0_divide_33 rfl ?_
        refine cv_idiv X dX0_divide_34 (fun q => b2 (by rw [q]; decide)) ?_
        refine cv_iast X 64 (S' := [_, _, _, _, _, _, _, _, _, _, _, _, _, _, _, _, _, _]) rfl rfl (by omega) rfl dX0_divide_35 ?_
        refine cv_iincN X (lv' := [_, _, _]) dX0_divide_36 (by decide) rfl rfl ?_
        refine cv_goto X (tgt := 16) dX0_divide_39 (by decide) ?_
        exact cv_take X 3 ih_k1
    · skip
      refine cv_ldc X q99 dX0_divide_11 ?_
      exact cv_ireturn X dX0_divide_13 ⟨by simp only [zdiv, if_neg b2, if_neg b8], by simp only [zdiv, if_neg b2, if_neg b8]⟩
abbrev rX0_take : Room := { frames := 1, cells := 0, slots := 0, locals := 22 }
set_option maxHeartbeats 4000000 in
set_option maxRecDepth 100000 in
/-- take(c) -/
theorem mX0_take (l : Launch) {pi ke : Nat → Int32} {st mg ch wd : Nat} {ou pc hf sh pr pl ot tt li ro ba wi : Nat → Int32} (hw : wd ≤ 8) {c : Int32} : DX l yX0_take cX0_take 8 rX0_take 0 len0 [.int c] (xs pi ke st mg ch wd ou pc hf sh pr pl ot tt li ro ba wi) ((zta wd ou c pi).1) (xs ((zta wd ou c pi).2) ke st mg ch wd ou pc hf sh pr pl ot tt li ro ba wi) := by
  refine dx_of cl0 rfl (by decide) (List.forall_mem_cons.mpr ⟨rfl, fun _ h => absurd h List.not_mem_nil⟩) (Nat.le_of_ble_eq_true rfl) ?_
  intro h ad G X
  refine cv_iload_n X dX0_take_0 rfl ?_
  refine cv_if_lt X 9 dX0_take_1 (by decide) (fun b1 => ?_) (fun b1 => ?_)
  · skip
    refine cv_ldc X q99 dX0_take_9 ?_
    exact cv_ireturn X dX0_take_11 ⟨by simp only [zta, if_pos b1], by simp only [zta, if_pos b1]⟩
  · skip
    refine cv_iload_n X dX0_take_4 rfl ?_
    refine cv_iconst X (v := nI 1) dX0_take_5 (by decide) ?_
    refine cv_icmp_le X 12 dX0_take_6 (by decide) (fun b6 => ?_) (fun b6 => ?_)
    · skip
      obtain ⟨c, hc, rfl⟩ := cv_ile (by decide) b1 b6
      have hcl := nI_clamp (show c < 2 ^ 31 by omega)
      refine cv_iconst X (v := nI 0) dX0_take_12 (by decide) ?_
      refine cv_istore_n X (lv' := [_, _, _]) dX0_take_13 (by decide) rfl ?_
      refine cv_iconst X (v := nI 0) dX0_take_14 (by decide) ?_
      refine cv_istore_n X (lv' := [_, _, _, _]) dX0_take_15 (by decide) rfl ?_
      refine up_loop0 (P := fun y1 => G (xs ((it (fun y t => it (fun x t => ztk1 wd ou c t x y) t 8) (0, pi) y1).2) ke st mg ch wd ou pc hf sh pr pl ot tt li ro ba wi) 16 [.ref h, .int (nI c), .int (nI ((it (fun y t => it (fun x t => ztk1 wd ou c t x y) t 8) (0, pi) y1).1)), .int (nI y1)] []) (8) ?_ ?_
      · show G (xs ((it (fun y t => it (fun x t => ztk1 wd ou c t x y) t 8) (0, pi) (8)).2) ke st mg ch wd ou pc hf sh pr pl ot tt li ro ba wi) 16 [.ref h, .int (nI c), .int (nI ((it (fun y t => it (fun x t => ztk1 wd ou c t x y) t 8) (0, pi) (8)).1)), .int (nI (8))] []
        refine cv_iload_n X dX0_take_16 rfl ?_
        refine cv_bipush X (v := nI 8) dX0_take_17 (by decide) ?_
        refine cv_icmp_geT X 104 (by omega) (by omega) dX0_take_19 (by decide) (by omega) ?_
        refine cv_iload_n X dX0_take_104 rfl ?_
        exact cv_ireturn X dX0_take_105 ⟨by simp only [zta, if_neg b1, if_pos b6, hcl]; rfl, by simp only [zta, if_neg b1, if_pos b6, hcl]; rfl⟩
      · intro y1 h_y1 ih_y1
        show G (xs ((it (fun y t => it (fun x t => ztk1 wd ou c t x y) t 8) (0, pi) y1).2) ke st mg ch wd ou pc hf sh pr pl ot tt li ro ba wi) 16 [.ref h, .int (nI c), .int (nI ((it (fun y t => it (fun x t => ztk1 wd ou c t x y) t 8) (0, pi) y1).1)), .int (nI y1)] []
        refine cv_iload_n X dX0_take_16 rfl ?_
        refine cv_bipush X (v := nI 8) dX0_take_17 (by decide) ?_
        refine cv_icmp_geF X 104 (by omega) (by omega) dX0_take_19 (by decide) (by omega) ?_
        refine cv_iconst X (v := nI 0) dX0_take_22 (by decide) ?_
        refine cv_istore X (lv' := [_, _, _, _, _]) dX0_take_23 (by decide) rfl ?_
        refine up_loop0 (P := fun x1 => G (xs ((it (fun x t => ztk1 wd ou c t x y1) (it (fun y t => it (fun x t => ztk1 wd ou c t x y) t 8) (0, pi) y1) x1).2) ke st mg ch wd ou pc hf sh pr pl ot tt li ro ba wi) 25 [.ref h, .int (nI c), .int (nI ((it (fun x t => ztk1 wd ou c t x y1) (it (fun y t => it (fun x t => ztk1 wd ou c t x y) t 8) (0, pi) y1) x1).1)), .int (nI y1), .int (nI x1)] []) (8) ?_ ?_
        · show G (xs ((it (fun x t => ztk1 wd ou c t x y1) (it (fun y t => it (fun x t => ztk1 wd ou c t x y) t 8) (0, pi) y1) (8)).2) ke st mg ch wd ou pc hf sh pr pl ot tt li ro ba wi) 25 [.ref h, .int (nI c), .int (nI ((it (fun x t => ztk1 wd ou c t x y1) (it (fun y t => it (fun x t => ztk1 wd ou c t x y) t 8) (0, pi) y1) (8)).1)), .int (nI y1), .int (nI (8))] []
          refine cv_iload X dX0_take_25 rfl ?_
          refine cv_bipush X (v := nI 8) dX0_take_27 (by decide) ?_
          refine cv_icmp_geT X 98 (by omega) (by omega) dX0_take_29 (by decide) (by omega) ?_
          refine cv_iincN X (lv' := [_, _, _, _, _]) dX0_take_98 (by decide) rfl rfl ?_
          refine cv_goto X (tgt := 16) dX0_take_101 (by decide) ?_
          exact cv_take X 4 ih_y1
        · intro x1 h_x1 ih_x1
          show G (xs ((it (fun x t => ztk1 wd ou c t x y1) (it (fun y t => it (fun x t => ztk1 wd ou c t x y) t 8) (0, pi) y1) x1).2) ke st mg ch wd ou pc hf sh pr pl ot tt li ro ba wi) 25 [.ref h, .int (nI c), .int (nI ((it (fun x t => ztk1 wd ou c t x y1) (it (fun y t => it (fun x t => ztk1 wd ou c t x y) t 8) (0, pi) y1) x1).1)), .int (nI y1), .int (nI x1)] []
          refine cv_iload X dX0_take_25 rfl ?_
          refine cv_bipush X (v := nI 8) dX0_take_27 (by decide) ?_
          refine cv_icmp_geF X 98 (by omega) (by omega) dX0_take_29 (by decide) (by omega) ?_
          refine cv_aload_n X dX0_take_32 rfl ?_
          refine cv_iload X dX0_take_33 rfl ?_
          refine cv_iload_n X dX0_take_35 rfl ?_
          refine cv_calli X (mX0_result l hw) wX0_result 2 hX0_result rfl ⟨rfl, rfl⟩ ⟨by decide, by decide⟩ rfl (Nat.le_of_ble_eq_true rfl) dX0_take_36 ?_
          refine cv_istore X (lv' := [_, _, _, _, _, _]) dX0_take_39 (by decide) rfl ?_
          refine cv_aload_n X dX0_take_41 rfl ?_
          refine cv_iload X dX0_take_42 rfl ?_
          refine cv_calli X (mX0_clamp l) wX0_clamp 1 hX0_clamp rfl ⟨rfl, rfl⟩ ⟨by decide, by decide⟩ rfl (Nat.le_of_ble_eq_true rfl) dX0_take_44 ?_
          refine cv_istore X (lv' := [_, _, _, _, _, _, _]) dX0_take_47 (by decide) rfl ?_
          refine cv_bipush X (v := nI 64) dX0_take_49 (by decide) ?_
          refine cv_iload_n X dX0_take_51 rfl ?_
          refine cv_imulN X dX0_take_52 ?_
          refine cv_bipush X (v := nI 8) dX0_take_53 (by decide) ?_
          refine cv_iload_n X dX0_take_55 rfl ?_
          refine cv_imulN X dX0_take_56 ?_
          refine cv_iaddN X dX0_take_57 ?_
          refine cv_iload X dX0_take_58 rfl ?_
          refine cv_iaddN X dX0_take_60 ?_
          refine cv_istore X (lv' := [_, _, _, _, _, _, _, _]) dX0_take_61 (by decide) rfl ?_
          refine cv_aload_n X dX0_take_63 rfl ?_
          refine cv_getA X 0 q39 (by decide) rfl rfl dX0_take_64 ?_
          refine cv_iload X dX0_take_67 rfl ?_
          refine cv_iald X 128 rfl rfl (by omega) dX0_take_69 ?_
          refine cv_iload X dX0_take_70 rfl ?_
          refine cv_icmp_ne X 79 dX0_take_72 (by decide) (fun b72 => ?_) (fun b72 => ?_)
          · skip
            refine cv_iload_n X dX0_take_79 rfl ?_
            refine cv_iconst X (v := nI 1) dX0_take_80 (by decide) ?_
            refine cv_iaddN X dX0_take_81 ?_
            refine cv_istore_n X (lv' := [_, _, _, _, _, _, _, _]) dX0_take_82 (by decide) rfl ?_
            refine cv_aload_n X dX0_take_83 rfl ?_
            refine cv_getA X 0 q39 (by decide) rfl rfl dX0_take_84 ?_
            refine cv_iload X dX0_take_87 rfl ?_
            refine cv_iload X dX0_take_89 rfl ?_
            refine cv_iast X 128 (S' := [_, _, _, _, _, _, _, _, _, _, _, _, _, _, _, _, _, _]) rfl rfl (by omega) rfl dX0_take_91 ?_
            refine cv_iincN X (lv' := [_, _, _, _, _, _, _, _]) dX0_take_92 (by decide) rfl rfl ?_
            refine cv_goto X (tgt := 25) dX0_take_95 (by decide) ?_
            rw [it_s, ztk1, if_neg b72] at ih_x1
            exact cv_take X 5 ih_x1
          · skip
            refine cv_iload_n X dX0_take_75 rfl ?_
            refine cv_goto X (tgt := 82) dX0_take_76 (by decide) ?_
            refine cv_istore_n X (lv' := [_, _, _, _, _, _, _, _]) dX0_take_82 (by decide) rfl ?_
            refine cv_aload_n X dX0_take_83 rfl ?_
            refine cv_getA X 0 q39 (by decide) rfl rfl dX0_take_84 ?_
            refine cv_iload X dX0_take_87 rfl ?_
            refine cv_iload X dX0_take_89 rfl ?_
            refine cv_iast X 128 (S' := [_, _, _, _, _, _, _, _, _, _, _, _, _, _, _, _, _, _]) rfl rfl (by omega) rfl dX0_take_91 ?_
            refine cv_iincN X (lv' := [_, _, _, _, _, _, _, _]) dX0_take_92 (by decide) rfl rfl ?_
            refine cv_goto X (tgt := 25) dX0_take_95 (by decide) ?_
            rw [it_s, ztk1, if_pos b72] at ih_x1
            exact cv_take X 5 ih_x1
    · skip
      refine cv_ldc X q99 dX0_take_9 ?_
      exact cv_ireturn X dX0_take_11 ⟨by simp only [zta, if_neg b1, if_neg b6], by simp only [zta, if_neg b1, if_neg b6]⟩
abbrev rX0_sum : Room := { frames := 0, cells := 0, slots := 0, locals := 0 }
set_option maxHeartbeats 4000000 in
set_option maxRecDepth 100000 in
/-- sum() -/
theorem mX0_sum (l : Launch) {pi ke : Nat → Int32} {st mg ch wd : Nat} {ou pc hf sh pr pl ot tt li ro ba wi : Nat → Int32} (hw : wd ≤ 8) : DX l yX0_sum cX0_sum 4 rX0_sum 0 len0 [] (xs pi ke st mg ch wd ou pc hf sh pr pl ot tt li ro ba wi) (zsm wd ou) (xs pi ke st mg ch wd ou pc hf sh pr pl ot tt li ro ba wi) := by
  refine dx_of cl0 rfl (by decide) (fun _ h => absurd h List.not_mem_nil) (Nat.le_of_ble_eq_true rfl) ?_
  intro h ad G X
  refine cv_iconst X (v := nI 0) dX0_sum_0 (by decide) ?_
  refine cv_istore_n X (lv' := [_, _]) dX0_sum_1 (by decide) rfl ?_
  refine cv_iconst X (v := nI 0) dX0_sum_2 (by decide) ?_
  refine cv_istore_n X (lv' := [_, _, _]) dX0_sum_3 (by decide) rfl ?_
  refine up_loop0 (P := fun y1 => G (xs pi ke st mg ch wd ou pc hf sh pr pl ot tt li ro ba wi) 4 [.ref h, .int (it (fun y a => it (fun x a => a + ou (8 * y + x)) a wd) (nI 0) y1), .int (nI y1)] []) (wd) ?_ ?_
  · show G (xs pi ke st mg ch wd ou pc hf sh pr pl ot tt li ro ba wi) 4 [.ref h, .int (it (fun y a => it (fun x a => a + ou (8 * y + x)) a wd) (nI 0) (wd)), .int (nI (wd))] []
    refine cv_iload_n X dX0_sum_4 rfl ?_
    refine cv_aload_n X dX0_sum_5 rfl ?_
    refine cv_getI X 5 q44 (by decide) rfl rfl dX0_sum_6 ?_
    refine cv_icmp_geT X 48 (by omega) (by omega) dX0_sum_9 (by decide) (by omega) ?_
    refine cv_iload_n X dX0_sum_48 rfl ?_
    exact cv_ireturn X dX0_sum_49 ⟨rfl, rfl⟩
  · intro y1 h_y1 ih_y1
    show G (xs pi ke st mg ch wd ou pc hf sh pr pl ot tt li ro ba wi) 4 [.ref h, .int (it (fun y a => it (fun x a => a + ou (8 * y + x)) a wd) (nI 0) y1), .int (nI y1)] []
    refine cv_iload_n X dX0_sum_4 rfl ?_
    refine cv_aload_n X dX0_sum_5 rfl ?_
    refine cv_getI X 5 q44 (by decide) rfl rfl dX0_sum_6 ?_
    refine cv_icmp_geF X 48 (by omega) (by omega) dX0_sum_9 (by decide) (by omega) ?_
    refine cv_iconst X (v := nI 0) dX0_sum_12 (by decide) ?_
    refine cv_istore_n X (lv' := [_, _, _, _]) dX0_sum_13 (by decide) rfl ?_
    refine up_loop0 (P := fun x1 => G (xs pi ke st mg ch wd ou pc hf sh pr pl ot tt li ro ba wi) 14 [.ref h, .int (it (fun x a => a + ou (8 * y1 + x)) (it (fun y a => it (fun x a => a + ou (8 * y + x)) a wd) (nI 0) y1) x1), .int (nI y1), .int (nI x1)] []) (wd) ?_ ?_
    · show G (xs pi ke st mg ch wd ou pc hf sh pr pl ot tt li ro ba wi) 14 [.ref h, .int (it (fun x a => a + ou (8 * y1 + x)) (it (fun y a => it (fun x a => a + ou (8 * y + x)) a wd) (nI 0) y1) (wd)), .int (nI y1), .int (nI (wd))] []
      refine cv_iload_n X dX0_sum_14 rfl ?_
      refine cv_aload_n X dX0_sum_15 rfl ?_
      refine cv_getI X 5 q44 (by decide) rfl rfl dX0_sum_16 ?_
      refine cv_icmp_geT X 42 (by omega) (by omega) dX0_sum_19 (by decide) (by omega) ?_
      refine cv_iincN X (lv' := [_, _, _, _]) dX0_sum_42 (by decide) rfl rfl ?_
      refine cv_goto X (tgt := 4) dX0_sum_45 (by decide) ?_
      exact cv_take X 3 ih_y1
    · intro x1 h_x1 ih_x1
      show G (xs pi ke st mg ch wd ou pc hf sh pr pl ot tt li ro ba wi) 14 [.ref h, .int (it (fun x a => a + ou (8 * y1 + x)) (it (fun y a => it (fun x a => a + ou (8 * y + x)) a wd) (nI 0) y1) x1), .int (nI y1), .int (nI x1)] []
      refine cv_iload_n X dX0_sum_14 rfl ?_
      refine cv_aload_n X dX0_sum_15 rfl ?_
      refine cv_getI X 5 q44 (by decide) rfl rfl dX0_sum_16 ?_
      refine cv_icmp_geF X 42 (by omega) (by omega) dX0_sum_19 (by decide) (by omega) ?_
      refine cv_iload_n X dX0_sum_22 rfl ?_
      refine cv_aload_n X dX0_sum_23 rfl ?_
      refine cv_getA X 6 q45 (by decide) rfl rfl dX0_sum_24 ?_
      refine cv_bipush X (v := nI 8) dX0_sum_27 (by decide) ?_
      refine cv_iload_n X dX0_sum_29 rfl ?_
      refine cv_imulN X dX0_sum_30 ?_
      refine cv_iload_n X dX0_sum_31 rfl ?_
      refine cv_iaddN X dX0_sum_32 ?_
      refine cv_iald X 64 rfl rfl (by omega) dX0_sum_33 ?_
      refine cv_iadd X dX0_sum_34 ?_
      refine cv_istore_n X (lv' := [_, _, _, _]) dX0_sum_35 (by decide) rfl ?_
      refine cv_iincN X (lv' := [_, _, _, _]) dX0_sum_36 (by decide) rfl rfl ?_
      refine cv_goto X (tgt := 14) dX0_sum_39 (by decide) ?_
      exact cv_take X 4 ih_x1
abbrev rX0_peak : Room := { frames := 0, cells := 0, slots := 0, locals := 0 }
set_option maxHeartbeats 4000000 in
set_option maxRecDepth 100000 in
/-- peak() -/
theorem mX0_peak (l : Launch) {pi ke : Nat → Int32} {st mg ch wd : Nat} {ou pc hf sh pr pl ot tt li ro ba wi : Nat → Int32} (hw : wd ≤ 8) : DX l yX0_peak cX0_peak 4 rX0_peak 0 len0 [] (xs pi ke st mg ch wd ou pc hf sh pr pl ot tt li ro ba wi) (zpb (zpk wd ou)) (xs pi ke st mg ch wd ou pc hf sh pr pl ot tt li ro ba wi) := by
  refine dx_of cl0 rfl (by decide) (fun _ h => absurd h List.not_mem_nil) (Nat.le_of_ble_eq_true rfl) ?_
  intro h ad G X
  refine cv_iconst X (v := (-1)) dX0_peak_0 (by decide) ?_
  refine cv_istore_n X (lv' := [_, _]) dX0_peak_1 (by decide) rfl ?_
  refine cv_iconst X (v := nI 0) dX0_peak_2 (by decide) ?_
  refine cv_istore_n X (lv' := [_, _, _]) dX0_peak_3 (by decide) rfl ?_
  refine up_loop0 (P := fun y1 => G (xs pi ke st mg ch wd ou pc hf sh pr pl ot tt li ro ba wi) 4 [.ref h, .int (zpb (it (fun y b => it (fun x b => zpk1 ou b (8 * y + x)) b wd) 0 y1)), .int (nI y1)] []) (wd) ?_ ?_
  · show G (xs pi ke st mg ch wd ou pc hf sh pr pl ot tt li ro ba wi) 4 [.ref h, .int (zpb (it (fun y b => it (fun x b => zpk1 ou b (8 * y + x)) b wd) 0 (wd))), .int (nI (wd))] []
    refine cv_iload_n X dX0_peak_4 rfl ?_
    refine cv_aload_n X dX0_peak_5 rfl ?_
    refine cv_getI X 5 q44 (by decide) rfl rfl dX0_peak_6 ?_
    refine cv_icmp_geT X 65 (by omega) (by omega) dX0_peak_9 (by decide) (by omega) ?_
    refine cv_iload_n X dX0_peak_65 rfl ?_
    exact cv_ireturn X dX0_peak_66 ⟨rfl, rfl⟩
  · intro y1 h_y1 ih_y1
    show G (xs pi ke st mg ch wd ou pc hf sh pr pl ot tt li ro ba wi) 4 [.ref h, .int (zpb (it (fun y b => it (fun x b => zpk1 ou b (8 * y + x)) b wd) 0 y1)), .int (nI y1)] []
    refine cv_iload_n X dX0_peak_4 rfl ?_
    refine cv_aload_n X dX0_peak_5 rfl ?_
    refine cv_getI X 5 q44 (by decide) rfl rfl dX0_peak_6 ?_
    refine cv_icmp_geF X 65 (by omega) (by omega) dX0_peak_9 (by decide) (by omega) ?_
    refine cv_iconst X (v := nI 0) dX0_peak_12 (by decide) ?_
    refine cv_istore_n X (lv' := [_, _, _, _]) dX0_peak_13 (by decide) rfl ?_
    refine up_loop0 (P := fun x1 => G (xs pi ke st mg ch wd ou pc hf sh pr pl ot tt li ro ba wi) 14 [.ref h, .int (zpb (it (fun x b => zpk1 ou b (8 * y1 + x)) (it (fun y b => it (fun x b => zpk1 ou b (8 * y + x)) b wd) 0 y1) x1)), .int (nI y1), .int (nI x1)] []) (wd) ?_ ?_
    · show G (xs pi ke st mg ch wd ou pc hf sh pr pl ot tt li ro ba wi) 14 [.ref h, .int (zpb (it (fun x b => zpk1 ou b (8 * y1 + x)) (it (fun y b => it (fun x b => zpk1 ou b (8 * y + x)) b wd) 0 y1) (wd))), .int (nI y1), .int (nI (wd))] []
      refine cv_iload_n X dX0_peak_14 rfl ?_
      refine cv_aload_n X dX0_peak_15 rfl ?_
      refine cv_getI X 5 q44 (by decide) rfl rfl dX0_peak_16 ?_
      refine cv_icmp_geT X 59 (by omega) (by omega) dX0_peak_19 (by decide) (by omega) ?_
      refine cv_iincN X (lv' := [_, _, _, _]) dX0_peak_59 (by decide) rfl rfl ?_
      refine cv_goto X (tgt := 4) dX0_peak_62 (by decide) ?_
      exact cv_take X 3 ih_y1
    · intro x1 h_x1 ih_x1
      show G (xs pi ke st mg ch wd ou pc hf sh pr pl ot tt li ro ba wi) 14 [.ref h, .int (zpb (it (fun x b => zpk1 ou b (8 * y1 + x)) (it (fun y b => it (fun x b => zpk1 ou b (8 * y + x)) b wd) 0 y1) x1)), .int (nI y1), .int (nI x1)] []
      rw [it_s] at ih_x1
      have hB := zpk_in ou y1 (by omega) (it (fun y b => it (fun x b => zpk1 ou b (8 * y + x)) b wd) 0 y1) (zpk_out ou wd hw y1 (by omega)) x1 (by omega)
      generalize (it (fun x b => zpk1 ou b (8 * y1 + x)) (it (fun y b => it (fun x b => zpk1 ou b (8 * y + x)) b wd) 0 y1) x1) = B at ih_x1 hB ⊢
      refine cv_iload_n X dX0_peak_14 rfl ?_
      refine cv_aload_n X dX0_peak_15 rfl ?_
      refine cv_getI X 5 q44 (by decide) rfl rfl dX0_peak_16 ?_
      refine cv_icmp_geF X 59 (by omega) (by omega) dX0_peak_19 (by decide) (by omega) ?_
      cases B with
      | zero =>
        refine cv_iload_n X dX0_peak_22 rfl ?_
        refine cv_if_lt X 46 dX0_peak_23 (by decide) (fun b23 => ?_) (fun b23 => ?_)
        · skip
          refine cv_bipush X (v := nI 8) dX0_peak_46 (by decide) ?_
          refine cv_iload_n X dX0_peak_48 rfl ?_
          refine cv_imulN X dX0_peak_49 ?_
          refine cv_iload_n X dX0_peak_50 rfl ?_
          refine cv_iaddN X dX0_peak_51 ?_
          refine cv_istore_n X (lv' := [_, _, _, _]) dX0_peak_52 (by decide) rfl ?_
          refine cv_iincN X (lv' := [_, _, _, _]) dX0_peak_53 (by decide) rfl rfl ?_
          refine cv_goto X (tgt := 14) dX0_peak_56 (by decide) ?_
          rw [zpk1] at ih_x1
          rw [if_pos rfl] at ih_x1
          exact cv_take X 4 ih_x1
        · skip
          exact absurd (by decide) b23
      | succ j =>
        refine cv_iload_n X dX0_peak_22 rfl ?_
        refine cv_if_lt X 46 dX0_peak_23 (by decide) (fun b23 => ?_) (fun b23 => ?_)
        · skip
          exact absurd b23 (nI_pos (by omega))
        · skip
          refine cv_aload_n X dX0_peak_26 rfl ?_
          refine cv_getA X 6 q45 (by decide) rfl rfl dX0_peak_27 ?_
          refine cv_bipush X (v := nI 8) dX0_peak_30 (by decide) ?_
          refine cv_iload_n X dX0_peak_32 rfl ?_
          refine cv_imulN X dX0_peak_33 ?_
          refine cv_iload_n X dX0_peak_34 rfl ?_
          refine cv_iaddN X dX0_peak_35 ?_
          refine cv_iald X 64 rfl rfl (by omega) dX0_peak_36 ?_
          refine cv_aload_n X dX0_peak_37 rfl ?_
          refine cv_getA X 6 q45 (by decide) rfl rfl dX0_peak_38 ?_
          refine cv_iload_n X dX0_peak_41 rfl ?_
          refine cv_iald X 64 rfl rfl (by omega) dX0_peak_42 ?_
          refine cv_icmp_le X 53 dX0_peak_43 (by decide) (fun b43 => ?_) (fun b43 => ?_)
          · skip
            refine cv_iincN X (lv' := [_, _, _, _]) dX0_peak_53 (by decide) rfl rfl ?_
            refine cv_goto X (tgt := 14) dX0_peak_56 (by decide) ?_
            rw [zpk1] at ih_x1
            rw [if_neg (Nat.succ_ne_zero j), Nat.add_sub_cancel, if_pos b43] at ih_x1
            exact cv_take X 4 ih_x1
          · skip
            refine cv_bipush X (v := nI 8) dX0_peak_46 (by decide) ?_
            refine cv_iload_n X dX0_peak_48 rfl ?_
            refine cv_imulN X dX0_peak_49 ?_
            refine cv_iload_n X dX0_peak_50 rfl ?_
            refine cv_iaddN X dX0_peak_51 ?_
            refine cv_istore_n X (lv' := [_, _, _, _]) dX0_peak_52 (by decide) rfl ?_
            refine cv_iincN X (lv' := [_, _, _, _]) dX0_peak_53 (by decide) rfl rfl ?_
            refine cv_goto X (tgt := 14) dX0_peak_56 (by decide) ?_
            rw [zpk1] at ih_x1
            rw [if_neg (Nat.succ_ne_zero j), Nat.add_sub_cancel, if_neg b43] at ih_x1
            exact cv_take X 4 ih_x1
abbrev rX0_fill : Room := { frames := 1, cells := 0, slots := 0, locals := 21 }
set_option maxHeartbeats 4000000 in
set_option maxRecDepth 100000 in
/-- fill(c, a, s, e) -/
theorem mX0_fill (l : Launch) {pi ke : Nat → Int32} {st mg ch wd : Nat} {ou pc hf sh pr pl ot tt li ro ba wi : Nat → Int32} {c a s e : Int32} : DX l yX0_fill cX0_fill 9 rX0_fill 0 len0 [.int c, .int a, .int s, .int e] (xs pi ke st mg ch wd ou pc hf sh pr pl ot tt li ro ba wi) ((zfX c a s e pi).1) (xs ((zfX c a s e pi).2) ke st mg ch wd ou pc hf sh pr pl ot tt li ro ba wi) := by
  refine dx_of cl0 rfl (by decide) (List.forall_mem_cons.mpr ⟨rfl, List.forall_mem_cons.mpr ⟨rfl, List.forall_mem_cons.mpr ⟨rfl, List.forall_mem_cons.mpr ⟨rfl, fun _ h => absurd h List.not_mem_nil⟩⟩⟩⟩) (Nat.le_of_ble_eq_true rfl) ?_
  intro h ad G X
  refine cv_iload_n X dX0_fill_0 rfl ?_
  refine cv_bipush X (v := nI 100) dX0_fill_1 (by decide) ?_
  refine cv_idiv X dX0_fill_3 (by decide) ?_
  refine cv_bipush X (v := nI 10) dX0_fill_4 (by decide) ?_
  refine cv_isub X dX0_fill_6 ?_
  refine cv_istore X (lv' := [_, _, _, _, _, _]) dX0_fill_7 (by decide) rfl ?_
  refine cv_iload_n X dX0_fill_9 rfl ?_
  refine cv_bipush X (v := nI 100) dX0_fill_10 (by decide) ?_
  refine cv_irem X dX0_fill_12 (by decide) ?_
  refine cv_bipush X (v := nI 10) dX0_fill_13 (by decide) ?_
  refine cv_isub X dX0_fill_15 ?_
  refine cv_istore X (lv' := [_, _, _, _, _, _, _]) dX0_fill_16 (by decide) rfl ?_
  refine cv_iload_n X dX0_fill_18 rfl ?_
  refine cv_if_lt X 52 dX0_fill_19 (by decide) (fun b19 => ?_) (fun b19 => ?_)
  · skip
    refine cv_ldc X q99 dX0_fill_52 ?_
    exact cv_ireturn X dX0_fill_54 ⟨by simp only [zfX, if_pos b19], by simp only [zfX, if_pos b19]⟩
  · skip
    refine cv_iload_n X dX0_fill_22 rfl ?_
    refine cv_iconst X (v := nI 1) dX0_fill_23 (by decide) ?_
    refine cv_icmp_gt X 52 dX0_fill_24 (by decide) (fun b24 => ?_) (fun b24 => ?_)
    · skip
      refine cv_ldc X q99 dX0_fill_52 ?_
      exact cv_ireturn X dX0_fill_54 ⟨by simp only [zfX, if_neg b19, if_pos b24], by simp only [zfX, if_neg b19, if_pos b24]⟩
    · skip
      refine cv_iload_n X dX0_fill_27 rfl ?_
      refine cv_bipush X (v := (-20)) dX0_fill_28 (by decide) ?_
      refine cv_icmp_lt X 52 dX0_fill_30 (by decide) (fun b30 => ?_) (fun b30 => ?_)
      · skip
        refine cv_ldc X q99 dX0_fill_52 ?_
        exact cv_ireturn X dX0_fill_54 ⟨by simp only [zfX, if_neg b19, if_neg b24, if_pos b30], by simp only [zfX, if_neg b19, if_neg b24, if_pos b30]⟩
      · skip
        refine cv_iload_n X dX0_fill_33 rfl ?_
        refine cv_bipush X (v := nI 20) dX0_fill_34 (by decide) ?_
        refine cv_icmp_gt X 52 dX0_fill_36 (by decide) (fun b36 => ?_) (fun b36 => ?_)
        · skip
          refine cv_ldc X q99 dX0_fill_52 ?_
          exact cv_ireturn X dX0_fill_54 ⟨by simp only [zfX, if_neg b19, if_neg b24, if_neg b30, if_pos b36], by simp only [zfX, if_neg b19, if_neg b24, if_neg b30, if_pos b36]⟩
        · skip
          refine cv_iload X dX0_fill_39 rfl ?_
          refine cv_bipush X (v := (-3)) dX0_fill_41 (by decide) ?_
          refine cv_icmp_lt X 52 dX0_fill_43 (by decide) (fun b43 => ?_) (fun b43 => ?_)
          · skip
            refine cv_ldc X q99 dX0_fill_52 ?_
            exact cv_ireturn X dX0_fill_54 ⟨by simp only [zfX, if_neg b19, if_neg b24, if_neg b30, if_neg b36, if_pos b43], by simp only [zfX, if_neg b19, if_neg b24, if_neg b30, if_neg b36, if_pos b43]⟩
          · skip
            refine cv_iload X dX0_fill_46 rfl ?_
            refine cv_iconst X (v := nI 3) dX0_fill_48 (by decide) ?_
            refine cv_icmp_le X 55 dX0_fill_49 (by decide) (fun b49 => ?_) (fun b49 => ?_)
            · skip
              refine cv_iload_n X dX0_fill_55 rfl ?_
              refine cv_if_lt X 73 dX0_fill_56 (by decide) (fun b56 => ?_) (fun b56 => ?_)
              · skip
                refine cv_ldc X q99 dX0_fill_73 ?_
                exact cv_ireturn X dX0_fill_75 ⟨by simp only [zfX, if_neg b19, if_neg b24, if_neg b30, if_neg b36, if_neg b43, if_pos b49, if_pos b56], by simp only [zfX, if_neg b19, if_neg b24, if_neg b30, if_neg b36, if_neg b43, if_pos b49, if_pos b56]⟩
              · skip
                refine cv_iload X dX0_fill_59 rfl ?_
                refine cv_bipush X (v := nI 10) dX0_fill_61 (by decide) ?_
                refine cv_icmp_gt X 73 dX0_fill_63 (by decide) (fun b63 => ?_) (fun b63 => ?_)
                · skip
                  refine cv_ldc X q99 dX0_fill_73 ?_
                  exact cv_ireturn X dX0_fill_75 ⟨by simp only [zfX, if_neg b19, if_neg b24, if_neg b30, if_neg b36, if_neg b43, if_pos b49, if_neg b56, if_pos b63], by simp only [zfX, if_neg b19, if_neg b24, if_neg b30, if_neg b36, if_neg b43, if_pos b49, if_neg b56, if_pos b63]⟩
                · skip
                  refine cv_iload X dX0_fill_66 rfl ?_
                  refine cv_bipush X (v := nI 10) dX0_fill_68 (by decide) ?_
                  refine cv_icmp_le X 76 dX0_fill_70 (by decide) (fun b70 => ?_) (fun b70 => ?_)
                  · skip
                    obtain ⟨c, hc, rfl⟩ := cv_ige (by decide) b19 b24
                    have hcl := nI_clamp (show c < 2 ^ 31 by omega)
                    refine cv_iconst X (v := nI 0) dX0_fill_76 (by decide) ?_
                    refine cv_istore X (lv' := [_, _, _, _, _, _, _, _]) dX0_fill_77 (by decide) rfl ?_
                    refine up_loop0 (P := fun y1 => G (xs (it (fun y f => it (fun x f => upd f (64 * c + 8 * y + x) (zcl (a + (s / nI 100 - nI 10) * nI x + (rmd s (nI 100) - nI 10) * nI y + e * nI x * nI y))) f 8) pi y1) ke st mg ch wd ou pc hf sh pr pl ot tt li ro ba wi) 79 [.ref h, .int (nI c), .int a, .int s, .int e, .int (s / nI 100 - nI 10), .int (rmd s (nI 100) - nI 10), .int (nI y1)] []) (8) ?_ ?_
                    · show G (xs (it (fun y f => it (fun x f => upd f (64 * c + 8 * y + x) (zcl (a + (s / nI 100 - nI 10) * nI x + (rmd s (nI 100) - nI 10) * nI y + e * nI x * nI y))) f 8) pi (8)) ke st mg ch wd ou pc hf sh pr pl ot tt li ro ba wi) 79 [.ref h, .int (nI c), .int a, .int s, .int e, .int (s / nI 100 - nI 10), .int (rmd s (nI 100) - nI 10), .int (nI (8))] []
                      refine cv_iload X dX0_fill_79 rfl ?_
                      refine cv_bipush X (v := nI 8) dX0_fill_81 (by decide) ?_
                      refine cv_icmp_geT X 152 (by omega) (by omega) dX0_fill_83 (by decide) (by omega) ?_
                      refine cv_iconst X (v := nI 0) dX0_fill_152 (by decide) ?_
                      exact cv_ireturn X dX0_fill_153 ⟨by simp only [zfX, if_neg b19, if_neg b24, if_neg b30, if_neg b36, if_neg b43, if_pos b49, if_neg b56, if_neg b63, if_pos b70], by simp only [zfX, if_neg b19, if_neg b24, if_neg b30, if_neg b36, if_neg b43, if_pos b49, if_neg b56, if_neg b63, if_pos b70, hcl]; rfl⟩
                    · intro y1 h_y1 ih_y1
                      show G (xs (it (fun y f => it (fun x f => upd f (64 * c + 8 * y + x) (zcl (a + (s / nI 100 - nI 10) * nI x + (rmd s (nI 100) - nI 10) * nI y + e * nI x * nI y))) f 8) pi y1) ke st mg ch wd ou pc hf sh pr pl ot tt li ro ba wi) 79 [.ref h, .int (nI c), .int a, .int s, .int e, .int (s / nI 100 - nI 10), .int (rmd s (nI 100) - nI 10), .int (nI y1)] []
                      refine cv_iload X dX0_fill_79 rfl ?_
                      refine cv_bipush X (v := nI 8) dX0_fill_81 (by decide) ?_
                      refine cv_icmp_geF X 152 (by omega) (by omega) dX0_fill_83 (by decide) (by omega) ?_
                      refine cv_iconst X (v := nI 0) dX0_fill_86 (by decide) ?_
                      refine cv_istore X (lv' := [_, _, _, _, _, _, _, _, _]) dX0_fill_87 (by decide) rfl ?_
                      refine up_loop0 (P := fun x1 => G (xs (it (fun x f => upd f (64 * c + 8 * y1 + x) (zcl (a + (s / nI 100 - nI 10) * nI x + (rmd s (nI 100) - nI 10) * nI y1 + e * nI x * nI y1))) (it (fun y f => it (fun x f => upd f (64 * c + 8 * y + x) (zcl (a + (s / nI 100 - nI 10) * nI x + (rmd s (nI 100) - nI 10) * nI y + e * nI x * nI y))) f 8) pi y1) x1) ke st mg ch wd ou pc hf sh pr pl ot tt li ro ba wi) 89 [.ref h, .int (nI c), .int a, .int s, .int e, .int (s / nI 100 - nI 10), .int (rmd s (nI 100) - nI 10), .int (nI y1), .int (nI x1)] []) (8) ?_ ?_
                      · show G (xs (it (fun x f => upd f (64 * c + 8 * y1 + x) (zcl (a + (s / nI 100 - nI 10) * nI x + (rmd s (nI 100) - nI 10) * nI y1 + e * nI x * nI y1))) (it (fun y f => it (fun x f => upd f (64 * c + 8 * y + x) (zcl (a + (s / nI 100 - nI 10) * nI x + (rmd s (nI 100) - nI 10) * nI y + e * nI x * nI y))) f 8) pi y1) (8)) ke st mg ch wd ou pc hf sh pr pl ot tt li ro ba wi) 89 [.ref h, .int (nI c), .int a, .int s, .int e, .int (s / nI 100 - nI 10), .int (rmd s (nI 100) - nI 10), .int (nI y1), .int (nI (8))] []
                        refine cv_iload X dX0_fill_89 rfl ?_
                        refine cv_bipush X (v := nI 8) dX0_fill_91 (by decide) ?_
                        refine cv_icmp_geT X 146 (by omega) (by omega) dX0_fill_93 (by decide) (by omega) ?_
                        refine cv_iincN X (lv' := [_, _, _, _, _, _, _, _, _]) dX0_fill_146 (by decide) rfl rfl ?_
                        refine cv_goto X (tgt := 79) dX0_fill_149 (by decide) ?_
                        exact cv_take X 8 ih_y1
                      · intro x1 h_x1 ih_x1
                        show G (xs (it (fun x f => upd f (64 * c + 8 * y1 + x) (zcl (a + (s / nI 100 - nI 10) * nI x + (rmd s (nI 100) - nI 10) * nI y1 + e * nI x * nI y1))) (it (fun y f => it (fun x f => upd f (64 * c + 8 * y + x) (zcl (a + (s / nI 100 - nI 10) * nI x + (rmd s (nI 100) - nI 10) * nI y + e * nI x * nI y))) f 8) pi y1) x1) ke st mg ch wd ou pc hf sh pr pl ot tt li ro ba wi) 89 [.ref h, .int (nI c), .int a, .int s, .int e, .int (s / nI 100 - nI 10), .int (rmd s (nI 100) - nI 10), .int (nI y1), .int (nI x1)] []
                        refine cv_iload X dX0_fill_89 rfl ?_
                        refine cv_bipush X (v := nI 8) dX0_fill_91 (by decide) ?_
                        refine cv_icmp_geF X 146 (by omega) (by omega) dX0_fill_93 (by decide) (by omega) ?_
                        refine cv_aload_n X dX0_fill_96 rfl ?_
                        refine cv_getA X 0 q39 (by decide) rfl rfl dX0_fill_97 ?_
                        refine cv_bipush X (v := nI 64) dX0_fill_100 (by decide) ?_
                        refine cv_iload_n X dX0_fill_102 rfl ?_
                        refine cv_imulN X dX0_fill_103 ?_
                        refine cv_bipush X (v := nI 8) dX0_fill_104 (by decide) ?_
                        refine cv_iload X dX0_fill_106 rfl ?_
                        refine cv_imulN X dX0_fill_108 ?_
                        refine cv_iaddN X dX0_fill_109 ?_
                        refine cv_iload X dX0_fill_110 rfl ?_
                        refine cv_iaddN X dX0_fill_112 ?_
                        refine cv_aload_n X dX0_fill_113 rfl ?_
                        refine cv_iload_n X dX0_fill_114 rfl ?_
                        refine cv_iload X dX0_fill_115 rfl ?_
                        refine cv_iload X dX0_fill_117 rfl ?_
                        refine cv_imul X dX0_fill_119 ?_
                        refine cv_iadd X dX0_fill_120 ?_
                        refine cv_iload X dX0_fill_121 rfl ?_
                        refine cv_iload X dX0_fill_123 rfl ?_
                        refine cv_imul X dX0_fill_125 ?_
                        refine cv_iadd X dX0_fill_126 ?_
                        refine cv_iload X dX0_fill_127 rfl ?_
                        refine cv_iload X dX0_fill_129 rfl ?_
                        refine cv_imul X dX0_fill_131 ?_
                        refine cv_iload X dX0_fill_132 rfl ?_
                        refine cv_imul X dX0_fill_134 ?_
                        refine cv_iadd X dX0_fill_135 ?_
                        refine cv_calli X (mX0_clamp l) wX0_clamp 1 hX0_clamp rfl ⟨rfl, rfl⟩ ⟨by decide, by decide⟩ rfl (Nat.le_of_ble_eq_true rfl) dX0_fill_136 ?_
                        refine cv_iast X 128 (S' := [_, _, _, _, _, _, _, _, _, _, _, _, _, _, _, _, _, _]) rfl rfl (by omega) rfl dX0_fill_139 ?_
                        refine cv_iincN X (lv' := [_, _, _, _, _, _, _, _, _]) dX0_fill_140 (by decide) rfl rfl ?_
                        refine cv_goto X (tgt := 89) dX0_fill_143 (by decide) ?_
                        exact cv_take X 9 ih_x1
                  · skip
                    refine cv_ldc X q99 dX0_fill_73 ?_
                    exact cv_ireturn X dX0_fill_75 ⟨by simp only [zfX, if_neg b19, if_neg b24, if_neg b30, if_neg b36, if_neg b43, if_pos b49, if_neg b56, if_neg b63, if_neg b70], by simp only [zfX, if_neg b19, if_neg b24, if_neg b30, if_neg b36, if_neg b43, if_pos b49, if_neg b56, if_neg b63, if_neg b70]⟩
            · skip
              refine cv_ldc X q99 dX0_fill_52 ?_
              exact cv_ireturn X dX0_fill_54 ⟨by simp only [zfX, if_neg b19, if_neg b24, if_neg b30, if_neg b36, if_neg b43, if_neg b49], by simp only [zfX, if_neg b19, if_neg b24, if_neg b30, if_neg b36, if_neg b43, if_neg b49]⟩
end
section
set_option maxRecDepth 100000
def zfillM (c : Nat) (a b d e : Int32) (f : Nat → Int32) : Nat → Int32 := it (fun i f => upd f (64 * c + i) (zcl (a + b * nI (i % 8) + d * nI (i / 8) + e * nI (i % 8) * nI (i / 8)))) f 64
def zfM (c a s e : Int32) (f : Nat → Int32) : Int32 × (Nat → Int32) := if c < 0 then (bad, f) else if nI 1 < c then (bad, f) else if a < -20 then (bad, f) else if nI 20 < a then (bad, f) else if e < -3 then (bad, f) else if e ≤ nI 3 then (if s < 0 then (bad, f) else if nI 20 < s / nI 100 then (bad, f) else if rmd s (nI 100) ≤ nI 20 then (nI 0, zfillM c.toNatClampNeg a (s / nI 100 - nI 10) (rmd s (nI 100) - nI 10) e f) else (bad, f)) else (bad, f)
def zpa (f : Nat → Int32) (c : Nat) (x y : Int32) : Int32 := if x < 0 then nI 0 else if nI 7 < x then nI 0 else if y < 0 then nI 0 else if y ≤ nI 7 then f (64 * c + 8 * y.toNatClampNeg + x.toNatClampNeg) else nI 0
def zprod (pi ke : Nat → Int32) (st mg x y : Nat) : Int32 := it (fun k a => a + ke k * zpa pi (k / 9) (nI (st * x + k % 3) - nI mg) (nI (st * y + k % 9 / 3) - nI mg)) (nI 0) 18
def zmvM (pi ke : Nat → Int32) (st mg w : Nat) (re : Nat → Int32) : Nat → Int32 := it (fun y r => it (fun x r => upd r (8 * y + x) (zprod pi ke st mg x y)) r w) re w
def zfm1 (w : Nat) (t : AN) (i : Nat) : AN := if w ≤ i % 8 then t else if w ≤ i / 8 then t else zfl1 t i
def zflM (w : Nat) (o : Nat → Int32) : AN := it (fun i t => zfm1 w t i) (0, o) 64
def zgr (re : Nat → Int32) (x y : Nat) : Int32 := it (fun j m => zmx (re (8 * (y + (j + 1) / 2) + x + (j + 1) % 2)) m) (re (8 * y + x)) 3
def zthM (w : Nat) (re : Nat → Int32) : Nat → Int32 := it (fun y r => it (fun x r => upd r (8 * y + x) (zgr r (2 * x) (2 * y))) r w) re w
def ztm1 (w : Nat) (o : Nat → Int32) (c : Nat) (t : AN) (i : Nat) : AN := (if t.2 (64 * c + i) = zcl (zres w o (nI (i % 8)) (nI (i / 8))) then t.1 else t.1 + 1, upd t.2 (64 * c + i) (zcl (zres w o (nI (i % 8)) (nI (i / 8)))))
def ztkM (w : Nat) (o : Nat → Int32) (c : Nat) (pi : Nat → Int32) : AN := it (fun i t => ztm1 w o c t i) (0, pi) 64
def ztaM (w : Nat) (o : Nat → Int32) (c : Int32) (pi : Nat → Int32) : Int32 × (Nat → Int32) := if c < 0 then (bad, pi) else if c ≤ nI 1 then (nI (ztkM w o c.toNatClampNeg pi).1, (ztkM w o c.toNatClampNeg pi).2) else (bad, pi)
def zsmM (w : Nat) (o : Nat → Int32) : Int32 := it (fun i a => a + zres w o (nI (i % 8)) (nI (i / 8))) (nI 0) 64
def zpm1 (w : Nat) (o : Nat → Int32) (b i : Nat) : Nat := if w ≤ i % 8 then b else if w ≤ i / 8 then b else zpk1 o b i
def zpkM (w : Nat) (o : Nat → Int32) : Nat := it (fun i b => zpm1 w o b i) 0 64
theorem zpm_in (w : Nat) (o : Nat → Int32) (k : Nat) (hk : k ≤ 64) : it (fun i b => zpm1 w o b i) 0 k ≤ 64 := by
  induction k with
  | zero => exact Nat.zero_le _
  | succ k ih =>
    have h1 := ih (by omega)
    rw [it_s]
    unfold zpm1 zpk1
    split
    · exact h1
    · split
      · exact h1
      · split
        · omega
        · split
          · exact h1
          · omega
abbrev rX1_cut : Room := { frames := 0, cells := 0, slots := 0, locals := 0 }
set_option maxHeartbeats 4000000 in
set_option maxRecDepth 100000 in
/-- cut(x) -/
theorem mX1_cut (l : Launch) {S : gS} {x : Int32} : DX l yX1_cut cX1_cut 2 rX1_cut 1 len1 [.int x] (S) (zcl x) (S) := by
  refine dx_of cl1 rfl (by decide) (List.forall_mem_cons.mpr ⟨rfl, fun _ h => absurd h List.not_mem_nil⟩) (Nat.le_of_ble_eq_true rfl) ?_
  intro h ad G X
  refine cv_iload_n X dX1_cut_0 rfl ?_
  refine cv_bipush X (v := (-20)) dX1_cut_1 (by decide) ?_
  refine cv_icmp_ge X 11 dX1_cut_3 (by decide) (fun b3 => ?_) (fun b3 => ?_)
  · skip
    refine cv_iload_n X dX1_cut_11 rfl ?_
    refine cv_bipush X (v := nI 20) dX1_cut_12 (by decide) ?_
    refine cv_icmp_le X 22 dX1_cut_14 (by decide) (fun b14 => ?_) (fun b14 => ?_)
    · skip
      refine cv_iload_n X dX1_cut_22 rfl ?_
      exact cv_ireturn X dX1_cut_23 ⟨by simp only [zcl, if_pos b3, if_pos b14], rfl⟩
    · skip
      refine cv_bipush X (v := nI 20) dX1_cut_17 (by decide) ?_
      refine cv_goto X (tgt := 23) dX1_cut_19 (by decide) ?_
      exact cv_ireturn X dX1_cut_23 ⟨by simp only [zcl, if_pos b3, if_neg b14], rfl⟩
  · skip
    refine cv_bipush X (v := (-20)) dX1_cut_6 (by decide) ?_
    refine cv_goto X (tgt := 23) dX1_cut_8 (by decide) ?_
    exact cv_ireturn X dX1_cut_23 ⟨by simp only [zcl, if_neg b3], rfl⟩
abbrev rX1_put : Room := { frames := 0, cells := 0, slots := 0, locals := 0 }
set_option maxHeartbeats 4000000 in
set_option maxRecDepth 100000 in
/-- put(p, v) -/
theorem mX1_put (l : Launch) {pi ke : Nat → Int32} {st mg : Nat} {re : Nat → Int32} {wd : Nat} {p v : Int32} : DX l yX1_put cX1_put 4 rX1_put 1 len1 [.int p, .int v] (ms pi ke st mg re wd) ((zput pi (nI 127) (-20) (nI 20) p v).1) (ms ((zput pi (nI 127) (-20) (nI 20) p v).2) ke st mg re wd) := by
  refine dx_of cl1 rfl (by decide) (List.forall_mem_cons.mpr ⟨rfl, List.forall_mem_cons.mpr ⟨rfl, fun _ h => absurd h List.not_mem_nil⟩⟩) (Nat.le_of_ble_eq_true rfl) ?_
  intro h ad G X
  refine cv_iload_n X dX1_put_0 rfl ?_
  refine cv_if_lt X 22 dX1_put_1 (by decide) (fun b1 => ?_) (fun b1 => ?_)
  · skip
    refine cv_ldc X q258 dX1_put_22 ?_
    exact cv_ireturn X dX1_put_24 ⟨by simp only [zput, if_pos b1], by simp only [zput, if_pos b1]⟩
  · skip
    refine cv_iload_n X dX1_put_4 rfl ?_
    refine cv_bipush X (v := nI 127) dX1_put_5 (by decide) ?_
    refine cv_icmp_gt X 22 dX1_put_7 (by decide) (fun b7 => ?_) (fun b7 => ?_)
    · skip
      refine cv_ldc X q258 dX1_put_22 ?_
      exact cv_ireturn X dX1_put_24 ⟨by simp only [zput, if_neg b1, if_pos b7], by simp only [zput, if_neg b1, if_pos b7]⟩
    · skip
      refine cv_iload_n X dX1_put_10 rfl ?_
      refine cv_bipush X (v := (-20)) dX1_put_11 (by decide) ?_
      refine cv_icmp_lt X 22 dX1_put_13 (by decide) (fun b13 => ?_) (fun b13 => ?_)
      · skip
        refine cv_ldc X q258 dX1_put_22 ?_
        exact cv_ireturn X dX1_put_24 ⟨by simp only [zput, if_neg b1, if_neg b7, if_pos b13], by simp only [zput, if_neg b1, if_neg b7, if_pos b13]⟩
      · skip
        refine cv_iload_n X dX1_put_16 rfl ?_
        refine cv_bipush X (v := nI 20) dX1_put_17 (by decide) ?_
        refine cv_icmp_le X 25 dX1_put_19 (by decide) (fun b19 => ?_) (fun b19 => ?_)
        · skip
          obtain ⟨j, hj, rfl⟩ := cv_ige (by decide) b1 b7
          have hcl := nI_clamp (show j < 2 ^ 31 by omega)
          refine cv_aload_n X dX1_put_25 rfl ?_
          refine cv_getA X 0 q235 (by decide) rfl rfl dX1_put_26 ?_
          refine cv_iload_n X dX1_put_29 rfl ?_
          refine cv_iald X 128 rfl rfl (by omega) dX1_put_30 ?_
          refine cv_istore_n X (lv' := [_, _, _, _]) dX1_put_31 (by decide) rfl ?_
          refine cv_aload_n X dX1_put_32 rfl ?_
          refine cv_getA X 0 q235 (by decide) rfl rfl dX1_put_33 ?_
          refine cv_iload_n X dX1_put_36 rfl ?_
          refine cv_iload_n X dX1_put_37 rfl ?_
          refine cv_iast X 128 (S' := [_, _, _, _, _, _]) rfl rfl (by omega) rfl dX1_put_38 ?_
          refine cv_iload_n X dX1_put_39 rfl ?_
          exact cv_ireturn X dX1_put_40 ⟨by simp only [zput, if_neg b1, if_neg b7, if_neg b13, if_pos b19, hcl], by simp only [zput, if_neg b1, if_neg b7, if_neg b13, if_pos b19, hcl]⟩
        · skip
          refine cv_ldc X q258 dX1_put_22 ?_
          exact cv_ireturn X dX1_put_24 ⟨by simp only [zput, if_neg b1, if_neg b7, if_neg b13, if_neg b19], by simp only [zput, if_neg b1, if_neg b7, if_neg b13, if_neg b19]⟩
abbrev rX1_kernel : Room := { frames := 0, cells := 0, slots := 0, locals := 0 }
set_option maxHeartbeats 4000000 in
set_option maxRecDepth 100000 in
/-- kernel(p, v) -/
theorem mX1_kernel (l : Launch) {pi ke : Nat → Int32} {st mg : Nat} {re : Nat → Int32} {wd : Nat} {p v : Int32} : DX l yX1_kernel cX1_kernel 4 rX1_kernel 1 len1 [.int p, .int v] (ms pi ke st mg re wd) ((zput ke (nI 17) (-9) (nI 9) p v).1) (ms pi ((zput ke (nI 17) (-9) (nI 9) p v).2) st mg re wd) := by
  refine dx_of cl1 rfl (by decide) (List.forall_mem_cons.mpr ⟨rfl, List.forall_mem_cons.mpr ⟨rfl, fun _ h => absurd h List.not_mem_nil⟩⟩) (Nat.le_of_ble_eq_true rfl) ?_
  intro h ad G X
  refine cv_iload_n X dX1_kernel_0 rfl ?_
  refine cv_if_lt X 22 dX1_kernel_1 (by decide) (fun b1 => ?_) (fun b1 => ?_)
  · skip
    refine cv_ldc X q258 dX1_kernel_22 ?_
    exact cv_ireturn X dX1_kernel_24 ⟨by simp only [zput, if_pos b1], by simp only [zput, if_pos b1]⟩
  · skip
    refine cv_iload_n X dX1_kernel_4 rfl ?_
    refine cv_bipush X (v := nI 17) dX1_kernel_5 (by decide) ?_
    refine cv_icmp_gt X 22 dX1_kernel_7 (by decide) (fun b7 => ?_) (fun b7 => ?_)
    · skip
      refine cv_ldc X q258 dX1_kernel_22 ?_
      exact cv_ireturn X dX1_kernel_24 ⟨by simp only [zput, if_neg b1, if_pos b7], by simp only [zput, if_neg b1, if_pos b7]⟩
    · skip
      refine cv_iload_n X dX1_kernel_10 rfl ?_
      refine cv_bipush X (v := (-9)) dX1_kernel_11 (by decide) ?_
      refine cv_icmp_lt X 22 dX1_kernel_13 (by decide) (fun b13 => ?_) (fun b13 => ?_)
      · skip
        refine cv_ldc X q258 dX1_kernel_22 ?_
        exact cv_ireturn X dX1_kernel_24 ⟨by simp only [zput, if_neg b1, if_neg b7, if_pos b13], by simp only [zput, if_neg b1, if_neg b7, if_pos b13]⟩
      · skip
        refine cv_iload_n X dX1_kernel_16 rfl ?_
        refine cv_bipush X (v := nI 9) dX1_kernel_17 (by decide) ?_
        refine cv_icmp_le X 25 dX1_kernel_19 (by decide) (fun b19 => ?_) (fun b19 => ?_)
        · skip
          obtain ⟨j, hj, rfl⟩ := cv_ige (by decide) b1 b7
          have hcl := nI_clamp (show j < 2 ^ 31 by omega)
          refine cv_aload_n X dX1_kernel_25 rfl ?_
          refine cv_getA X 1 q236 (by decide) rfl rfl dX1_kernel_26 ?_
          refine cv_iload_n X dX1_kernel_29 rfl ?_
          refine cv_iald X 18 rfl rfl (by omega) dX1_kernel_30 ?_
          refine cv_istore_n X (lv' := [_, _, _, _]) dX1_kernel_31 (by decide) rfl ?_
          refine cv_aload_n X dX1_kernel_32 rfl ?_
          refine cv_getA X 1 q236 (by decide) rfl rfl dX1_kernel_33 ?_
          refine cv_iload_n X dX1_kernel_36 rfl ?_
          refine cv_iload_n X dX1_kernel_37 rfl ?_
          refine cv_iast X 18 (S' := [_, _, _, _, _, _]) rfl rfl (by omega) rfl dX1_kernel_38 ?_
          refine cv_iload_n X dX1_kernel_39 rfl ?_
          exact cv_ireturn X dX1_kernel_40 ⟨by simp only [zput, if_neg b1, if_neg b7, if_neg b13, if_pos b19, hcl], by simp only [zput, if_neg b1, if_neg b7, if_neg b13, if_pos b19, hcl]⟩
        · skip
          refine cv_ldc X q258 dX1_kernel_22 ?_
          exact cv_ireturn X dX1_kernel_24 ⟨by simp only [zput, if_neg b1, if_neg b7, if_neg b13, if_neg b19], by simp only [zput, if_neg b1, if_neg b7, if_neg b13, if_neg b19]⟩
abbrev rX1_fill : Room := { frames := 1, cells := 0, slots := 0, locals := 21 }
set_option maxHeartbeats 4000000 in
set_option maxRecDepth 100000 in
/-- fill(c, a, s, e) -/
theorem mX1_fill (l : Launch) {pi ke : Nat → Int32} {st mg : Nat} {re : Nat → Int32} {wd : Nat} {c a s e : Int32} : DX l yX1_fill cX1_fill 10 rX1_fill 1 len1 [.int c, .int a, .int s, .int e] (ms pi ke st mg re wd) ((zfM c a s e pi).1) (ms ((zfM c a s e pi).2) ke st mg re wd) := by
  refine dx_of cl1 rfl (by decide) (List.forall_mem_cons.mpr ⟨rfl, List.forall_mem_cons.mpr ⟨rfl, List.forall_mem_cons.mpr ⟨rfl, List.forall_mem_cons.mpr ⟨rfl, fun _ h => absurd h List.not_mem_nil⟩⟩⟩⟩) (Nat.le_of_ble_eq_true rfl) ?_
  intro h ad G X
  refine cv_iload_n X dX1_fill_0 rfl ?_
  refine cv_if_lt X 34 dX1_fill_1 (by decide) (fun b1 => ?_) (fun b1 => ?_)
  · skip
    refine cv_ldc X q258 dX1_fill_34 ?_
    exact cv_ireturn X dX1_fill_36 ⟨by simp only [zfM, if_pos b1], by simp only [zfM, if_pos b1]⟩
  · skip
    refine cv_iload_n X dX1_fill_4 rfl ?_
    refine cv_iconst X (v := nI 1) dX1_fill_5 (by decide) ?_
    refine cv_icmp_gt X 34 dX1_fill_6 (by decide) (fun b6 => ?_) (fun b6 => ?_)
    · skip
      refine cv_ldc X q258 dX1_fill_34 ?_
      exact cv_ireturn X dX1_fill_36 ⟨by simp only [zfM, if_neg b1, if_pos b6], by simp only [zfM, if_neg b1, if_pos b6]⟩
    · skip
      refine cv_iload_n X dX1_fill_9 rfl ?_
      refine cv_bipush X (v := (-20)) dX1_fill_10 (by decide) ?_
      refine cv_icmp_lt X 34 dX1_fill_12 (by decide) (fun b12 => ?_) (fun b12 => ?_)
      · skip
        refine cv_ldc X q258 dX1_fill_34 ?_
        exact cv_ireturn X dX1_fill_36 ⟨by simp only [zfM, if_neg b1, if_neg b6, if_pos b12], by simp only [zfM, if_neg b1, if_neg b6, if_pos b12]⟩
      · skip
        refine cv_iload_n X dX1_fill_15 rfl ?_
        refine cv_bipush X (v := nI 20) dX1_fill_16 (by decide) ?_
        refine cv_icmp_gt X 34 dX1_fill_18 (by decide) (fun b18 => ?_) (fun b18 => ?_)
        · skip
          refine cv_ldc X q258 dX1_fill_34 ?_
          exact cv_ireturn X dX1_fill_36 ⟨by simp only [zfM, if_neg b1, if_neg b6, if_neg b12, if_pos b18], by simp only [zfM, if_neg b1, if_neg b6, if_neg b12, if_pos b18]⟩
        · skip
          refine cv_iload X dX1_fill_21 rfl ?_
          refine cv_bipush X (v := (-3)) dX1_fill_23 (by decide) ?_
          refine cv_icmp_lt X 34 dX1_fill_25 (by decide) (fun b25 => ?_) (fun b25 => ?_)
          · skip
            refine cv_ldc X q258 dX1_fill_34 ?_
            exact cv_ireturn X dX1_fill_36 ⟨by simp only [zfM, if_neg b1, if_neg b6, if_neg b12, if_neg b18, if_pos b25], by simp only [zfM, if_neg b1, if_neg b6, if_neg b12, if_neg b18, if_pos b25]⟩
          · skip
            refine cv_iload X dX1_fill_28 rfl ?_
            refine cv_iconst X (v := nI 3) dX1_fill_30 (by decide) ?_
            refine cv_icmp_le X 37 dX1_fill_31 (by decide) (fun b31 => ?_) (fun b31 => ?_)
            · skip
              refine cv_iload_n X dX1_fill_37 rfl ?_
              refine cv_if_lt X 59 dX1_fill_38 (by decide) (fun b38 => ?_) (fun b38 => ?_)
              · skip
                refine cv_ldc X q258 dX1_fill_59 ?_
                exact cv_ireturn X dX1_fill_61 ⟨by simp only [zfM, if_neg b1, if_neg b6, if_neg b12, if_neg b18, if_neg b25, if_pos b31, if_pos b38], by simp only [zfM, if_neg b1, if_neg b6, if_neg b12, if_neg b18, if_neg b25, if_pos b31, if_pos b38]⟩
              · skip
                refine cv_iload_n X dX1_fill_41 rfl ?_
                refine cv_bipush X (v := nI 100) dX1_fill_42 (by decide) ?_
                refine cv_idiv X dX1_fill_44 (by decide) ?_
                refine cv_bipush X (v := nI 20) dX1_fill_45 (by decide) ?_
                refine cv_icmp_gt X 59 dX1_fill_47 (by decide) (fun b47 => ?_) (fun b47 => ?_)
                · skip
                  refine cv_ldc X q258 dX1_fill_59 ?_
                  exact cv_ireturn X dX1_fill_61 ⟨by simp only [zfM, if_neg b1, if_neg b6, if_neg b12, if_neg b18, if_neg b25, if_pos b31, if_neg b38, if_pos b47], by simp only [zfM, if_neg b1, if_neg b6, if_neg b12, if_neg b18, if_neg b25, if_pos b31, if_neg b38, if_pos b47]⟩
                · skip
                  refine cv_iload_n X dX1_fill_50 rfl ?_
                  refine cv_bipush X (v := nI 100) dX1_fill_51 (by decide) ?_
                  refine cv_irem X dX1_fill_53 (by decide) ?_
                  refine cv_bipush X (v := nI 20) dX1_fill_54 (by decide) ?_
                  refine cv_icmp_le X 62 dX1_fill_56 (by decide) (fun b56 => ?_) (fun b56 => ?_)
                  · skip
                    obtain ⟨c, hc, rfl⟩ := cv_ige (by decide) b1 b6
                    have hcl := nI_clamp (show c < 2 ^ 31 by omega)
                    refine cv_iload_n X dX1_fill_62 rfl ?_
                    refine cv_bipush X (v := nI 100) dX1_fill_63 (by decide) ?_
                    refine cv_idiv X dX1_fill_65 (by decide) ?_
                    refine cv_bipush X (v := nI 10) dX1_fill_66 (by decide) ?_
                    refine cv_isub X dX1_fill_68 ?_
                    refine cv_istore X (lv' := [_, _, _, _, _, _]) dX1_fill_69 (by decide) rfl ?_
                    refine cv_iload_n X dX1_fill_71 rfl ?_
                    refine cv_bipush X (v := nI 100) dX1_fill_72 (by decide) ?_
                    refine cv_irem X dX1_fill_74 (by decide) ?_
                    refine cv_bipush X (v := nI 10) dX1_fill_75 (by decide) ?_
                    refine cv_isub X dX1_fill_77 ?_
                    refine cv_istore X (lv' := [_, _, _, _, _, _, _]) dX1_fill_78 (by decide) rfl ?_
                    refine cv_iconst X (v := nI 0) dX1_fill_80 (by decide) ?_
                    refine cv_istore X (lv' := [_, _, _, _, _, _, _, _]) dX1_fill_81 (by decide) rfl ?_
                    refine up_loop0 (P := fun i1 => G (ms (it (fun i f => upd f (64 * c + i) (zcl (a + (s / nI 100 - nI 10) * nI (i % 8) + (rmd s (nI 100) - nI 10) * nI (i / 8) + e * nI (i % 8) * nI (i / 8)))) pi i1) ke st mg re wd) 83 [.ref h, .int (nI c), .int a, .int s, .int e, .int (s / nI 100 - nI 10), .int (rmd s (nI 100) - nI 10), .int (nI i1)] []) (64) ?_ ?_
                    · show G (ms (it (fun i f => upd f (64 * c + i) (zcl (a + (s / nI 100 - nI 10) * nI (i % 8) + (rmd s (nI 100) - nI 10) * nI (i / 8) + e * nI (i % 8) * nI (i / 8)))) pi (64)) ke st mg re wd) 83 [.ref h, .int (nI c), .int a, .int s, .int e, .int (s / nI 100 - nI 10), .int (rmd s (nI 100) - nI 10), .int (nI (64))] []
                      refine cv_iload X dX1_fill_83 rfl ?_
                      refine cv_bipush X (v := nI 64) dX1_fill_85 (by decide) ?_
                      refine cv_icmp_geT X 148 (by omega) (by omega) dX1_fill_87 (by decide) (by omega) ?_
                      refine cv_iconst X (v := nI 0) dX1_fill_148 (by decide) ?_
                      exact cv_ireturn X dX1_fill_149 ⟨by simp only [zfM, if_neg b1, if_neg b6, if_neg b12, if_neg b18, if_neg b25, if_pos b31, if_neg b38, if_neg b47, if_pos b56], by simp only [zfM, if_neg b1, if_neg b6, if_neg b12, if_neg b18, if_neg b25, if_pos b31, if_neg b38, if_neg b47, if_pos b56, hcl]; rfl⟩
                    · intro i1 h_i1 ih_i1
                      show G (ms (it (fun i f => upd f (64 * c + i) (zcl (a + (s / nI 100 - nI 10) * nI (i % 8) + (rmd s (nI 100) - nI 10) * nI (i / 8) + e * nI (i % 8) * nI (i / 8)))) pi i1) ke st mg re wd) 83 [.ref h, .int (nI c), .int a, .int s, .int e, .int (s / nI 100 - nI 10), .int (rmd s (nI 100) - nI 10), .int (nI i1)] []
                      refine cv_iload X dX1_fill_83 rfl ?_
                      refine cv_bipush X (v := nI 64) dX1_fill_85 (by decide) ?_
                      refine cv_icmp_geF X 148 (by omega) (by omega) dX1_fill_87 (by decide) (by omega) ?_
                      refine cv_iload X dX1_fill_90 rfl ?_
                      refine cv_bipush X (v := nI 8) dX1_fill_92 (by decide) ?_
                      refine cv_iremN X (by omega) (by omega) (by omega) dX1_fill_94 ?_
                      refine cv_istore X (lv' := [_, _, _, _, _, _, _, _, _]) dX1_fill_95 (by decide) rfl ?_
                      refine cv_iload X dX1_fill_97 rfl ?_
                      refine cv_bipush X (v := nI 8) dX1_fill_99 (by decide) ?_
                      refine cv_idivN X (by omega) (by omega) (by omega) dX1_fill_101 ?_
                      refine cv_istore X (lv' := [_, _, _, _, _, _, _, _, _, _]) dX1_fill_102 (by decide) rfl ?_
                      refine cv_aload_n X dX1_fill_104 rfl ?_
                      refine cv_getA X 0 q235 (by decide) rfl rfl dX1_fill_105 ?_
                      refine cv_bipush X (v := nI 64) dX1_fill_108 (by decide) ?_
                      refine cv_iload_n X dX1_fill_110 rfl ?_
                      refine cv_imulN X dX1_fill_111 ?_
                      refine cv_iload X dX1_fill_112 rfl ?_
                      refine cv_iaddN X dX1_fill_114 ?_
                      refine cv_aload_n X dX1_fill_115 rfl ?_
                      refine cv_iload_n X dX1_fill_116 rfl ?_
                      refine cv_iload X dX1_fill_117 rfl ?_
                      refine cv_iload X dX1_fill_119 rfl ?_
                      refine cv_imul X dX1_fill_121 ?_
                      refine cv_iadd X dX1_fill_122 ?_
                      refine cv_iload X dX1_fill_123 rfl ?_
                      refine cv_iload X dX1_fill_125 rfl ?_
                      refine cv_imul X dX1_fill_127 ?_
                      refine cv_iadd X dX1_fill_128 ?_
                      refine cv_iload X dX1_fill_129 rfl ?_
                      refine cv_iload X dX1_fill_131 rfl ?_
                      refine cv_imul X dX1_fill_133 ?_
                      refine cv_iload X dX1_fill_134 rfl ?_
                      refine cv_imul X dX1_fill_136 ?_
                      refine cv_iadd X dX1_fill_137 ?_
                      refine cv_calli X (mX1_cut l) wX1_cut 1 hX1_cut rfl ⟨rfl, rfl⟩ ⟨by decide, by decide⟩ rfl (Nat.le_of_ble_eq_true rfl) dX1_fill_138 ?_
                      refine cv_iast X 128 (S' := [_, _, _, _, _, _]) rfl rfl (by omega) rfl dX1_fill_141 ?_
                      refine cv_iincN X (lv' := [_, _, _, _, _, _, _, _, _, _]) dX1_fill_142 (by decide) rfl rfl ?_
                      refine cv_goto X (tgt := 83) dX1_fill_145 (by decide) ?_
                      exact cv_take X 8 ih_i1
                  · skip
                    refine cv_ldc X q258 dX1_fill_59 ?_
                    exact cv_ireturn X dX1_fill_61 ⟨by simp only [zfM, if_neg b1, if_neg b6, if_neg b12, if_neg b18, if_neg b25, if_pos b31, if_neg b38, if_neg b47, if_neg b56], by simp only [zfM, if_neg b1, if_neg b6, if_neg b12, if_neg b18, if_neg b25, if_pos b31, if_neg b38, if_neg b47, if_neg b56]⟩
            · skip
              refine cv_ldc X q258 dX1_fill_34 ?_
              exact cv_ireturn X dX1_fill_36 ⟨by simp only [zfM, if_neg b1, if_neg b6, if_neg b12, if_neg b18, if_neg b25, if_neg b31], by simp only [zfM, if_neg b1, if_neg b6, if_neg b12, if_neg b18, if_neg b25, if_neg b31]⟩
abbrev rX1_pixel : Room := { frames := 0, cells := 0, slots := 0, locals := 0 }
set_option maxHeartbeats 4000000 in
set_option maxRecDepth 100000 in
/-- pixel(p) -/
theorem mX1_pixel (l : Launch) {pi ke : Nat → Int32} {st mg : Nat} {re : Nat → Int32} {wd : Nat} {p : Int32} : DX l yX1_pixel cX1_pixel 2 rX1_pixel 1 len1 [.int p] (ms pi ke st mg re wd) (zpix pi p) (ms pi ke st mg re wd) := by
  refine dx_of cl1 rfl (by decide) (List.forall_mem_cons.mpr ⟨rfl, fun _ h => absurd h List.not_mem_nil⟩) (Nat.le_of_ble_eq_true rfl) ?_
  intro h ad G X
  refine cv_iload_n X dX1_pixel_0 rfl ?_
  refine cv_if_lt X 10 dX1_pixel_1 (by decide) (fun b1 => ?_) (fun b1 => ?_)
  · skip
    refine cv_ldc X q258 dX1_pixel_10 ?_
    refine cv_goto X (tgt := 21) dX1_pixel_12 (by decide) ?_
    exact cv_ireturn X dX1_pixel_21 ⟨by first | (simp only [zpix, if_pos b1]; done) | simp only [zpix, if_pos b1, hcl], rfl⟩
  · skip
    refine cv_iload_n X dX1_pixel_4 rfl ?_
    refine cv_bipush X (v := nI 127) dX1_pixel_5 (by decide) ?_
    refine cv_icmp_le X 15 dX1_pixel_7 (by decide) (fun b7 => ?_) (fun b7 => ?_)
    · skip
      obtain ⟨j, hj, rfl⟩ := cv_ile (by decide) b1 b7
      have hcl := nI_clamp (show j < 2 ^ 31 by omega)
      refine cv_aload_n X dX1_pixel_15 rfl ?_
      refine cv_getA X 0 q235 (by decide) rfl rfl dX1_pixel_16 ?_
      refine cv_iload_n X dX1_pixel_19 rfl ?_
      refine cv_iald X 128 rfl rfl (by omega) dX1_pixel_20 ?_
      exact cv_ireturn X dX1_pixel_21 ⟨by first | (simp only [zpix, if_neg b1, if_pos b7]; done) | simp only [zpix, if_neg b1, if_pos b7, hcl], rfl⟩
    · skip
      refine cv_ldc X q258 dX1_pixel_10 ?_
      refine cv_goto X (tgt := 21) dX1_pixel_12 (by decide) ?_
      exact cv_ireturn X dX1_pixel_21 ⟨by first | (simp only [zpix, if_neg b1, if_neg b7]; done) | simp only [zpix, if_neg b1, if_neg b7, hcl], rfl⟩
abbrev rX1_widthAfter : Room := { frames := 0, cells := 0, slots := 0, locals := 0 }
set_option maxHeartbeats 4000000 in
set_option maxRecDepth 100000 in
/-- widthAfter() -/
theorem mX1_widthAfter (l : Launch) {pi ke : Nat → Int32} {st mg : Nat} {re : Nat → Int32} {wd : Nat} (hst : st = 1 ∨ st = 2) (hmg : mg ≤ 1) : DX l yX1_widthAfter cX1_widthAfter 1 rX1_widthAfter 1 len1 [] (ms pi ke st mg re wd) (nI (zwid st mg)) (ms pi ke st mg re wd) := by
  refine dx_of cl1 rfl (by decide) (fun _ h => absurd h List.not_mem_nil) (Nat.le_of_ble_eq_true rfl) ?_
  intro h ad G X
  refine cv_bipush X (v := nI 8) dX1_widthAfter_0 (by decide) ?_
  refine cv_iconst X (v := nI 2) dX1_widthAfter_2 (by decide) ?_
  refine cv_aload_n X dX1_widthAfter_3 rfl ?_
  refine cv_getI X 3 q238 (by decide) rfl rfl dX1_widthAfter_4 ?_
  refine cv_imulN X dX1_widthAfter_7 ?_
  refine cv_iaddN X dX1_widthAfter_8 ?_
  refine cv_iconst X (v := nI 3) dX1_widthAfter_9 (by decide) ?_
  refine cv_isubN X (by omega) dX1_widthAfter_10 ?_
  refine cv_aload_n X dX1_widthAfter_11 rfl ?_
  refine cv_getI X 2 q237 (by decide) rfl rfl dX1_widthAfter_12 ?_
  refine cv_idivN X (by omega) (by omega) (by omega) dX1_widthAfter_15 ?_
  refine cv_iconst X (v := nI 1) dX1_widthAfter_16 (by decide) ?_
  refine cv_iaddN X dX1_widthAfter_17 ?_
  exact cv_ireturn X dX1_widthAfter_18 ⟨rfl, rfl⟩
abbrev rX1_shape : Room := { frames := 1, cells := 0, slots := 0, locals := 20 }
set_option maxHeartbeats 4000000 in
set_option maxRecDepth 100000 in
/-- shape(s, m) -/
theorem mX1_shape (l : Launch) {pi ke : Nat → Int32} {st mg : Nat} {re : Nat → Int32} {wd : Nat} {s m : Int32} : DX l yX1_shape cX1_shape 3 rX1_shape 1 len1 [.int s, .int m] (ms pi ke st mg re wd) ((zshp s m st mg).1) (ms pi ke ((zshp s m st mg).2.1) ((zshp s m st mg).2.2) re wd) := by
  refine dx_of cl1 rfl (by decide) (List.forall_mem_cons.mpr ⟨rfl, List.forall_mem_cons.mpr ⟨rfl, fun _ h => absurd h List.not_mem_nil⟩⟩) (Nat.le_of_ble_eq_true rfl) ?_
  intro h ad G X
  refine cv_iload_n X dX1_shape_0 rfl ?_
  refine cv_iconst X (v := nI 1) dX1_shape_1 (by decide) ?_
  refine cv_icmp_lt X 19 dX1_shape_2 (by decide) (fun b2 => ?_) (fun b2 => ?_)
  · skip
    refine cv_ldc X q258 dX1_shape_19 ?_
    exact cv_ireturn X dX1_shape_21 ⟨by simp only [zshp, if_pos b2], by simp only [zshp, if_pos b2]⟩
  · skip
    refine cv_iload_n X dX1_shape_5 rfl ?_
    refine cv_iconst X (v := nI 2) dX1_shape_6 (by decide) ?_
    refine cv_icmp_gt X 19 dX1_shape_7 (by decide) (fun b7 => ?_) (fun b7 => ?_)
    · skip
      refine cv_ldc X q258 dX1_shape_19 ?_
      exact cv_ireturn X dX1_shape_21 ⟨by simp only [zshp, if_neg b2, if_pos b7], by simp only [zshp, if_neg b2, if_pos b7]⟩
    · skip
      refine cv_iload_n X dX1_shape_10 rfl ?_
      refine cv_if_lt X 19 dX1_shape_11 (by decide) (fun b11 => ?_) (fun b11 => ?_)
      · skip
        refine cv_ldc X q258 dX1_shape_19 ?_
        exact cv_ireturn X dX1_shape_21 ⟨by simp only [zshp, if_neg b2, if_neg b7, if_pos b11], by simp only [zshp, if_neg b2, if_neg b7, if_pos b11]⟩
      · skip
        refine cv_iload_n X dX1_shape_14 rfl ?_
        refine cv_iconst X (v := nI 1) dX1_shape_15 (by decide) ?_
        refine cv_icmp_le X 22 dX1_shape_16 (by decide) (fun b16 => ?_) (fun b16 => ?_)
        · skip
          obtain ⟨a, ha, rfl⟩ := cv_ige (by decide) (cv_n1 b2) b7
          obtain ⟨b, hb, rfl⟩ := cv_ile (by decide) b11 b16
          have ha1 : 1 ≤ a := Nat.le_of_not_lt (fun q => b2 (nI_lt q (by decide)))
          have hcl := nI_clamp (show a < 2 ^ 31 by omega)
          have hcl2 := nI_clamp (show b < 2 ^ 31 by omega)
          refine cv_aload_n X dX1_shape_22 rfl ?_
          refine cv_iload_n X dX1_shape_23 rfl ?_
          refine cv_putI X 2 (S' := [_, _, _, _, _, _]) q237 (by decide) rfl rfl (by decide +kernel) rfl rfl dX1_shape_24 ?_
          refine cv_aload_n X dX1_shape_27 rfl ?_
          refine cv_iload_n X dX1_shape_28 rfl ?_
          refine cv_putI X 3 (S' := [_, _, _, _, _, _]) q238 (by decide) rfl rfl (by decide +kernel) rfl rfl dX1_shape_29 ?_
          refine cv_aload_n X dX1_shape_32 rfl ?_
          refine cv_calli X (mX1_widthAfter l (by omega) (by omega)) wX1_widthAfter 0 hX1_widthAfter rfl ⟨rfl, rfl⟩ ⟨by decide, by decide⟩ rfl (Nat.le_of_ble_eq_true rfl) dX1_shape_33 ?_
          exact cv_ireturn X dX1_shape_36 ⟨by simp only [zshp, if_neg b2, if_neg b7, if_neg b11, if_pos b16, hcl, hcl2], by simp only [zshp, if_neg b2, if_neg b7, if_neg b11, if_pos b16, hcl, hcl2]⟩
        · skip
          refine cv_ldc X q258 dX1_shape_19 ?_
          exact cv_ireturn X dX1_shape_21 ⟨by simp only [zshp, if_neg b2, if_neg b7, if_neg b11, if_neg b16], by simp only [zshp, if_neg b2, if_neg b7, if_neg b11, if_neg b16]⟩
abbrev rX1_pixelAt : Room := { frames := 0, cells := 0, slots := 0, locals := 0 }
set_option maxHeartbeats 4000000 in
set_option maxRecDepth 100000 in
/-- pixelAt(c, x, y) -/
theorem mX1_pixelAt (l : Launch) {pi ke : Nat → Int32} {st mg : Nat} {re : Nat → Int32} {wd : Nat} {c : Nat} (hc : c < 2) {x y : Int32} : DX l yX1_pixelAt cX1_pixelAt 4 rX1_pixelAt 1 len1 [.int (nI c), .int x, .int y] (ms pi ke st mg re wd) (zpa pi c x y) (ms pi ke st mg re wd) := by
  refine dx_of cl1 rfl (by decide) (List.forall_mem_cons.mpr ⟨rfl, List.forall_mem_cons.mpr ⟨rfl, List.forall_mem_cons.mpr ⟨rfl, fun _ h => absurd h List.not_mem_nil⟩⟩⟩) (Nat.le_of_ble_eq_true rfl) ?_
  intro h ad G X
  refine cv_iload_n X dX1_pixelAt_0 rfl ?_
  refine cv_if_lt X 20 dX1_pixelAt_1 (by decide) (fun b1 => ?_) (fun b1 => ?_)
  · skip
    refine cv_iconst X (v := nI 0) dX1_pixelAt_20 (by decide) ?_
    refine cv_goto X (tgt := 40) dX1_pixelAt_21 (by decide) ?_
    exact cv_ireturn X dX1_pixelAt_40 ⟨by first | (simp only [zpa, if_pos b1]; done) | simp only [zpa, if_pos b1, hcl, hcl2], rfl⟩
  · skip
    refine cv_iload_n X dX1_pixelAt_4 rfl ?_
    refine cv_bipush X (v := nI 7) dX1_pixelAt_5 (by decide) ?_
    refine cv_icmp_gt X 20 dX1_pixelAt_7 (by decide) (fun b7 => ?_) (fun b7 => ?_)
    · skip
      refine cv_iconst X (v := nI 0) dX1_pixelAt_20 (by decide) ?_
      refine cv_goto X (tgt := 40) dX1_pixelAt_21 (by decide) ?_
      exact cv_ireturn X dX1_pixelAt_40 ⟨by first | (simp only [zpa, if_neg b1, if_pos b7]; done) | simp only [zpa, if_neg b1, if_pos b7, hcl, hcl2], rfl⟩
    · skip
      refine cv_iload_n X dX1_pixelAt_10 rfl ?_
      refine cv_if_lt X 20 dX1_pixelAt_11 (by decide) (fun b11 => ?_) (fun b11 => ?_)
      · skip
        refine cv_iconst X (v := nI 0) dX1_pixelAt_20 (by decide) ?_
        refine cv_goto X (tgt := 40) dX1_pixelAt_21 (by decide) ?_
        exact cv_ireturn X dX1_pixelAt_40 ⟨by first | (simp only [zpa, if_neg b1, if_neg b7, if_pos b11]; done) | simp only [zpa, if_neg b1, if_neg b7, if_pos b11, hcl, hcl2], rfl⟩
      · skip
        refine cv_iload_n X dX1_pixelAt_14 rfl ?_
        refine cv_bipush X (v := nI 7) dX1_pixelAt_15 (by decide) ?_
        refine cv_icmp_le X 24 dX1_pixelAt_17 (by decide) (fun b17 => ?_) (fun b17 => ?_)
        · skip
          obtain ⟨i, hi, rfl⟩ := cv_ige (by decide) b1 b7
          obtain ⟨j, hj, rfl⟩ := cv_ile (by decide) b11 b17
          have hcl := nI_clamp (show i < 2 ^ 31 by omega)
          have hcl2 := nI_clamp (show j < 2 ^ 31 by omega)
          refine cv_aload_n X dX1_pixelAt_24 rfl ?_
          refine cv_getA X 0 q235 (by decide) rfl rfl dX1_pixelAt_25 ?_
          refine cv_bipush X (v := nI 64) dX1_pixelAt_28 (by decide) ?_
          refine cv_iload_n X dX1_pixelAt_30 rfl ?_
          refine cv_imulN X dX1_pixelAt_31 ?_
          refine cv_bipush X (v := nI 8) dX1_pixelAt_32 (by decide) ?_
          refine cv_iload_n X dX1_pixelAt_34 rfl ?_
          refine cv_imulN X dX1_pixelAt_35 ?_
          refine cv_iaddN X dX1_pixelAt_36 ?_
          refine cv_iload_n X dX1_pixelAt_37 rfl ?_
          refine cv_iaddN X dX1_pixelAt_38 ?_
          refine cv_iald X 128 rfl rfl (by omega) dX1_pixelAt_39 ?_
          exact cv_ireturn X dX1_pixelAt_40 ⟨by first | (simp only [zpa, if_neg b1, if_neg b7, if_neg b11, if_pos b17]; done) | simp only [zpa, if_neg b1, if_neg b7, if_neg b11, if_pos b17, hcl, hcl2], rfl⟩
        · skip
          refine cv_iconst X (v := nI 0) dX1_pixelAt_20 (by decide) ?_
          refine cv_goto X (tgt := 40) dX1_pixelAt_21 (by decide) ?_
          exact cv_ireturn X dX1_pixelAt_40 ⟨by first | (simp only [zpa, if_neg b1, if_neg b7, if_neg b11, if_neg b17]; done) | simp only [zpa, if_neg b1, if_neg b7, if_neg b11, if_neg b17, hcl, hcl2], rfl⟩
abbrev rX1_product : Room := { frames := 1, cells := 0, slots := 0, locals := 23 }
set_option maxHeartbeats 4000000 in
set_option maxRecDepth 100000 in
/-- product(x, y) -/
theorem mX1_product (l : Launch) {pi ke : Nat → Int32} {st mg : Nat} {re : Nat → Int32} {wd : Nat} {x y : Nat} : DX l yX1_product cX1_product 8 rX1_product 1 len1 [.int (nI x), .int (nI y)] (ms pi ke st mg re wd) (zprod pi ke st mg x y) (ms pi ke st mg re wd) := by
  refine dx_of cl1 rfl (by decide) (List.forall_mem_cons.mpr ⟨rfl, List.forall_mem_cons.mpr ⟨rfl, fun _ h => absurd h List.not_mem_nil⟩⟩) (Nat.le_of_ble_eq_true rfl) ?_
  intro h ad G X
  refine cv_iconst X (v := nI 0) dX1_product_0 (by decide) ?_
  refine cv_istore_n X (lv' := [_, _, _, _]) dX1_product_1 (by decide) rfl ?_
  refine cv_iconst X (v := nI 0) dX1_product_2 (by decide) ?_
  refine cv_istore X (lv' := [_, _, _, _, _]) dX1_product_3 (by decide) rfl ?_
  refine up_loop0 (P := fun k1 => G (ms pi ke st mg re wd) 5 [.ref h, .int (nI x), .int (nI y), .int (it (fun k a => a + ke k * zpa pi (k / 9) (nI (st * x + k % 3) - nI mg) (nI (st * y + k % 9 / 3) - nI mg)) (nI 0) k1), .int (nI k1)] []) (18) ?_ ?_
  · show G (ms pi ke st mg re wd) 5 [.ref h, .int (nI x), .int (nI y), .int (it (fun k a => a + ke k * zpa pi (k / 9) (nI (st * x + k % 3) - nI mg) (nI (st * y + k % 9 / 3) - nI mg)) (nI 0) (18)), .int (nI (18))] []
    refine cv_iload X dX1_product_5 rfl ?_
    refine cv_bipush X (v := nI 18) dX1_product_7 (by decide) ?_
    refine cv_icmp_geT X 85 (by omega) (by omega) dX1_product_9 (by decide) (by omega) ?_
    refine cv_iload_n X dX1_product_85 rfl ?_
    exact cv_ireturn X dX1_product_86 ⟨rfl, rfl⟩
  · intro k1 h_k1 ih_k1
    show G (ms pi ke st mg re wd) 5 [.ref h, .int (nI x), .int (nI y), .int (it (fun k a => a + ke k * zpa pi (k / 9) (nI (st * x + k % 3) - nI mg) (nI (st * y + k % 9 / 3) - nI mg)) (nI 0) k1), .int (nI k1)] []
    refine cv_iload X dX1_product_5 rfl ?_
    refine cv_bipush X (v := nI 18) dX1_product_7 (by decide) ?_
    refine cv_icmp_geF X 85 (by omega) (by omega) dX1_product_9 (by decide) (by omega) ?_
    refine cv_iload X dX1_product_12 rfl ?_
    refine cv_bipush X (v := nI 9) dX1_product_14 (by decide) ?_
    refine cv_idivN X (by omega) (by omega) (by omega) dX1_product_16 ?_
    refine cv_istore X (lv' := [_, _, _, _, _, _]) dX1_product_17 (by decide) rfl ?_
    refine cv_iload X dX1_product_19 rfl ?_
    refine cv_iconst X (v := nI 3) dX1_product_21 (by decide) ?_
    refine cv_iremN X (by omega) (by omega) (by omega) dX1_product_22 ?_
    refine cv_istore X (lv' := [_, _, _, _, _, _, _]) dX1_product_23 (by decide) rfl ?_
    refine cv_iload X dX1_product_25 rfl ?_
    refine cv_bipush X (v := nI 9) dX1_product_27 (by decide) ?_
    refine cv_iremN X (by omega) (by omega) (by omega) dX1_product_29 ?_
    refine cv_iconst X (v := nI 3) dX1_product_30 (by decide) ?_
    refine cv_idivN X (by omega) (by omega) (by omega) dX1_product_31 ?_
    refine cv_istore X (lv' := [_, _, _, _, _, _, _, _]) dX1_product_32 (by decide) rfl ?_
    refine cv_iload_n X dX1_product_34 rfl ?_
    refine cv_aload_n X dX1_product_35 rfl ?_
    refine cv_getA X 1 q236 (by decide) rfl rfl dX1_product_36 ?_
    refine cv_iload X dX1_product_39 rfl ?_
    refine cv_iald X 18 rfl rfl (by omega) dX1_product_41 ?_
    refine cv_aload_n X dX1_product_42 rfl ?_
    refine cv_iload X dX1_product_43 rfl ?_
    refine cv_aload_n X dX1_product_45 rfl ?_
    refine cv_getI X 2 q237 (by decide) rfl rfl dX1_product_46 ?_
    refine cv_iload_n X dX1_product_49 rfl ?_
    refine cv_imulN X dX1_product_50 ?_
    refine cv_iload X dX1_product_51 rfl ?_
    refine cv_iaddN X dX1_product_53 ?_
    refine cv_aload_n X dX1_product_54 rfl ?_
    refine cv_getI X 3 q238 (by decide) rfl rfl dX1_product_55 ?_
    refine cv_isub X dX1_product_58 ?_
    refine cv_aload_n X dX1_product_59 rfl ?_
    refine cv_getI X 2 q237 (by decide) rfl rfl dX1_product_60 ?_
    refine cv_iload_n X dX1_product_63 rfl ?_
    refine cv_imulN X dX1_product_64 ?_
    refine cv_iload X dX1_product_65 rfl ?_
    refine cv_iaddN X dX1_product_67 ?_
    refine cv_aload_n X dX1_product_68 rfl ?_
    refine cv_getI X 3 q238 (by decide) rfl rfl dX1_product_69 ?_
    refine cv_isub X dX1_product_72 ?_
    refine cv_calli X (mX1_pixelAt l (by omega)) wX1_pixelAt 3 hX1_pixelAt rfl ⟨rfl, rfl⟩ ⟨by decide, by decide⟩ rfl (Nat.le_of_ble_eq_true rfl) dX1_product_73 ?_
    refine cv_imul X dX1_product_76 ?_
    refine cv_iadd X dX1_product_77 ?_
    refine cv_istore_n X (lv' := [_, _, _, _, _, _, _, _]) dX1_product_78 (by decide) rfl ?_
    refine cv_iincN X (lv' := [_, _, _, _, _, _, _, _]) dX1_product_79 (by decide) rfl rfl ?_
    refine cv_goto X (tgt := 5) dX1_product_82 (by decide) ?_
    exact cv_take X 5 ih_k1
abbrev rX1_move : Room := { frames := 2, cells := 0, slots := 0, locals := 50 }
set_option maxHeartbeats 4000000 in
set_option maxRecDepth 100000 in
/-- move() -/
theorem mX1_move (l : Launch) {pi ke : Nat → Int32} {st mg : Nat} {re : Nat → Int32} {wd : Nat} (hst : st = 1 ∨ st = 2) (hmg : mg ≤ 1) : DX l yX1_move cX1_move 3 rX1_move 1 len1 [] (ms pi ke st mg re wd) (nI (zwid st mg)) (ms pi ke st mg (zmvM pi ke st mg (zwid st mg) re) (zwid st mg)) := by
  refine dx_of cl1 rfl (by decide) (fun _ h => absurd h List.not_mem_nil) (Nat.le_of_ble_eq_true rfl) ?_
  intro h ad G X
  obtain ⟨hw8, hsw8, hev, -⟩ := zwid_le hst hmg
  refine cv_aload_n X dX1_move_0 rfl ?_
  refine cv_aload_n X dX1_move_1 rfl ?_
  refine cv_calli X (mX1_widthAfter l hst hmg) wX1_widthAfter 0 hX1_widthAfter rfl ⟨rfl, rfl⟩ ⟨by decide, by decide⟩ rfl (Nat.le_of_ble_eq_true rfl) dX1_move_2 ?_
  refine cv_putI X 5 (S' := [_, _, _, _, _, _]) q240 (by decide) rfl rfl (by decide +kernel) rfl rfl dX1_move_5 ?_
  refine cv_iconst X (v := nI 0) dX1_move_8 (by decide) ?_
  refine cv_istore_n X (lv' := [_, _]) dX1_move_9 (by decide) rfl ?_
  refine up_loop0 (P := fun y1 => G (ms pi ke st mg (it (fun y r => it (fun x r => upd r (8 * y + x) (zprod pi ke st mg x y)) r (zwid st mg)) re y1) (zwid st mg)) 10 [.ref h, .int (nI y1)] []) (zwid st mg) ?_ ?_
  · show G (ms pi ke st mg (it (fun y r => it (fun x r => upd r (8 * y + x) (zprod pi ke st mg x y)) r (zwid st mg)) re (zwid st mg)) (zwid st mg)) 10 [.ref h, .int (nI (zwid st mg))] []
    refine cv_iload_n X dX1_move_10 rfl ?_
    refine cv_aload_n X dX1_move_11 rfl ?_
    refine cv_getI X 5 q240 (by decide) rfl rfl dX1_move_12 ?_
    refine cv_icmp_geT X 57 (by omega) (by omega) dX1_move_15 (by decide) (by omega) ?_
    refine cv_aload_n X dX1_move_57 rfl ?_
    refine cv_getI X 5 q240 (by decide) rfl rfl dX1_move_58 ?_
    exact cv_ireturn X dX1_move_61 ⟨rfl, rfl⟩
  · intro y1 h_y1 ih_y1
    show G (ms pi ke st mg (it (fun y r => it (fun x r => upd r (8 * y + x) (zprod pi ke st mg x y)) r (zwid st mg)) re y1) (zwid st mg)) 10 [.ref h, .int (nI y1)] []
    refine cv_iload_n X dX1_move_10 rfl ?_
    refine cv_aload_n X dX1_move_11 rfl ?_
    refine cv_getI X 5 q240 (by decide) rfl rfl dX1_move_12 ?_
    refine cv_icmp_geF X 57 (by omega) (by omega) dX1_move_15 (by decide) (by omega) ?_
    refine cv_iconst X (v := nI 0) dX1_move_18 (by decide) ?_
    refine cv_istore_n X (lv' := [_, _, _]) dX1_move_19 (by decide) rfl ?_
    refine up_loop0 (P := fun x1 => G (ms pi ke st mg (it (fun x r => upd r (8 * y1 + x) (zprod pi ke st mg x y1)) (it (fun y r => it (fun x r => upd r (8 * y + x) (zprod pi ke st mg x y)) r (zwid st mg)) re y1) x1) (zwid st mg)) 20 [.ref h, .int (nI y1), .int (nI x1)] []) (zwid st mg) ?_ ?_
    · show G (ms pi ke st mg (it (fun x r => upd r (8 * y1 + x) (zprod pi ke st mg x y1)) (it (fun y r => it (fun x r => upd r (8 * y + x) (zprod pi ke st mg x y)) r (zwid st mg)) re y1) (zwid st mg)) (zwid st mg)) 20 [.ref h, .int (nI y1), .int (nI (zwid st mg))] []
      refine cv_iload_n X dX1_move_20 rfl ?_
      refine cv_aload_n X dX1_move_21 rfl ?_
      refine cv_getI X 5 q240 (by decide) rfl rfl dX1_move_22 ?_
      refine cv_icmp_geT X 51 (by omega) (by omega) dX1_move_25 (by decide) (by omega) ?_
      refine cv_iincN X (lv' := [_, _, _]) dX1_move_51 (by decide) rfl rfl ?_
      refine cv_goto X (tgt := 10) dX1_move_54 (by decide) ?_
      exact cv_take X 2 ih_y1
    · intro x1 h_x1 ih_x1
      show G (ms pi ke st mg (it (fun x r => upd r (8 * y1 + x) (zprod pi ke st mg x y1)) (it (fun y r => it (fun x r => upd r (8 * y + x) (zprod pi ke st mg x y)) r (zwid st mg)) re y1) x1) (zwid st mg)) 20 [.ref h, .int (nI y1), .int (nI x1)] []
      refine cv_iload_n X dX1_move_20 rfl ?_
      refine cv_aload_n X dX1_move_21 rfl ?_
      refine cv_getI X 5 q240 (by decide) rfl rfl dX1_move_22 ?_
      refine cv_icmp_geF X 51 (by omega) (by omega) dX1_move_25 (by decide) (by omega) ?_
      refine cv_aload_n X dX1_move_28 rfl ?_
      refine cv_getA X 4 q239 (by decide) rfl rfl dX1_move_29 ?_
      refine cv_bipush X (v := nI 8) dX1_move_32 (by decide) ?_
      refine cv_iload_n X dX1_move_34 rfl ?_
      refine cv_imulN X dX1_move_35 ?_
      refine cv_iload_n X dX1_move_36 rfl ?_
      refine cv_iaddN X dX1_move_37 ?_
      refine cv_aload_n X dX1_move_38 rfl ?_
      refine cv_iload_n X dX1_move_39 rfl ?_
      refine cv_iload_n X dX1_move_40 rfl ?_
      refine cv_calli X (mX1_product l) wX1_product 2 hX1_product rfl ⟨rfl, rfl⟩ ⟨by decide, by decide⟩ rfl (Nat.le_of_ble_eq_true rfl) dX1_move_41 ?_
      refine cv_iast X 64 (S' := [_, _, _, _, _, _]) rfl rfl (by omega) rfl dX1_move_44 ?_
      refine cv_iincN X (lv' := [_, _, _]) dX1_move_45 (by decide) rfl rfl ?_
      refine cv_goto X (tgt := 20) dX1_move_48 (by decide) ?_
      exact cv_take X 3 ih_x1
abbrev rX1_width : Room := { frames := 0, cells := 0, slots := 0, locals := 0 }
set_option maxHeartbeats 4000000 in
set_option maxRecDepth 100000 in
/-- width() -/
theorem mX1_width (l : Launch) {pi ke : Nat → Int32} {st mg : Nat} {re : Nat → Int32} {wd : Nat} : DX l yX1_width cX1_width 1 rX1_width 1 len1 [] (ms pi ke st mg re wd) (nI wd) (ms pi ke st mg re wd) := by
  refine dx_of cl1 rfl (by decide) (fun _ h => absurd h List.not_mem_nil) (Nat.le_of_ble_eq_true rfl) ?_
  intro h ad G X
  refine cv_aload_n X dX1_width_0 rfl ?_
  refine cv_getI X 5 q240 (by decide) rfl rfl dX1_width_1 ?_
  exact cv_ireturn X dX1_width_4 ⟨rfl, rfl⟩
abbrev rX1_result : Room := { frames := 0, cells := 0, slots := 0, locals := 0 }
set_option maxHeartbeats 4000000 in
set_option maxRecDepth 100000 in
/-- result(x, y) -/
theorem mX1_result (l : Launch) {pi ke : Nat → Int32} {st mg : Nat} {re : Nat → Int32} {wd : Nat} (hw : wd ≤ 8) {x y : Int32} : DX l yX1_result cX1_result 3 rX1_result 1 len1 [.int x, .int y] (ms pi ke st mg re wd) (zres wd re x y) (ms pi ke st mg re wd) := by
  refine dx_of cl1 rfl (by decide) (List.forall_mem_cons.mpr ⟨rfl, List.forall_mem_cons.mpr ⟨rfl, fun _ h => absurd h List.not_mem_nil⟩⟩) (Nat.le_of_ble_eq_true rfl) ?_
  intro h ad G X
  refine cv_iload_n X dX1_result_0 rfl ?_
  refine cv_if_lt X 24 dX1_result_1 (by decide) (fun b1 => ?_) (fun b1 => ?_)
  · skip
    refine cv_iconst X (v := nI 0) dX1_result_24 (by decide) ?_
    refine cv_goto X (tgt := 39) dX1_result_25 (by decide) ?_
    exact cv_ireturn X dX1_result_39 ⟨by first | (simp only [zres, if_pos b1]; done) | simp only [zres, if_pos b1, hcl, hcl2], rfl⟩
  · skip
    refine cv_iload_n X dX1_result_4 rfl ?_
    refine cv_aload_n X dX1_result_5 rfl ?_
    refine cv_getI X 5 q240 (by decide) rfl rfl dX1_result_6 ?_
    refine cv_icmp_ge X 24 dX1_result_9 (by decide) (fun b9 => ?_) (fun b9 => ?_)
    · skip
      refine cv_iconst X (v := nI 0) dX1_result_24 (by decide) ?_
      refine cv_goto X (tgt := 39) dX1_result_25 (by decide) ?_
      exact cv_ireturn X dX1_result_39 ⟨by first | (simp only [zres, if_neg b1, if_pos b9]; done) | simp only [zres, if_neg b1, if_pos b9, hcl, hcl2], rfl⟩
    · skip
      refine cv_iload_n X dX1_result_12 rfl ?_
      refine cv_if_lt X 24 dX1_result_13 (by decide) (fun b13 => ?_) (fun b13 => ?_)
      · skip
        refine cv_iconst X (v := nI 0) dX1_result_24 (by decide) ?_
        refine cv_goto X (tgt := 39) dX1_result_25 (by decide) ?_
        exact cv_ireturn X dX1_result_39 ⟨by first | (simp only [zres, if_neg b1, if_neg b9, if_pos b13]; done) | simp only [zres, if_neg b1, if_neg b9, if_pos b13, hcl, hcl2], rfl⟩
      · skip
        refine cv_iload_n X dX1_result_16 rfl ?_
        refine cv_aload_n X dX1_result_17 rfl ?_
        refine cv_getI X 5 q240 (by decide) rfl rfl dX1_result_18 ?_
        refine cv_icmp_lt X 28 dX1_result_21 (by decide) (fun b21 => ?_) (fun b21 => ?_)
        · skip
          obtain ⟨i, hi, rfl⟩ := cv_in (by omega) b1 b9
          obtain ⟨j, hj, rfl⟩ := cv_inl (by omega) b13 b21
          have hcl := nI_clamp (show i < 2 ^ 31 by omega)
          have hcl2 := nI_clamp (show j < 2 ^ 31 by omega)
          refine cv_aload_n X dX1_result_28 rfl ?_
          refine cv_getA X 4 q239 (by decide) rfl rfl dX1_result_29 ?_
          refine cv_bipush X (v := nI 8) dX1_result_32 (by decide) ?_
          refine cv_iload_n X dX1_result_34 rfl ?_
          refine cv_imulN X dX1_result_35 ?_
          refine cv_iload_n X dX1_result_36 rfl ?_
          refine cv_iaddN X dX1_result_37 ?_
          refine cv_iald X 64 rfl rfl (by omega) dX1_result_38 ?_
          exact cv_ireturn X dX1_result_39 ⟨by first | (simp only [zres, if_neg b1, if_neg b9, if_neg b13, if_pos b21]; done) | simp only [zres, if_neg b1, if_neg b9, if_neg b13, if_pos b21, hcl, hcl2], rfl⟩
        · skip
          refine cv_iconst X (v := nI 0) dX1_result_24 (by decide) ?_
          refine cv_goto X (tgt := 39) dX1_result_25 (by decide) ?_
          exact cv_ireturn X dX1_result_39 ⟨by first | (simp only [zres, if_neg b1, if_neg b9, if_neg b13, if_neg b21]; done) | simp only [zres, if_neg b1, if_neg b9, if_neg b13, if_neg b21, hcl, hcl2], rfl⟩
end
section
set_option maxRecDepth 100000
abbrev rX1_floor : Room := { frames := 0, cells := 0, slots := 0, locals := 0 }
set_option maxHeartbeats 4000000 in
set_option maxRecDepth 100000 in
/-- floor() -/
theorem mX1_floor (l : Launch) {pi ke : Nat → Int32} {st mg : Nat} {re : Nat → Int32} {wd : Nat} (hw : wd ≤ 8) : DX l yX1_floor cX1_floor 3 rX1_floor 1 len1 [] (ms pi ke st mg re wd) (nI (zflM wd re).1) (ms pi ke st mg ((zflM wd re).2) wd) := by
  refine dx_of cl1 rfl (by decide) (fun _ h => absurd h List.not_mem_nil) (Nat.le_of_ble_eq_true rfl) ?_
  intro h ad G X
  refine cv_iconst X (v := nI 0) dX1_floor_0 (by decide) ?_
  refine cv_istore_n X (lv' := [_, _]) dX1_floor_1 (by decide) rfl ?_
  refine cv_iconst X (v := nI 0) dX1_floor_2 (by decide) ?_
  refine cv_istore_n X (lv' := [_, _, _]) dX1_floor_3 (by decide) rfl ?_
  refine up_loop0 (P := fun i1 => G (ms pi ke st mg ((it (fun i t => zfm1 wd t i) (0, re) i1).2) wd) 4 [.ref h, .int (nI ((it (fun i t => zfm1 wd t i) (0, re) i1).1)), .int (nI i1)] []) (64) ?_ ?_
  · show G (ms pi ke st mg ((it (fun i t => zfm1 wd t i) (0, re) (64)).2) wd) 4 [.ref h, .int (nI ((it (fun i t => zfm1 wd t i) (0, re) (64)).1)), .int (nI (64))] []
    refine cv_iload_n X dX1_floor_4 rfl ?_
    refine cv_bipush X (v := nI 64) dX1_floor_5 (by decide) ?_
    refine cv_icmp_geT X 57 (by omega) (by omega) dX1_floor_7 (by decide) (by omega) ?_
    refine cv_iload_n X dX1_floor_57 rfl ?_
    exact cv_ireturn X dX1_floor_58 ⟨rfl, rfl⟩
  · intro i1 h_i1 ih_i1
    show G (ms pi ke st mg ((it (fun i t => zfm1 wd t i) (0, re) i1).2) wd) 4 [.ref h, .int (nI ((it (fun i t => zfm1 wd t i) (0, re) i1).1)), .int (nI i1)] []
    rw [it_s] at ih_i1
    generalize (it (fun i t => zfm1 wd t i) (0, re) i1) = B at ih_i1 ⊢
    refine cv_iload_n X dX1_floor_4 rfl ?_
    refine cv_bipush X (v := nI 64) dX1_floor_5 (by decide) ?_
    refine cv_icmp_geF X 57 (by omega) (by omega) dX1_floor_7 (by decide) (by omega) ?_
    refine cv_iload_n X dX1_floor_10 rfl ?_
    refine cv_bipush X (v := nI 8) dX1_floor_11 (by decide) ?_
    refine cv_iremN X (by omega) (by omega) (by omega) dX1_floor_13 ?_
    refine cv_aload_n X dX1_floor_14 rfl ?_
    refine cv_getI X 5 q240 (by decide) rfl rfl dX1_floor_15 ?_
    refine cv_icmp_geN X 51 (by omega) (by omega) dX1_floor_18 (by decide) (fun b18 => ?_) (fun b18 => ?_)
    · skip
      refine cv_iincN X (lv' := [_, _, _]) dX1_floor_51 (by decide) rfl rfl ?_
      refine cv_goto X (tgt := 4) dX1_floor_54 (by decide) ?_
      simp only [zfm1, zfl1, if_pos b18] at ih_i1
      exact cv_take X 3 ih_i1
    · skip
      refine cv_iload_n X dX1_floor_21 rfl ?_
      refine cv_bipush X (v := nI 8) dX1_floor_22 (by decide) ?_
      refine cv_idivN X (by omega) (by omega) (by omega) dX1_floor_24 ?_
      refine cv_aload_n X dX1_floor_25 rfl ?_
      refine cv_getI X 5 q240 (by decide) rfl rfl dX1_floor_26 ?_
      refine cv_icmp_geN X 51 (by omega) (by omega) dX1_floor_29 (by decide) (fun b29 => ?_) (fun b29 => ?_)
      · skip
        refine cv_iincN X (lv' := [_, _, _]) dX1_floor_51 (by decide) rfl rfl ?_
        refine cv_goto X (tgt := 4) dX1_floor_54 (by decide) ?_
        simp only [zfm1, zfl1, if_neg (Nat.not_le.mpr b18), if_pos b29] at ih_i1
        exact cv_take X 3 ih_i1
      · skip
        refine cv_aload_n X dX1_floor_32 rfl ?_
        refine cv_getA X 4 q239 (by decide) rfl rfl dX1_floor_33 ?_
        refine cv_iload_n X dX1_floor_36 rfl ?_
        refine cv_iald X 64 rfl rfl (by omega) dX1_floor_37 ?_
        refine cv_if_ge X 51 dX1_floor_38 (by decide) (fun b38 => ?_) (fun b38 => ?_)
        · skip
          refine cv_iincN X (lv' := [_, _, _]) dX1_floor_51 (by decide) rfl rfl ?_
          refine cv_goto X (tgt := 4) dX1_floor_54 (by decide) ?_
          simp only [zfm1, zfl1, if_neg (Nat.not_le.mpr b18), if_neg (Nat.not_le.mpr b29), if_pos b38] at ih_i1
          exact cv_take X 3 ih_i1
        · skip
          refine cv_aload_n X dX1_floor_41 rfl ?_
          refine cv_getA X 4 q239 (by decide) rfl rfl dX1_floor_42 ?_
          refine cv_iload_n X dX1_floor_45 rfl ?_
          refine cv_iconst X (v := nI 0) dX1_floor_46 (by decide) ?_
          refine cv_iast X 64 (S' := [_, _, _, _, _, _]) rfl rfl (by omega) rfl dX1_floor_47 ?_
          refine cv_iincN X (lv' := [_, _, _]) dX1_floor_48 (by decide) rfl rfl ?_
          refine cv_iincN X (lv' := [_, _, _]) dX1_floor_51 (by decide) rfl rfl ?_
          refine cv_goto X (tgt := 4) dX1_floor_54 (by decide) ?_
          simp only [zfm1, zfl1, if_neg (Nat.not_le.mpr b18), if_neg (Nat.not_le.mpr b29), if_neg b38] at ih_i1
          exact cv_take X 3 ih_i1
abbrev rX1_greatestOf : Room := { frames := 0, cells := 0, slots := 0, locals := 0 }
set_option maxHeartbeats 4000000 in
set_option maxRecDepth 100000 in
/-- greatestOf(x, y) -/
theorem mX1_greatestOf (l : Launch) {pi ke : Nat → Int32} {st mg : Nat} {re : Nat → Int32} {wd : Nat} {x y : Nat} (hx : x ≤ 6) (hy : y ≤ 6) : DX l yX1_greatestOf cX1_greatestOf 6 rX1_greatestOf 1 len1 [.int (nI x), .int (nI y)] (ms pi ke st mg re wd) (zgr re x y) (ms pi ke st mg re wd) := by
  refine dx_of cl1 rfl (by decide) (List.forall_mem_cons.mpr ⟨rfl, List.forall_mem_cons.mpr ⟨rfl, fun _ h => absurd h List.not_mem_nil⟩⟩) (Nat.le_of_ble_eq_true rfl) ?_
  intro h ad G X
  refine cv_aload_n X dX1_greatestOf_0 rfl ?_
  refine cv_getA X 4 q239 (by decide) rfl rfl dX1_greatestOf_1 ?_
  refine cv_bipush X (v := nI 8) dX1_greatestOf_4 (by decide) ?_
  refine cv_iload_n X dX1_greatestOf_6 rfl ?_
  refine cv_imulN X dX1_greatestOf_7 ?_
  refine cv_iload_n X dX1_greatestOf_8 rfl ?_
  refine cv_iaddN X dX1_greatestOf_9 ?_
  refine cv_iald X 64 rfl rfl (by omega) dX1_greatestOf_10 ?_
  refine cv_istore_n X (lv' := [_, _, _, _]) dX1_greatestOf_11 (by decide) rfl ?_
  refine cv_iconst X (v := nI 1) dX1_greatestOf_12 (by decide) ?_
  refine cv_istore X (lv' := [_, _, _, _, _]) dX1_greatestOf_13 (by decide) rfl ?_
  refine up_loop0 (P := fun j1 => G (ms pi ke st mg re wd) 15 [.ref h, .int (nI x), .int (nI y), .int (it (fun j m => zmx (re (8 * (y + (j + 1) / 2) + x + (j + 1) % 2)) m) (re (8 * y + x)) j1), .int (nI (j1 + 1))] []) (3) ?_ ?_
  · show G (ms pi ke st mg re wd) 15 [.ref h, .int (nI x), .int (nI y), .int (it (fun j m => zmx (re (8 * (y + (j + 1) / 2) + x + (j + 1) % 2)) m) (re (8 * y + x)) (3)), .int (nI ((3) + 1))] []
    refine cv_iload X dX1_greatestOf_15 rfl ?_
    refine cv_iconst X (v := nI 4) dX1_greatestOf_17 (by decide) ?_
    refine cv_icmp_geT X 63 (by omega) (by omega) dX1_greatestOf_18 (by decide) (by omega) ?_
    refine cv_iload_n X dX1_greatestOf_63 rfl ?_
    exact cv_ireturn X dX1_greatestOf_64 ⟨rfl, rfl⟩
  · intro j1 h_j1 ih_j1
    show G (ms pi ke st mg re wd) 15 [.ref h, .int (nI x), .int (nI y), .int (it (fun j m => zmx (re (8 * (y + (j + 1) / 2) + x + (j + 1) % 2)) m) (re (8 * y + x)) j1), .int (nI (j1 + 1))] []
    refine cv_iload X dX1_greatestOf_15 rfl ?_
    refine cv_iconst X (v := nI 4) dX1_greatestOf_17 (by decide) ?_
    refine cv_icmp_geF X 63 (by omega) (by omega) dX1_greatestOf_18 (by decide) (by omega) ?_
    refine cv_aload_n X dX1_greatestOf_21 rfl ?_
    refine cv_getA X 4 q239 (by decide) rfl rfl dX1_greatestOf_22 ?_
    refine cv_bipush X (v := nI 8) dX1_greatestOf_25 (by decide) ?_
    refine cv_iload_n X dX1_greatestOf_27 rfl ?_
    refine cv_iload X dX1_greatestOf_28 rfl ?_
    refine cv_iconst X (v := nI 2) dX1_greatestOf_30 (by decide) ?_
    refine cv_idivN X (by omega) (by omega) (by omega) dX1_greatestOf_31 ?_
    refine cv_iaddN X dX1_greatestOf_32 ?_
    refine cv_imulN X dX1_greatestOf_33 ?_
    refine cv_iload_n X dX1_greatestOf_34 rfl ?_
    refine cv_iaddN X dX1_greatestOf_35 ?_
    refine cv_iload X dX1_greatestOf_36 rfl ?_
    refine cv_iconst X (v := nI 2) dX1_greatestOf_38 (by decide) ?_
    refine cv_iremN X (by omega) (by omega) (by omega) dX1_greatestOf_39 ?_
    refine cv_iaddN X dX1_greatestOf_40 ?_
    refine cv_iald X 64 rfl rfl (by omega) dX1_greatestOf_41 ?_
    refine cv_istore X (lv' := [_, _, _, _, _, _]) dX1_greatestOf_42 (by decide) rfl ?_
    refine cv_iload X dX1_greatestOf_44 rfl ?_
    refine cv_iload_n X dX1_greatestOf_46 rfl ?_
    refine cv_icmp_le X 55 dX1_greatestOf_47 (by decide) (fun b47 => ?_) (fun b47 => ?_)
    · skip
      refine cv_iload_n X dX1_greatestOf_55 rfl ?_
      refine cv_istore_n X (lv' := [_, _, _, _, _, _]) dX1_greatestOf_56 (by decide) rfl ?_
      refine cv_iincN X (lv' := [_, _, _, _, _, _]) dX1_greatestOf_57 (by decide) rfl rfl ?_
      refine cv_goto X (tgt := 15) dX1_greatestOf_60 (by decide) ?_
      rw [it_s, zmx, if_pos b47] at ih_j1
      exact cv_take X 5 ih_j1
    · skip
      refine cv_iload X dX1_greatestOf_50 rfl ?_
      refine cv_goto X (tgt := 56) dX1_greatestOf_52 (by decide) ?_
      refine cv_istore_n X (lv' := [_, _, _, _, _, _]) dX1_greatestOf_56 (by decide) rfl ?_
      refine cv_iincN X (lv' := [_, _, _, _, _, _]) dX1_greatestOf_57 (by decide) rfl rfl ?_
      refine cv_goto X (tgt := 15) dX1_greatestOf_60 (by decide) ?_
      rw [it_s, zmx, if_neg b47] at ih_j1
      exact cv_take X 5 ih_j1
abbrev rX1_thin : Room := { frames := 1, cells := 0, slots := 0, locals := 25 }
set_option maxHeartbeats 4000000 in
set_option maxRecDepth 100000 in
/-- thin() -/
theorem mX1_thin (l : Launch) {pi ke : Nat → Int32} {st mg : Nat} {re : Nat → Int32} {wd : Nat} (hw : wd ≤ 8) : DX l yX1_thin cX1_thin 3 rX1_thin 1 len1 [] (ms pi ke st mg re wd) (nI (wd / 2)) (ms pi ke st mg (zthM (wd / 2) re) (wd / 2)) := by
  refine dx_of cl1 rfl (by decide) (fun _ h => absurd h List.not_mem_nil) (Nat.le_of_ble_eq_true rfl) ?_
  intro h ad G X
  refine cv_aload_n X dX1_thin_0 rfl ?_
  refine cv_aload_n X dX1_thin_1 rfl ?_
  refine cv_getI X 5 q240 (by decide) rfl rfl dX1_thin_2 ?_
  refine cv_iconst X (v := nI 2) dX1_thin_5 (by decide) ?_
  refine cv_idivN X (by omega) (by omega) (by omega) dX1_thin_6 ?_
  refine cv_putI X 5 (S' := [_, _, _, _, _, _]) q240 (by decide) rfl rfl (by decide +kernel) rfl rfl dX1_thin_7 ?_
  refine cv_iconst X (v := nI 0) dX1_thin_10 (by decide) ?_
  refine cv_istore_n X (lv' := [_, _]) dX1_thin_11 (by decide) rfl ?_
  refine up_loop0 (P := fun y1 => G (ms pi ke st mg (it (fun y r => it (fun x r => upd r (8 * y + x) (zgr r (2 * x) (2 * y))) r (wd / 2)) re y1) (wd / 2)) 12 [.ref h, .int (nI y1)] []) (wd / 2) ?_ ?_
  · show G (ms pi ke st mg (it (fun y r => it (fun x r => upd r (8 * y + x) (zgr r (2 * x) (2 * y))) r (wd / 2)) re (wd / 2)) (wd / 2)) 12 [.ref h, .int (nI (wd / 2))] []
    refine cv_iload_n X dX1_thin_12 rfl ?_
    refine cv_aload_n X dX1_thin_13 rfl ?_
    refine cv_getI X 5 q240 (by decide) rfl rfl dX1_thin_14 ?_
    refine cv_icmp_geT X 63 (by omega) (by omega) dX1_thin_17 (by decide) (by omega) ?_
    refine cv_aload_n X dX1_thin_63 rfl ?_
    refine cv_getI X 5 q240 (by decide) rfl rfl dX1_thin_64 ?_
    exact cv_ireturn X dX1_thin_67 ⟨rfl, rfl⟩
  · intro y1 h_y1 ih_y1
    show G (ms pi ke st mg (it (fun y r => it (fun x r => upd r (8 * y + x) (zgr r (2 * x) (2 * y))) r (wd / 2)) re y1) (wd / 2)) 12 [.ref h, .int (nI y1)] []
    refine cv_iload_n X dX1_thin_12 rfl ?_
    refine cv_aload_n X dX1_thin_13 rfl ?_
    refine cv_getI X 5 q240 (by decide) rfl rfl dX1_thin_14 ?_
    refine cv_icmp_geF X 63 (by omega) (by omega) dX1_thin_17 (by decide) (by omega) ?_
    refine cv_iconst X (v := nI 0) dX1_thin_20 (by decide) ?_
    refine cv_istore_n X (lv' := [_, _, _]) dX1_thin_21 (by decide) rfl ?_
    refine up_loop0 (P := fun x1 => G (ms pi ke st mg (it (fun x r => upd r (8 * y1 + x) (zgr r (2 * x) (2 * y1))) (it (fun y r => it (fun x r => upd r (8 * y + x) (zgr r (2 * x) (2 * y))) r (wd / 2)) re y1) x1) (wd / 2)) 22 [.ref h, .int (nI y1), .int (nI x1)] []) (wd / 2) ?_ ?_
    · show G (ms pi ke st mg (it (fun x r => upd r (8 * y1 + x) (zgr r (2 * x) (2 * y1))) (it (fun y r => it (fun x r => upd r (8 * y + x) (zgr r (2 * x) (2 * y))) r (wd / 2)) re y1) (wd / 2)) (wd / 2)) 22 [.ref h, .int (nI y1), .int (nI (wd / 2))] []
      refine cv_iload_n X dX1_thin_22 rfl ?_
      refine cv_aload_n X dX1_thin_23 rfl ?_
      refine cv_getI X 5 q240 (by decide) rfl rfl dX1_thin_24 ?_
      refine cv_icmp_geT X 57 (by omega) (by omega) dX1_thin_27 (by decide) (by omega) ?_
      refine cv_iincN X (lv' := [_, _, _]) dX1_thin_57 (by decide) rfl rfl ?_
      refine cv_goto X (tgt := 12) dX1_thin_60 (by decide) ?_
      exact cv_take X 2 ih_y1
    · intro x1 h_x1 ih_x1
      show G (ms pi ke st mg (it (fun x r => upd r (8 * y1 + x) (zgr r (2 * x) (2 * y1))) (it (fun y r => it (fun x r => upd r (8 * y + x) (zgr r (2 * x) (2 * y))) r (wd / 2)) re y1) x1) (wd / 2)) 22 [.ref h, .int (nI y1), .int (nI x1)] []
      refine cv_iload_n X dX1_thin_22 rfl ?_
      refine cv_aload_n X dX1_thin_23 rfl ?_
      refine cv_getI X 5 q240 (by decide) rfl rfl dX1_thin_24 ?_
      refine cv_icmp_geF X 57 (by omega) (by omega) dX1_thin_27 (by decide) (by omega) ?_
      refine cv_aload_n X dX1_thin_30 rfl ?_
      refine cv_getA X 4 q239 (by decide) rfl rfl dX1_thin_31 ?_
      refine cv_bipush X (v := nI 8) dX1_thin_34 (by decide) ?_
      refine cv_iload_n X dX1_thin_36 rfl ?_
      refine cv_imulN X dX1_thin_37 ?_
      refine cv_iload_n X dX1_thin_38 rfl ?_
      refine cv_iaddN X dX1_thin_39 ?_
      refine cv_aload_n X dX1_thin_40 rfl ?_
      refine cv_iconst X (v := nI 2) dX1_thin_41 (by decide) ?_
      refine cv_iload_n X dX1_thin_42 rfl ?_
      refine cv_imulN X dX1_thin_43 ?_
      refine cv_iconst X (v := nI 2) dX1_thin_44 (by decide) ?_
      refine cv_iload_n X dX1_thin_45 rfl ?_
      refine cv_imulN X dX1_thin_46 ?_
      refine cv_calli X (mX1_greatestOf l (by omega) (by omega)) wX1_greatestOf 2 hX1_greatestOf rfl ⟨rfl, rfl⟩ ⟨by decide, by decide⟩ rfl (Nat.le_of_ble_eq_true rfl) dX1_thin_47 ?_
      refine cv_iast X 64 (S' := [_, _, _, _, _, _]) rfl rfl (by omega) rfl dX1_thin_50 ?_
      refine cv_iincN X (lv' := [_, _, _]) dX1_thin_51 (by decide) rfl rfl ?_
      refine cv_goto X (tgt := 22) dX1_thin_54 (by decide) ?_
      exact cv_take X 3 ih_x1
abbrev rX1_divide : Room := { frames := 0, cells := 0, slots := 0, locals := 0 }
set_option maxHeartbeats 4000000 in
set_option maxRecDepth 100000 in
/-- divide(d) -/
theorem mX1_divide (l : Launch) {pi ke : Nat → Int32} {st mg : Nat} {re : Nat → Int32} {wd : Nat} {d : Int32} : DX l yX1_divide cX1_divide 3 rX1_divide 1 len1 [.int d] (ms pi ke st mg re wd) ((zdiv d wd re).1) (ms pi ke st mg ((zdiv d wd re).2) wd) := by
  refine dx_of cl1 rfl (by decide) (List.forall_mem_cons.mpr ⟨rfl, fun _ h => absurd h List.not_mem_nil⟩) (Nat.le_of_ble_eq_true rfl) ?_
  intro h ad G X
  refine cv_iload_n X dX1_divide_0 rfl ?_
  refine cv_iconst X (v := nI 1) dX1_divide_1 (by decide) ?_
  refine cv_icmp_lt X 11 dX1_divide_2 (by decide) (fun b2 => ?_) (fun b2 => ?_)
  · skip
    refine cv_ldc X q258 dX1_divide_11 ?_
    exact cv_ireturn X dX1_divide_13 ⟨by simp only [zdiv, if_pos b2], by simp only [zdiv, if_pos b2]⟩
  · skip
    refine cv_iload_n X dX1_divide_5 rfl ?_
    refine cv_bipush X (v := nI 100) dX1_divide_6 (by decide) ?_
    refine cv_icmp_le X 14 dX1_divide_8 (by decide) (fun b8 => ?_) (fun b8 => ?_)
    · skip
      refine cv_iconst X (v := nI 0) dX1_divide_14 (by decide) ?_
      refine cv_istore_n X (lv' := [_, _, _]) dX1_divide_15 (by decide) rfl ?_
      refine up_loop0 (P := fun k1 => G (ms pi ke st mg (it (fun k o => upd o k (o k / d)) re k1) wd) 16 [.ref h, .int d, .int (nI k1)] []) (64) ?_ ?_
      · show G (ms pi ke st mg (it (fun k o => upd o k (o k / d)) re (64)) wd) 16 [.ref h, .int d, .int (nI (64))] []
        refine cv_iload_n X dX1_divide_16 rfl ?_
        refine cv_bipush X (v := nI 64) dX1_divide_17 (by decide) ?_
        refine cv_icmp_geT X 42 (by omega) (by omega) dX1_divide_19 (by decide) (by omega) ?_
        refine cv_aload_n X dX1_divide_42 rfl ?_
        refine cv_getI X 5 q240 (by decide) rfl rfl dX1_divide_43 ?_
        exact cv_ireturn X dX1_divide_46 ⟨by simp only [zdiv, if_neg b2, if_pos b8], by simp only [zdiv, if_neg b2, if_pos b8]; rfl⟩
      · intro k1 h_k1 ih_k1
        show G (ms pi ke st mg (it (fun k o => upd o k (o k / d)) re k1) wd) 16 [.ref h, .int d, .int (nI k1)] []
        refine cv_iload_n X dX1_divide_16 rfl ?_
        refine cv_bipush X (v := nI 64) dX1_divide_17 (by decide) ?_
        refine cv_icmp_geF X 42 (by omega) (by omega) dX1_divide_19 (by decide) (by omega) ?_
        refine cv_aload_n X dX1_divide_22 rfl ?_
        refine cv_getA X 4 q239 (by decide) rfl rfl dX1_divide_23 ?_
        refine cv_iload_n X dX1_divide_26 rfl ?_
        refine cv_aload_n X dX1_divide_27 rfl ?_
        refine cv_getA X 4 q239 (by decide) rfl rfl dX1_divide_28 ?_
        refine cv_iload_n X dX1_divide_31 rfl ?_
        refine cv_iald X 64 rfl rfl (by omega) dX1_divide_32 ?_
        refine cv_iload_n X dX1_divide_33 rfl ?_
        refine cv_idiv X dX1_divide_34 (fun q => b2 (by rw [q]; decide)) ?_
        refine cv_iast X 64 (S' := [_, _, _, _, _, _]) rfl rfl (by omega) rfl dX1_divide_35 ?_
        refine cv_iincN X (lv' := [_, _, _]) dX1_divide_36 (by decide) rfl rfl ?_
        refine cv_goto X (tgt := 16) dX1_divide_39 (by decide) ?_
        exact cv_take X 3 ih_k1
    · skip
      refine cv_ldc X q258 dX1_divide_11 ?_
      exact cv_ireturn X dX1_divide_13 ⟨by simp only [zdiv, if_neg b2, if_neg b8], by simp only [zdiv, if_neg b2, if_neg b8]⟩
abbrev rX1_take : Room := { frames := 1, cells := 0, slots := 0, locals := 22 }
set_option maxHeartbeats 4000000 in
set_option maxRecDepth 100000 in
/-- take(c) -/
theorem mX1_take (l : Launch) {pi ke : Nat → Int32} {st mg : Nat} {re : Nat → Int32} {wd : Nat} (hw : wd ≤ 8) {c : Int32} : DX l yX1_take cX1_take 6 rX1_take 1 len1 [.int c] (ms pi ke st mg re wd) ((ztaM wd re c pi).1) (ms ((ztaM wd re c pi).2) ke st mg re wd) := by
  refine dx_of cl1 rfl (by decide) (List.forall_mem_cons.mpr ⟨rfl, fun _ h => absurd h List.not_mem_nil⟩) (Nat.le_of_ble_eq_true rfl) ?_
  intro h ad G X
  refine cv_iload_n X dX1_take_0 rfl ?_
  refine cv_if_lt X 9 dX1_take_1 (by decide) (fun b1 => ?_) (fun b1 => ?_)
  · skip
    refine cv_ldc X q258 dX1_take_9 ?_
    exact cv_ireturn X dX1_take_11 ⟨by simp only [ztaM, if_pos b1], by simp only [ztaM, if_pos b1]⟩
  · skip
    refine cv_iload_n X dX1_take_4 rfl ?_
    refine cv_iconst X (v := nI 1) dX1_take_5 (by decide) ?_
    refine cv_icmp_le X 12 dX1_take_6 (by decide) (fun b6 => ?_) (fun b6 => ?_)
    · skip
      obtain ⟨c, hc, rfl⟩ := cv_ile (by decide) b1 b6
      have hcl := nI_clamp (show c < 2 ^ 31 by omega)
      refine cv_iconst X (v := nI 0) dX1_take_12 (by decide) ?_
      refine cv_istore_n X (lv' := [_, _, _]) dX1_take_13 (by decide) rfl ?_
      refine cv_iconst X (v := nI 0) dX1_take_14 (by decide) ?_
      refine cv_istore_n X (lv' := [_, _, _, _]) dX1_take_15 (by decide) rfl ?_
      refine up_loop0 (P := fun i1 => G (ms ((it (fun i t => ztm1 wd re c t i) (0, pi) i1).2) ke st mg re wd) 16 [.ref h, .int (nI c), .int (nI ((it (fun i t => ztm1 wd re c t i) (0, pi) i1).1)), .int (nI i1)] []) (64) ?_ ?_
      · show G (ms ((it (fun i t => ztm1 wd re c t i) (0, pi) (64)).2) ke st mg re wd) 16 [.ref h, .int (nI c), .int (nI ((it (fun i t => ztm1 wd re c t i) (0, pi) (64)).1)), .int (nI (64))] []
        refine cv_iload_n X dX1_take_16 rfl ?_
        refine cv_bipush X (v := nI 64) dX1_take_17 (by decide) ?_
        refine cv_icmp_geT X 87 (by omega) (by omega) dX1_take_19 (by decide) (by omega) ?_
        refine cv_iload_n X dX1_take_87 rfl ?_
        exact cv_ireturn X dX1_take_88 ⟨by simp only [ztaM, if_neg b1, if_pos b6, hcl]; rfl, by simp only [ztaM, if_neg b1, if_pos b6, hcl]; rfl⟩
      · intro i1 h_i1 ih_i1
        show G (ms ((it (fun i t => ztm1 wd re c t i) (0, pi) i1).2) ke st mg re wd) 16 [.ref h, .int (nI c), .int (nI ((it (fun i t => ztm1 wd re c t i) (0, pi) i1).1)), .int (nI i1)] []
        refine cv_iload_n X dX1_take_16 rfl ?_
        refine cv_bipush X (v := nI 64) dX1_take_17 (by decide) ?_
        refine cv_icmp_geF X 87 (by omega) (by omega) dX1_take_19 (by decide) (by omega) ?_
        refine cv_aload_n X dX1_take_22 rfl ?_
        refine cv_iload_n X dX1_take_23 rfl ?_
        refine cv_bipush X (v := nI 8) dX1_take_24 (by decide) ?_
        refine cv_iremN X (by omega) (by omega) (by omega) dX1_take_26 ?_
        refine cv_iload_n X dX1_take_27 rfl ?_
        refine cv_bipush X (v := nI 8) dX1_take_28 (by decide) ?_
        refine cv_idivN X (by omega) (by omega) (by omega) dX1_take_30 ?_
        refine cv_calli X (mX1_result l hw) wX1_result 2 hX1_result rfl ⟨rfl, rfl⟩ ⟨by decide, by decide⟩ rfl (Nat.le_of_ble_eq_true rfl) dX1_take_31 ?_
        refine cv_istore X (lv' := [_, _, _, _, _]) dX1_take_34 (by decide) rfl ?_
        refine cv_aload_n X dX1_take_36 rfl ?_
        refine cv_iload X dX1_take_37 rfl ?_
        refine cv_calli X (mX1_cut l) wX1_cut 1 hX1_cut rfl ⟨rfl, rfl⟩ ⟨by decide, by decide⟩ rfl (Nat.le_of_ble_eq_true rfl) dX1_take_39 ?_
        refine cv_istore X (lv' := [_, _, _, _, _, _]) dX1_take_42 (by decide) rfl ?_
        refine cv_aload_n X dX1_take_44 rfl ?_
        refine cv_getA X 0 q235 (by decide) rfl rfl dX1_take_45 ?_
        refine cv_bipush X (v := nI 64) dX1_take_48 (by decide) ?_
        refine cv_iload_n X dX1_take_50 rfl ?_
        refine cv_imulN X dX1_take_51 ?_
        refine cv_iload_n X dX1_take_52 rfl ?_
        refine cv_iaddN X dX1_take_53 ?_
        refine cv_iald X 128 rfl rfl (by omega) dX1_take_54 ?_
        refine cv_iload X dX1_take_55 rfl ?_
        refine cv_icmp_eq X 66 dX1_take_57 (by decide) (fun b57 => ?_) (fun b57 => ?_)
        · skip
          refine cv_iload_n X dX1_take_66 rfl ?_
          refine cv_istore_n X (lv' := [_, _, _, _, _, _]) dX1_take_67 (by decide) rfl ?_
          refine cv_aload_n X dX1_take_68 rfl ?_
          refine cv_getA X 0 q235 (by decide) rfl rfl dX1_take_69 ?_
          refine cv_bipush X (v := nI 64) dX1_take_72 (by decide) ?_
          refine cv_iload_n X dX1_take_74 rfl ?_
          refine cv_imulN X dX1_take_75 ?_
          refine cv_iload_n X dX1_take_76 rfl ?_
          refine cv_iaddN X dX1_take_77 ?_
          refine cv_iload X dX1_take_78 rfl ?_
          refine cv_iast X 128 (S' := [_, _, _, _, _, _]) rfl rfl (by omega) rfl dX1_take_80 ?_
          refine cv_iincN X (lv' := [_, _, _, _, _, _]) dX1_take_81 (by decide) rfl rfl ?_
          refine cv_goto X (tgt := 16) dX1_take_84 (by decide) ?_
          rw [it_s, ztm1, if_pos b57] at ih_i1
          exact cv_take X 4 ih_i1
        · skip
          refine cv_iload_n X dX1_take_60 rfl ?_
          refine cv_iconst X (v := nI 1) dX1_take_61 (by decide) ?_
          refine cv_iaddN X dX1_take_62 ?_
          refine cv_goto X (tgt := 67) dX1_take_63 (by decide) ?_
          refine cv_istore_n X (lv' := [_, _, _, _, _, _]) dX1_take_67 (by decide) rfl ?_
          refine cv_aload_n X dX1_take_68 rfl ?_
          refine cv_getA X 0 q235 (by decide) rfl rfl dX1_take_69 ?_
          refine cv_bipush X (v := nI 64) dX1_take_72 (by decide) ?_
          refine cv_iload_n X dX1_take_74 rfl ?_
          refine cv_imulN X dX1_take_75 ?_
          refine cv_iload_n X dX1_take_76 rfl ?_
          refine cv_iaddN X dX1_take_77 ?_
          refine cv_iload X dX1_take_78 rfl ?_
          refine cv_iast X 128 (S' := [_, _, _, _, _, _]) rfl rfl (by omega) rfl dX1_take_80 ?_
          refine cv_iincN X (lv' := [_, _, _, _, _, _]) dX1_take_81 (by decide) rfl rfl ?_
          refine cv_goto X (tgt := 16) dX1_take_84 (by decide) ?_
          rw [it_s, ztm1, if_neg b57] at ih_i1
          exact cv_take X 4 ih_i1
    · skip
      refine cv_ldc X q258 dX1_take_9 ?_
      exact cv_ireturn X dX1_take_11 ⟨by simp only [ztaM, if_neg b1, if_neg b6], by simp only [ztaM, if_neg b1, if_neg b6]⟩
abbrev rX1_sum : Room := { frames := 1, cells := 0, slots := 0, locals := 22 }
set_option maxHeartbeats 4000000 in
set_option maxRecDepth 100000 in
/-- sum() -/
theorem mX1_sum (l : Launch) {pi ke : Nat → Int32} {st mg : Nat} {re : Nat → Int32} {wd : Nat} (hw : wd ≤ 8) : DX l yX1_sum cX1_sum 3 rX1_sum 1 len1 [] (ms pi ke st mg re wd) (zsmM wd re) (ms pi ke st mg re wd) := by
  refine dx_of cl1 rfl (by decide) (fun _ h => absurd h List.not_mem_nil) (Nat.le_of_ble_eq_true rfl) ?_
  intro h ad G X
  refine cv_iconst X (v := nI 0) dX1_sum_0 (by decide) ?_
  refine cv_istore_n X (lv' := [_, _]) dX1_sum_1 (by decide) rfl ?_
  refine cv_iconst X (v := nI 0) dX1_sum_2 (by decide) ?_
  refine cv_istore_n X (lv' := [_, _, _]) dX1_sum_3 (by decide) rfl ?_
  refine up_loop0 (P := fun i1 => G (ms pi ke st mg re wd) 4 [.ref h, .int (it (fun i a => a + zres wd re (nI (i % 8)) (nI (i / 8))) (nI 0) i1), .int (nI i1)] []) (64) ?_ ?_
  · show G (ms pi ke st mg re wd) 4 [.ref h, .int (it (fun i a => a + zres wd re (nI (i % 8)) (nI (i / 8))) (nI 0) (64)), .int (nI (64))] []
    refine cv_iload_n X dX1_sum_4 rfl ?_
    refine cv_bipush X (v := nI 64) dX1_sum_5 (by decide) ?_
    refine cv_icmp_geT X 31 (by omega) (by omega) dX1_sum_7 (by decide) (by omega) ?_
    refine cv_iload_n X dX1_sum_31 rfl ?_
    exact cv_ireturn X dX1_sum_32 ⟨rfl, rfl⟩
  · intro i1 h_i1 ih_i1
    show G (ms pi ke st mg re wd) 4 [.ref h, .int (it (fun i a => a + zres wd re (nI (i % 8)) (nI (i / 8))) (nI 0) i1), .int (nI i1)] []
    refine cv_iload_n X dX1_sum_4 rfl ?_
    refine cv_bipush X (v := nI 64) dX1_sum_5 (by decide) ?_
    refine cv_icmp_geF X 31 (by omega) (by omega) dX1_sum_7 (by decide) (by omega) ?_
    refine cv_iload_n X dX1_sum_10 rfl ?_
    refine cv_aload_n X dX1_sum_11 rfl ?_
    refine cv_iload_n X dX1_sum_12 rfl ?_
    refine cv_bipush X (v := nI 8) dX1_sum_13 (by decide) ?_
    refine cv_iremN X (by omega) (by omega) (by omega) dX1_sum_15 ?_
    refine cv_iload_n X dX1_sum_16 rfl ?_
    refine cv_bipush X (v := nI 8) dX1_sum_17 (by decide) ?_
    refine cv_idivN X (by omega) (by omega) (by omega) dX1_sum_19 ?_
    refine cv_calli X (mX1_result l hw) wX1_result 2 hX1_result rfl ⟨rfl, rfl⟩ ⟨by decide, by decide⟩ rfl (Nat.le_of_ble_eq_true rfl) dX1_sum_20 ?_
    refine cv_iadd X dX1_sum_23 ?_
    refine cv_istore_n X (lv' := [_, _, _]) dX1_sum_24 (by decide) rfl ?_
    refine cv_iincN X (lv' := [_, _, _]) dX1_sum_25 (by decide) rfl rfl ?_
    refine cv_goto X (tgt := 4) dX1_sum_28 (by decide) ?_
    exact cv_take X 3 ih_i1
abbrev rX1_peak : Room := { frames := 0, cells := 0, slots := 0, locals := 0 }
set_option maxHeartbeats 4000000 in
set_option maxRecDepth 100000 in
/-- peak() -/
theorem mX1_peak (l : Launch) {pi ke : Nat → Int32} {st mg : Nat} {re : Nat → Int32} {wd : Nat} (hw : wd ≤ 8) : DX l yX1_peak cX1_peak 3 rX1_peak 1 len1 [] (ms pi ke st mg re wd) (zpb (zpkM wd re)) (ms pi ke st mg re wd) := by
  refine dx_of cl1 rfl (by decide) (fun _ h => absurd h List.not_mem_nil) (Nat.le_of_ble_eq_true rfl) ?_
  intro h ad G X
  refine cv_iconst X (v := (-1)) dX1_peak_0 (by decide) ?_
  refine cv_istore_n X (lv' := [_, _]) dX1_peak_1 (by decide) rfl ?_
  refine cv_iconst X (v := nI 0) dX1_peak_2 (by decide) ?_
  refine cv_istore_n X (lv' := [_, _, _]) dX1_peak_3 (by decide) rfl ?_
  refine up_loop0 (P := fun i1 => G (ms pi ke st mg re wd) 4 [.ref h, .int (zpb (it (fun i b => zpm1 wd re b i) 0 i1)), .int (nI i1)] []) (64) ?_ ?_
  · show G (ms pi ke st mg re wd) 4 [.ref h, .int (zpb (it (fun i b => zpm1 wd re b i) 0 (64))), .int (nI (64))] []
    refine cv_iload_n X dX1_peak_4 rfl ?_
    refine cv_bipush X (v := nI 64) dX1_peak_5 (by decide) ?_
    refine cv_icmp_geT X 59 (by omega) (by omega) dX1_peak_7 (by decide) (by omega) ?_
    refine cv_iload_n X dX1_peak_59 rfl ?_
    exact cv_ireturn X dX1_peak_60 ⟨rfl, rfl⟩
  · intro i1 h_i1 ih_i1
    show G (ms pi ke st mg re wd) 4 [.ref h, .int (zpb (it (fun i b => zpm1 wd re b i) 0 i1)), .int (nI i1)] []
    rw [it_s] at ih_i1
    have hB := zpm_in wd re i1 (by omega)
    generalize (it (fun i b => zpm1 wd re b i) 0 i1) = B at ih_i1 hB ⊢
    refine cv_iload_n X dX1_peak_4 rfl ?_
    refine cv_bipush X (v := nI 64) dX1_peak_5 (by decide) ?_
    refine cv_icmp_geF X 59 (by omega) (by omega) dX1_peak_7 (by decide) (by omega) ?_
    refine cv_iload_n X dX1_peak_10 rfl ?_
    refine cv_bipush X (v := nI 8) dX1_peak_11 (by decide) ?_
    refine cv_iremN X (by omega) (by omega) (by omega) dX1_peak_13 ?_
    refine cv_aload_n X dX1_peak_14 rfl ?_
    refine cv_getI X 5 q240 (by decide) rfl rfl dX1_peak_15 ?_
    refine cv_icmp_geN X 53 (by omega) (by omega) dX1_peak_18 (by decide) (fun b18 => ?_) (fun b18 => ?_)
    · skip
      refine cv_iincN X (lv' := [_, _, _]) dX1_peak_53 (by decide) rfl rfl ?_
      refine cv_goto X (tgt := 4) dX1_peak_56 (by decide) ?_
      simp only [zpm1, if_pos b18] at ih_i1
      exact cv_take X 3 ih_i1
    · skip
      refine cv_iload_n X dX1_peak_21 rfl ?_
      refine cv_bipush X (v := nI 8) dX1_peak_22 (by decide) ?_
      refine cv_idivN X (by omega) (by omega) (by omega) dX1_peak_24 ?_
      refine cv_aload_n X dX1_peak_25 rfl ?_
      refine cv_getI X 5 q240 (by decide) rfl rfl dX1_peak_26 ?_
      refine cv_icmp_geN X 53 (by omega) (by omega) dX1_peak_29 (by decide) (fun b29 => ?_) (fun b29 => ?_)
      · skip
        refine cv_iincN X (lv' := [_, _, _]) dX1_peak_53 (by decide) rfl rfl ?_
        refine cv_goto X (tgt := 4) dX1_peak_56 (by decide) ?_
        simp only [zpm1, if_neg (Nat.not_le.mpr b18), if_pos b29] at ih_i1
        exact cv_take X 3 ih_i1
      · skip
        cases B with
        | zero =>
          refine cv_iload_n X dX1_peak_32 rfl ?_
          refine cv_if_lt X 51 dX1_peak_33 (by decide) (fun b33 => ?_) (fun b33 => ?_)
          · skip
            refine cv_iload_n X dX1_peak_51 rfl ?_
            refine cv_istore_n X (lv' := [_, _, _]) dX1_peak_52 (by decide) rfl ?_
            refine cv_iincN X (lv' := [_, _, _]) dX1_peak_53 (by decide) rfl rfl ?_
            refine cv_goto X (tgt := 4) dX1_peak_56 (by decide) ?_
            simp only [zpm1, if_neg (Nat.not_le.mpr b18), if_neg (Nat.not_le.mpr b29)] at ih_i1
            rw [zpk1, if_pos rfl] at ih_i1
            exact cv_take X 3 ih_i1
          · skip
            exact absurd (by decide) b33
        | succ j =>
          refine cv_iload_n X dX1_peak_32 rfl ?_
          refine cv_if_lt X 51 dX1_peak_33 (by decide) (fun b33 => ?_) (fun b33 => ?_)
          · skip
            exact absurd b33 (nI_pos (by omega))
          · skip
            refine cv_aload_n X dX1_peak_36 rfl ?_
            refine cv_getA X 4 q239 (by decide) rfl rfl dX1_peak_37 ?_
            refine cv_iload_n X dX1_peak_40 rfl ?_
            refine cv_iald X 64 rfl rfl (by omega) dX1_peak_41 ?_
            refine cv_aload_n X dX1_peak_42 rfl ?_
            refine cv_getA X 4 q239 (by decide) rfl rfl dX1_peak_43 ?_
            refine cv_iload_n X dX1_peak_46 rfl ?_
            refine cv_iald X 64 rfl rfl (by omega) dX1_peak_47 ?_
            refine cv_icmp_le X 53 dX1_peak_48 (by decide) (fun b48 => ?_) (fun b48 => ?_)
            · skip
              refine cv_iincN X (lv' := [_, _, _]) dX1_peak_53 (by decide) rfl rfl ?_
              refine cv_goto X (tgt := 4) dX1_peak_56 (by decide) ?_
              simp only [zpm1, if_neg (Nat.not_le.mpr b18), if_neg (Nat.not_le.mpr b29)] at ih_i1
              rw [zpk1, if_neg (Nat.succ_ne_zero j), Nat.add_sub_cancel, if_pos b48] at ih_i1
              exact cv_take X 3 ih_i1
            · skip
              refine cv_iload_n X dX1_peak_51 rfl ?_
              refine cv_istore_n X (lv' := [_, _, _]) dX1_peak_52 (by decide) rfl ?_
              refine cv_iincN X (lv' := [_, _, _]) dX1_peak_53 (by decide) rfl rfl ?_
              refine cv_goto X (tgt := 4) dX1_peak_56 (by decide) ?_
              simp only [zpm1, if_neg (Nat.not_le.mpr b18), if_neg (Nat.not_le.mpr b29)] at ih_i1
              rw [zpk1, if_neg (Nat.succ_ne_zero j), Nat.add_sub_cancel, if_neg b48] at ih_i1
              exact cv_take X 3 ih_i1
abbrev rX1_way : Room := { frames := 0, cells := 0, slots := 0, locals := 0 }
set_option maxHeartbeats 4000000 in
set_option maxRecDepth 100000 in
/-- way(n) -/
theorem mX1_way (l : Launch) {pi ke : Nat → Int32} {st mg : Nat} {re : Nat → Int32} {wd : Nat} {n : Int32} : DX l yX1_way cX1_way 2 rX1_way 1 len1 [.int n] (ms pi ke st mg re wd) ((zwv n 0).1) (ms pi ke st mg re wd) := by
  refine dx_of cl1 rfl (by decide) (List.forall_mem_cons.mpr ⟨rfl, fun _ h => absurd h List.not_mem_nil⟩) (Nat.le_of_ble_eq_true rfl) ?_
  intro h ad G X
  refine cv_iload_n X dX1_way_0 rfl ?_
  refine cv_if_lt X 9 dX1_way_1 (by decide) (fun b1 => ?_) (fun b1 => ?_)
  · skip
    refine cv_ldc X q258 dX1_way_9 ?_
    refine cv_goto X (tgt := 15) dX1_way_11 (by decide) ?_
    exact cv_ireturn X dX1_way_15 ⟨by simp only [zwv, if_pos b1], rfl⟩
  · skip
    refine cv_iload_n X dX1_way_4 rfl ?_
    refine cv_iconst X (v := nI 3) dX1_way_5 (by decide) ?_
    refine cv_icmp_le X 14 dX1_way_6 (by decide) (fun b6 => ?_) (fun b6 => ?_)
    · skip
      refine cv_iconst X (v := nI 0) dX1_way_14 (by decide) ?_
      exact cv_ireturn X dX1_way_15 ⟨by simp only [zwv, if_neg b1, if_pos b6], rfl⟩
    · skip
      refine cv_ldc X q258 dX1_way_9 ?_
      refine cv_goto X (tgt := 15) dX1_way_11 (by decide) ?_
      exact cv_ireturn X dX1_way_15 ⟨by simp only [zwv, if_neg b1, if_neg b6], rfl⟩
end
section
set_option maxRecDepth 100000
abbrev z0 : Nat → Int32 := fun _ => nI 0
/-- the powers of the root, and of its inverse -/
def zro : Nat → Int32 := it (fun j r => upd r (j + 1) (rmd (r j * zpow (nI 17) 480) P7)) (upd z0 0 (nI 1)) 15
def zba : Nat → Int32 := it (fun j r => upd r (j + 1) (rmd (r j * zpow (zpow (nI 17) 480) 7679) P7)) (upd z0 0 (nI 1)) 15
theorem va_K_one {D : va_G} {cl : List vw_C} {d c : ClassId} {s : State} (hK : va_K D cl [(d, .int), (c, .int)] s) : c = d := by
  have h1 : s.vm.findClass ("[" ++ FieldType.int.toString) = some d := (hK.2 0 _ rfl).2
  have h2 : s.vm.findClass ("[" ++ FieldType.int.toString) = some c := (hK.2 1 _ rfl).2
  exact Option.some.inj (h2.symm.trans h1)
abbrev xs0 : gS := xs (z0) (z0) (1) (1) (0) (0) (z0) (z0) (z0) (z0) (z0) (z0) (z0) (z0) (z0) (zro) (zba) (z0)
abbrev ms0 : gS := ms z0 z0 1 1 z0 0
abbrev rX0_init : Room := { frames := 1, cells := 14, slots := 2242, locals := 25 }
set_option maxHeartbeats 4000000 in
set_option maxRecDepth 100000 in
theorem mX0_rest {l : Launch} {h : Nat} {ad : Nat → Nat} {G : gS → Nat → List Value → List Value → Prop} (X : gOK l cX0_init 4 rX0_init RX0 TX0 18 0 len0 h ad none (fun r u => r = none ∧ u = xs0) G) : G (xs (z0) (z0) (0) (0) (0) (0) (z0) (z0) (z0) (z0) (z0) (z0) (z0) (z0) (z0) (z0) (z0) (z0)) 121 [.ref h] [] := by
  refine cv_aload_n X dX0_init_121 rfl ?_
  refine cv_iconst X (v := nI 1) dX0_init_122 (by decide) ?_
  refine cv_putI X 2 (S' := [_, _, _, _, _, _, _, _, _, _, _, _, _, _, _, _, _, _]) q41 (by decide) rfl rfl (by decide +kernel) rfl rfl dX0_init_123 ?_
  refine cv_aload_n X dX0_init_126 rfl ?_
  refine cv_iconst X (v := nI 1) dX0_init_127 (by decide) ?_
  refine cv_putI X 3 (S' := [_, _, _, _, _, _, _, _, _, _, _, _, _, _, _, _, _, _]) q42 (by decide) rfl rfl (by decide +kernel) rfl rfl dX0_init_128 ?_
  refine cv_aload_n X dX0_init_131 rfl ?_
  refine cv_bipush X (v := nI 17) dX0_init_132 (by decide) ?_
  refine cv_sipush X (v := nI 480) dX0_init_134 (by decide) ?_
  refine cv_calli X (mX0_power l (by decide)) wX0_power 2 hX0_power rfl ⟨rfl, rfl⟩ ⟨by decide, by decide⟩ rfl (Nat.le_of_ble_eq_true rfl) dX0_init_137 ?_
  refine cv_istore_n X (lv' := [_, _]) dX0_init_140 (by decide) rfl ?_
  refine cv_aload_n X dX0_init_141 rfl ?_
  refine cv_iload_n X dX0_init_142 rfl ?_
  refine cv_sipush X (v := nI 7679) dX0_init_143 (by decide) ?_
  refine cv_calli X (mX0_power l (by decide)) wX0_power 2 hX0_power rfl ⟨rfl, rfl⟩ ⟨by decide, by decide⟩ rfl (Nat.le_of_ble_eq_true rfl) dX0_init_146 ?_
  refine cv_istore_n X (lv' := [_, _, _]) dX0_init_149 (by decide) rfl ?_
  refine cv_aload_n X dX0_init_150 rfl ?_
  refine cv_getA X 15 q54 (by decide) rfl rfl dX0_init_151 ?_
  refine cv_iconst X (v := nI 0) dX0_init_154 (by decide) ?_
  refine cv_iconst X (v := nI 1) dX0_init_155 (by decide) ?_
  refine cv_iast X 16 (S' := [_, _, _, _, _, _, _, _, _, _, _, _, _, _, _, _, _, _]) rfl rfl (by omega) rfl dX0_init_156 ?_
  refine cv_aload_n X dX0_init_157 rfl ?_
  refine cv_getA X 16 q55 (by decide) rfl rfl dX0_init_158 ?_
  refine cv_iconst X (v := nI 0) dX0_init_161 (by decide) ?_
  refine cv_iconst X (v := nI 1) dX0_init_162 (by decide) ?_
  refine cv_iast X 16 (S' := [_, _, _, _, _, _, _, _, _, _, _, _, _, _, _, _, _, _]) rfl rfl (by omega) rfl dX0_init_163 ?_
  refine cv_iconst X (v := nI 1) dX0_init_164 (by decide) ?_
  refine cv_istore_n X (lv' := [_, _, _, _]) dX0_init_165 (by decide) rfl ?_
  refine up_loop0 (P := fun j1 => G (xs (z0) (z0) (1) (1) (0) (0) (z0) (z0) (z0) (z0) (z0) (z0) (z0) (z0) (z0) (it (fun j r => upd r (j + 1) (rmd (r j * zpow (nI 17) 480) P7)) (upd z0 0 (nI 1)) j1) (it (fun j r => upd r (j + 1) (rmd (r j * zpow (zpow (nI 17) 480) 7679) P7)) (upd z0 0 (nI 1)) j1) (z0)) 166 [.ref h, .int (zpow (nI 17) 480), .int (zpow (zpow (nI 17) 480) 7679), .int (nI (j1 + 1))] []) (15) ?_ ?_
  · show G (xs (z0) (z0) (1) (1) (0) (0) (z0) (z0) (z0) (z0) (z0) (z0) (z0) (z0) (z0) (it (fun j r => upd r (j + 1) (rmd (r j * zpow (nI 17) 480) P7)) (upd z0 0 (nI 1)) (15)) (it (fun j r => upd r (j + 1) (rmd (r j * zpow (zpow (nI 17) 480) 7679) P7)) (upd z0 0 (nI 1)) (15)) (z0)) 166 [.ref h, .int (zpow (nI 17) 480), .int (zpow (zpow (nI 17) 480) 7679), .int (nI ((15) + 1))] []
    refine cv_iload_n X dX0_init_166 rfl ?_
    refine cv_bipush X (v := nI 16) dX0_init_167 (by decide) ?_
    refine cv_icmp_geT X 218 (by omega) (by omega) dX0_init_169 (by decide) (by omega) ?_
    exact cv_return X dX0_init_218 ⟨rfl, rfl⟩
  · intro j1 h_j1 ih_j1
    show G (xs (z0) (z0) (1) (1) (0) (0) (z0) (z0) (z0) (z0) (z0) (z0) (z0) (z0) (z0) (it (fun j r => upd r (j + 1) (rmd (r j * zpow (nI 17) 480) P7)) (upd z0 0 (nI 1)) j1) (it (fun j r => upd r (j + 1) (rmd (r j * zpow (zpow (nI 17) 480) 7679) P7)) (upd z0 0 (nI 1)) j1) (z0)) 166 [.ref h, .int (zpow (nI 17) 480), .int (zpow (zpow (nI 17) 480) 7679), .int (nI (j1 + 1))] []
    refine cv_iload_n X dX0_init_166 rfl ?_
    refine cv_bipush X (v := nI 16) dX0_init_167 (by decide) ?_
    refine cv_icmp_geF X 218 (by omega) (by omega) dX0_init_169 (by decide) (by omega) ?_
    refine cv_aload_n X dX0_init_172 rfl ?_
    refine cv_getA X 15 q54 (by decide) rfl rfl dX0_init_173 ?_
    refine cv_iload_n X dX0_init_176 rfl ?_
    refine cv_aload_n X dX0_init_177 rfl ?_
    refine cv_getA X 15 q54 (by decide) rfl rfl dX0_init_178 ?_
    refine cv_iload_n X dX0_init_181 rfl ?_
    refine cv_iconst X (v := nI 1) dX0_init_182 (by decide) ?_
    refine cv_isubN X (by omega) dX0_init_183 ?_
    refine cv_iald X 16 rfl rfl (by omega) dX0_init_184 ?_
    refine cv_iload_n X dX0_init_185 rfl ?_
    refine cv_imul X dX0_init_186 ?_
    refine cv_sipush X (v := nI 7681) dX0_init_187 (by decide) ?_
    refine cv_irem X dX0_init_190 (by decide) ?_
    refine cv_iast X 16 (S' := [_, _, _, _, _, _, _, _, _, _, _, _, _, _, _, _, _, _]) rfl rfl (by omega) rfl dX0_init_191 ?_
    refine cv_aload_n X dX0_init_192 rfl ?_
    refine cv_getA X 16 q55 (by decide) rfl rfl dX0_init_193 ?_
    refine cv_iload_n X dX0_init_196 rfl ?_
    refine cv_aload_n X dX0_init_197 rfl ?_
    refine cv_getA X 16 q55 (by decide) rfl rfl dX0_init_198 ?_
    refine cv_iload_n X dX0_init_201 rfl ?_
    refine cv_iconst X (v := nI 1) dX0_init_202 (by decide) ?_
    refine cv_isubN X (by omega) dX0_init_203 ?_
    refine cv_iald X 16 rfl rfl (by omega) dX0_init_204 ?_
    refine cv_iload_n X dX0_init_205 rfl ?_
    refine cv_imul X dX0_init_206 ?_
    refine cv_sipush X (v := nI 7681) dX0_init_207 (by decide) ?_
    refine cv_irem X dX0_init_210 (by decide) ?_
    refine cv_iast X 16 (S' := [_, _, _, _, _, _, _, _, _, _, _, _, _, _, _, _, _, _]) rfl rfl (by omega) rfl dX0_init_211 ?_
    refine cv_iincN X (lv' := [_, _, _, _]) dX0_init_212 (by decide) rfl rfl ?_
    refine cv_goto X (tgt := 166) dX0_init_215 (by decide) ?_
    exact cv_take X 4 ih_j1
abbrev rX1_init : Room := { frames := 1, cells := 3, slots := 210, locals := 12 }
set_option maxHeartbeats 4000000 in
set_option maxRecDepth 100000 in
theorem mX1_rest {l : Launch} {h : Nat} {ad : Nat → Nat} {G : gS → Nat → List Value → List Value → Prop} (X : gOK l cX1_init 1 rX1_init RX1 TX1 6 1 len1 h ad none (fun r u => r = none ∧ u = ms0) G) : G (ms z0 z0 0 0 z0 0) 29 [.ref h] [] := by
  refine cv_aload_n X dX1_init_29 rfl ?_
  refine cv_iconst X (v := nI 1) dX1_init_30 (by decide) ?_
  refine cv_putI X 2 (S' := [_, _, _, _, _, _]) q237 (by decide) rfl rfl (by decide +kernel) rfl rfl dX1_init_31 ?_
  refine cv_aload_n X dX1_init_34 rfl ?_
  refine cv_iconst X (v := nI 1) dX1_init_35 (by decide) ?_
  refine cv_putI X 3 (S' := [_, _, _, _, _, _]) q238 (by decide) rfl rfl (by decide +kernel) rfl rfl dX1_init_36 ?_
  exact cv_return X dX1_init_39 ⟨rfl, rfl⟩
abbrev fX0 : List Value := [.null, .null, .int (nI 0), .int (nI 0), .int (nI 0), .int (nI 0), .null, .null, .null, .null, .null, .null, .null, .null, .null, .null, .null, .null]
set_option maxHeartbeats 4000000 in
set_option maxRecDepth 100000 in
theorem mX0_init (l : Launch) (D : va_G) (h sz : Nat) : Met l yX0_init (ws_ yX0_init cX0_init 4 none) rX0_init (va_Pc [.ref h] (fun U => U.heap.size = sz ∧ va_P D vwCl [(h, .inr (0, fX0))] U.heap ∧ va_K D vwCl [] U ∧ va_D (fun _ => True) [(h, .inr (0, fX0))]))
    (va_Qv (fun (_ : (Nat → Nat) × ClassId) => True) (fun u t => va_P D vwCl (gw 0 h u.1 u.2 len0 xs0) t.heap ∧ va_K D vwCl [(u.2, .int)] t ∧ va_D (va_A [(h, .inr (0, fX0))] sz) (gw 0 h u.1 u.2 len0 xs0)) (va_A [(h, .inr (0, fX0))] sz)) 14 2242 (va_A [(h, .inr (0, fX0))] sz) := by
  refine Met.ofW (cc := cX0_init) (maxL := 4) (ret := none) (by decide) rfl ?_
  intro p e s m args below meth c s₁ B hml hv
  obtain ⟨rfl, hsz, hP, hK, hD0⟩ := hv
  have hx := B.exec
  have hb := B.bytes
  have hr := B.returns
  have hts := atoms_spec (ws := ws_ yX0_init cX0_init 4 none) B.pre
  have hts : ∀ w ∈ lw_all, w.before _ s = true := fun w h => hts w (List.mem_cons_of_mem _ h)
  have hown : s.vm.findClass RX0 = some m.cls := findClass_of_methodNamed B.named
  have hlocks := B.notSynchronized
  have hin : meth.name = "<init>" := (name_of_methodNamed B.named B.method).1
  subst hsz
  have hD := hD0.self (sz := s.heap.size)
  generalize hAe : va_A [(h, .inr (0, fX0))] s.heap.size = A at hD ⊢
  have hA : ∀ q : Nat, s.heap.size ≤ q → A q := fun q h => by rw [← hAe]; exact Or.inr h
  have hS : va_S A s.heap s.heap [] := va_S.rf
  have hcat : ∀ x ∈ [Value.ref h], x.category = 1 := List.forall_mem_cons.mpr ⟨rfl, fun _ h => absurd h List.not_mem_nil⟩
  have hl := lv_entry ([.ref h]) (n := 4) (Nat.le_of_ble_eq_true rfl)
  rw [lg_entry_eq]
  generalize (lg_sl ([.ref h]) ++ List.replicate (4 - (lg_sl ([.ref h])).length) Slot.unset).toArray = ls at hl ⊢
  have hl : gL ls 4 [.ref h] := ⟨hl, hcat⟩
  refine lv_aload_n hx hb dX0_init_0 rfl (hl.at (i := 0) rfl) ?_
  refine W.objInit hx hb hown (hts _ q32) (hts _ q33) (hts _ q34) rfl (by rw [hml]; exact hl.1.1) rfl dX0_init_1 (Nat.le_of_ble_eq_true rfl) (Nat.le_of_ble_eq_true rfl) ?_
  refine W.eq (g2 := F0 m 4 ls []) rfl ?_
  have hP : va_P D vwCl [(h, .inr (0, [.null, .null, .int (nI 0), .int (nI 0), .int (nI 0), .int (nI 0), .null, .null, .null, .null, .null, .null, .null, .null, .null, .null, .null, .null]))] s.heap := hP
  refine lv_aload_n hx hb dX0_init_4 rfl (hl.at (i := 0) rfl) ?_
  refine lv_sipush (v := nI 128) hx hb dX0_init_5 (by decide) ?_
  refine va_newa (atype := .int) (ty := .int) (N' := 128) (a0 := (128, .inl z0)) hx hb (hts _ q94) rfl hK hP hD hS hA (fun cA => rfl) (nI_pos (by decide)) (nI_clamp (by decide)) (by decide) (Nat.le_of_ble_eq_true rfl) (Nat.le_of_ble_eq_true rfl) dX0_init_8 (fun q0 cA H hK hP hD hS => ?_)
  refine W.widen (k := 1) (n := 128) (Nat.le_of_ble_eq_true rfl) (Nat.le_of_ble_eq_true rfl) ?_
  obtain ⟨d, rfl⟩ : ∃ d, d = cA := ⟨_, rfl⟩
  have hK : va_K D vwCl [(d, .int)] s := hK
  have hP : va_P D vwCl [(h, .inr (0, [.null, .null, .int (nI 0), .int (nI 0), .int (nI 0), .int (nI 0), .null, .null, .null, .null, .null, .null, .null, .null, .null, .null, .null, .null])), (q0, .inl (d, 128, .inl z0))] H := hP
  have hD : va_D A [(h, .inr (0, [.null, .null, .int (nI 0), .int (nI 0), .int (nI 0), .int (nI 0), .null, .null, .null, .null, .null, .null, .null, .null, .null, .null, .null, .null])), (q0, .inl (d, 128, .inl z0))] := hD
  refine va_putF (D := D) (ci := 0) (v := .ref q0) (ty := .array .int) (C := RX0) (T := TX0) (N := 18) hx hb hts in_X0 tyX0 tyX0_ok nmX0 hown hK hP hD hS 0 rfl rfl 0 (by decide) (hts _ q39) (fun _ h9 => h9) rfl hin rfl (by decide +kernel) rfl rfl (Nat.le_of_ble_eq_true rfl) dX0_init_10 (fun H locs hP hD hS => ?_)
  have hP : va_P D vwCl [(h, .inr (0, [.ref q0, .null, .int (nI 0), .int (nI 0), .int (nI 0), .int (nI 0), .null, .null, .null, .null, .null, .null, .null, .null, .null, .null, .null, .null])), (q0, .inl (d, 128, .inl z0))] H := hP
  have hD : va_D A [(h, .inr (0, [.ref q0, .null, .int (nI 0), .int (nI 0), .int (nI 0), .int (nI 0), .null, .null, .null, .null, .null, .null, .null, .null, .null, .null, .null, .null])), (q0, .inl (d, 128, .inl z0))] := hD
  refine lv_aload_n hx hb dX0_init_13 rfl (hl.at (i := 0) rfl) ?_
  refine lv_bipush (v := nI 18) hx hb dX0_init_14 (by decide) ?_
  refine va_newa (atype := .int) (ty := .int) (N' := 18) (a0 := (18, .inl z0)) hx hb (hts _ q94) rfl hK hP hD hS hA (fun cA => rfl) (nI_pos (by decide)) (nI_clamp (by decide)) (by decide) (Nat.le_of_ble_eq_true rfl) (Nat.le_of_ble_eq_true rfl) dX0_init_16 (fun q1 cA H hK hP hD hS => ?_)
  refine W.widen (k := 2) (n := 146) (Nat.le_of_ble_eq_true rfl) (Nat.le_of_ble_eq_true rfl) ?_
  have e9 : d = cA := (va_K_one hK).symm
  subst e9
  have hK := hK.sub (tys' := [(d, .int)]) [0] rfl
  have hP : va_P D vwCl [(h, .inr (0, [.ref q0, .null, .int (nI 0), .int (nI 0), .int (nI 0), .int (nI 0), .null, .null, .null, .null, .null, .null, .null, .null, .null, .null, .null, .null])), (q0, .inl (d, 128, .inl z0)), (q1, .inl (d, 18, .inl z0))] H := hP
  have hD : va_D A [(h, .inr (0, [.ref q0, .null, .int (nI 0), .int (nI 0), .int (nI 0), .int (nI 0), .null, .null, .null, .null, .null, .null, .null, .null, .null, .null, .null, .null])), (q0, .inl (d, 128, .inl z0)), (q1, .inl (d, 18, .inl z0))] := hD
  refine va_putF (D := D) (ci := 0) (v := .ref q1) (ty := .array .int) (C := RX0) (T := TX0) (N := 18) hx hb hts in_X0 tyX0 tyX0_ok nmX0 hown hK hP hD hS 0 rfl rfl 1 (by decide) (hts _ q40) (fun _ h9 => h9) rfl hin rfl (by decide +kernel) rfl rfl (Nat.le_of_ble_eq_true rfl) dX0_init_18 (fun H locs hP hD hS => ?_)
  have hP : va_P D vwCl [(h, .inr (0, [.ref q0, .ref q1, .int (nI 0), .int (nI 0), .int (nI 0), .int (nI 0), .null, .null, .null, .null, .null, .null, .null, .null, .null, .null, .null, .null])), (q0, .inl (d, 128, .inl z0)), (q1, .inl (d, 18, .inl z0))] H := hP
  have hD : va_D A [(h, .inr (0, [.ref q0, .ref q1, .int (nI 0), .int (nI 0), .int (nI 0), .int (nI 0), .null, .null, .null, .null, .null, .null, .null, .null, .null, .null, .null, .null])), (q0, .inl (d, 128, .inl z0)), (q1, .inl (d, 18, .inl z0))] := hD
  refine lv_aload_n hx hb dX0_init_21 rfl (hl.at (i := 0) rfl) ?_
  refine lv_bipush (v := nI 64) hx hb dX0_init_22 (by decide) ?_
  refine va_newa (atype := .int) (ty := .int) (N' := 64) (a0 := (64, .inl z0)) hx hb (hts _ q94) rfl hK hP hD hS hA (fun cA => rfl) (nI_pos (by decide)) (nI_clamp (by decide)) (by decide) (Nat.le_of_ble_eq_true rfl) (Nat.le_of_ble_eq_true rfl) dX0_init_24 (fun q6 cA H hK hP hD hS => ?_)
  refine W.widen (k := 3) (n := 210) (Nat.le_of_ble_eq_true rfl) (Nat.le_of_ble_eq_true rfl) ?_
  have e9 : d = cA := (va_K_one hK).symm
  subst e9
  have hK := hK.sub (tys' := [(d, .int)]) [0] rfl
  have hP : va_P D vwCl [(h, .inr (0, [.ref q0, .ref q1, .int (nI 0), .int (nI 0), .int (nI 0), .int (nI 0), .null, .null, .null, .null, .null, .null, .null, .null, .null, .null, .null, .null])), (q0, .inl (d, 128, .inl z0)), (q1, .inl (d, 18, .inl z0)), (q6, .inl (d, 64, .inl z0))] H := hP
  have hD : va_D A [(h, .inr (0, [.ref q0, .ref q1, .int (nI 0), .int (nI 0), .int (nI 0), .int (nI 0), .null, .null, .null, .null, .null, .null, .null, .null, .null, .null, .null, .null])), (q0, .inl (d, 128, .inl z0)), (q1, .inl (d, 18, .inl z0)), (q6, .inl (d, 64, .inl z0))] := hD
  refine va_putF (D := D) (ci := 0) (v := .ref q6) (ty := .array .int) (C := RX0) (T := TX0) (N := 18) hx hb hts in_X0 tyX0 tyX0_ok nmX0 hown hK hP hD hS 0 rfl rfl 6 (by decide) (hts _ q45) (fun _ h9 => h9) rfl hin rfl (by decide +kernel) rfl rfl (Nat.le_of_ble_eq_true rfl) dX0_init_26 (fun H locs hP hD hS => ?_)
  have hP : va_P D vwCl [(h, .inr (0, [.ref q0, .ref q1, .int (nI 0), .int (nI 0), .int (nI 0), .int (nI 0), .ref q6, .null, .null, .null, .null, .null, .null, .null, .null, .null, .null, .null])), (q0, .inl (d, 128, .inl z0)), (q1, .inl (d, 18, .inl z0)), (q6, .inl (d, 64, .inl z0))] H := hP
  have hD : va_D A [(h, .inr (0, [.ref q0, .ref q1, .int (nI 0), .int (nI 0), .int (nI 0), .int (nI 0), .ref q6, .null, .null, .null, .null, .null, .null, .null, .null, .null, .null, .null])), (q0, .inl (d, 128, .inl z0)), (q1, .inl (d, 18, .inl z0)), (q6, .inl (d, 64, .inl z0))] := hD
  refine lv_aload_n hx hb dX0_init_29 rfl (hl.at (i := 0) rfl) ?_
  refine lv_bipush (v := nI 16) hx hb dX0_init_30 (by decide) ?_
  refine va_newa (atype := .int) (ty := .int) (N' := 16) (a0 := (16, .inl z0)) hx hb (hts _ q94) rfl hK hP hD hS hA (fun cA => rfl) (nI_pos (by decide)) (nI_clamp (by decide)) (by decide) (Nat.le_of_ble_eq_true rfl) (Nat.le_of_ble_eq_true rfl) dX0_init_32 (fun q7 cA H hK hP hD hS => ?_)
  refine W.widen (k := 4) (n := 226) (Nat.le_of_ble_eq_true rfl) (Nat.le_of_ble_eq_true rfl) ?_
  have e9 : d = cA := (va_K_one hK).symm
  subst e9
  have hK := hK.sub (tys' := [(d, .int)]) [0] rfl
  have hP : va_P D vwCl [(h, .inr (0, [.ref q0, .ref q1, .int (nI 0), .int (nI 0), .int (nI 0), .int (nI 0), .ref q6, .null, .null, .null, .null, .null, .null, .null, .null, .null, .null, .null])), (q0, .inl (d, 128, .inl z0)), (q1, .inl (d, 18, .inl z0)), (q6, .inl (d, 64, .inl z0)), (q7, .inl (d, 16, .inl z0))] H := hP
  have hD : va_D A [(h, .inr (0, [.ref q0, .ref q1, .int (nI 0), .int (nI 0), .int (nI 0), .int (nI 0), .ref q6, .null, .null, .null, .null, .null, .null, .null, .null, .null, .null, .null])), (q0, .inl (d, 128, .inl z0)), (q1, .inl (d, 18, .inl z0)), (q6, .inl (d, 64, .inl z0)), (q7, .inl (d, 16, .inl z0))] := hD
  refine va_putF (D := D) (ci := 0) (v := .ref q7) (ty := .array .int) (C := RX0) (T := TX0) (N := 18) hx hb hts in_X0 tyX0 tyX0_ok nmX0 hown hK hP hD hS 0 rfl rfl 7 (by decide) (hts _ q46) (fun _ h9 => h9) rfl hin rfl (by decide +kernel) rfl rfl (Nat.le_of_ble_eq_true rfl) dX0_init_34 (fun H locs hP hD hS => ?_)
  have hP : va_P D vwCl [(h, .inr (0, [.ref q0, .ref q1, .int (nI 0), .int (nI 0), .int (nI 0), .int (nI 0), .ref q6, .ref q7, .null, .null, .null, .null, .null, .null, .null, .null, .null, .null])), (q0, .inl (d, 128, .inl z0)), (q1, .inl (d, 18, .inl z0)), (q6, .inl (d, 64, .inl z0)), (q7, .inl (d, 16, .inl z0))] H := hP
  have hD : va_D A [(h, .inr (0, [.ref q0, .ref q1, .int (nI 0), .int (nI 0), .int (nI 0), .int (nI 0), .ref q6, .ref q7, .null, .null, .null, .null, .null, .null, .null, .null, .null, .null])), (q0, .inl (d, 128, .inl z0)), (q1, .inl (d, 18, .inl z0)), (q6, .inl (d, 64, .inl z0)), (q7, .inl (d, 16, .inl z0))] := hD
  refine lv_aload_n hx hb dX0_init_37 rfl (hl.at (i := 0) rfl) ?_
  refine lv_bipush (v := nI 16) hx hb dX0_init_38 (by decide) ?_
  refine va_newa (atype := .int) (ty := .int) (N' := 16) (a0 := (16, .inl z0)) hx hb (hts _ q94) rfl hK hP hD hS hA (fun cA => rfl) (nI_pos (by decide)) (nI_clamp (by decide)) (by decide) (Nat.le_of_ble_eq_true rfl) (Nat.le_of_ble_eq_true rfl) dX0_init_40 (fun q8 cA H hK hP hD hS => ?_)
  refine W.widen (k := 5) (n := 242) (Nat.le_of_ble_eq_true rfl) (Nat.le_of_ble_eq_true rfl) ?_
  have e9 : d = cA := (va_K_one hK).symm
  subst e9
  have hK := hK.sub (tys' := [(d, .int)]) [0] rfl
  have hP : va_P D vwCl [(h, .inr (0, [.ref q0, .ref q1, .int (nI 0), .int (nI 0), .int (nI 0), .int (nI 0), .ref q6, .ref q7, .null, .null, .null, .null, .null, .null, .null, .null, .null, .null])), (q0, .inl (d, 128, .inl z0)), (q1, .inl (d, 18, .inl z0)), (q6, .inl (d, 64, .inl z0)), (q7, .inl (d, 16, .inl z0)), (q8, .inl (d, 16, .inl z0))] H := hP
  have hD : va_D A [(h, .inr (0, [.ref q0, .ref q1, .int (nI 0), .int (nI 0), .int (nI 0), .int (nI 0), .ref q6, .ref q7, .null, .null, .null, .null, .null, .null, .null, .null, .null, .null])), (q0, .inl (d, 128, .inl z0)), (q1, .inl (d, 18, .inl z0)), (q6, .inl (d, 64, .inl z0)), (q7, .inl (d, 16, .inl z0)), (q8, .inl (d, 16, .inl z0))] := hD
  refine va_putF (D := D) (ci := 0) (v := .ref q8) (ty := .array .int) (C := RX0) (T := TX0) (N := 18) hx hb hts in_X0 tyX0 tyX0_ok nmX0 hown hK hP hD hS 0 rfl rfl 8 (by decide) (hts _ q47) (fun _ h9 => h9) rfl hin rfl (by decide +kernel) rfl rfl (Nat.le_of_ble_eq_true rfl) dX0_init_42 (fun H locs hP hD hS => ?_)
  have hP : va_P D vwCl [(h, .inr (0, [.ref q0, .ref q1, .int (nI 0), .int (nI 0), .int (nI 0), .int (nI 0), .ref q6, .ref q7, .ref q8, .null, .null, .null, .null, .null, .null, .null, .null, .null])), (q0, .inl (d, 128, .inl z0)), (q1, .inl (d, 18, .inl z0)), (q6, .inl (d, 64, .inl z0)), (q7, .inl (d, 16, .inl z0)), (q8, .inl (d, 16, .inl z0))] H := hP
  have hD : va_D A [(h, .inr (0, [.ref q0, .ref q1, .int (nI 0), .int (nI 0), .int (nI 0), .int (nI 0), .ref q6, .ref q7, .ref q8, .null, .null, .null, .null, .null, .null, .null, .null, .null])), (q0, .inl (d, 128, .inl z0)), (q1, .inl (d, 18, .inl z0)), (q6, .inl (d, 64, .inl z0)), (q7, .inl (d, 16, .inl z0)), (q8, .inl (d, 16, .inl z0))] := hD
  refine lv_aload_n hx hb dX0_init_45 rfl (hl.at (i := 0) rfl) ?_
  refine lv_bipush (v := nI 16) hx hb dX0_init_46 (by decide) ?_
  refine va_newa (atype := .int) (ty := .int) (N' := 16) (a0 := (16, .inl z0)) hx hb (hts _ q94) rfl hK hP hD hS hA (fun cA => rfl) (nI_pos (by decide)) (nI_clamp (by decide)) (by decide) (Nat.le_of_ble_eq_true rfl) (Nat.le_of_ble_eq_true rfl) dX0_init_48 (fun q9 cA H hK hP hD hS => ?_)
  refine W.widen (k := 6) (n := 258) (Nat.le_of_ble_eq_true rfl) (Nat.le_of_ble_eq_true rfl) ?_
  have e9 : d = cA := (va_K_one hK).symm
  subst e9
  have hK := hK.sub (tys' := [(d, .int)]) [0] rfl
  have hP : va_P D vwCl [(h, .inr (0, [.ref q0, .ref q1, .int (nI 0), .int (nI 0), .int (nI 0), .int (nI 0), .ref q6, .ref q7, .ref q8, .null, .null, .null, .null, .null, .null, .null, .null, .null])), (q0, .inl (d, 128, .inl z0)), (q1, .inl (d, 18, .inl z0)), (q6, .inl (d, 64, .inl z0)), (q7, .inl (d, 16, .inl z0)), (q8, .inl (d, 16, .inl z0)), (q9, .inl (d, 16, .inl z0))] H := hP
  have hD : va_D A [(h, .inr (0, [.ref q0, .ref q1, .int (nI 0), .int (nI 0), .int (nI 0), .int (nI 0), .ref q6, .ref q7, .ref q8, .null, .null, .null, .null, .null, .null, .null, .null, .null])), (q0, .inl (d, 128, .inl z0)), (q1, .inl (d, 18, .inl z0)), (q6, .inl (d, 64, .inl z0)), (q7, .inl (d, 16, .inl z0)), (q8, .inl (d, 16, .inl z0)), (q9, .inl (d, 16, .inl z0))] := hD
  refine va_putF (D := D) (ci := 0) (v := .ref q9) (ty := .array .int) (C := RX0) (T := TX0) (N := 18) hx hb hts in_X0 tyX0 tyX0_ok nmX0 hown hK hP hD hS 0 rfl rfl 9 (by decide) (hts _ q48) (fun _ h9 => h9) rfl hin rfl (by decide +kernel) rfl rfl (Nat.le_of_ble_eq_true rfl) dX0_init_50 (fun H locs hP hD hS => ?_)
  have hP : va_P D vwCl [(h, .inr (0, [.ref q0, .ref q1, .int (nI 0), .int (nI 0), .int (nI 0), .int (nI 0), .ref q6, .ref q7, .ref q8, .ref q9, .null, .null, .null, .null, .null, .null, .null, .null])), (q0, .inl (d, 128, .inl z0)), (q1, .inl (d, 18, .inl z0)), (q6, .inl (d, 64, .inl z0)), (q7, .inl (d, 16, .inl z0)), (q8, .inl (d, 16, .inl z0)), (q9, .inl (d, 16, .inl z0))] H := hP
  have hD : va_D A [(h, .inr (0, [.ref q0, .ref q1, .int (nI 0), .int (nI 0), .int (nI 0), .int (nI 0), .ref q6, .ref q7, .ref q8, .ref q9, .null, .null, .null, .null, .null, .null, .null, .null])), (q0, .inl (d, 128, .inl z0)), (q1, .inl (d, 18, .inl z0)), (q6, .inl (d, 64, .inl z0)), (q7, .inl (d, 16, .inl z0)), (q8, .inl (d, 16, .inl z0)), (q9, .inl (d, 16, .inl z0))] := hD
  refine lv_aload_n hx hb dX0_init_53 rfl (hl.at (i := 0) rfl) ?_
  refine lv_bipush (v := nI 16) hx hb dX0_init_54 (by decide) ?_
  refine va_newa (atype := .int) (ty := .int) (N' := 16) (a0 := (16, .inl z0)) hx hb (hts _ q94) rfl hK hP hD hS hA (fun cA => rfl) (nI_pos (by decide)) (nI_clamp (by decide)) (by decide) (Nat.le_of_ble_eq_true rfl) (Nat.le_of_ble_eq_true rfl) dX0_init_56 (fun q10 cA H hK hP hD hS => ?_)
  refine W.widen (k := 7) (n := 274) (Nat.le_of_ble_eq_true rfl) (Nat.le_of_ble_eq_true rfl) ?_
  have e9 : d = cA := (va_K_one hK).symm
  subst e9
  have hK := hK.sub (tys' := [(d, .int)]) [0] rfl
  have hP : va_P D vwCl [(h, .inr (0, [.ref q0, .ref q1, .int (nI 0), .int (nI 0), .int (nI 0), .int (nI 0), .ref q6, .ref q7, .ref q8, .ref q9, .null, .null, .null, .null, .null, .null, .null, .null])), (q0, .inl (d, 128, .inl z0)), (q1, .inl (d, 18, .inl z0)), (q6, .inl (d, 64, .inl z0)), (q7, .inl (d, 16, .inl z0)), (q8, .inl (d, 16, .inl z0)), (q9, .inl (d, 16, .inl z0)), (q10, .inl (d, 16, .inl z0))] H := hP
  have hD : va_D A [(h, .inr (0, [.ref q0, .ref q1, .int (nI 0), .int (nI 0), .int (nI 0), .int (nI 0), .ref q6, .ref q7, .ref q8, .ref q9, .null, .null, .null, .null, .null, .null, .null, .null])), (q0, .inl (d, 128, .inl z0)), (q1, .inl (d, 18, .inl z0)), (q6, .inl (d, 64, .inl z0)), (q7, .inl (d, 16, .inl z0)), (q8, .inl (d, 16, .inl z0)), (q9, .inl (d, 16, .inl z0)), (q10, .inl (d, 16, .inl z0))] := hD
  refine va_putF (D := D) (ci := 0) (v := .ref q10) (ty := .array .int) (C := RX0) (T := TX0) (N := 18) hx hb hts in_X0 tyX0 tyX0_ok nmX0 hown hK hP hD hS 0 rfl rfl 10 (by decide) (hts _ q49) (fun _ h9 => h9) rfl hin rfl (by decide +kernel) rfl rfl (Nat.le_of_ble_eq_true rfl) dX0_init_58 (fun H locs hP hD hS => ?_)
  have hP : va_P D vwCl [(h, .inr (0, [.ref q0, .ref q1, .int (nI 0), .int (nI 0), .int (nI 0), .int (nI 0), .ref q6, .ref q7, .ref q8, .ref q9, .ref q10, .null, .null, .null, .null, .null, .null, .null])), (q0, .inl (d, 128, .inl z0)), (q1, .inl (d, 18, .inl z0)), (q6, .inl (d, 64, .inl z0)), (q7, .inl (d, 16, .inl z0)), (q8, .inl (d, 16, .inl z0)), (q9, .inl (d, 16, .inl z0)), (q10, .inl (d, 16, .inl z0))] H := hP
  have hD : va_D A [(h, .inr (0, [.ref q0, .ref q1, .int (nI 0), .int (nI 0), .int (nI 0), .int (nI 0), .ref q6, .ref q7, .ref q8, .ref q9, .ref q10, .null, .null, .null, .null, .null, .null, .null])), (q0, .inl (d, 128, .inl z0)), (q1, .inl (d, 18, .inl z0)), (q6, .inl (d, 64, .inl z0)), (q7, .inl (d, 16, .inl z0)), (q8, .inl (d, 16, .inl z0)), (q9, .inl (d, 16, .inl z0)), (q10, .inl (d, 16, .inl z0))] := hD
  refine lv_aload_n hx hb dX0_init_61 rfl (hl.at (i := 0) rfl) ?_
  refine lv_sipush (v := nI 256) hx hb dX0_init_62 (by decide) ?_
  refine va_newa (atype := .int) (ty := .int) (N' := 256) (a0 := (256, .inl z0)) hx hb (hts _ q94) rfl hK hP hD hS hA (fun cA => rfl) (nI_pos (by decide)) (nI_clamp (by decide)) (by decide) (Nat.le_of_ble_eq_true rfl) (Nat.le_of_ble_eq_true rfl) dX0_init_65 (fun q11 cA H hK hP hD hS => ?_)
  refine W.widen (k := 8) (n := 530) (Nat.le_of_ble_eq_true rfl) (Nat.le_of_ble_eq_true rfl) ?_
  have e9 : d = cA := (va_K_one hK).symm
  subst e9
  have hK := hK.sub (tys' := [(d, .int)]) [0] rfl
  have hP : va_P D vwCl [(h, .inr (0, [.ref q0, .ref q1, .int (nI 0), .int (nI 0), .int (nI 0), .int (nI 0), .ref q6, .ref q7, .ref q8, .ref q9, .ref q10, .null, .null, .null, .null, .null, .null, .null])), (q0, .inl (d, 128, .inl z0)), (q1, .inl (d, 18, .inl z0)), (q6, .inl (d, 64, .inl z0)), (q7, .inl (d, 16, .inl z0)), (q8, .inl (d, 16, .inl z0)), (q9, .inl (d, 16, .inl z0)), (q10, .inl (d, 16, .inl z0)), (q11, .inl (d, 256, .inl z0))] H := hP
  have hD : va_D A [(h, .inr (0, [.ref q0, .ref q1, .int (nI 0), .int (nI 0), .int (nI 0), .int (nI 0), .ref q6, .ref q7, .ref q8, .ref q9, .ref q10, .null, .null, .null, .null, .null, .null, .null])), (q0, .inl (d, 128, .inl z0)), (q1, .inl (d, 18, .inl z0)), (q6, .inl (d, 64, .inl z0)), (q7, .inl (d, 16, .inl z0)), (q8, .inl (d, 16, .inl z0)), (q9, .inl (d, 16, .inl z0)), (q10, .inl (d, 16, .inl z0)), (q11, .inl (d, 256, .inl z0))] := hD
  refine va_putF (D := D) (ci := 0) (v := .ref q11) (ty := .array .int) (C := RX0) (T := TX0) (N := 18) hx hb hts in_X0 tyX0 tyX0_ok nmX0 hown hK hP hD hS 0 rfl rfl 11 (by decide) (hts _ q50) (fun _ h9 => h9) rfl hin rfl (by decide +kernel) rfl rfl (Nat.le_of_ble_eq_true rfl) dX0_init_67 (fun H locs hP hD hS => ?_)
  have hP : va_P D vwCl [(h, .inr (0, [.ref q0, .ref q1, .int (nI 0), .int (nI 0), .int (nI 0), .int (nI 0), .ref q6, .ref q7, .ref q8, .ref q9, .ref q10, .ref q11, .null, .null, .null, .null, .null, .null])), (q0, .inl (d, 128, .inl z0)), (q1, .inl (d, 18, .inl z0)), (q6, .inl (d, 64, .inl z0)), (q7, .inl (d, 16, .inl z0)), (q8, .inl (d, 16, .inl z0)), (q9, .inl (d, 16, .inl z0)), (q10, .inl (d, 16, .inl z0)), (q11, .inl (d, 256, .inl z0))] H := hP
  have hD : va_D A [(h, .inr (0, [.ref q0, .ref q1, .int (nI 0), .int (nI 0), .int (nI 0), .int (nI 0), .ref q6, .ref q7, .ref q8, .ref q9, .ref q10, .ref q11, .null, .null, .null, .null, .null, .null])), (q0, .inl (d, 128, .inl z0)), (q1, .inl (d, 18, .inl z0)), (q6, .inl (d, 64, .inl z0)), (q7, .inl (d, 16, .inl z0)), (q8, .inl (d, 16, .inl z0)), (q9, .inl (d, 16, .inl z0)), (q10, .inl (d, 16, .inl z0)), (q11, .inl (d, 256, .inl z0))] := hD
  refine lv_aload_n hx hb dX0_init_70 rfl (hl.at (i := 0) rfl) ?_
  refine lv_sipush (v := nI 256) hx hb dX0_init_71 (by decide) ?_
  refine va_newa (atype := .int) (ty := .int) (N' := 256) (a0 := (256, .inl z0)) hx hb (hts _ q94) rfl hK hP hD hS hA (fun cA => rfl) (nI_pos (by decide)) (nI_clamp (by decide)) (by decide) (Nat.le_of_ble_eq_true rfl) (Nat.le_of_ble_eq_true rfl) dX0_init_74 (fun q12 cA H hK hP hD hS => ?_)
  refine W.widen (k := 9) (n := 786) (Nat.le_of_ble_eq_true rfl) (Nat.le_of_ble_eq_true rfl) ?_
  have e9 : d = cA := (va_K_one hK).symm
  subst e9
  have hK := hK.sub (tys' := [(d, .int)]) [0] rfl
  have hP : va_P D vwCl [(h, .inr (0, [.ref q0, .ref q1, .int (nI 0), .int (nI 0), .int (nI 0), .int (nI 0), .ref q6, .ref q7, .ref q8, .ref q9, .ref q10, .ref q11, .null, .null, .null, .null, .null, .null])), (q0, .inl (d, 128, .inl z0)), (q1, .inl (d, 18, .inl z0)), (q6, .inl (d, 64, .inl z0)), (q7, .inl (d, 16, .inl z0)), (q8, .inl (d, 16, .inl z0)), (q9, .inl (d, 16, .inl z0)), (q10, .inl (d, 16, .inl z0)), (q11, .inl (d, 256, .inl z0)), (q12, .inl (d, 256, .inl z0))] H := hP
  have hD : va_D A [(h, .inr (0, [.ref q0, .ref q1, .int (nI 0), .int (nI 0), .int (nI 0), .int (nI 0), .ref q6, .ref q7, .ref q8, .ref q9, .ref q10, .ref q11, .null, .null, .null, .null, .null, .null])), (q0, .inl (d, 128, .inl z0)), (q1, .inl (d, 18, .inl z0)), (q6, .inl (d, 64, .inl z0)), (q7, .inl (d, 16, .inl z0)), (q8, .inl (d, 16, .inl z0)), (q9, .inl (d, 16, .inl z0)), (q10, .inl (d, 16, .inl z0)), (q11, .inl (d, 256, .inl z0)), (q12, .inl (d, 256, .inl z0))] := hD
  refine va_putF (D := D) (ci := 0) (v := .ref q12) (ty := .array .int) (C := RX0) (T := TX0) (N := 18) hx hb hts in_X0 tyX0 tyX0_ok nmX0 hown hK hP hD hS 0 rfl rfl 12 (by decide) (hts _ q51) (fun _ h9 => h9) rfl hin rfl (by decide +kernel) rfl rfl (Nat.le_of_ble_eq_true rfl) dX0_init_76 (fun H locs hP hD hS => ?_)
  have hP : va_P D vwCl [(h, .inr (0, [.ref q0, .ref q1, .int (nI 0), .int (nI 0), .int (nI 0), .int (nI 0), .ref q6, .ref q7, .ref q8, .ref q9, .ref q10, .ref q11, .ref q12, .null, .null, .null, .null, .null])), (q0, .inl (d, 128, .inl z0)), (q1, .inl (d, 18, .inl z0)), (q6, .inl (d, 64, .inl z0)), (q7, .inl (d, 16, .inl z0)), (q8, .inl (d, 16, .inl z0)), (q9, .inl (d, 16, .inl z0)), (q10, .inl (d, 16, .inl z0)), (q11, .inl (d, 256, .inl z0)), (q12, .inl (d, 256, .inl z0))] H := hP
  have hD : va_D A [(h, .inr (0, [.ref q0, .ref q1, .int (nI 0), .int (nI 0), .int (nI 0), .int (nI 0), .ref q6, .ref q7, .ref q8, .ref q9, .ref q10, .ref q11, .ref q12, .null, .null, .null, .null, .null])), (q0, .inl (d, 128, .inl z0)), (q1, .inl (d, 18, .inl z0)), (q6, .inl (d, 64, .inl z0)), (q7, .inl (d, 16, .inl z0)), (q8, .inl (d, 16, .inl z0)), (q9, .inl (d, 16, .inl z0)), (q10, .inl (d, 16, .inl z0)), (q11, .inl (d, 256, .inl z0)), (q12, .inl (d, 256, .inl z0))] := hD
  refine lv_aload_n hx hb dX0_init_79 rfl (hl.at (i := 0) rfl) ?_
  refine lv_sipush (v := nI 256) hx hb dX0_init_80 (by decide) ?_
  refine va_newa (atype := .int) (ty := .int) (N' := 256) (a0 := (256, .inl z0)) hx hb (hts _ q94) rfl hK hP hD hS hA (fun cA => rfl) (nI_pos (by decide)) (nI_clamp (by decide)) (by decide) (Nat.le_of_ble_eq_true rfl) (Nat.le_of_ble_eq_true rfl) dX0_init_83 (fun q13 cA H hK hP hD hS => ?_)
  refine W.widen (k := 10) (n := 1042) (Nat.le_of_ble_eq_true rfl) (Nat.le_of_ble_eq_true rfl) ?_
  have e9 : d = cA := (va_K_one hK).symm
  subst e9
  have hK := hK.sub (tys' := [(d, .int)]) [0] rfl
  have hP : va_P D vwCl [(h, .inr (0, [.ref q0, .ref q1, .int (nI 0), .int (nI 0), .int (nI 0), .int (nI 0), .ref q6, .ref q7, .ref q8, .ref q9, .ref q10, .ref q11, .ref q12, .null, .null, .null, .null, .null])), (q0, .inl (d, 128, .inl z0)), (q1, .inl (d, 18, .inl z0)), (q6, .inl (d, 64, .inl z0)), (q7, .inl (d, 16, .inl z0)), (q8, .inl (d, 16, .inl z0)), (q9, .inl (d, 16, .inl z0)), (q10, .inl (d, 16, .inl z0)), (q11, .inl (d, 256, .inl z0)), (q12, .inl (d, 256, .inl z0)), (q13, .inl (d, 256, .inl z0))] H := hP
  have hD : va_D A [(h, .inr (0, [.ref q0, .ref q1, .int (nI 0), .int (nI 0), .int (nI 0), .int (nI 0), .ref q6, .ref q7, .ref q8, .ref q9, .ref q10, .ref q11, .ref q12, .null, .null, .null, .null, .null])), (q0, .inl (d, 128, .inl z0)), (q1, .inl (d, 18, .inl z0)), (q6, .inl (d, 64, .inl z0)), (q7, .inl (d, 16, .inl z0)), (q8, .inl (d, 16, .inl z0)), (q9, .inl (d, 16, .inl z0)), (q10, .inl (d, 16, .inl z0)), (q11, .inl (d, 256, .inl z0)), (q12, .inl (d, 256, .inl z0)), (q13, .inl (d, 256, .inl z0))] := hD
  refine va_putF (D := D) (ci := 0) (v := .ref q13) (ty := .array .int) (C := RX0) (T := TX0) (N := 18) hx hb hts in_X0 tyX0 tyX0_ok nmX0 hown hK hP hD hS 0 rfl rfl 13 (by decide) (hts _ q52) (fun _ h9 => h9) rfl hin rfl (by decide +kernel) rfl rfl (Nat.le_of_ble_eq_true rfl) dX0_init_85 (fun H locs hP hD hS => ?_)
  have hP : va_P D vwCl [(h, .inr (0, [.ref q0, .ref q1, .int (nI 0), .int (nI 0), .int (nI 0), .int (nI 0), .ref q6, .ref q7, .ref q8, .ref q9, .ref q10, .ref q11, .ref q12, .ref q13, .null, .null, .null, .null])), (q0, .inl (d, 128, .inl z0)), (q1, .inl (d, 18, .inl z0)), (q6, .inl (d, 64, .inl z0)), (q7, .inl (d, 16, .inl z0)), (q8, .inl (d, 16, .inl z0)), (q9, .inl (d, 16, .inl z0)), (q10, .inl (d, 16, .inl z0)), (q11, .inl (d, 256, .inl z0)), (q12, .inl (d, 256, .inl z0)), (q13, .inl (d, 256, .inl z0))] H := hP
  have hD : va_D A [(h, .inr (0, [.ref q0, .ref q1, .int (nI 0), .int (nI 0), .int (nI 0), .int (nI 0), .ref q6, .ref q7, .ref q8, .ref q9, .ref q10, .ref q11, .ref q12, .ref q13, .null, .null, .null, .null])), (q0, .inl (d, 128, .inl z0)), (q1, .inl (d, 18, .inl z0)), (q6, .inl (d, 64, .inl z0)), (q7, .inl (d, 16, .inl z0)), (q8, .inl (d, 16, .inl z0)), (q9, .inl (d, 16, .inl z0)), (q10, .inl (d, 16, .inl z0)), (q11, .inl (d, 256, .inl z0)), (q12, .inl (d, 256, .inl z0)), (q13, .inl (d, 256, .inl z0))] := hD
  refine lv_aload_n hx hb dX0_init_88 rfl (hl.at (i := 0) rfl) ?_
  refine lv_bipush (v := nI 16) hx hb dX0_init_89 (by decide) ?_
  refine va_newa (atype := .int) (ty := .int) (N' := 16) (a0 := (16, .inl z0)) hx hb (hts _ q94) rfl hK hP hD hS hA (fun cA => rfl) (nI_pos (by decide)) (nI_clamp (by decide)) (by decide) (Nat.le_of_ble_eq_true rfl) (Nat.le_of_ble_eq_true rfl) dX0_init_91 (fun q14 cA H hK hP hD hS => ?_)
  refine W.widen (k := 11) (n := 1058) (Nat.le_of_ble_eq_true rfl) (Nat.le_of_ble_eq_true rfl) ?_
  have e9 : d = cA := (va_K_one hK).symm
  subst e9
  have hK := hK.sub (tys' := [(d, .int)]) [0] rfl
  have hP : va_P D vwCl [(h, .inr (0, [.ref q0, .ref q1, .int (nI 0), .int (nI 0), .int (nI 0), .int (nI 0), .ref q6, .ref q7, .ref q8, .ref q9, .ref q10, .ref q11, .ref q12, .ref q13, .null, .null, .null, .null])), (q0, .inl (d, 128, .inl z0)), (q1, .inl (d, 18, .inl z0)), (q6, .inl (d, 64, .inl z0)), (q7, .inl (d, 16, .inl z0)), (q8, .inl (d, 16, .inl z0)), (q9, .inl (d, 16, .inl z0)), (q10, .inl (d, 16, .inl z0)), (q11, .inl (d, 256, .inl z0)), (q12, .inl (d, 256, .inl z0)), (q13, .inl (d, 256, .inl z0)), (q14, .inl (d, 16, .inl z0))] H := hP
  have hD : va_D A [(h, .inr (0, [.ref q0, .ref q1, .int (nI 0), .int (nI 0), .int (nI 0), .int (nI 0), .ref q6, .ref q7, .ref q8, .ref q9, .ref q10, .ref q11, .ref q12, .ref q13, .null, .null, .null, .null])), (q0, .inl (d, 128, .inl z0)), (q1, .inl (d, 18, .inl z0)), (q6, .inl (d, 64, .inl z0)), (q7, .inl (d, 16, .inl z0)), (q8, .inl (d, 16, .inl z0)), (q9, .inl (d, 16, .inl z0)), (q10, .inl (d, 16, .inl z0)), (q11, .inl (d, 256, .inl z0)), (q12, .inl (d, 256, .inl z0)), (q13, .inl (d, 256, .inl z0)), (q14, .inl (d, 16, .inl z0))] := hD
  refine va_putF (D := D) (ci := 0) (v := .ref q14) (ty := .array .int) (C := RX0) (T := TX0) (N := 18) hx hb hts in_X0 tyX0 tyX0_ok nmX0 hown hK hP hD hS 0 rfl rfl 14 (by decide) (hts _ q53) (fun _ h9 => h9) rfl hin rfl (by decide +kernel) rfl rfl (Nat.le_of_ble_eq_true rfl) dX0_init_93 (fun H locs hP hD hS => ?_)
  have hP : va_P D vwCl [(h, .inr (0, [.ref q0, .ref q1, .int (nI 0), .int (nI 0), .int (nI 0), .int (nI 0), .ref q6, .ref q7, .ref q8, .ref q9, .ref q10, .ref q11, .ref q12, .ref q13, .ref q14, .null, .null, .null])), (q0, .inl (d, 128, .inl z0)), (q1, .inl (d, 18, .inl z0)), (q6, .inl (d, 64, .inl z0)), (q7, .inl (d, 16, .inl z0)), (q8, .inl (d, 16, .inl z0)), (q9, .inl (d, 16, .inl z0)), (q10, .inl (d, 16, .inl z0)), (q11, .inl (d, 256, .inl z0)), (q12, .inl (d, 256, .inl z0)), (q13, .inl (d, 256, .inl z0)), (q14, .inl (d, 16, .inl z0))] H := hP
  have hD : va_D A [(h, .inr (0, [.ref q0, .ref q1, .int (nI 0), .int (nI 0), .int (nI 0), .int (nI 0), .ref q6, .ref q7, .ref q8, .ref q9, .ref q10, .ref q11, .ref q12, .ref q13, .ref q14, .null, .null, .null])), (q0, .inl (d, 128, .inl z0)), (q1, .inl (d, 18, .inl z0)), (q6, .inl (d, 64, .inl z0)), (q7, .inl (d, 16, .inl z0)), (q8, .inl (d, 16, .inl z0)), (q9, .inl (d, 16, .inl z0)), (q10, .inl (d, 16, .inl z0)), (q11, .inl (d, 256, .inl z0)), (q12, .inl (d, 256, .inl z0)), (q13, .inl (d, 256, .inl z0)), (q14, .inl (d, 16, .inl z0))] := hD
  refine lv_aload_n hx hb dX0_init_96 rfl (hl.at (i := 0) rfl) ?_
  refine lv_bipush (v := nI 16) hx hb dX0_init_97 (by decide) ?_
  refine va_newa (atype := .int) (ty := .int) (N' := 16) (a0 := (16, .inl z0)) hx hb (hts _ q94) rfl hK hP hD hS hA (fun cA => rfl) (nI_pos (by decide)) (nI_clamp (by decide)) (by decide) (Nat.le_of_ble_eq_true rfl) (Nat.le_of_ble_eq_true rfl) dX0_init_99 (fun q15 cA H hK hP hD hS => ?_)
  refine W.widen (k := 12) (n := 1074) (Nat.le_of_ble_eq_true rfl) (Nat.le_of_ble_eq_true rfl) ?_
  have e9 : d = cA := (va_K_one hK).symm
  subst e9
  have hK := hK.sub (tys' := [(d, .int)]) [0] rfl
  have hP : va_P D vwCl [(h, .inr (0, [.ref q0, .ref q1, .int (nI 0), .int (nI 0), .int (nI 0), .int (nI 0), .ref q6, .ref q7, .ref q8, .ref q9, .ref q10, .ref q11, .ref q12, .ref q13, .ref q14, .null, .null, .null])), (q0, .inl (d, 128, .inl z0)), (q1, .inl (d, 18, .inl z0)), (q6, .inl (d, 64, .inl z0)), (q7, .inl (d, 16, .inl z0)), (q8, .inl (d, 16, .inl z0)), (q9, .inl (d, 16, .inl z0)), (q10, .inl (d, 16, .inl z0)), (q11, .inl (d, 256, .inl z0)), (q12, .inl (d, 256, .inl z0)), (q13, .inl (d, 256, .inl z0)), (q14, .inl (d, 16, .inl z0)), (q15, .inl (d, 16, .inl z0))] H := hP
  have hD : va_D A [(h, .inr (0, [.ref q0, .ref q1, .int (nI 0), .int (nI 0), .int (nI 0), .int (nI 0), .ref q6, .ref q7, .ref q8, .ref q9, .ref q10, .ref q11, .ref q12, .ref q13, .ref q14, .null, .null, .null])), (q0, .inl (d, 128, .inl z0)), (q1, .inl (d, 18, .inl z0)), (q6, .inl (d, 64, .inl z0)), (q7, .inl (d, 16, .inl z0)), (q8, .inl (d, 16, .inl z0)), (q9, .inl (d, 16, .inl z0)), (q10, .inl (d, 16, .inl z0)), (q11, .inl (d, 256, .inl z0)), (q12, .inl (d, 256, .inl z0)), (q13, .inl (d, 256, .inl z0)), (q14, .inl (d, 16, .inl z0)), (q15, .inl (d, 16, .inl z0))] := hD
  refine va_putF (D := D) (ci := 0) (v := .ref q15) (ty := .array .int) (C := RX0) (T := TX0) (N := 18) hx hb hts in_X0 tyX0 tyX0_ok nmX0 hown hK hP hD hS 0 rfl rfl 15 (by decide) (hts _ q54) (fun _ h9 => h9) rfl hin rfl (by decide +kernel) rfl rfl (Nat.le_of_ble_eq_true rfl) dX0_init_101 (fun H locs hP hD hS => ?_)
  have hP : va_P D vwCl [(h, .inr (0, [.ref q0, .ref q1, .int (nI 0), .int (nI 0), .int (nI 0), .int (nI 0), .ref q6, .ref q7, .ref q8, .ref q9, .ref q10, .ref q11, .ref q12, .ref q13, .ref q14, .ref q15, .null, .null])), (q0, .inl (d, 128, .inl z0)), (q1, .inl (d, 18, .inl z0)), (q6, .inl (d, 64, .inl z0)), (q7, .inl (d, 16, .inl z0)), (q8, .inl (d, 16, .inl z0)), (q9, .inl (d, 16, .inl z0)), (q10, .inl (d, 16, .inl z0)), (q11, .inl (d, 256, .inl z0)), (q12, .inl (d, 256, .inl z0)), (q13, .inl (d, 256, .inl z0)), (q14, .inl (d, 16, .inl z0)), (q15, .inl (d, 16, .inl z0))] H := hP
  have hD : va_D A [(h, .inr (0, [.ref q0, .ref q1, .int (nI 0), .int (nI 0), .int (nI 0), .int (nI 0), .ref q6, .ref q7, .ref q8, .ref q9, .ref q10, .ref q11, .ref q12, .ref q13, .ref q14, .ref q15, .null, .null])), (q0, .inl (d, 128, .inl z0)), (q1, .inl (d, 18, .inl z0)), (q6, .inl (d, 64, .inl z0)), (q7, .inl (d, 16, .inl z0)), (q8, .inl (d, 16, .inl z0)), (q9, .inl (d, 16, .inl z0)), (q10, .inl (d, 16, .inl z0)), (q11, .inl (d, 256, .inl z0)), (q12, .inl (d, 256, .inl z0)), (q13, .inl (d, 256, .inl z0)), (q14, .inl (d, 16, .inl z0)), (q15, .inl (d, 16, .inl z0))] := hD
  refine lv_aload_n hx hb dX0_init_104 rfl (hl.at (i := 0) rfl) ?_
  refine lv_bipush (v := nI 16) hx hb dX0_init_105 (by decide) ?_
  refine va_newa (atype := .int) (ty := .int) (N' := 16) (a0 := (16, .inl z0)) hx hb (hts _ q94) rfl hK hP hD hS hA (fun cA => rfl) (nI_pos (by decide)) (nI_clamp (by decide)) (by decide) (Nat.le_of_ble_eq_true rfl) (Nat.le_of_ble_eq_true rfl) dX0_init_107 (fun q16 cA H hK hP hD hS => ?_)
  refine W.widen (k := 13) (n := 1090) (Nat.le_of_ble_eq_true rfl) (Nat.le_of_ble_eq_true rfl) ?_
  have e9 : d = cA := (va_K_one hK).symm
  subst e9
  have hK := hK.sub (tys' := [(d, .int)]) [0] rfl
  have hP : va_P D vwCl [(h, .inr (0, [.ref q0, .ref q1, .int (nI 0), .int (nI 0), .int (nI 0), .int (nI 0), .ref q6, .ref q7, .ref q8, .ref q9, .ref q10, .ref q11, .ref q12, .ref q13, .ref q14, .ref q15, .null, .null])), (q0, .inl (d, 128, .inl z0)), (q1, .inl (d, 18, .inl z0)), (q6, .inl (d, 64, .inl z0)), (q7, .inl (d, 16, .inl z0)), (q8, .inl (d, 16, .inl z0)), (q9, .inl (d, 16, .inl z0)), (q10, .inl (d, 16, .inl z0)), (q11, .inl (d, 256, .inl z0)), (q12, .inl (d, 256, .inl z0)), (q13, .inl (d, 256, .inl z0)), (q14, .inl (d, 16, .inl z0)), (q15, .inl (d, 16, .inl z0)), (q16, .inl (d, 16, .inl z0))] H := hP
  have hD : va_D A [(h, .inr (0, [.ref q0, .ref q1, .int (nI 0), .int (nI 0), .int (nI 0), .int (nI 0), .ref q6, .ref q7, .ref q8, .ref q9, .ref q10, .ref q11, .ref q12, .ref q13, .ref q14, .ref q15, .null, .null])), (q0, .inl (d, 128, .inl z0)), (q1, .inl (d, 18, .inl z0)), (q6, .inl (d, 64, .inl z0)), (q7, .inl (d, 16, .inl z0)), (q8, .inl (d, 16, .inl z0)), (q9, .inl (d, 16, .inl z0)), (q10, .inl (d, 16, .inl z0)), (q11, .inl (d, 256, .inl z0)), (q12, .inl (d, 256, .inl z0)), (q13, .inl (d, 256, .inl z0)), (q14, .inl (d, 16, .inl z0)), (q15, .inl (d, 16, .inl z0)), (q16, .inl (d, 16, .inl z0))] := hD
  refine va_putF (D := D) (ci := 0) (v := .ref q16) (ty := .array .int) (C := RX0) (T := TX0) (N := 18) hx hb hts in_X0 tyX0 tyX0_ok nmX0 hown hK hP hD hS 0 rfl rfl 16 (by decide) (hts _ q55) (fun _ h9 => h9) rfl hin rfl (by decide +kernel) rfl rfl (Nat.le_of_ble_eq_true rfl) dX0_init_109 (fun H locs hP hD hS => ?_)
  have hP : va_P D vwCl [(h, .inr (0, [.ref q0, .ref q1, .int (nI 0), .int (nI 0), .int (nI 0), .int (nI 0), .ref q6, .ref q7, .ref q8, .ref q9, .ref q10, .ref q11, .ref q12, .ref q13, .ref q14, .ref q15, .ref q16, .null])), (q0, .inl (d, 128, .inl z0)), (q1, .inl (d, 18, .inl z0)), (q6, .inl (d, 64, .inl z0)), (q7, .inl (d, 16, .inl z0)), (q8, .inl (d, 16, .inl z0)), (q9, .inl (d, 16, .inl z0)), (q10, .inl (d, 16, .inl z0)), (q11, .inl (d, 256, .inl z0)), (q12, .inl (d, 256, .inl z0)), (q13, .inl (d, 256, .inl z0)), (q14, .inl (d, 16, .inl z0)), (q15, .inl (d, 16, .inl z0)), (q16, .inl (d, 16, .inl z0))] H := hP
  have hD : va_D A [(h, .inr (0, [.ref q0, .ref q1, .int (nI 0), .int (nI 0), .int (nI 0), .int (nI 0), .ref q6, .ref q7, .ref q8, .ref q9, .ref q10, .ref q11, .ref q12, .ref q13, .ref q14, .ref q15, .ref q16, .null])), (q0, .inl (d, 128, .inl z0)), (q1, .inl (d, 18, .inl z0)), (q6, .inl (d, 64, .inl z0)), (q7, .inl (d, 16, .inl z0)), (q8, .inl (d, 16, .inl z0)), (q9, .inl (d, 16, .inl z0)), (q10, .inl (d, 16, .inl z0)), (q11, .inl (d, 256, .inl z0)), (q12, .inl (d, 256, .inl z0)), (q13, .inl (d, 256, .inl z0)), (q14, .inl (d, 16, .inl z0)), (q15, .inl (d, 16, .inl z0)), (q16, .inl (d, 16, .inl z0))] := hD
  refine lv_aload_n hx hb dX0_init_112 rfl (hl.at (i := 0) rfl) ?_
  refine lv_sipush (v := nI 1152) hx hb dX0_init_113 (by decide) ?_
  refine va_newa (atype := .int) (ty := .int) (N' := 1152) (a0 := (1152, .inl z0)) hx hb (hts _ q94) rfl hK hP hD hS hA (fun cA => rfl) (nI_pos (by decide)) (nI_clamp (by decide)) (by decide) (Nat.le_of_ble_eq_true rfl) (Nat.le_of_ble_eq_true rfl) dX0_init_116 (fun q17 cA H hK hP hD hS => ?_)
  refine W.widen (k := 14) (n := 2242) (Nat.le_of_ble_eq_true rfl) (Nat.le_of_ble_eq_true rfl) ?_
  have e9 : d = cA := (va_K_one hK).symm
  subst e9
  have hK := hK.sub (tys' := [(d, .int)]) [0] rfl
  have hP : va_P D vwCl [(h, .inr (0, [.ref q0, .ref q1, .int (nI 0), .int (nI 0), .int (nI 0), .int (nI 0), .ref q6, .ref q7, .ref q8, .ref q9, .ref q10, .ref q11, .ref q12, .ref q13, .ref q14, .ref q15, .ref q16, .null])), (q0, .inl (d, 128, .inl z0)), (q1, .inl (d, 18, .inl z0)), (q6, .inl (d, 64, .inl z0)), (q7, .inl (d, 16, .inl z0)), (q8, .inl (d, 16, .inl z0)), (q9, .inl (d, 16, .inl z0)), (q10, .inl (d, 16, .inl z0)), (q11, .inl (d, 256, .inl z0)), (q12, .inl (d, 256, .inl z0)), (q13, .inl (d, 256, .inl z0)), (q14, .inl (d, 16, .inl z0)), (q15, .inl (d, 16, .inl z0)), (q16, .inl (d, 16, .inl z0)), (q17, .inl (d, 1152, .inl z0))] H := hP
  have hD : va_D A [(h, .inr (0, [.ref q0, .ref q1, .int (nI 0), .int (nI 0), .int (nI 0), .int (nI 0), .ref q6, .ref q7, .ref q8, .ref q9, .ref q10, .ref q11, .ref q12, .ref q13, .ref q14, .ref q15, .ref q16, .null])), (q0, .inl (d, 128, .inl z0)), (q1, .inl (d, 18, .inl z0)), (q6, .inl (d, 64, .inl z0)), (q7, .inl (d, 16, .inl z0)), (q8, .inl (d, 16, .inl z0)), (q9, .inl (d, 16, .inl z0)), (q10, .inl (d, 16, .inl z0)), (q11, .inl (d, 256, .inl z0)), (q12, .inl (d, 256, .inl z0)), (q13, .inl (d, 256, .inl z0)), (q14, .inl (d, 16, .inl z0)), (q15, .inl (d, 16, .inl z0)), (q16, .inl (d, 16, .inl z0)), (q17, .inl (d, 1152, .inl z0))] := hD
  refine va_putF (D := D) (ci := 0) (v := .ref q17) (ty := .array .int) (C := RX0) (T := TX0) (N := 18) hx hb hts in_X0 tyX0 tyX0_ok nmX0 hown hK hP hD hS 0 rfl rfl 17 (by decide) (hts _ q56) (fun _ h9 => h9) rfl hin rfl (by decide +kernel) rfl rfl (Nat.le_of_ble_eq_true rfl) dX0_init_118 (fun H locs hP hD hS => ?_)
  have hP : va_P D vwCl [(h, .inr (0, [.ref q0, .ref q1, .int (nI 0), .int (nI 0), .int (nI 0), .int (nI 0), .ref q6, .ref q7, .ref q8, .ref q9, .ref q10, .ref q11, .ref q12, .ref q13, .ref q14, .ref q15, .ref q16, .ref q17])), (q0, .inl (d, 128, .inl z0)), (q1, .inl (d, 18, .inl z0)), (q6, .inl (d, 64, .inl z0)), (q7, .inl (d, 16, .inl z0)), (q8, .inl (d, 16, .inl z0)), (q9, .inl (d, 16, .inl z0)), (q10, .inl (d, 16, .inl z0)), (q11, .inl (d, 256, .inl z0)), (q12, .inl (d, 256, .inl z0)), (q13, .inl (d, 256, .inl z0)), (q14, .inl (d, 16, .inl z0)), (q15, .inl (d, 16, .inl z0)), (q16, .inl (d, 16, .inl z0)), (q17, .inl (d, 1152, .inl z0))] H := hP
  have hD : va_D A [(h, .inr (0, [.ref q0, .ref q1, .int (nI 0), .int (nI 0), .int (nI 0), .int (nI 0), .ref q6, .ref q7, .ref q8, .ref q9, .ref q10, .ref q11, .ref q12, .ref q13, .ref q14, .ref q15, .ref q16, .ref q17])), (q0, .inl (d, 128, .inl z0)), (q1, .inl (d, 18, .inl z0)), (q6, .inl (d, 64, .inl z0)), (q7, .inl (d, 16, .inl z0)), (q8, .inl (d, 16, .inl z0)), (q9, .inl (d, 16, .inl z0)), (q10, .inl (d, 16, .inl z0)), (q11, .inl (d, 256, .inl z0)), (q12, .inl (d, 256, .inl z0)), (q13, .inl (d, 256, .inl z0)), (q14, .inl (d, 16, .inl z0)), (q15, .inl (d, 16, .inl z0)), (q16, .inl (d, 16, .inl z0)), (q17, .inl (d, 1152, .inl z0))] := hD
  have hP : va_P D vwCl (gw 0 h (fun k => [q0, q1, 0, 0, 0, 0, q6, q7, q8, q9, q10, q11, q12, q13, q14, q15, q16, q17].getD k 0) d len0 (xs (z0) (z0) (0) (0) (0) (0) (z0) (z0) (z0) (z0) (z0) (z0) (z0) (z0) (z0) (z0) (z0) (z0))) H := hP
  have hD : va_D A (gw 0 h (fun k => [q0, q1, 0, 0, 0, 0, q6, q7, q8, q9, q10, q11, q12, q13, q14, q15, q16, q17].getD k 0) d len0 (xs (z0) (z0) (0) (0) (0) (0) (z0) (z0) (z0) (z0) (z0) (z0) (z0) (z0) (z0) (z0) (z0) (z0))) := hD
  obtain ⟨hC, hin9, hty9, hnm9, hlen9⟩ := cl0
  refine mX0_rest (l := l) (h := h) (ad := fun k => [q0, q1, 0, 0, 0, 0, q6, q7, q8, q9, q10, q11, q12, q13, q14, q15, q16, q17].getD k 0) ⟨p, e, s, m, _, below, meth, c, 14, 2242, _, D, d, A, rfl, hx, hb, hml, hown, hts, hK, hA, ⟨Nat.le_refl _, Nat.le_refl _⟩, hC, hin9, hty9, hnm9, hlen9, ?_, ?_⟩ H locs ls hP hD hS hl
  · intro S1 pc v1 H locs ls h0
    cases h0
  · intro S1 pc H locs ls _ hpost hP hD hS hd
    obtain ⟨e1, rfl⟩ := hpost
    exact W.vret hx hb hr (fun t ht hW => ⟨⟨(fun k => [q0, q1, 0, 0, 0, 0, q6, q7, q8, q9, q10, q11, q12, q13, q14, q15, q16, q17].getD k 0, d), rfl, trivial, by rw [ht]; exact hP, va_K.moved hW.alike hK, hD⟩, hS.F ht⟩) hS.2.2 hd
abbrev fX1 : List Value := [.null, .null, .int (nI 0), .int (nI 0), .null, .int (nI 0)]
set_option maxHeartbeats 4000000 in
set_option maxRecDepth 100000 in
theorem mX1_init (l : Launch) (D : va_G) (h sz : Nat) : Met l yX1_init (ws_ yX1_init cX1_init 1 none) rX1_init (va_Pc [.ref h] (fun U => U.heap.size = sz ∧ va_P D vwCl [(h, .inr (1, fX1))] U.heap ∧ va_K D vwCl [] U ∧ va_D (fun _ => True) [(h, .inr (1, fX1))]))
    (va_Qv (fun (_ : (Nat → Nat) × ClassId) => True) (fun u t => va_P D vwCl (gw 1 h u.1 u.2 len1 ms0) t.heap ∧ va_K D vwCl [(u.2, .int)] t ∧ va_D (va_A [(h, .inr (1, fX1))] sz) (gw 1 h u.1 u.2 len1 ms0)) (va_A [(h, .inr (1, fX1))] sz)) 3 210 (va_A [(h, .inr (1, fX1))] sz) := by
  refine Met.ofW (cc := cX1_init) (maxL := 1) (ret := none) (by decide) rfl ?_
  intro p e s m args below meth c s₁ B hml hv
  obtain ⟨rfl, hsz, hP, hK, hD0⟩ := hv
  have hx := B.exec
  have hb := B.bytes
  have hr := B.returns
  have hts := atoms_spec (ws := ws_ yX1_init cX1_init 1 none) B.pre
  have hts : ∀ w ∈ lw_all, w.before _ s = true := fun w h => hts w (List.mem_cons_of_mem _ h)
  have hown : s.vm.findClass RX1 = some m.cls := findClass_of_methodNamed B.named
  have hlocks := B.notSynchronized
  have hin : meth.name = "<init>" := (name_of_methodNamed B.named B.method).1
  subst hsz
  have hD := hD0.self (sz := s.heap.size)
  generalize hAe : va_A [(h, .inr (1, fX1))] s.heap.size = A at hD ⊢
  have hA : ∀ q : Nat, s.heap.size ≤ q → A q := fun q h => by rw [← hAe]; exact Or.inr h
  have hS : va_S A s.heap s.heap [] := va_S.rf
  have hcat : ∀ x ∈ [Value.ref h], x.category = 1 := List.forall_mem_cons.mpr ⟨rfl, fun _ h => absurd h List.not_mem_nil⟩
  have hl := lv_entry ([.ref h]) (n := 1) (Nat.le_of_ble_eq_true rfl)
  rw [lg_entry_eq]
  generalize (lg_sl ([.ref h]) ++ List.replicate (1 - (lg_sl ([.ref h])).length) Slot.unset).toArray = ls at hl ⊢
  have hl : gL ls 1 [.ref h] := ⟨hl, hcat⟩
  refine lv_aload_n hx hb dX1_init_0 rfl (hl.at (i := 0) rfl) ?_
  refine W.objInit hx hb hown (hts _ q234) (hts _ q33) (hts _ q34) rfl (by rw [hml]; exact hl.1.1) rfl dX1_init_1 (Nat.le_of_ble_eq_true rfl) (Nat.le_of_ble_eq_true rfl) ?_
  refine W.eq (g2 := F0 m 4 ls []) rfl ?_
  have hP : va_P D vwCl [(h, .inr (1, [.null, .null, .int (nI 0), .int (nI 0), .null, .int (nI 0)]))] s.heap := hP
  refine lv_aload_n hx hb dX1_init_4 rfl (hl.at (i := 0) rfl) ?_
  refine lv_sipush (v := nI 128) hx hb dX1_init_5 (by decide) ?_
  refine va_newa (atype := .int) (ty := .int) (N' := 128) (a0 := (128, .inl z0)) hx hb (hts _ q94) rfl hK hP hD hS hA (fun cA => rfl) (nI_pos (by decide)) (nI_clamp (by decide)) (by decide) (Nat.le_of_ble_eq_true rfl) (Nat.le_of_ble_eq_true rfl) dX1_init_8 (fun q0 cA H hK hP hD hS => ?_)
  refine W.widen (k := 1) (n := 128) (Nat.le_of_ble_eq_true rfl) (Nat.le_of_ble_eq_true rfl) ?_
  obtain ⟨d, rfl⟩ : ∃ d, d = cA := ⟨_, rfl⟩
  have hK : va_K D vwCl [(d, .int)] s := hK
  have hP : va_P D vwCl [(h, .inr (1, [.null, .null, .int (nI 0), .int (nI 0), .null, .int (nI 0)])), (q0, .inl (d, 128, .inl z0))] H := hP
  have hD : va_D A [(h, .inr (1, [.null, .null, .int (nI 0), .int (nI 0), .null, .int (nI 0)])), (q0, .inl (d, 128, .inl z0))] := hD
  refine va_putF (D := D) (ci := 1) (v := .ref q0) (ty := .array .int) (C := RX1) (T := TX1) (N := 6) hx hb hts in_X1 tyX1 tyX1_ok nmX1 hown hK hP hD hS 0 rfl rfl 0 (by decide) (hts _ q235) (fun _ h9 => h9) rfl hin rfl (by decide +kernel) rfl rfl (Nat.le_of_ble_eq_true rfl) dX1_init_10 (fun H locs hP hD hS => ?_)
  have hP : va_P D vwCl [(h, .inr (1, [.ref q0, .null, .int (nI 0), .int (nI 0), .null, .int (nI 0)])), (q0, .inl (d, 128, .inl z0))] H := hP
  have hD : va_D A [(h, .inr (1, [.ref q0, .null, .int (nI 0), .int (nI 0), .null, .int (nI 0)])), (q0, .inl (d, 128, .inl z0))] := hD
  refine lv_aload_n hx hb dX1_init_13 rfl (hl.at (i := 0) rfl) ?_
  refine lv_bipush (v := nI 18) hx hb dX1_init_14 (by decide) ?_
  refine va_newa (atype := .int) (ty := .int) (N' := 18) (a0 := (18, .inl z0)) hx hb (hts _ q94) rfl hK hP hD hS hA (fun cA => rfl) (nI_pos (by decide)) (nI_clamp (by decide)) (by decide) (Nat.le_of_ble_eq_true rfl) (Nat.le_of_ble_eq_true rfl) dX1_init_16 (fun q1 cA H hK hP hD hS => ?_)
  refine W.widen (k := 2) (n := 146) (Nat.le_of_ble_eq_true rfl) (Nat.le_of_ble_eq_true rfl) ?_
  have e9 : d = cA := (va_K_one hK).symm
  subst e9
  have hK := hK.sub (tys' := [(d, .int)]) [0] rfl
  have hP : va_P D vwCl [(h, .inr (1, [.ref q0, .null, .int (nI 0), .int (nI 0), .null, .int (nI 0)])), (q0, .inl (d, 128, .inl z0)), (q1, .inl (d, 18, .inl z0))] H := hP
  have hD : va_D A [(h, .inr (1, [.ref q0, .null, .int (nI 0), .int (nI 0), .null, .int (nI 0)])), (q0, .inl (d, 128, .inl z0)), (q1, .inl (d, 18, .inl z0))] := hD
  refine va_putF (D := D) (ci := 1) (v := .ref q1) (ty := .array .int) (C := RX1) (T := TX1) (N := 6) hx hb hts in_X1 tyX1 tyX1_ok nmX1 hown hK hP hD hS 0 rfl rfl 1 (by decide) (hts _ q236) (fun _ h9 => h9) rfl hin rfl (by decide +kernel) rfl rfl (Nat.le_of_ble_eq_true rfl) dX1_init_18 (fun H locs hP hD hS => ?_)
  have hP : va_P D vwCl [(h, .inr (1, [.ref q0, .ref q1, .int (nI 0), .int (nI 0), .null, .int (nI 0)])), (q0, .inl (d, 128, .inl z0)), (q1, .inl (d, 18, .inl z0))] H := hP
  have hD : va_D A [(h, .inr (1, [.ref q0, .ref q1, .int (nI 0), .int (nI 0), .null, .int (nI 0)])), (q0, .inl (d, 128, .inl z0)), (q1, .inl (d, 18, .inl z0))] := hD
  refine lv_aload_n hx hb dX1_init_21 rfl (hl.at (i := 0) rfl) ?_
  refine lv_bipush (v := nI 64) hx hb dX1_init_22 (by decide) ?_
  refine va_newa (atype := .int) (ty := .int) (N' := 64) (a0 := (64, .inl z0)) hx hb (hts _ q94) rfl hK hP hD hS hA (fun cA => rfl) (nI_pos (by decide)) (nI_clamp (by decide)) (by decide) (Nat.le_of_ble_eq_true rfl) (Nat.le_of_ble_eq_true rfl) dX1_init_24 (fun q4 cA H hK hP hD hS => ?_)
  refine W.widen (k := 3) (n := 210) (Nat.le_of_ble_eq_true rfl) (Nat.le_of_ble_eq_true rfl) ?_
  have e9 : d = cA := (va_K_one hK).symm
  subst e9
  have hK := hK.sub (tys' := [(d, .int)]) [0] rfl
  have hP : va_P D vwCl [(h, .inr (1, [.ref q0, .ref q1, .int (nI 0), .int (nI 0), .null, .int (nI 0)])), (q0, .inl (d, 128, .inl z0)), (q1, .inl (d, 18, .inl z0)), (q4, .inl (d, 64, .inl z0))] H := hP
  have hD : va_D A [(h, .inr (1, [.ref q0, .ref q1, .int (nI 0), .int (nI 0), .null, .int (nI 0)])), (q0, .inl (d, 128, .inl z0)), (q1, .inl (d, 18, .inl z0)), (q4, .inl (d, 64, .inl z0))] := hD
  refine va_putF (D := D) (ci := 1) (v := .ref q4) (ty := .array .int) (C := RX1) (T := TX1) (N := 6) hx hb hts in_X1 tyX1 tyX1_ok nmX1 hown hK hP hD hS 0 rfl rfl 4 (by decide) (hts _ q239) (fun _ h9 => h9) rfl hin rfl (by decide +kernel) rfl rfl (Nat.le_of_ble_eq_true rfl) dX1_init_26 (fun H locs hP hD hS => ?_)
  have hP : va_P D vwCl [(h, .inr (1, [.ref q0, .ref q1, .int (nI 0), .int (nI 0), .ref q4, .int (nI 0)])), (q0, .inl (d, 128, .inl z0)), (q1, .inl (d, 18, .inl z0)), (q4, .inl (d, 64, .inl z0))] H := hP
  have hD : va_D A [(h, .inr (1, [.ref q0, .ref q1, .int (nI 0), .int (nI 0), .ref q4, .int (nI 0)])), (q0, .inl (d, 128, .inl z0)), (q1, .inl (d, 18, .inl z0)), (q4, .inl (d, 64, .inl z0))] := hD
  have hP : va_P D vwCl (gw 1 h (fun k => [q0, q1, 0, 0, q4, 0].getD k 0) d len1 (ms z0 z0 0 0 z0 0)) H := hP
  have hD : va_D A (gw 1 h (fun k => [q0, q1, 0, 0, q4, 0].getD k 0) d len1 (ms z0 z0 0 0 z0 0)) := hD
  obtain ⟨hC, hin9, hty9, hnm9, hlen9⟩ := cl1
  refine mX1_rest (l := l) (h := h) (ad := fun k => [q0, q1, 0, 0, q4, 0].getD k 0) ⟨p, e, s, m, _, below, meth, c, 3, 210, _, D, d, A, rfl, hx, hb, hml, hown, hts, hK, hA, ⟨Nat.le_refl _, Nat.le_refl _⟩, hC, hin9, hty9, hnm9, hlen9, ?_, ?_⟩ H locs ls hP hD hS hl
  · intro S1 pc v1 H locs ls h0
    cases h0
  · intro S1 pc H locs ls _ hpost hP hD hS hd
    obtain ⟨e1, rfl⟩ := hpost
    exact W.vret hx hb hr (fun t ht hW => ⟨⟨(fun k => [q0, q1, 0, 0, q4, 0].getD k 0, d), rfl, trivial, by rw [ht]; exact hP, va_K.moved hW.alike hK, hD⟩, hS.F ht⟩) hS.2.2 hd
end
section
set_option maxRecDepth 100000
/-! loops as values -/
theorem it_congr {α : Type} {f g : Nat → α → α} {a : α} {n : Nat} (h : ∀ i, i < n → ∀ x, f i x = g i x) : it f a n = it g a n := by
  induction n with
  | zero => rfl
  | succ n ih => rw [it_s, it_s, ih (fun i hi => h i (by omega)), h n (by omega)]
theorem it_add {α : Type} (f : Nat → α → α) (a : α) (m n : Nat) : it f a (m + n) = it (fun i x => f (m + i) x) (it f a m) n := by
  induction n with
  | zero => rfl
  | succ n ih => rw [it_s, ← ih]; rfl
theorem it_id {α : Type} {f : Nat → α → α} {a : α} {n : Nat} (h : ∀ i, i < n → ∀ x, f i x = x) : it f a n = a := by
  induction n with
  | zero => rfl
  | succ n ih => rw [it_s, ih (fun i hi => h i (by omega)), h n (by omega)]
theorem it_8 {α : Type} (f : Nat → α → α) (a : α) (n : Nat) : it f a (8 * n) = it (fun y x => it (fun j x => f (8 * y + j) x) x 8) a n := by
  induction n with
  | zero => rfl
  | succ n ih => rw [it_s, show 8 * (n + 1) = 8 * n + 8 by omega, it_add, ih]
theorem it_64 {α : Type} (f : Nat → α → α) (a : α) : it f a 64 = it (fun y x => it (fun j x => f (8 * y + j) x) x 8) a 8 := it_8 f a 8
theorem it_cut {α : Type} (f : Nat → α → α) (a : α) {w n : Nat} (hw : w ≤ n) : it (fun i x => if w ≤ i then x else f i x) a n = it f a w := by
  obtain ⟨k, rfl⟩ : ∃ k, n = w + k := ⟨n - w, by omega⟩
  have h1 : it (fun i x => if w ≤ w + i then x else f (w + i) x) (it (fun i x => if w ≤ i then x else f i x) a w) k = it (fun i x => if w ≤ i then x else f i x) a w := it_id (fun i _ x => if_pos (by omega))
  have h2 : it (fun i x => if w ≤ i then x else f i x) a w = it f a w := it_congr (fun i hi x => if_neg (by omega))
  rw [it_add]
  exact h1.trans h2
theorem it_rel {α β : Type} {f : Nat → α → α} {g : Nat → β → β} {a : α} {b : β} {n : Nat} (R : α → β → Prop) (h0 : R a b) (hs : ∀ i, i < n → ∀ x y, R x y → R (f i x) (g i y)) : R (it f a n) (it g b n) := by
  induction n with
  | zero => exact h0
  | succ n ih => rw [it_s, it_s]; exact hs n (by omega) _ _ (ih (fun i hi => hs i (by omega)))
theorem it_inv {α : Type} {f : Nat → α → α} {a : α} {n : Nat} (P : α → Prop) (h0 : P a) (hs : ∀ i, i < n → ∀ x, P x → P (f i x)) : P (it f a n) := by
  induction n with
  | zero => exact h0
  | succ n ih => rw [it_s]; exact hs n (by omega) _ (ih (fun i hi => hs i (by omega)))
/-- 64 steps with a guard are w by w steps -/
theorem it_grid {α : Type} (F : Nat → Nat → α → α) (a : α) {w : Nat} (hw : w ≤ 8) : it (fun i x => if w ≤ i % 8 then x else if w ≤ i / 8 then x else F (i / 8) (i % 8) x) a 64 = it (fun y x => it (fun j x => F y j x) x w) a w := by
  have inner : ∀ y, y < 8 → ∀ x, it (fun j x => if w ≤ (8 * y + j) % 8 then x else if w ≤ (8 * y + j) / 8 then x else F ((8 * y + j) / 8) ((8 * y + j) % 8) x) x 8 = if w ≤ y then x else it (fun j x => F y j x) x w := by
    intro y hy x
    by_cases h : w ≤ y
    · rw [if_pos h]
      refine it_id (fun j hj z => ?_)
      by_cases h2 : w ≤ (8 * y + j) % 8
      · rw [if_pos h2]
      · rw [if_neg h2, if_pos (by omega)]
    · rw [if_neg h, ← it_cut (fun j x => F y j x) x hw]
      refine it_congr (fun j hj z => ?_)
      rw [show (8 * y + j) % 8 = j by omega, show (8 * y + j) / 8 = y by omega, if_neg h]
  rw [it_64, it_congr inner]
  exact it_cut (fun y x => it (fun j x => F y j x) x w) a hw
/-! the two objects side by side -/
def agr (w : Nat) (o r : Nat → Int32) : Prop := ∀ x y : Nat, x < w → y < w → o (8 * y + x) = r (8 * y + x)
def Rel (pi ke : Nat → Int32) (st mg ch wd : Nat) (ou re : Nat → Int32) : Prop := (st = 1 ∨ st = 2) ∧ mg ≤ 1 ∧ ch ≤ 3 ∧ wd ≤ 8 ∧ (∀ j, -20 ≤ (pi j).toInt ∧ (pi j).toInt ≤ 20) ∧ (∀ j, -9 ≤ (ke j).toInt ∧ (ke j).toInt ≤ 9) ∧ agr wd ou re
theorem agr_upd {w : Nat} {o r : Nat → Int32} (h : agr w o r) (k : Nat) {u v : Int32} (e : u = v) : agr w (upd o k u) (upd r k v) := by
  intro x y hx hy
  unfold upd
  by_cases hk : 8 * y + x = k
  · rw [if_pos hk, if_pos hk]; exact e
  · rw [if_neg hk, if_neg hk]; exact h x y hx hy
theorem bd_upd {f : Nat → Int32} {lo hi : Int} (h : ∀ j, lo ≤ (f j).toInt ∧ (f j).toInt ≤ hi) (k : Nat) {v : Int32} (hv : lo ≤ v.toInt ∧ v.toInt ≤ hi) : ∀ j, lo ≤ (upd f k v j).toInt ∧ (upd f k v j).toInt ≤ hi := by
  intro j
  unfold upd
  by_cases hk : j = k
  · rw [if_pos hk]; exact hv
  · rw [if_neg hk]; exact h j
theorem m20 : (-20 : Int32).toInt = -20 := by decide
theorem m9 : (-9 : Int32).toInt = -9 := by decide
theorem zcl_bd (x : Int32) : -20 ≤ (zcl x).toInt ∧ (zcl x).toInt ≤ 20 := by
  have h20 : (nI 20).toInt = 20 := by decide
  unfold zcl
  by_cases h1 : -20 ≤ x
  · rw [if_pos h1]
    by_cases h2 : x ≤ nI 20
    · rw [if_pos h2]
      rw [Int32.le_iff_toInt_le] at h1 h2
      rw [m20] at h1
      rw [h20] at h2
      exact ⟨h1, h2⟩
    · rw [if_neg h2, h20]; decide
  · rw [if_neg h1, m20]; decide
theorem zput_bd {f : Nat → Int32} {hi lo up p v : Int32} {a b : Int} (ha : lo.toInt = a) (hb : up.toInt = b) (h : ∀ j, a ≤ (f j).toInt ∧ (f j).toInt ≤ b) : ∀ j, a ≤ ((zput f hi lo up p v).2 j).toInt ∧ ((zput f hi lo up p v).2 j).toInt ≤ b := by
  unfold zput
  by_cases h1 : p < 0
  · rw [if_pos h1]; exact h
  · rw [if_neg h1]
    by_cases h2 : hi < p
    · rw [if_pos h2]; exact h
    · rw [if_neg h2]
      by_cases h3 : v < lo
      · rw [if_pos h3]; exact h
      · rw [if_neg h3]
        by_cases h4 : v ≤ up
        · rw [if_pos h4]
          rw [Int32.lt_iff_toInt_lt] at h3
          rw [Int32.le_iff_toInt_le] at h4
          exact bd_upd h _ ⟨by omega, by omega⟩
        · rw [if_neg h4]; exact h
section PURE
variable {pi ke : Nat → Int32} {st mg ch wd : Nat} {ou re : Nat → Int32}
theorem r_start : Rel z0 z0 1 1 0 0 z0 z0 := by
  have h0 : (nI 0).toInt = 0 := by decide
  refine ⟨Or.inl rfl, Nat.le_refl _, by decide, by decide, fun j => ?_, fun j => ?_, fun x y hx => absurd hx (Nat.not_lt_zero _)⟩
  · show -20 ≤ (nI 0).toInt ∧ (nI 0).toInt ≤ 20; rw [h0]; decide
  · show -9 ≤ (nI 0).toInt ∧ (nI 0).toInt ≤ 9; rw [h0]; decide
theorem r_put {p v : Int32} (h : Rel pi ke st mg ch wd ou re) : Rel (zput pi (nI 127) (-20) (nI 20) p v).2 ke st mg ch wd ou re := ⟨h.1, h.2.1, h.2.2.1, h.2.2.2.1, zput_bd m20 (by decide) h.2.2.2.2.1, h.2.2.2.2.2.1, h.2.2.2.2.2.2⟩
theorem r_kernel {p v : Int32} (h : Rel pi ke st mg ch wd ou re) : Rel pi (zput ke (nI 17) (-9) (nI 9) p v).2 st mg ch wd ou re := ⟨h.1, h.2.1, h.2.2.1, h.2.2.2.1, h.2.2.2.2.1, zput_bd m9 (by decide) h.2.2.2.2.2.1, h.2.2.2.2.2.2⟩
theorem zfill_eq (c : Nat) (a b d e : Int32) (f : Nat → Int32) : zfill c a b d e f = zfillM c a b d e f := by
  unfold zfill zfillM
  rw [it_64]
  refine it_congr (fun y hy f => it_congr (fun x hx g => ?_))
  rw [show (8 * y + x) % 8 = x by omega, show (8 * y + x) / 8 = y by omega, Nat.add_assoc]
theorem r_fill {c a s e : Int32} : zfX c a s e pi = zfM c a s e pi := by
  unfold zfX zfM
  by_cases h1 : s < 0
  · simp only [if_pos h1]
  · obtain ⟨k, hk, rfl⟩ := nI_of h1
    have e1 : nI k / nI 100 = nI (k / 100) := pk_div hk (by decide) (by decide)
    have e2 : rmd (nI k) (nI 100) = nI (k % 100) := pk_rem hk (by decide) (by decide)
    have c1 : nI 10 < nI (k / 100) - nI 10 ↔ nI 20 < nI (k / 100) := by
      rw [Int32.lt_iff_toInt_lt, Int32.lt_iff_toInt_lt, pk_sub_toInt (by omega) (by decide), nI_toInt (by decide), nI_toInt (by decide), nI_toInt (by omega)]
      omega
    have c2 : nI (k % 100) - nI 10 ≤ nI 10 ↔ nI (k % 100) ≤ nI 20 := by
      rw [Int32.le_iff_toInt_le, Int32.le_iff_toInt_le, pk_sub_toInt (by omega) (by decide), nI_toInt (by decide), nI_toInt (by omega), nI_toInt (by decide)]
      omega
    rw [e1, e2]
    simp only [c1, c2, zfill_eq]
theorem zfM_bd {c a s e : Int32} (h : ∀ j, -20 ≤ (pi j).toInt ∧ (pi j).toInt ≤ 20) : ∀ j, -20 ≤ ((zfM c a s e pi).2 j).toInt ∧ ((zfM c a s e pi).2 j).toInt ≤ 20 := by
  have key : ∀ c a b d e, ∀ j, -20 ≤ (zfillM c a b d e pi j).toInt ∧ (zfillM c a b d e pi j).toInt ≤ 20 := fun c a b d e => it_inv (fun f : Nat → Int32 => ∀ j, -20 ≤ (f j).toInt ∧ (f j).toInt ≤ 20) h (fun i _ f hf => bd_upd hf _ (zcl_bd _))
  unfold zfM
  intro j
  repeat' split
  all_goals first | exact h j | exact key _ _ _ _ _ j
theorem r_fillR {c a s e : Int32} (h : Rel pi ke st mg ch wd ou re) : Rel (zfM c a s e pi).2 ke st mg ch wd ou re := ⟨h.1, h.2.1, h.2.2.1, h.2.2.2.1, zfM_bd h.2.2.2.2.1, h.2.2.2.2.2.1, h.2.2.2.2.2.2⟩
theorem zshp_ok {s m : Int32} (h1 : st = 1 ∨ st = 2) (h2 : mg ≤ 1) : ((zshp s m st mg).2.1 = 1 ∨ (zshp s m st mg).2.1 = 2) ∧ (zshp s m st mg).2.2 ≤ 1 := by
  unfold zshp
  by_cases b2 : s < nI 1
  · rw [if_pos b2]; exact ⟨h1, h2⟩
  · rw [if_neg b2]
    by_cases b7 : nI 2 < s
    · rw [if_pos b7]; exact ⟨h1, h2⟩
    · rw [if_neg b7]
      by_cases b11 : m < 0
      · rw [if_pos b11]; exact ⟨h1, h2⟩
      · rw [if_neg b11]
        by_cases b16 : m ≤ nI 1
        · rw [if_pos b16]
          obtain ⟨a, ha, rfl⟩ := cv_ige (by decide) (cv_n1 b2) b7
          obtain ⟨b, hb, rfl⟩ := cv_ile (by decide) b11 b16
          have ha1 : 1 ≤ a := Nat.le_of_not_lt (fun q => b2 (nI_lt q (by decide)))
          have e1 := nI_clamp (show a < 2 ^ 31 by omega)
          have e2 := nI_clamp (show b < 2 ^ 31 by omega)
          show ((nI a).toNatClampNeg = 1 ∨ (nI a).toNatClampNeg = 2) ∧ (nI b).toNatClampNeg ≤ 1
          rw [e1, e2]
          omega
        · rw [if_neg b16]; exact ⟨h1, h2⟩
theorem r_shape {s m : Int32} (h : Rel pi ke st mg ch wd ou re) : Rel pi ke (zshp s m st mg).2.1 (zshp s m st mg).2.2 ch wd ou re := ⟨(zshp_ok h.1 h.2.1).1, (zshp_ok h.1 h.2.1).2, h.2.2.1, h.2.2.2.1, h.2.2.2.2.1, h.2.2.2.2.2.1, h.2.2.2.2.2.2⟩
theorem zres_agr {w : Nat} {o r : Nat → Int32} (hw : w ≤ 8) (h : agr w o r) (x y : Int32) : zres w o x y = zres w r x y := by
  unfold zres
  by_cases b1 : x < 0
  · rw [if_pos b1, if_pos b1]
  · rw [if_neg b1, if_neg b1]
    by_cases b2 : nI w ≤ x
    · rw [if_pos b2, if_pos b2]
    · rw [if_neg b2, if_neg b2]
      by_cases b3 : y < 0
      · rw [if_pos b3, if_pos b3]
      · rw [if_neg b3, if_neg b3]
        by_cases b4 : y < nI w
        · rw [if_pos b4, if_pos b4]
          obtain ⟨i, hi, rfl⟩ := cv_in (by omega) b1 b2
          obtain ⟨j, hj, rfl⟩ := cv_inl (by omega) b3 b4
          rw [nI_clamp (by omega), nI_clamp (by omega)]
          exact h i j hi hj
        · rw [if_neg b4, if_neg b4]
theorem r_res (h : Rel pi ke st mg ch wd ou re) (x y : Int32) : zres wd ou x y = zres wd re x y := zres_agr h.2.2.2.1 h.2.2.2.2.2.2 x y
theorem zres_n {w x y : Nat} {o : Nat → Int32} (hw : w ≤ 8) (hx : x < 8) (hy : y < 8) : zres w o (nI x) (nI y) = if w ≤ x then nI 0 else if w ≤ y then nI 0 else o (8 * y + x) := by
  unfold zres
  rw [if_neg (nI_pos (by omega)), nI_clamp (by omega), nI_clamp (by omega), if_neg (nI_pos (show y < 2 ^ 31 by omega))]
  by_cases b1 : w ≤ x
  · rw [if_pos b1, if_pos (nI_le b1 (by omega))]
  · rw [if_neg b1, if_neg (fun q => b1 ((nI_leI (by omega) (by omega)).mp q))]
    by_cases b2 : w ≤ y
    · rw [if_pos b2, if_neg (nI_nlt b2 (by omega))]
    · rw [if_neg b2, if_pos (nI_lt (by omega) (by omega))]
theorem zflM_eq {w : Nat} (hw : w ≤ 8) (o : Nat → Int32) : zflM w o = zflo w o := by
  unfold zflM zflo
  rw [← it_grid (fun y x t => zfl1 t (8 * y + x)) (0, o) hw]
  refine it_congr (fun i hi t => ?_)
  unfold zfm1
  rw [Nat.div_add_mod]
theorem zflo_agr {w : Nat} {o r : Nat → Int32} (h : agr w o r) : (zflo w o).1 = (zflo w r).1 ∧ agr w (zflo w o).2 (zflo w r).2 := by
  unfold zflo
  refine it_rel (fun (t u : AN) => t.1 = u.1 ∧ agr w t.2 u.2) ⟨rfl, h⟩ (fun y hy t u htu => ?_)
  refine it_rel (fun (t u : AN) => t.1 = u.1 ∧ agr w t.2 u.2) htu (fun x hx t u htu => ?_)
  have e := htu.2 x y hx hy
  unfold zfl1
  rw [e]
  by_cases b : 0 ≤ u.2 (8 * y + x)
  · rw [if_pos b, if_pos b]; exact htu
  · rw [if_neg b, if_neg b]; exact ⟨by show t.1 + 1 = u.1 + 1; rw [htu.1], agr_upd htu.2 _ rfl⟩
theorem r_floorV (h : Rel pi ke st mg ch wd ou re) : nI (zflo wd ou).1 = nI (zflM wd re).1 := by rw [zflM_eq h.2.2.2.1, (zflo_agr h.2.2.2.2.2.2).1]
theorem r_floor (h : Rel pi ke st mg ch wd ou re) : Rel pi ke st mg ch wd (zflo wd ou).2 (zflM wd re).2 := ⟨h.1, h.2.1, h.2.2.1, h.2.2.2.1, h.2.2.2.2.1, h.2.2.2.2.2.1, by rw [zflM_eq h.2.2.2.1]; exact (zflo_agr h.2.2.2.2.2.2).2⟩
theorem zmx_i (a b : Int32) : (zmx a b).toInt = if a.toInt ≤ b.toInt then b.toInt else a.toInt := by
  unfold zmx
  by_cases h : a ≤ b
  · rw [if_pos h, if_pos (Int32.le_iff_toInt_le.mp h)]
  · rw [if_neg h, if_neg (fun q => h (Int32.le_iff_toInt_le.mpr q))]
theorem zmx_4 (a b c d : Int32) : zmx d (zmx c (zmx b a)) = zmx (zmx a b) (zmx c d) := by
  apply Int32.toInt_inj.mp
  simp only [zmx_i]
  repeat' split
  all_goals omega
theorem zgr_eq (r : Nat → Int32) (x y : Nat) : zgr r (2 * x) (2 * y) = zmx (zmx (r (16 * y + 2 * x)) (r (16 * y + 2 * x + 1))) (zmx (r (16 * y + 2 * x + 8)) (r (16 * y + 2 * x + 9))) := by
  rw [← zmx_4]
  show zmx (r (8 * (2 * y + (2 + 1) / 2) + 2 * x + (2 + 1) % 2)) (zmx (r (8 * (2 * y + (1 + 1) / 2) + 2 * x + (1 + 1) % 2)) (zmx (r (8 * (2 * y + (0 + 1) / 2) + 2 * x + (0 + 1) % 2)) (r (8 * (2 * y) + 2 * x)))) = _
  rw [show 8 * (2 * y + (2 + 1) / 2) + 2 * x + (2 + 1) % 2 = 16 * y + 2 * x + 9 by omega, show 8 * (2 * y + (1 + 1) / 2) + 2 * x + (1 + 1) % 2 = 16 * y + 2 * x + 8 by omega, show 8 * (2 * y + (0 + 1) / 2) + 2 * x + (0 + 1) % 2 = 16 * y + 2 * x + 1 by omega, show 8 * (2 * y) + 2 * x = 16 * y + 2 * x by omega]
theorem zth_agr {w : Nat} {o r : Nat → Int32} (h : agr w o r) : agr w (zth (w / 2) o) (zthM (w / 2) r) := by
  unfold zth zthM
  refine it_rel (agr w) h (fun y hy o r h => it_rel (agr w) h (fun x hx o r h => agr_upd h _ ?_))
  rw [zgr_eq]
  have e1 := h (2 * x) (2 * y) (by omega) (by omega)
  have e2 := h (2 * x + 1) (2 * y) (by omega) (by omega)
  have e3 := h (2 * x) (2 * y + 1) (by omega) (by omega)
  have e4 := h (2 * x + 1) (2 * y + 1) (by omega) (by omega)
  rw [show 8 * (2 * y) + 2 * x = 16 * y + 2 * x by omega] at e1
  rw [show 8 * (2 * y) + (2 * x + 1) = 16 * y + 2 * x + 1 by omega] at e2
  rw [show 8 * (2 * y + 1) + 2 * x = 16 * y + 2 * x + 8 by omega] at e3
  rw [show 8 * (2 * y + 1) + (2 * x + 1) = 16 * y + 2 * x + 9 by omega] at e4
  rw [e1, e2, e3, e4]
theorem r_thin (h : Rel pi ke st mg ch wd ou re) : Rel pi ke st mg ch (wd / 2) (zth (wd / 2) ou) (zthM (wd / 2) re) := ⟨h.1, h.2.1, h.2.2.1, by have := h.2.2.2.1; omega, h.2.2.2.2.1, h.2.2.2.2.2.1, fun x y hx hy => zth_agr h.2.2.2.2.2.2 x y (by omega) (by omega)⟩
theorem zdv_agr {w : Nat} {o r : Nat → Int32} (hw : w ≤ 8) (h : agr w o r) (d : Int32) : agr w (zdv d o) (zdv d r) := by
  unfold zdv
  refine it_rel (agr w) h (fun k hk o r h => ?_)
  intro x y hx hy
  unfold upd
  by_cases e : 8 * y + x = k
  · rw [if_pos e, if_pos e, ← e, h x y hx hy]
  · rw [if_neg e, if_neg e]; exact h x y hx hy
theorem r_divV (h : Rel pi ke st mg ch wd ou re) (d : Int32) : (zdiv d wd ou).1 = (zdiv d wd re).1 := by
  unfold zdiv
  by_cases b : d < nI 1
  · rw [if_pos b, if_pos b]
  · rw [if_neg b, if_neg b]
    by_cases b2 : d ≤ nI 100
    · rw [if_pos b2, if_pos b2]
    · rw [if_neg b2, if_neg b2]
theorem r_div (h : Rel pi ke st mg ch wd ou re) (d : Int32) : Rel pi ke st mg ch wd (zdiv d wd ou).2 (zdiv d wd re).2 := by
  refine ⟨h.1, h.2.1, h.2.2.1, h.2.2.2.1, h.2.2.2.2.1, h.2.2.2.2.2.1, ?_⟩
  unfold zdiv
  by_cases b : d < nI 1
  · rw [if_pos b, if_pos b]; exact h.2.2.2.2.2.2
  · rw [if_neg b, if_neg b]
    by_cases b2 : d ≤ nI 100
    · rw [if_pos b2, if_pos b2]; exact zdv_agr h.2.2.2.1 h.2.2.2.2.2.2 d
    · rw [if_neg b2, if_neg b2]; exact h.2.2.2.2.2.2
theorem ztak_eq {w : Nat} {o r : Nat → Int32} (hw : w ≤ 8) (h : agr w o r) (c : Nat) (pi : Nat → Int32) : ztak w o c pi = ztkM w r c pi := by
  unfold ztak ztkM
  rw [it_64]
  refine it_congr (fun y hy t => it_congr (fun x hx u => ?_))
  unfold ztk1 ztm1
  rw [show (8 * y + x) % 8 = x by omega, show (8 * y + x) / 8 = y by omega, zres_agr hw h, Nat.add_assoc]
theorem r_take {c : Int32} (h : Rel pi ke st mg ch wd ou re) : zta wd ou c pi = ztaM wd re c pi := by
  unfold zta ztaM
  rw [ztak_eq h.2.2.2.1 h.2.2.2.2.2.2]
theorem ztaM_bd {w : Nat} {c : Int32} (h : ∀ j, -20 ≤ (pi j).toInt ∧ (pi j).toInt ≤ 20) : ∀ j, -20 ≤ ((ztaM w re c pi).2 j).toInt ∧ ((ztaM w re c pi).2 j).toInt ≤ 20 := by
  have key : ∀ c, ∀ j, -20 ≤ ((ztkM w re c pi).2 j).toInt ∧ ((ztkM w re c pi).2 j).toInt ≤ 20 := fun c => it_inv (fun t : AN => ∀ j, -20 ≤ (t.2 j).toInt ∧ (t.2 j).toInt ≤ 20) h (fun i _ t ht => bd_upd ht _ (zcl_bd _))
  unfold ztaM
  intro j
  repeat' split
  all_goals first | exact h j | exact key _ j
theorem r_takeR {c : Int32} (h : Rel pi ke st mg ch wd ou re) : Rel (ztaM wd re c pi).2 ke st mg ch wd ou re := ⟨h.1, h.2.1, h.2.2.1, h.2.2.2.1, ztaM_bd h.2.2.2.2.1, h.2.2.2.2.2.1, h.2.2.2.2.2.2⟩
theorem r_sum (h : Rel pi ke st mg ch wd ou re) : zsm wd ou = zsmM wd re := by
  have e1 : zsmM wd re = zsm wd re := by
    unfold zsmM zsm
    rw [← it_grid (fun y x a => a + re (8 * y + x)) (nI 0) h.2.2.2.1]
    refine it_congr (fun i hi a => ?_)
    rw [zres_n h.2.2.2.1 (by omega) (by omega)]
    by_cases b1 : wd ≤ i % 8
    · rw [if_pos b1, if_pos b1, nI_0, Int32.add_zero]
    · rw [if_neg b1, if_neg b1]
      by_cases b2 : wd ≤ i / 8
      · rw [if_pos b2, if_pos b2, nI_0, Int32.add_zero]
      · rw [if_neg b2, if_neg b2]
  rw [e1]
  unfold zsm
  exact it_congr (fun y hy a => it_congr (fun x hx b => by rw [h.2.2.2.2.2.2 x y hx hy]))
theorem r_peak (h : Rel pi ke st mg ch wd ou re) : zpb (zpk wd ou) = zpb (zpkM wd re) := by
  have e1 : zpkM wd re = zpk wd re := by
    unfold zpkM zpk
    rw [← it_grid (fun y x b => zpk1 re b (8 * y + x)) 0 h.2.2.2.1]
    refine it_congr (fun i hi b => ?_)
    unfold zpm1
    rw [Nat.div_add_mod]
  rw [e1]
  have ag := h.2.2.2.2.2.2
  have key : (fun (b c : Nat) => b = c ∧ (c = 0 ∨ ∃ x y, x < wd ∧ y < wd ∧ c = 8 * y + x + 1)) (zpk wd ou) (zpk wd re) := by
    unfold zpk
    refine it_rel (fun (b c : Nat) => b = c ∧ (c = 0 ∨ ∃ x y, x < wd ∧ y < wd ∧ c = 8 * y + x + 1)) ⟨rfl, Or.inl rfl⟩ (fun y hy b c hbc => ?_)
    refine it_rel (fun (b c : Nat) => b = c ∧ (c = 0 ∨ ∃ x y, x < wd ∧ y < wd ∧ c = 8 * y + x + 1)) hbc (fun x hx b c hbc => ?_)
    obtain ⟨rfl, hc⟩ := hbc
    unfold zpk1
    rcases hc with rfl | ⟨x0, y0, hx0, hy0, rfl⟩
    · rw [if_pos rfl, if_pos rfl]
      exact ⟨rfl, Or.inr ⟨x, y, hx, hy, rfl⟩⟩
    · rw [if_neg (Nat.succ_ne_zero _), if_neg (Nat.succ_ne_zero _), Nat.add_sub_cancel, ag x y hx hy, ag x0 y0 hx0 hy0]
      by_cases q : re (8 * y + x) ≤ re (8 * y0 + x0)
      · rw [if_pos q]; exact ⟨rfl, Or.inr ⟨x0, y0, hx0, hy0, rfl⟩⟩
      · rw [if_neg q]; exact ⟨rfl, Or.inr ⟨x, y, hx, hy, rfl⟩⟩
  exact congrArg zpb key.1
theorem r_wayV (n : Int32) (ch : Nat) : (zwv n ch).1 = (zwv n 0).1 := by
  unfold zwv
  by_cases b : n < 0
  · rw [if_pos b, if_pos b]
  · rw [if_neg b, if_neg b]
    by_cases b2 : n ≤ nI 3
    · rw [if_pos b2, if_pos b2]
    · rw [if_neg b2, if_neg b2]
theorem r_way {n : Int32} (h : Rel pi ke st mg ch wd ou re) : Rel pi ke st mg (zwv n ch).2 wd ou re := by
  refine ⟨h.1, h.2.1, ?_, h.2.2.2⟩
  unfold zwv
  by_cases b : n < 0
  · rw [if_pos b]; exact h.2.2.1
  · rw [if_neg b]
    by_cases b2 : n ≤ nI 3
    · rw [if_pos b2]
      obtain ⟨j, hj, rfl⟩ := cv_ile (by decide) b b2
      show (nI j).toNatClampNeg ≤ 3
      rw [nI_clamp (by omega)]
      exact hj
    · rw [if_neg b2]; exact h.2.2.1
end PURE
end
section
set_option maxRecDepth 100000
/-! what one place of a loop's value is -/
theorem obs_miss {α β : Type} (obs : α → β) {F : Nat → α → α} {a : α} {n : Nat} (miss : ∀ i, i < n → ∀ u, obs (F i u) = obs u) : obs (it F a n) = obs a := by
  induction n with
  | zero => rfl
  | succ n ih => rw [it_s, miss n (by omega), ih (fun i hi => miss i (by omega))]
theorem obs_hit {α β : Type} (obs : α → β) (φ : β → β) {F : Nat → α → α} {a : α} {n i0 : Nat} (hi : i0 < n) (hit : ∀ u, obs (F i0 u) = φ (obs u)) (miss : ∀ i, i < n → i ≠ i0 → ∀ u, obs (F i u) = obs u) : obs (it F a n) = φ (obs a) := by
  induction n with
  | zero => exact absurd hi (Nat.not_lt_zero _)
  | succ n ih =>
    by_cases e : i0 = n
    · subst e
      rw [it_s, hit, obs_miss obs (fun i hi => miss i (by omega) (by omega))]
    · rw [it_s, miss n (by omega) (fun q => e q.symm), ih (by omega) (fun i hi => miss i (by omega))]
theorem obs_it {α β : Type} (obs : α → β) (f : Nat → β → β) {F : Nat → α → α} {a : α} {n : Nat} (h : ∀ k, k < n → ∀ u, obs (F k u) = f k (obs u)) : obs (it F a n) = it f (obs a) n := by
  induction n with
  | zero => rfl
  | succ n ih => rw [it_s, it_s, h n (by omega), ih (fun i hi => h i (by omega))]
theorem grd_at (V : Nat → Nat → Int32) {w : Nat} (hw : w ≤ 8) (o : Nat → Int32) {x y : Nat} (hx : x < w) (hy : y < w) : it (fun y r => it (fun x r => upd r (8 * y + x) (V x y)) r w) o w (8 * y + x) = V x y := by
  refine obs_hit (fun u : Nat → Int32 => u (8 * y + x)) (fun _ => V x y) hy (fun u => ?_) (fun i hi hne u => ?_)
  · exact obs_hit (fun u : Nat → Int32 => u (8 * y + x)) (fun _ => V x y) hx (fun u => pk_us) (fun i hi hne u => pk_un (by omega))
  · exact obs_miss (fun u : Nat → Int32 => u (8 * y + x)) (fun j hj u => pk_un (by omega))
theorem zclr_at {n j : Nat} (h : j < n) (f : Nat → Int32) : zclr n f j = nI 0 := by
  unfold zclr
  exact obs_hit (fun u : Nat → Int32 => u j) (fun _ => nI 0) h (fun u => pk_us) (fun i hi hne u => pk_un (by omega))
theorem zst_at (pi : Nat → Int32) (a : Nat) (X Y : Int32) (wi : Nat → Int32) {t : Nat} (ht : t < 18) : zst pi a X Y wi (a + t) = zat pi (t / 9) (X + nI (t % 9 % 3)) (Y + nI (t % 9 / 3)) := by
  unfold zst
  refine obs_hit (fun u : Nat → Int32 => u (a + t)) (fun _ => zat pi (t / 9) (X + nI (t % 9 % 3)) (Y + nI (t % 9 / 3))) (i0 := t / 9) (by omega) (fun u => ?_) (fun i hi hne u => ?_)
  · refine obs_hit (fun u : Nat → Int32 => u (a + t)) (fun _ => zat pi (t / 9) (X + nI (t % 9 % 3)) (Y + nI (t % 9 / 3))) (i0 := t % 9) (by omega) (fun u => ?_) (fun i hi hne u => pk_un (by omega))
    show upd u (a + 9 * (t / 9) + t % 9) _ (a + t) = _
    rw [show a + 9 * (t / 9) + t % 9 = a + t by omega]
    exact pk_us
  · exact obs_miss (fun u : Nat → Int32 => u (a + t)) (fun k hk u => pk_un (by omega))
theorem zst_off (pi : Nat → Int32) (a : Nat) (X Y : Int32) (wi : Nat → Int32) {j : Nat} (hj : j < a ∨ a + 18 ≤ j) : zst pi a X Y wi j = wi j := by
  unfold zst
  exact obs_miss (fun u : Nat → Int32 => u j) (fun c hc u => obs_miss (fun u : Nat → Int32 => u j) (fun k hk u => pk_un (by omega)))
theorem zws_at (pi : Nat → Int32) {w : Nat} (st mg : Nat) (wi : Nat → Int32) (hw : w ≤ 8) {x y t : Nat} (hx : x < w) (hy : y < w) (ht : t < 18) : zws pi w st mg wi (18 * (8 * y + x) + t) = zat pi (t / 9) (nI (st * x) - nI mg + nI (t % 9 % 3)) (nI (st * y) - nI mg + nI (t % 9 / 3)) := by
  unfold zws
  refine obs_hit (fun u : Nat → Int32 => u (18 * (8 * y + x) + t)) (fun _ => zat pi (t / 9) (nI (st * x) - nI mg + nI (t % 9 % 3)) (nI (st * y) - nI mg + nI (t % 9 / 3))) hy (fun u => ?_) (fun i hi hne u => ?_)
  · exact obs_hit (fun u : Nat → Int32 => u (18 * (8 * y + x) + t)) (fun _ => zat pi (t / 9) (nI (st * x) - nI mg + nI (t % 9 % 3)) (nI (st * y) - nI mg + nI (t % 9 / 3))) hx (fun u => zst_at pi _ _ _ u ht) (fun i hi hne u => zst_off pi _ _ _ u (by omega))
  · exact obs_miss (fun u : Nat → Int32 => u (18 * (8 * y + x) + t)) (fun k hk u => zst_off pi _ _ _ u (by omega))
theorem zac_at (wi ke : Nat → Int32) {w : Nat} (k f : Nat) (o : Nat → Int32) {x : Nat} (hx : x < w) : zac wi ke w k f o (f + x) = o (f + x) + wi (18 * (f + x) + k) * ke k := by
  unfold zac
  exact obs_hit (fun u : Nat → Int32 => u (f + x)) (fun a => a + wi (18 * (f + x) + k) * ke k) hx (fun u => pk_us) (fun i hi hne u => pk_un (by omega))
theorem zac_off (wi ke : Nat → Int32) {w : Nat} (k f : Nat) (o : Nat → Int32) {j : Nat} (hj : j < f ∨ f + w ≤ j) : zac wi ke w k f o j = o j := by
  unfold zac
  exact obs_miss (fun u : Nat → Int32 => u j) (fun i hi u => pk_un (by omega))
theorem zwo_at (wi ke : Nat → Int32) {w : Nat} (hw : w ≤ 8) (o : Nat → Int32) {x y : Nat} (hx : x < w) (hy : y < w) : zwo wi ke w o (8 * y + x) = it (fun k a => a + wi (18 * (8 * y + x) + k) * ke k) (o (8 * y + x)) 18 := by
  unfold zwo
  refine obs_it (fun u : Nat → Int32 => u (8 * y + x)) (fun k a => a + wi (18 * (8 * y + x) + k) * ke k) (fun k hk u => ?_)
  exact obs_hit (fun u : Nat → Int32 => u (8 * y + x)) (fun a => a + wi (18 * (8 * y + x) + k) * ke k) hy (fun u => zac_at wi ke k _ u hx) (fun i hi hne u => zac_off wi ke k _ u (by omega))
theorem zpa_eq (f : Nat → Int32) (c : Nat) (x y : Int32) : zpa f c x y = zat f c x y := by
  have e1 : nI 7 < x ↔ nI 8 ≤ x := by rw [Int32.lt_iff_toInt_lt, Int32.le_iff_toInt_le, nI_toInt (by decide), nI_toInt (by decide)]; omega
  have e2 : y ≤ nI 7 ↔ y < nI 8 := by rw [Int32.lt_iff_toInt_lt, Int32.le_iff_toInt_le, nI_toInt (by decide), nI_toInt (by decide)]; omega
  unfold zpa zat
  simp only [e1, e2]
theorem sub_add_32 (a m b : Int32) : a - m + b = a + b - m := by
  rw [Int32.sub_eq_add_neg, Int32.sub_eq_add_neg, Int32.add_assoc, Int32.add_assoc, Int32.add_comm (-m) b]
/-- the picture's number under the kernel's place k -/
def pxk (pi : Nat → Int32) (st mg x y k : Nat) : Int32 := zat pi (k / 9) (nI (st * x + k % 3) - nI mg) (nI (st * y + k % 9 / 3) - nI mg)
theorem zprod_eq (pi ke : Nat → Int32) (st mg x y : Nat) : zprod pi ke st mg x y = it (fun k a => a + ke k * pxk pi st mg x y k) (nI 0) 18 := by
  unfold zprod
  exact it_congr (fun k hk a => by rw [zpa_eq]; rfl)
theorem win_eq (pi ke wi ou : Nat → Int32) {w : Nat} (st mg : Nat) (hw : w ≤ 8) {x y : Nat} (hx : x < w) (hy : y < w) : zwo (zws pi w st mg wi) ke w (zclr 64 ou) (8 * y + x) = zprod pi ke st mg x y := by
  rw [zwo_at _ _ hw _ hx hy, zclr_at (by omega), zprod_eq]
  refine it_congr (fun k hk a => ?_)
  rw [zws_at pi st mg wi hw hx hy hk, sub_add_32, sub_add_32, nI_add, nI_add, Int32.mul_comm, show k % 9 % 3 = k % 3 by omega]
  rfl
/-- the tiles' identities -/
theorem wino_a (d00 d01 d02 d03 d10 d11 d12 d13 d20 d21 d22 d23 d30 d31 d32 d33 k00 k01 k02 k10 k11 k12 k20 k21 k22 : Int32) (t : Int32) (ht : t = 2) :
   ((d00 - d02) - (d20 - d22)) * (t * (t * k00)) + ((d01 + d02) - (d21 + d22)) * (t * (k00 + k01 + k02)) + ((d02 - d01) - (d22 - d21)) * (t * (k00 - k01 + k02)) = 2 * (2 * ((d00 - d20) * k00 + (d01 - d21) * k01 + (d02 - d22) * k02)) := by
  subst ht
  grind
end
section
set_option maxRecDepth 100000
theorem it_shift (g : Nat → Int32) (a : Int32) (n : Nat) : it (fun k a => a + g k) a n = a + it (fun k a => a + g k) (nI 0) n := by
  induction n with
  | zero => show a = a + nI 0; rw [nI_0, Int32.add_zero]
  | succ n ih => rw [it_s, it_s, ih, Int32.add_assoc]
/-- the picture's number, with the margin off -/
def dz (pi : Nat → Int32) (mg c u v : Nat) : Int32 := zat pi c (nI u - nI mg) (nI v - nI mg)
/-- one kernel over the picture at X, Y -/
def tsum (pi ke : Nat → Int32) (mg c X Y : Nat) : Int32 := it (fun k a => a + ke (9 * c + k) * dz pi mg c (X + k % 3) (Y + k / 3)) (nI 0) 9
theorem zprod_1 (pi ke : Nat → Int32) (mg x y : Nat) : zprod pi ke 1 mg x y = tsum pi ke mg 0 x y + tsum pi ke mg 1 x y := by
  rw [zprod_eq, show (18 : Nat) = 9 + 9 from rfl, it_add, it_shift (fun k => ke (9 + k) * pxk pi 1 mg x y (9 + k))]
  have e1 : it (fun k a => a + ke k * pxk pi 1 mg x y k) (nI 0) 9 = tsum pi ke mg 0 x y := by
    unfold tsum
    refine it_congr (fun k hk a => ?_)
    unfold pxk dz
    rw [show 9 * 0 + k = k by omega, Nat.one_mul, Nat.one_mul, show k / 9 = 0 by omega, show k % 9 = k by omega]
  have e2 : it (fun k a => a + ke (9 + k) * pxk pi 1 mg x y (9 + k)) (nI 0) 9 = tsum pi ke mg 1 x y := by
    unfold tsum
    refine it_congr (fun k hk a => ?_)
    unfold pxk dz
    rw [show 9 * 1 + k = 9 + k by omega, Nat.one_mul, Nat.one_mul, show (9 + k) / 9 = 1 by omega, show (9 + k) % 9 = k by omega, show (9 + k) % 3 = k % 3 by omega]
  rw [e1, e2]
theorem zpc_0 (pi : Nat → Int32) (mg c x y : Nat) (p : Nat → Int32) : zpc pi mg c x y p 0 = dz pi mg c x y := rfl
theorem zfr_0 (p : Nat → Int32) : zfr p 0 = p 0 - p 2 := rfl
theorem zfc_0 (p : Nat → Int32) : zfc p 0 = p 0 - p 8 := rfl
theorem zmul_0 (p s q : Nat → Int32) : zmul p s q 0 = p 0 * s 0 := rfl
theorem zss_0 (h s : Nat → Int32) : zss h s 0 = nI 2 * h 0 := rfl
theorem zhs_0 (ke : Nat → Int32) (c : Nat) (h : Nat → Int32) : zhs ke c h 0 = nI 2 * ke (9 * c) := rfl
theorem zcol_0 (q : Nat → Int32) : zcol q 0 = q 0 + q 4 + q 8 := rfl
theorem zpc_1 (pi : Nat → Int32) (mg c x y : Nat) (p : Nat → Int32) : zpc pi mg c x y p 1 = dz pi mg c (x + 1) y := rfl
theorem zfr_1 (p : Nat → Int32) : zfr p 1 = p 1 + p 2 := rfl
theorem zfc_1 (p : Nat → Int32) : zfc p 1 = p 1 - p 9 := rfl
theorem zmul_1 (p s q : Nat → Int32) : zmul p s q 1 = p 1 * s 1 := rfl
theorem zss_1 (h s : Nat → Int32) : zss h s 1 = nI 2 * h 1 := rfl
theorem zhs_1 (ke : Nat → Int32) (c : Nat) (h : Nat → Int32) : zhs ke c h 1 = ke (9 * c) + ke (9 * c + 1) + ke (9 * c + 2) := rfl
theorem zcol_1 (q : Nat → Int32) : zcol q 1 = q 1 + q 5 + q 9 := rfl
theorem zpc_2 (pi : Nat → Int32) (mg c x y : Nat) (p : Nat → Int32) : zpc pi mg c x y p 2 = dz pi mg c (x + 2) y := rfl
theorem zfr_2 (p : Nat → Int32) : zfr p 2 = p 2 - p 1 := rfl
theorem zfc_2 (p : Nat → Int32) : zfc p 2 = p 2 - p 10 := rfl
theorem zmul_2 (p s q : Nat → Int32) : zmul p s q 2 = p 2 * s 2 := rfl
theorem zss_2 (h s : Nat → Int32) : zss h s 2 = nI 2 * h 2 := rfl
theorem zhs_2 (ke : Nat → Int32) (c : Nat) (h : Nat → Int32) : zhs ke c h 2 = ke (9 * c) - ke (9 * c + 1) + ke (9 * c + 2) := rfl
theorem zcol_2 (q : Nat → Int32) : zcol q 2 = q 2 + q 6 + q 10 := rfl
theorem zpc_3 (pi : Nat → Int32) (mg c x y : Nat) (p : Nat → Int32) : zpc pi mg c x y p 3 = dz pi mg c (x + 3) y := rfl
theorem zfr_3 (p : Nat → Int32) : zfr p 3 = p 1 - p 3 := rfl
theorem zfc_3 (p : Nat → Int32) : zfc p 3 = p 3 - p 11 := rfl
theorem zmul_3 (p s q : Nat → Int32) : zmul p s q 3 = p 3 * s 3 := rfl
theorem zss_3 (h s : Nat → Int32) : zss h s 3 = nI 2 * h 3 := rfl
theorem zhs_3 (ke : Nat → Int32) (c : Nat) (h : Nat → Int32) : zhs ke c h 3 = nI 2 * ke (9 * c + 2) := rfl
theorem zcol_3 (q : Nat → Int32) : zcol q 3 = q 3 + q 7 + q 11 := rfl
theorem zpc_4 (pi : Nat → Int32) (mg c x y : Nat) (p : Nat → Int32) : zpc pi mg c x y p 4 = dz pi mg c x (y + 1) := rfl
theorem zfr_4 (p : Nat → Int32) : zfr p 4 = p 4 - p 6 := rfl
theorem zfc_4 (p : Nat → Int32) : zfc p 4 = p 4 + p 8 := rfl
theorem zmul_4 (p s q : Nat → Int32) : zmul p s q 4 = p 4 * s 4 := rfl
theorem zss_4 (h s : Nat → Int32) : zss h s 4 = h 0 + h 4 + h 8 := rfl
theorem zhs_4 (ke : Nat → Int32) (c : Nat) (h : Nat → Int32) : zhs ke c h 4 = nI 2 * ke (9 * c + 3) := rfl
theorem zcol_4 (q : Nat → Int32) : zcol q 4 = q 4 - q 8 - q 12 := rfl
theorem zpc_5 (pi : Nat → Int32) (mg c x y : Nat) (p : Nat → Int32) : zpc pi mg c x y p 5 = dz pi mg c (x + 1) (y + 1) := rfl
theorem zfr_5 (p : Nat → Int32) : zfr p 5 = p 5 + p 6 := rfl
theorem zfc_5 (p : Nat → Int32) : zfc p 5 = p 5 + p 9 := rfl
theorem zmul_5 (p s q : Nat → Int32) : zmul p s q 5 = p 5 * s 5 := rfl
theorem zss_5 (h s : Nat → Int32) : zss h s 5 = h 1 + h 5 + h 9 := rfl
theorem zhs_5 (ke : Nat → Int32) (c : Nat) (h : Nat → Int32) : zhs ke c h 5 = ke (9 * c + 3) + ke (9 * c + 4) + ke (9 * c + 5) := rfl
theorem zcol_5 (q : Nat → Int32) : zcol q 5 = q 5 - q 9 - q 13 := rfl
theorem zpc_6 (pi : Nat → Int32) (mg c x y : Nat) (p : Nat → Int32) : zpc pi mg c x y p 6 = dz pi mg c (x + 2) (y + 1) := rfl
theorem zfr_6 (p : Nat → Int32) : zfr p 6 = p 6 - p 5 := rfl
theorem zfc_6 (p : Nat → Int32) : zfc p 6 = p 6 + p 10 := rfl
theorem zmul_6 (p s q : Nat → Int32) : zmul p s q 6 = p 6 * s 6 := rfl
theorem zss_6 (h s : Nat → Int32) : zss h s 6 = h 2 + h 6 + h 10 := rfl
theorem zhs_6 (ke : Nat → Int32) (c : Nat) (h : Nat → Int32) : zhs ke c h 6 = ke (9 * c + 3) - ke (9 * c + 4) + ke (9 * c + 5) := rfl
theorem zcol_6 (q : Nat → Int32) : zcol q 6 = q 6 - q 10 - q 14 := rfl
theorem zpc_7 (pi : Nat → Int32) (mg c x y : Nat) (p : Nat → Int32) : zpc pi mg c x y p 7 = dz pi mg c (x + 3) (y + 1) := rfl
theorem zfr_7 (p : Nat → Int32) : zfr p 7 = p 5 - p 7 := rfl
theorem zfc_7 (p : Nat → Int32) : zfc p 7 = p 7 + p 11 := rfl
theorem zmul_7 (p s q : Nat → Int32) : zmul p s q 7 = p 7 * s 7 := rfl
theorem zss_7 (h s : Nat → Int32) : zss h s 7 = h 3 + h 7 + h 11 := rfl
theorem zhs_7 (ke : Nat → Int32) (c : Nat) (h : Nat → Int32) : zhs ke c h 7 = nI 2 * ke (9 * c + 5) := rfl
theorem zcol_7 (q : Nat → Int32) : zcol q 7 = q 7 - q 11 - q 15 := rfl
theorem zpc_8 (pi : Nat → Int32) (mg c x y : Nat) (p : Nat → Int32) : zpc pi mg c x y p 8 = dz pi mg c x (y + 2) := rfl
theorem zfr_8 (p : Nat → Int32) : zfr p 8 = p 8 - p 10 := rfl
theorem zfc_8 (p : Nat → Int32) : zfc p 8 = p 8 - p 4 := rfl
theorem zmul_8 (p s q : Nat → Int32) : zmul p s q 8 = p 8 * s 8 := rfl
theorem zss_8 (h s : Nat → Int32) : zss h s 8 = h 0 - h 4 + h 8 := rfl
theorem zhs_8 (ke : Nat → Int32) (c : Nat) (h : Nat → Int32) : zhs ke c h 8 = nI 2 * ke (9 * c + 6) := rfl
theorem zpc_9 (pi : Nat → Int32) (mg c x y : Nat) (p : Nat → Int32) : zpc pi mg c x y p 9 = dz pi mg c (x + 1) (y + 2) := rfl
theorem zfr_9 (p : Nat → Int32) : zfr p 9 = p 9 + p 10 := rfl
theorem zfc_9 (p : Nat → Int32) : zfc p 9 = p 9 - p 5 := rfl
theorem zmul_9 (p s q : Nat → Int32) : zmul p s q 9 = p 9 * s 9 := rfl
theorem zss_9 (h s : Nat → Int32) : zss h s 9 = h 1 - h 5 + h 9 := rfl
theorem zhs_9 (ke : Nat → Int32) (c : Nat) (h : Nat → Int32) : zhs ke c h 9 = ke (9 * c + 6) + ke (9 * c + 7) + ke (9 * c + 8) := rfl
theorem zpc_10 (pi : Nat → Int32) (mg c x y : Nat) (p : Nat → Int32) : zpc pi mg c x y p 10 = dz pi mg c (x + 2) (y + 2) := rfl
theorem zfr_10 (p : Nat → Int32) : zfr p 10 = p 10 - p 9 := rfl
theorem zfc_10 (p : Nat → Int32) : zfc p 10 = p 10 - p 6 := rfl
theorem zmul_10 (p s q : Nat → Int32) : zmul p s q 10 = p 10 * s 10 := rfl
theorem zss_10 (h s : Nat → Int32) : zss h s 10 = h 2 - h 6 + h 10 := rfl
theorem zhs_10 (ke : Nat → Int32) (c : Nat) (h : Nat → Int32) : zhs ke c h 10 = ke (9 * c + 6) - ke (9 * c + 7) + ke (9 * c + 8) := rfl
theorem zpc_11 (pi : Nat → Int32) (mg c x y : Nat) (p : Nat → Int32) : zpc pi mg c x y p 11 = dz pi mg c (x + 3) (y + 2) := rfl
theorem zfr_11 (p : Nat → Int32) : zfr p 11 = p 9 - p 11 := rfl
theorem zfc_11 (p : Nat → Int32) : zfc p 11 = p 11 - p 7 := rfl
theorem zmul_11 (p s q : Nat → Int32) : zmul p s q 11 = p 11 * s 11 := rfl
theorem zss_11 (h s : Nat → Int32) : zss h s 11 = h 3 - h 7 + h 11 := rfl
theorem zhs_11 (ke : Nat → Int32) (c : Nat) (h : Nat → Int32) : zhs ke c h 11 = nI 2 * ke (9 * c + 8) := rfl
theorem zpc_12 (pi : Nat → Int32) (mg c x y : Nat) (p : Nat → Int32) : zpc pi mg c x y p 12 = dz pi mg c x (y + 3) := rfl
theorem zfr_12 (p : Nat → Int32) : zfr p 12 = p 12 - p 14 := rfl
theorem zfc_12 (p : Nat → Int32) : zfc p 12 = p 4 - p 12 := rfl
theorem zmul_12 (p s q : Nat → Int32) : zmul p s q 12 = p 12 * s 12 := rfl
theorem zss_12 (h s : Nat → Int32) : zss h s 12 = nI 2 * h 8 := rfl
theorem zpc_13 (pi : Nat → Int32) (mg c x y : Nat) (p : Nat → Int32) : zpc pi mg c x y p 13 = dz pi mg c (x + 1) (y + 3) := rfl
theorem zfr_13 (p : Nat → Int32) : zfr p 13 = p 13 + p 14 := rfl
theorem zfc_13 (p : Nat → Int32) : zfc p 13 = p 5 - p 13 := rfl
theorem zmul_13 (p s q : Nat → Int32) : zmul p s q 13 = p 13 * s 13 := rfl
theorem zss_13 (h s : Nat → Int32) : zss h s 13 = nI 2 * h 9 := rfl
theorem zpc_14 (pi : Nat → Int32) (mg c x y : Nat) (p : Nat → Int32) : zpc pi mg c x y p 14 = dz pi mg c (x + 2) (y + 3) := rfl
theorem zfr_14 (p : Nat → Int32) : zfr p 14 = p 14 - p 13 := rfl
theorem zfc_14 (p : Nat → Int32) : zfc p 14 = p 6 - p 14 := rfl
theorem zmul_14 (p s q : Nat → Int32) : zmul p s q 14 = p 14 * s 14 := rfl
theorem zss_14 (h s : Nat → Int32) : zss h s 14 = nI 2 * h 10 := rfl
theorem zpc_15 (pi : Nat → Int32) (mg c x y : Nat) (p : Nat → Int32) : zpc pi mg c x y p 15 = dz pi mg c (x + 3) (y + 3) := rfl
theorem zfr_15 (p : Nat → Int32) : zfr p 15 = p 13 - p 15 := rfl
theorem zfc_15 (p : Nat → Int32) : zfc p 15 = p 7 - p 15 := rfl
theorem zmul_15 (p s q : Nat → Int32) : zmul p s q 15 = p 15 * s 15 := rfl
theorem zss_15 (h s : Nat → Int32) : zss h s 15 = nI 2 * h 11 := rfl
theorem tsum_00 (pi ke : Nat → Int32) (mg c x y : Nat) : tsum pi ke mg c x y = nI 0 + ke (9 * c) * dz pi mg c x y + ke (9 * c + 1) * dz pi mg c (x + 1) y + ke (9 * c + 2) * dz pi mg c (x + 2) y + ke (9 * c + 3) * dz pi mg c x (y + 1) + ke (9 * c + 4) * dz pi mg c (x + 1) (y + 1) + ke (9 * c + 5) * dz pi mg c (x + 2) (y + 1) + ke (9 * c + 6) * dz pi mg c x (y + 2) + ke (9 * c + 7) * dz pi mg c (x + 1) (y + 2) + ke (9 * c + 8) * dz pi mg c (x + 2) (y + 2) := rfl
theorem tsum_10 (pi ke : Nat → Int32) (mg c x y : Nat) : tsum pi ke mg c (x + 1) y = nI 0 + ke (9 * c) * dz pi mg c (x + 1) y + ke (9 * c + 1) * dz pi mg c (x + 2) y + ke (9 * c + 2) * dz pi mg c (x + 3) y + ke (9 * c + 3) * dz pi mg c (x + 1) (y + 1) + ke (9 * c + 4) * dz pi mg c (x + 2) (y + 1) + ke (9 * c + 5) * dz pi mg c (x + 3) (y + 1) + ke (9 * c + 6) * dz pi mg c (x + 1) (y + 2) + ke (9 * c + 7) * dz pi mg c (x + 2) (y + 2) + ke (9 * c + 8) * dz pi mg c (x + 3) (y + 2) := rfl
theorem tsum_01 (pi ke : Nat → Int32) (mg c x y : Nat) : tsum pi ke mg c x (y + 1) = nI 0 + ke (9 * c) * dz pi mg c x (y + 1) + ke (9 * c + 1) * dz pi mg c (x + 1) (y + 1) + ke (9 * c + 2) * dz pi mg c (x + 2) (y + 1) + ke (9 * c + 3) * dz pi mg c x (y + 2) + ke (9 * c + 4) * dz pi mg c (x + 1) (y + 2) + ke (9 * c + 5) * dz pi mg c (x + 2) (y + 2) + ke (9 * c + 6) * dz pi mg c x (y + 3) + ke (9 * c + 7) * dz pi mg c (x + 1) (y + 3) + ke (9 * c + 8) * dz pi mg c (x + 2) (y + 3) := rfl
theorem tsum_11 (pi ke : Nat → Int32) (mg c x y : Nat) : tsum pi ke mg c (x + 1) (y + 1) = nI 0 + ke (9 * c) * dz pi mg c (x + 1) (y + 1) + ke (9 * c + 1) * dz pi mg c (x + 2) (y + 1) + ke (9 * c + 2) * dz pi mg c (x + 3) (y + 1) + ke (9 * c + 3) * dz pi mg c (x + 1) (y + 2) + ke (9 * c + 4) * dz pi mg c (x + 2) (y + 2) + ke (9 * c + 5) * dz pi mg c (x + 3) (y + 2) + ke (9 * c + 6) * dz pi mg c (x + 1) (y + 3) + ke (9 * c + 7) * dz pi mg c (x + 2) (y + 3) + ke (9 * c + 8) * dz pi mg c (x + 3) (y + 3) := rfl
theorem win_1 (d0 d1 d2 g0 g1 g2 : Int32) : (d0 - d2) * (nI 2 * g0) + (d1 + d2) * (g0 + g1 + g2) + (d2 - d1) * (g0 - g1 + g2) = nI 2 * (g0 * d0 + g1 * d1 + g2 * d2) := by
  rw [show nI 2 = (2 : Int32) from rfl]; grind
theorem win_2 (d1 d2 d3 g0 g1 g2 : Int32) : (d1 + d2) * (g0 + g1 + g2) - (d2 - d1) * (g0 - g1 + g2) - (d1 - d3) * (nI 2 * g2) = nI 2 * (g0 * d1 + g1 * d2 + g2 * d3) := by
  rw [show nI 2 = (2 : Int32) from rfl]; grind
theorem win_3 (a0 a1 a2 b0 b1 b2 c0 c1 c2 : Int32) : nI 2 * (a0 + b0 + c0) + nI 2 * (a1 + b1 + c1) + nI 2 * (a2 + b2 + c2) = nI 2 * ((a0 + a1 + a2) + (b0 + b1 + b2) + (c0 + c1 + c2)) := by
  rw [show nI 2 = (2 : Int32) from rfl]; grind
theorem win_4 (a0 a1 a2 b0 b1 b2 c0 c1 c2 : Int32) : nI 2 * (a0 + b0 + c0) - nI 2 * (a1 + b1 + c1) - nI 2 * (a2 + b2 + c2) = nI 2 * ((a0 - a1 - a2) + (b0 - b1 - b2) + (c0 - c1 - c2)) := by
  rw [show nI 2 = (2 : Int32) from rfl]; grind
theorem win_5 (a0 a1 a2 b0 b1 b2 c0 c1 c2 : Int32) : nI 2 * (nI 2 * (a0 + a1 + a2) + nI 2 * (b0 + b1 + b2) + nI 2 * (c0 + c1 + c2)) = nI 4 * (nI 0 + a0 + a1 + a2 + b0 + b1 + b2 + c0 + c1 + c2) := by
  rw [show nI 2 = (2 : Int32) from rfl, show nI 4 = (4 : Int32) from rfl, show nI 0 = (0 : Int32) from rfl]; grind
theorem zq_0 (R h s q : Nat → Int32) : zcol (zmul (zfc R) (zss h s) q) 0 = nI 2 * (h 0 * R 0 + h 4 * R 4 + h 8 * R 8) := by
  rw [zcol_0, zmul_0, zmul_4, zmul_8, zfc_0, zfc_4, zfc_8, zss_0, zss_4, zss_8]
  exact win_1 _ _ _ _ _ _
theorem zq_4 (R h s q : Nat → Int32) : zcol (zmul (zfc R) (zss h s) q) 4 = nI 2 * (h 0 * R 4 + h 4 * R 8 + h 8 * R 12) := by
  rw [zcol_4, zmul_4, zmul_8, zmul_12, zfc_4, zfc_8, zfc_12, zss_4, zss_8, zss_12]
  exact win_2 _ _ _ _ _ _
theorem zq_1 (R h s q : Nat → Int32) : zcol (zmul (zfc R) (zss h s) q) 1 = nI 2 * (h 1 * R 1 + h 5 * R 5 + h 9 * R 9) := by
  rw [zcol_1, zmul_1, zmul_5, zmul_9, zfc_1, zfc_5, zfc_9, zss_1, zss_5, zss_9]
  exact win_1 _ _ _ _ _ _
theorem zq_5 (R h s q : Nat → Int32) : zcol (zmul (zfc R) (zss h s) q) 5 = nI 2 * (h 1 * R 5 + h 5 * R 9 + h 9 * R 13) := by
  rw [zcol_5, zmul_5, zmul_9, zmul_13, zfc_5, zfc_9, zfc_13, zss_5, zss_9, zss_13]
  exact win_2 _ _ _ _ _ _
theorem zq_2 (R h s q : Nat → Int32) : zcol (zmul (zfc R) (zss h s) q) 2 = nI 2 * (h 2 * R 2 + h 6 * R 6 + h 10 * R 10) := by
  rw [zcol_2, zmul_2, zmul_6, zmul_10, zfc_2, zfc_6, zfc_10, zss_2, zss_6, zss_10]
  exact win_1 _ _ _ _ _ _
theorem zq_6 (R h s q : Nat → Int32) : zcol (zmul (zfc R) (zss h s) q) 6 = nI 2 * (h 2 * R 6 + h 6 * R 10 + h 10 * R 14) := by
  rw [zcol_6, zmul_6, zmul_10, zmul_14, zfc_6, zfc_10, zfc_14, zss_6, zss_10, zss_14]
  exact win_2 _ _ _ _ _ _
theorem zq_3 (R h s q : Nat → Int32) : zcol (zmul (zfc R) (zss h s) q) 3 = nI 2 * (h 3 * R 3 + h 7 * R 7 + h 11 * R 11) := by
  rw [zcol_3, zmul_3, zmul_7, zmul_11, zfc_3, zfc_7, zfc_11, zss_3, zss_7, zss_11]
  exact win_1 _ _ _ _ _ _
theorem zq_7 (R h s q : Nat → Int32) : zcol (zmul (zfc R) (zss h s) q) 7 = nI 2 * (h 3 * R 7 + h 7 * R 11 + h 11 * R 15) := by
  rw [zcol_7, zmul_7, zmul_11, zmul_15, zfc_7, zfc_11, zfc_15, zss_7, zss_11, zss_15]
  exact win_2 _ _ _ _ _ _
theorem zw_000 (ke : Nat → Int32) (c : Nat) (h p : Nat → Int32) : zhs ke c h 0 * zfr p 0 + zhs ke c h 1 * zfr p 1 + zhs ke c h 2 * zfr p 2 = nI 2 * (ke (9 * c) * p 0 + ke (9 * c + 1) * p 1 + ke (9 * c + 2) * p 2) := by
  rw [zfr_0, zfr_1, zfr_2, zhs_0, zhs_1, zhs_2, Int32.mul_comm (nI 2 * _) _, Int32.mul_comm (_ + _ + _) _, Int32.mul_comm (_ - _ + _) _]
  exact win_1 _ _ _ _ _ _
theorem zw_001 (ke : Nat → Int32) (c : Nat) (h p : Nat → Int32) : zhs ke c h 1 * zfr p 1 - zhs ke c h 2 * zfr p 2 - zhs ke c h 3 * zfr p 3 = nI 2 * (ke (9 * c) * p 1 + ke (9 * c + 1) * p 2 + ke (9 * c + 2) * p 3) := by
  rw [zfr_1, zfr_2, zfr_3, zhs_1, zhs_2, zhs_3, Int32.mul_comm (_ + _ + _) _, Int32.mul_comm (_ - _ + _) _, Int32.mul_comm (nI 2 * _) _]
  exact win_2 _ _ _ _ _ _
theorem zw_010 (ke : Nat → Int32) (c : Nat) (h p : Nat → Int32) : zhs ke c h 0 * zfr p 4 + zhs ke c h 1 * zfr p 5 + zhs ke c h 2 * zfr p 6 = nI 2 * (ke (9 * c) * p 4 + ke (9 * c + 1) * p 5 + ke (9 * c + 2) * p 6) := by
  rw [zfr_4, zfr_5, zfr_6, zhs_0, zhs_1, zhs_2, Int32.mul_comm (nI 2 * _) _, Int32.mul_comm (_ + _ + _) _, Int32.mul_comm (_ - _ + _) _]
  exact win_1 _ _ _ _ _ _
theorem zw_011 (ke : Nat → Int32) (c : Nat) (h p : Nat → Int32) : zhs ke c h 1 * zfr p 5 - zhs ke c h 2 * zfr p 6 - zhs ke c h 3 * zfr p 7 = nI 2 * (ke (9 * c) * p 5 + ke (9 * c + 1) * p 6 + ke (9 * c + 2) * p 7) := by
  rw [zfr_5, zfr_6, zfr_7, zhs_1, zhs_2, zhs_3, Int32.mul_comm (_ + _ + _) _, Int32.mul_comm (_ - _ + _) _, Int32.mul_comm (nI 2 * _) _]
  exact win_2 _ _ _ _ _ _
theorem zw_100 (ke : Nat → Int32) (c : Nat) (h p : Nat → Int32) : zhs ke c h 4 * zfr p 4 + zhs ke c h 5 * zfr p 5 + zhs ke c h 6 * zfr p 6 = nI 2 * (ke (9 * c + 3) * p 4 + ke (9 * c + 4) * p 5 + ke (9 * c + 5) * p 6) := by
  rw [zfr_4, zfr_5, zfr_6, zhs_4, zhs_5, zhs_6, Int32.mul_comm (nI 2 * _) _, Int32.mul_comm (_ + _ + _) _, Int32.mul_comm (_ - _ + _) _]
  exact win_1 _ _ _ _ _ _
theorem zw_101 (ke : Nat → Int32) (c : Nat) (h p : Nat → Int32) : zhs ke c h 5 * zfr p 5 - zhs ke c h 6 * zfr p 6 - zhs ke c h 7 * zfr p 7 = nI 2 * (ke (9 * c + 3) * p 5 + ke (9 * c + 4) * p 6 + ke (9 * c + 5) * p 7) := by
  rw [zfr_5, zfr_6, zfr_7, zhs_5, zhs_6, zhs_7, Int32.mul_comm (_ + _ + _) _, Int32.mul_comm (_ - _ + _) _, Int32.mul_comm (nI 2 * _) _]
  exact win_2 _ _ _ _ _ _
theorem zw_110 (ke : Nat → Int32) (c : Nat) (h p : Nat → Int32) : zhs ke c h 4 * zfr p 8 + zhs ke c h 5 * zfr p 9 + zhs ke c h 6 * zfr p 10 = nI 2 * (ke (9 * c + 3) * p 8 + ke (9 * c + 4) * p 9 + ke (9 * c + 5) * p 10) := by
  rw [zfr_8, zfr_9, zfr_10, zhs_4, zhs_5, zhs_6, Int32.mul_comm (nI 2 * _) _, Int32.mul_comm (_ + _ + _) _, Int32.mul_comm (_ - _ + _) _]
  exact win_1 _ _ _ _ _ _
theorem zw_111 (ke : Nat → Int32) (c : Nat) (h p : Nat → Int32) : zhs ke c h 5 * zfr p 9 - zhs ke c h 6 * zfr p 10 - zhs ke c h 7 * zfr p 11 = nI 2 * (ke (9 * c + 3) * p 9 + ke (9 * c + 4) * p 10 + ke (9 * c + 5) * p 11) := by
  rw [zfr_9, zfr_10, zfr_11, zhs_5, zhs_6, zhs_7, Int32.mul_comm (_ + _ + _) _, Int32.mul_comm (_ - _ + _) _, Int32.mul_comm (nI 2 * _) _]
  exact win_2 _ _ _ _ _ _
theorem zw_200 (ke : Nat → Int32) (c : Nat) (h p : Nat → Int32) : zhs ke c h 8 * zfr p 8 + zhs ke c h 9 * zfr p 9 + zhs ke c h 10 * zfr p 10 = nI 2 * (ke (9 * c + 6) * p 8 + ke (9 * c + 7) * p 9 + ke (9 * c + 8) * p 10) := by
  rw [zfr_8, zfr_9, zfr_10, zhs_8, zhs_9, zhs_10, Int32.mul_comm (nI 2 * _) _, Int32.mul_comm (_ + _ + _) _, Int32.mul_comm (_ - _ + _) _]
  exact win_1 _ _ _ _ _ _
theorem zw_201 (ke : Nat → Int32) (c : Nat) (h p : Nat → Int32) : zhs ke c h 9 * zfr p 9 - zhs ke c h 10 * zfr p 10 - zhs ke c h 11 * zfr p 11 = nI 2 * (ke (9 * c + 6) * p 9 + ke (9 * c + 7) * p 10 + ke (9 * c + 8) * p 11) := by
  rw [zfr_9, zfr_10, zfr_11, zhs_9, zhs_10, zhs_11, Int32.mul_comm (_ + _ + _) _, Int32.mul_comm (_ - _ + _) _, Int32.mul_comm (nI 2 * _) _]
  exact win_2 _ _ _ _ _ _
theorem zw_210 (ke : Nat → Int32) (c : Nat) (h p : Nat → Int32) : zhs ke c h 8 * zfr p 12 + zhs ke c h 9 * zfr p 13 + zhs ke c h 10 * zfr p 14 = nI 2 * (ke (9 * c + 6) * p 12 + ke (9 * c + 7) * p 13 + ke (9 * c + 8) * p 14) := by
  rw [zfr_12, zfr_13, zfr_14, zhs_8, zhs_9, zhs_10, Int32.mul_comm (nI 2 * _) _, Int32.mul_comm (_ + _ + _) _, Int32.mul_comm (_ - _ + _) _]
  exact win_1 _ _ _ _ _ _
theorem zw_211 (ke : Nat → Int32) (c : Nat) (h p : Nat → Int32) : zhs ke c h 9 * zfr p 13 - zhs ke c h 10 * zfr p 14 - zhs ke c h 11 * zfr p 15 = nI 2 * (ke (9 * c + 6) * p 13 + ke (9 * c + 7) * p 14 + ke (9 * c + 8) * p 15) := by
  rw [zfr_13, zfr_14, zfr_15, zhs_9, zhs_10, zhs_11, Int32.mul_comm (_ + _ + _) _, Int32.mul_comm (_ - _ + _) _, Int32.mul_comm (nI 2 * _) _]
  exact win_2 _ _ _ _ _ _
theorem tile_00 (pi ke hf s p q : Nat → Int32) (mg c x y : Nat) : (zcol (zmul (zfc (zfr (zpc pi mg c x y p))) (zss (zhs ke c hf) s) q)) 0 + (zcol (zmul (zfc (zfr (zpc pi mg c x y p))) (zss (zhs ke c hf) s) q)) 1 + (zcol (zmul (zfc (zfr (zpc pi mg c x y p))) (zss (zhs ke c hf) s) q)) 2 = nI 4 * tsum pi ke mg c x y := by
  rw [zq_0, zq_1, zq_2, win_3, zw_000, zw_100, zw_200, tsum_00, win_5]
  rfl
theorem tile_10 (pi ke hf s p q : Nat → Int32) (mg c x y : Nat) : (zcol (zmul (zfc (zfr (zpc pi mg c x y p))) (zss (zhs ke c hf) s) q)) 1 - (zcol (zmul (zfc (zfr (zpc pi mg c x y p))) (zss (zhs ke c hf) s) q)) 2 - (zcol (zmul (zfc (zfr (zpc pi mg c x y p))) (zss (zhs ke c hf) s) q)) 3 = nI 4 * tsum pi ke mg c (x + 1) y := by
  rw [zq_1, zq_2, zq_3, win_4, zw_001, zw_101, zw_201, tsum_10, win_5]
  rfl
theorem tile_01 (pi ke hf s p q : Nat → Int32) (mg c x y : Nat) : (zcol (zmul (zfc (zfr (zpc pi mg c x y p))) (zss (zhs ke c hf) s) q)) 4 + (zcol (zmul (zfc (zfr (zpc pi mg c x y p))) (zss (zhs ke c hf) s) q)) 5 + (zcol (zmul (zfc (zfr (zpc pi mg c x y p))) (zss (zhs ke c hf) s) q)) 6 = nI 4 * tsum pi ke mg c x (y + 1) := by
  rw [zq_4, zq_5, zq_6, win_3, zw_010, zw_110, zw_210, tsum_01, win_5]
  rfl
theorem tile_11 (pi ke hf s p q : Nat → Int32) (mg c x y : Nat) : (zcol (zmul (zfc (zfr (zpc pi mg c x y p))) (zss (zhs ke c hf) s) q)) 5 - (zcol (zmul (zfc (zfr (zpc pi mg c x y p))) (zss (zhs ke c hf) s) q)) 6 - (zcol (zmul (zfc (zfr (zpc pi mg c x y p))) (zss (zhs ke c hf) s) q)) 7 = nI 4 * tsum pi ke mg c (x + 1) (y + 1) := by
  rw [zq_5, zq_6, zq_7, win_4, zw_011, zw_111, zw_211, tsum_11, win_5]
  rfl
theorem b_toInt_add {a b : Int32} {A B : Int} (ha : -A ≤ a.toInt ∧ a.toInt ≤ A) (hb : -B ≤ b.toInt ∧ b.toInt ≤ B) (h : A + B ≤ 1000000000) : (a + b).toInt = a.toInt + b.toInt := by
  rw [Int32.toInt_add]
  exact Int.bmod_eq_of_le (by omega) (by omega)
theorem b_mul {a b A B : Int} (ha : -A ≤ a ∧ a ≤ A) (hb : -B ≤ b ∧ b ≤ B) : -(A * B) ≤ a * b ∧ a * b ≤ A * B := by
  have h1 : 0 ≤ (A - a) * (B + b) := Int.mul_nonneg (by omega) (by omega)
  have h2 : 0 ≤ (A + a) * (B - b) := Int.mul_nonneg (by omega) (by omega)
  have h3 : 0 ≤ (A - a) * (B - b) := Int.mul_nonneg (by omega) (by omega)
  have h4 : 0 ≤ (A + a) * (B + b) := Int.mul_nonneg (by omega) (by omega)
  constructor <;> grind
theorem b_toInt_mul {a b : Int32} {A B : Int} (ha : -A ≤ a.toInt ∧ a.toInt ≤ A) (hb : -B ≤ b.toInt ∧ b.toInt ≤ B) (h : A * B ≤ 1000000000) : (a * b).toInt = a.toInt * b.toInt := by
  have := b_mul ha hb
  rw [Int32.toInt_mul]
  exact Int.bmod_eq_of_le (by omega) (by omega)
theorem zat_bd {pi : Nat → Int32} (h : ∀ j, -20 ≤ (pi j).toInt ∧ (pi j).toInt ≤ 20) (c : Nat) (x y : Int32) : -20 ≤ (zat pi c x y).toInt ∧ (zat pi c x y).toInt ≤ 20 := by
  have h0 : (nI 0).toInt = 0 := by decide
  unfold zat
  repeat' split
  all_goals first | exact h _ | (rw [h0]; decide)
/-- a sum of products, small: its number is the numbers' sum -/
theorem sum_bd {g : Nat → Int32} {B : Int} (hB : 0 ≤ B) (n : Nat) (hg : ∀ k, k < n → -B ≤ (g k).toInt ∧ (g k).toInt ≤ B) (hn : (n : Int) * B ≤ 1000000) : -((n : Int) * B) ≤ (it (fun k a => a + g k) (nI 0) n).toInt ∧ (it (fun k a => a + g k) (nI 0) n).toInt ≤ (n : Int) * B := by
  induction n with
  | zero => show -(((0 : Nat) : Int) * B) ≤ (nI 0).toInt ∧ (nI 0).toInt ≤ ((0 : Nat) : Int) * B
            rw [show (nI 0).toInt = 0 by decide]
            simp
  | succ n ih =>
    have e : ((n + 1 : Nat) : Int) * B = (n : Int) * B + B := by rw [Int.natCast_add, Int.add_mul]; simp
    rw [e] at hn ⊢
    have h1 := ih (fun k hk => hg k (by omega)) (by omega)
    have h2 := hg n (by omega)
    rw [it_s, b_toInt_add h1 h2 (by omega)]
    omega
theorem tsum_bd {pi ke : Nat → Int32} (hp : ∀ j, -20 ≤ (pi j).toInt ∧ (pi j).toInt ≤ 20) (hk : ∀ j, -9 ≤ (ke j).toInt ∧ (ke j).toInt ≤ 9) (mg c X Y : Nat) : -1620 ≤ (tsum pi ke mg c X Y).toInt ∧ (tsum pi ke mg c X Y).toInt ≤ 1620 := by
  refine sum_bd (B := 180) (by decide) 9 (fun k _ => ?_) (by decide)
  have h1 := hk (9 * c + k)
  have h2 := zat_bd hp c (nI (X + k % 3) - nI mg) (nI (Y + k / 3) - nI mg)
  have h3 := b_mul h1 h2
  show -180 ≤ (ke (9 * c + k) * zat pi c _ _).toInt ∧ (ke (9 * c + k) * zat pi c _ _).toInt ≤ 180
  rw [b_toInt_mul h1 h2 (by decide)]
  omega
theorem div4 {v : Int32} (h : -1620 ≤ v.toInt ∧ v.toInt ≤ 1620) : nI 4 * v / nI 4 = v := by
  apply Int32.toInt_inj.mp
  have h4 : (nI 4).toInt = 4 := by decide
  rw [Int32.toInt_div_of_ne_right _ _ (by decide), b_toInt_mul (A := 4) (B := 1620) (by rw [h4]; decide) h (by decide), h4]
  exact Int.mul_tdiv_cancel_left _ (by decide)
theorem zadd_hit {w x y : Nat} (hx : x < w) (hy : y < w) (o : Nat → Int32) (v : Int32) : zadd w o x y v (8 * y + x) = o (8 * y + x) + v := by
  unfold zadd
  rw [if_neg (by omega), if_neg (by omega)]
  exact pk_us
theorem zadd_off {w x y j : Nat} (hj : j ≠ 8 * y + x) (o : Nat → Int32) (v : Int32) : zadd w o x y v j = o j := by
  unfold zadd
  by_cases h1 : w ≤ x
  · rw [if_pos h1]
  · rw [if_neg h1]
    by_cases h2 : w ≤ y
    · rw [if_pos h2]
    · rw [if_neg h2]; exact pk_un hj
theorem zrow_2 (w x y : Nat) (q o : Nat → Int32) : zrow w x y q o = zadd w (zadd w (zadd w (zadd w o x y ((q 0 + q 1 + q 2) / nI 4)) (x + 1) y ((q 1 - q 2 - q 3) / nI 4)) x (y + 1) ((q 4 + q 5 + q 6) / nI 4)) (x + 1) (y + 1) ((q 5 - q 6 - q 7) / nI 4) := rfl
section TILES
variable {pi ke : Nat → Int32} (hp : ∀ j, -20 ≤ (pi j).toInt ∧ (pi j).toInt ≤ 20) (hk : ∀ j, -9 ≤ (ke j).toInt ∧ (ke j).toInt ≤ 9)
theorem ztile_hit (hp : ∀ j, -20 ≤ (pi j).toInt ∧ (pi j).toInt ≤ 20) (hk : ∀ j, -9 ≤ (ke j).toInt ∧ (ke j).toInt ≤ 9) {w mg c x y X Y : Nat} (hw : w ≤ 8) (hx : x + 1 < w) (hy : y + 1 < w) (hX : X = x ∨ X = x + 1) (hY : Y = y ∨ Y = y + 1) (hf s : Nat → Int32) (t : A3) :
    (ztile pi (zss (zhs ke c hf) s) w mg c x y t).2.2 (8 * Y + X) = t.2.2 (8 * Y + X) + tsum pi ke mg c X Y := by
  show zrow w x y _ t.2.2 (8 * Y + X) = _
  rw [zrow_2, tile_00, tile_10, tile_01, tile_11, div4 (tsum_bd hp hk _ _ _ _), div4 (tsum_bd hp hk _ _ _ _), div4 (tsum_bd hp hk _ _ _ _), div4 (tsum_bd hp hk _ _ _ _)]
  rcases hX with rfl | rfl <;> rcases hY with rfl | rfl
  · rw [zadd_off (by omega), zadd_off (by omega), zadd_off (by omega), zadd_hit (by omega) (by omega)]
  · rw [zadd_off (by omega), zadd_hit (by omega) (by omega), zadd_off (by omega), zadd_off (by omega)]
  · rw [zadd_off (by omega), zadd_off (by omega), zadd_hit (by omega) (by omega), zadd_off (by omega)]
  · rw [zadd_hit (by omega) (by omega), zadd_off (by omega), zadd_off (by omega), zadd_off (by omega)]
theorem ztile_off (pi sh : Nat → Int32) {w mg c x y X Y : Nat} (hX8 : X < 8) (hx : x + 1 < 8) (h : (X ≠ x ∧ X ≠ x + 1) ∨ (Y ≠ y ∧ Y ≠ y + 1)) (t : A3) : (ztile pi sh w mg c x y t).2.2 (8 * Y + X) = t.2.2 (8 * Y + X) := by
  show zrow w x y _ t.2.2 (8 * Y + X) = _
  rw [zrow_2, zadd_off (by omega), zadd_off (by omega), zadd_off (by omega), zadd_off (by omega)]
theorem ztiles_at (hp : ∀ j, -20 ≤ (pi j).toInt ∧ (pi j).toInt ≤ 20) (hk : ∀ j, -9 ≤ (ke j).toInt ∧ (ke j).toInt ≤ 9) {w mg c X Y : Nat} (hw : w ≤ 8) (he : w = 2 * (w / 2)) (hX : X < w) (hY : Y < w) (t : A5) : (ztiles pi ke w mg c t).2.2.2.2 (8 * Y + X) = t.2.2.2.2 (8 * Y + X) + tsum pi ke mg c X Y := by
  unfold ztiles
  refine obs_hit (fun u : A3 => u.2.2 (8 * Y + X)) (fun a => a + tsum pi ke mg c X Y) (i0 := Y / 2) (by omega) (fun u => ?_) (fun i hi hne u => ?_)
  · exact obs_hit (fun u : A3 => u.2.2 (8 * Y + X)) (fun a => a + tsum pi ke mg c X Y) (i0 := X / 2) (by omega) (fun u => ztile_hit hp hk hw (by omega) (by omega) (by omega) (by omega) _ _ u) (fun i hi hne u => ztile_off pi _ (by omega) (by omega) (by omega) u)
  · exact obs_miss (fun u : A3 => u.2.2 (8 * Y + X)) (fun j hj u => ztile_off pi _ (by omega) (by omega) (by omega) u)
theorem tiles_eq (hp : ∀ j, -20 ≤ (pi j).toInt ∧ (pi j).toInt ≤ 20) (hk : ∀ j, -9 ≤ (ke j).toInt ∧ (ke j).toInt ≤ 9) {w mg x y : Nat} (hw : w ≤ 8) (he : w = 2 * (w / 2)) (hx : x < w) (hy : y < w) (hf sh pc pr ou : Nat → Int32) : (it (ztiles pi ke w mg) (hf, sh, pc, pr, zclr 64 ou) 2).2.2.2.2 (8 * y + x) = zprod pi ke 1 mg x y := by
  show (ztiles pi ke w mg 1 (ztiles pi ke w mg 0 (hf, sh, pc, pr, zclr 64 ou))).2.2.2.2 (8 * y + x) = _
  rw [ztiles_at hp hk hw he hx hy, ztiles_at hp hk hw he hx hy, zprod_1]
  show zclr 64 ou (8 * y + x) + _ + _ = _
  rw [zclr_at (by omega), nI_0, Int32.zero_add]
end TILES
end
section
set_option maxRecDepth 100000
/-! sums of whole numbers, and numbers that differ by a multiple of 7681 -/
def sg (f : Nat → Int) : Nat → Int
  | 0 => 0
  | n + 1 => sg f n + f n
theorem sg_s (f : Nat → Int) (n : Nat) : sg f (n + 1) = sg f n + f n := rfl
theorem sg_congr {f g : Nat → Int} {n : Nat} (h : ∀ i, i < n → f i = g i) : sg f n = sg g n := by
  induction n with
  | zero => rfl
  | succ n ih => rw [sg_s, sg_s, ih (fun i hi => h i (by omega)), h n (by omega)]
theorem sg_0 {f : Nat → Int} {n : Nat} (h : ∀ i, i < n → f i = 0) : sg f n = 0 := by
  induction n with
  | zero => rfl
  | succ n ih => rw [sg_s, ih (fun i hi => h i (by omega)), h n (by omega)]; rfl
theorem sg_add (f : Nat → Int) (m n : Nat) : sg f (m + n) = sg f m + sg (fun i => f (m + i)) n := by
  induction n with
  | zero => show sg f m = sg f m + 0; omega
  | succ n ih => rw [sg_s, ← Int.add_assoc, ← ih]; rfl
theorem sg_plus (f g : Nat → Int) (n : Nat) : sg (fun i => f i + g i) n = sg f n + sg g n := by
  induction n with
  | zero => rfl
  | succ n ih => rw [sg_s, sg_s, sg_s, ih]; omega
theorem sg_mulr (f : Nat → Int) (c : Int) (n : Nat) : sg f n * c = sg (fun i => f i * c) n := by
  induction n with
  | zero => show 0 * c = 0; exact Int.zero_mul c
  | succ n ih => rw [sg_s, sg_s, Int.add_mul, ih]
theorem sg_mull (f : Nat → Int) (c : Int) (n : Nat) : c * sg f n = sg (fun i => c * f i) n := by
  induction n with
  | zero => show c * 0 = 0; exact Int.mul_zero c
  | succ n ih => rw [sg_s, sg_s, Int.mul_add, ih]
theorem sg_swap (f : Nat → Nat → Int) (n m : Nat) : sg (fun i => sg (fun j => f i j) m) n = sg (fun j => sg (fun i => f i j) n) m := by
  induction n with
  | zero => exact (sg_0 (fun j _ => rfl)).symm
  | succ n ih =>
    rw [sg_s, ih, ← sg_plus]
    rfl
theorem sg_flat (f : Nat → Int) (n : Nat) : sg f (16 * n) = sg (fun r => sg (fun i => f (16 * r + i)) 16) n := by
  induction n with
  | zero => rfl
  | succ n ih => rw [sg_s, show 16 * (n + 1) = 16 * n + 16 by omega, sg_add, ih]
theorem sg_256 (f : Nat → Int) : sg f 256 = sg (fun r => sg (fun i => f (16 * r + i)) 16) 16 := sg_flat f 16
theorem sg_one {f : Nat → Int} {n i0 : Nat} (hi : i0 < n) (h : ∀ i, i < n → i ≠ i0 → f i = 0) : sg f n = f i0 := by
  induction n with
  | zero => exact absurd hi (Nat.not_lt_zero _)
  | succ n ih =>
    by_cases e : i0 = n
    · subst e
      rw [sg_s, sg_0 (fun i hi => h i (by omega) (by omega))]
      omega
    · rw [sg_s, ih (by omega) (fun i hi => h i (by omega)), h n (by omega) (fun q => e q.symm)]
      omega
theorem sg_tail {f : Nat → Int} {m n : Nat} (hm : m ≤ n) (h : ∀ i, i < n → m ≤ i → f i = 0) : sg f n = sg f m := by
  obtain ⟨k, rfl⟩ : ∃ k, n = m + k := ⟨n - m, by omega⟩
  rw [sg_add, sg_0 (f := fun i => f (m + i)) (fun i hi => h (m + i) (by omega) (by omega))]
  omega
def cg (a b : Int) : Prop := ∃ k : Int, a = b + 7681 * k
theorem cg_rf (a : Int) : cg a a := ⟨0, by omega⟩
theorem cg_sy {a b : Int} (h : cg a b) : cg b a := by obtain ⟨k, h⟩ := h; exact ⟨-k, by omega⟩
theorem cg_tr {a b c : Int} (h1 : cg a b) (h2 : cg b c) : cg a c := by obtain ⟨k, h1⟩ := h1; obtain ⟨m, h2⟩ := h2; exact ⟨k + m, by omega⟩
theorem cg_add {a b c d : Int} (h1 : cg a b) (h2 : cg c d) : cg (a + c) (b + d) := by obtain ⟨k, h1⟩ := h1; obtain ⟨m, h2⟩ := h2; exact ⟨k + m, by omega⟩
theorem cg_mul {a b c d : Int} (h1 : cg a b) (h2 : cg c d) : cg (a * c) (b * d) := by
  obtain ⟨k, rfl⟩ := h1
  obtain ⟨m, rfl⟩ := h2
  exact ⟨b * m + k * d + 7681 * k * m, by grind⟩
theorem cg_mod (a : Int) : cg (a % 7681) a := ⟨-(a / 7681), by omega⟩
theorem cg_eq {a b : Int} (h : a = b) : cg a b := by rw [h]; exact cg_rf b
theorem cg_sg {f g : Nat → Int} {n : Nat} (h : ∀ i, i < n → cg (f i) (g i)) : cg (sg f n) (sg g n) := by
  induction n with
  | zero => exact cg_rf 0
  | succ n ih => exact cg_add (ih (fun i hi => h i (by omega))) (h n (by omega))
/-! the machine's remainders -/
def rg (x : Int32) : Prop := 0 ≤ x.toInt ∧ x.toInt < 7681
theorem rmd_p {x : Int32} (h : 0 ≤ x.toInt) : (rmd x P7).toInt = x.toInt % 7681 := by
  obtain ⟨k, hk, rfl⟩ := nI_of (x := x) (fun q => by rw [Int32.lt_iff_toInt_lt, show (0 : Int32).toInt = 0 by decide] at q; omega)
  have e : rmd (nI k) P7 = nI (k % 7681) := pk_rem hk (by decide) (by decide)
  rw [e, nI_toInt (by omega), nI_toInt hk]
  omega
theorem rmd_rg {x : Int32} (h : 0 ≤ x.toInt) : rg (rmd x P7) ∧ cg (rmd x P7).toInt x.toInt := by
  unfold rg
  rw [rmd_p h]
  exact ⟨by omega, cg_mod _⟩
theorem rg_mul {a b : Int32} (ha : rg a) (hb : rg b) : (a * b).toInt = a.toInt * b.toInt ∧ 0 ≤ a.toInt * b.toInt ∧ a.toInt * b.toInt ≤ 58997761 := by
  have h1 : -7681 ≤ a.toInt ∧ a.toInt ≤ 7681 := ⟨by have := ha.1; omega, by have := ha.2; omega⟩
  have h2 : -7681 ≤ b.toInt ∧ b.toInt ≤ 7681 := ⟨by have := hb.1; omega, by have := hb.2; omega⟩
  exact ⟨b_toInt_mul h1 h2 (by decide), Int.mul_nonneg ha.1 hb.1, by have := (b_mul h1 h2).2; omega⟩
theorem zred_rg {v : Int32} (h : -20 ≤ v.toInt ∧ v.toInt ≤ 20) : rg (zred v) ∧ cg (zred v).toInt v.toInt := by
  have h7 : P7.toInt = 7681 := by decide
  have e0 : v / P7 = 0 := by
    apply Int32.toInt_inj.mp
    rw [Int32.toInt_div_of_ne_right _ _ (by decide), h7, show (0 : Int32).toInt = 0 by decide]
    rcases Int.le_total 0 v.toInt with q | q
    · exact Int.tdiv_eq_zero_of_lt q (by omega)
    · have e9 : (-v.toInt).tdiv 7681 = 0 := Int.tdiv_eq_zero_of_lt (by omega) (by omega)
      have := Int.neg_tdiv (-v.toInt) 7681
      rw [Int.neg_neg, e9] at this
      rw [this]; rfl
  have e1 : rmd v P7 = v := by
    unfold rmd
    rw [e0, Int32.zero_mul, Int32.sub_zero]
  unfold zred
  rw [e1]
  by_cases q : 0 ≤ v
  · rw [if_pos q]
    rw [Int32.le_iff_toInt_le, show (0 : Int32).toInt = 0 by decide] at q
    exact ⟨⟨q, by omega⟩, cg_rf _⟩
  · rw [if_neg q]
    rw [Int32.le_iff_toInt_le, show (0 : Int32).toInt = 0 by decide] at q
    have e2 : (v + P7).toInt = v.toInt + 7681 := by
      rw [b_toInt_add (A := 20) (B := 7681) ⟨by omega, by omega⟩ (by rw [h7]; decide) (by decide), h7]
    unfold rg
    rw [e2]
    exact ⟨by omega, 1, by omega⟩
/-! one line -/
theorem zsum_spec {pl tb : Nat → Int32} {f s k : Nat} (hp : ∀ i, i < 16 → rg (pl (f + i * s))) (ht : ∀ m, m < 16 → rg (tb m)) (n : Nat) (hn : n ≤ 16) : 0 ≤ (zsum pl tb f s k n).toInt ∧ (zsum pl tb f s k n).toInt ≤ 7681 * n ∧ cg (zsum pl tb f s k n).toInt (sg (fun i => (pl (f + i * s)).toInt * (tb (k * i % 16)).toInt) n) := by
  induction n with
  | zero =>
    show 0 ≤ (nI 0).toInt ∧ (nI 0).toInt ≤ _ ∧ cg (nI 0).toInt 0
    rw [show (nI 0).toInt = 0 by decide]
    exact ⟨by omega, by omega, cg_rf 0⟩
  | succ n ih =>
    obtain ⟨h1, h2, h3⟩ := ih (by omega)
    obtain ⟨m1, m2, m3⟩ := rg_mul (hp n (by omega)) (ht (k * n % 16) (Nat.mod_lt _ (by decide)))
    obtain ⟨r1, r2⟩ := rmd_rg (x := pl (f + n * s) * tb (k * n % 16)) (by omega)
    have e : zsum pl tb f s k (n + 1) = zsum pl tb f s k n + rmd (pl (f + n * s) * tb (k * n % 16)) P7 := rfl
    have r3 := r1.1
    have r4 := r1.2
    have e2 := b_toInt_add (a := zsum pl tb f s k n) (b := rmd (pl (f + n * s) * tb (k * n % 16)) P7) (A := 7681 * n) (B := 7681) ⟨by omega, by omega⟩ ⟨by omega, by omega⟩ (by omega)
    rw [e, e2, sg_s]
    refine ⟨by omega, by omega, cg_add h3 ?_⟩
    rw [m1] at r2
    exact r2
theorem zline_at {pl tb li : Nat → Int32} {f s k : Nat} (hk : k < 16) : zline pl tb f s li k = rmd (zsum pl tb f s k 16) P7 := by
  unfold zline
  exact obs_hit (fun u : Nat → Int32 => u k) (fun _ => rmd (zsum pl tb f s k 16) P7) hk (fun u => pk_us) (fun i hi hne u => pk_un (by omega))
/-- a row, a column: what transformLine does -/
theorem ztl_row {tb : Nat → Int32} {i j : Nat} (t : A2) : (ztl tb (16 * i) 1 t).1 j = if j / 16 = i then rmd (zsum t.1 tb (16 * i) 1 (j % 16) 16) P7 else t.1 j := by
  show zback (16 * i) 1 (zline t.1 tb (16 * i) 1 t.2) t.1 j = _
  unfold zback
  by_cases h : j / 16 = i
  · rw [if_pos h]
    refine obs_hit (fun u : Nat → Int32 => u j) (fun _ => rmd (zsum t.1 tb (16 * i) 1 (j % 16) 16) P7) (i0 := j % 16) (by omega) (fun u => ?_) (fun m hm hne u => pk_un (by omega))
    show upd u (16 * i + j % 16 * 1) (zline t.1 tb (16 * i) 1 t.2 (j % 16)) j = _
    rw [show 16 * i + j % 16 * 1 = j by omega, zline_at (by omega)]
    exact pk_us
  · rw [if_neg h]
    exact obs_miss (fun u : Nat → Int32 => u j) (fun m hm u => pk_un (by omega))
theorem ztl_col {tb : Nat → Int32} {i j : Nat} (hi : i < 16) (hj : j < 256) (t : A2) : (ztl tb i 16 t).1 j = if j % 16 = i then rmd (zsum t.1 tb i 16 (j / 16) 16) P7 else t.1 j := by
  show zback i 16 (zline t.1 tb i 16 t.2) t.1 j = _
  unfold zback
  by_cases h : j % 16 = i
  · rw [if_pos h]
    refine obs_hit (fun u : Nat → Int32 => u j) (fun _ => rmd (zsum t.1 tb i 16 (j / 16) 16) P7) (i0 := j / 16) (by omega) (fun u => ?_) (fun m hm hne u => pk_un (by omega))
    show upd u (i + j / 16 * 16) (zline t.1 tb i 16 t.2 (j / 16)) j = _
    rw [show i + j / 16 * 16 = j by omega, zline_at (by omega)]
    exact pk_us
  · rw [if_neg h]
    exact obs_miss (fun u : Nat → Int32 => u j) (fun m hm u => pk_un (by omega))
theorem zsum_congr {pl pl' tb : Nat → Int32} {f s k n : Nat} (h : ∀ i, i < n → pl (f + i * s) = pl' (f + i * s)) : zsum pl tb f s k n = zsum pl' tb f s k n := by
  unfold zsum
  exact it_congr (fun i hi a => by rw [h i hi])
theorem rowpass (tb pl li : Nat → Int32) (n : Nat) (hn : n ≤ 16) : ∀ j, j < 256 → (it (fun i t => ztl tb (16 * i) 1 t) (pl, li) n).1 j = if j / 16 < n then rmd (zsum pl tb (16 * (j / 16)) 1 (j % 16) 16) P7 else pl j := by
  induction n with
  | zero => intro j hj; rw [if_neg (Nat.not_lt_zero _)]; rfl
  | succ n ih =>
    have ih := ih (by omega)
    intro j hj
    rw [it_s, ztl_row]
    by_cases h : j / 16 = n
    · rw [if_pos h, if_pos (by omega), h]
      refine congrArg (fun x => rmd x P7) (zsum_congr (fun i hi => ?_))
      rw [ih (16 * n + i * 1) (by omega), if_neg (by omega)]
    · rw [if_neg h, ih j hj]
      by_cases h2 : j / 16 < n
      · rw [if_pos h2, if_pos (by omega)]
      · rw [if_neg h2, if_neg (by omega)]
theorem colpass (tb : Nat → Int32) (t : A2) (n : Nat) (hn : n ≤ 16) : ∀ j, j < 256 → (it (fun i t => ztl tb i 16 t) t n).1 j = if j % 16 < n then rmd (zsum t.1 tb (j % 16) 16 (j / 16) 16) P7 else t.1 j := by
  induction n with
  | zero => intro j hj; rw [if_neg (Nat.not_lt_zero _)]; rfl
  | succ n ih =>
    have ih := ih (by omega)
    intro j hj
    rw [it_s, ztl_col (by omega) hj]
    by_cases h : j % 16 = n
    · rw [if_pos h, if_pos (by omega), h]
      refine congrArg (fun x => rmd x P7) (zsum_congr (fun i hi => ?_))
      rw [ih (n + i * 16) (by omega), if_neg (by omega)]
    · rw [if_neg h, ih j hj]
      by_cases h2 : j % 16 < n
      · rw [if_pos h2, if_pos (by omega)]
      · rw [if_neg h2, if_neg (by omega)]
/-- the kernel of the transform of 16 by 16 numbers -/
def T2 (tb : Nat → Int32) (a q : Nat) : Int := (tb (a % 16 * (q % 16) % 16)).toInt * (tb (a / 16 * (q / 16) % 16)).toInt
theorem ztr_spec {tb pl li : Nat → Int32} (hp : ∀ j, j < 256 → rg (pl j)) (ht : ∀ m, m < 16 → rg (tb m)) : ∀ a, a < 256 → rg ((ztr tb (pl, li)).1 a) ∧ cg ((ztr tb (pl, li)).1 a).toInt (sg (fun q => (pl q).toInt * T2 tb a q) 256) := by
  have h1 : ∀ j, j < 256 → rg ((it (fun i t => ztl tb (16 * i) 1 t) (pl, li) 16).1 j) ∧ cg ((it (fun i t => ztl tb (16 * i) 1 t) (pl, li) 16).1 j).toInt (sg (fun i => (pl (16 * (j / 16) + i * 1)).toInt * (tb (j % 16 * i % 16)).toInt) 16) := by
    intro j hj
    rw [rowpass tb pl li 16 (Nat.le_refl _) j hj, if_pos (by omega)]
    obtain ⟨z1, z2, z3⟩ := zsum_spec (pl := pl) (tb := tb) (f := 16 * (j / 16)) (s := 1) (k := j % 16) (fun i hi => hp _ (by omega)) ht 16 (Nat.le_refl _)
    obtain ⟨r1, r2⟩ := rmd_rg z1
    exact ⟨r1, cg_tr r2 z3⟩
  intro a ha
  show rg ((it (fun i t => ztl tb i 16 t) (it (fun i t => ztl tb (16 * i) 1 t) (pl, li) 16) 16).1 a) ∧ cg ((it (fun i t => ztl tb i 16 t) (it (fun i t => ztl tb (16 * i) 1 t) (pl, li) 16) 16).1 a).toInt _
  rw [colpass tb _ 16 (Nat.le_refl _) a ha, if_pos (by omega)]
  obtain ⟨z1, z2, z3⟩ := zsum_spec (pl := (it (fun i t => ztl tb (16 * i) 1 t) (pl, li) 16).1) (tb := tb) (f := a % 16) (s := 16) (k := a / 16) (fun i hi => (h1 _ (by omega)).1) ht 16 (Nat.le_refl _)
  obtain ⟨r1, r2⟩ := rmd_rg z1
  refine ⟨r1, cg_tr r2 (cg_tr z3 ?_)⟩
  rw [sg_256]
  refine cg_sg (fun r hr => ?_)
  have h2 := (h1 (a % 16 + r * 16) (by omega)).2
  rw [show (a % 16 + r * 16) / 16 = r by omega, show (a % 16 + r * 16) % 16 = a % 16 by omega] at h2
  refine cg_tr (cg_mul h2 (cg_rf _)) (cg_eq ?_)
  rw [sg_mulr]
  refine sg_congr (fun i hi => ?_)
  unfold T2
  rw [show (16 * r + i) % 16 = i by omega, show (16 * r + i) / 16 = r by omega, Nat.mul_one, Int.mul_assoc]
end
section
set_option maxRecDepth 100000
/-! the root's powers -/
def rtL : List Nat := [1, 7098, 1925, 6832, 3383, 1728, 6468, 527, 7680, 583, 5756, 849, 4298, 5953, 1213, 7154]
def btL : List Nat := [1, 7154, 1213, 5953, 4298, 849, 5756, 583, 7680, 527, 6468, 1728, 3383, 6832, 1925, 7098]
def rt (m : Nat) : Nat := rtL.getD m 0
def bt (m : Nat) : Nat := btL.getD m 0
theorem zpow_g : zpow (nI 17) 480 = nI 7098 := by decide +kernel
theorem zpow_gi : zpow (nI 7098) 7679 = nI 7154 := by decide +kernel
theorem zpow_sc : zpow (nI 256) 7679 = nI 7651 := by decide +kernel
theorem zro_t : ∀ m, m < 16 → zro m = nI (rt m) := by
  unfold zro
  rw [zpow_g]
  decide +kernel
theorem zba_t : ∀ m, m < 16 → zba m = nI (bt m) := by
  unfold zba
  rw [zpow_g, zpow_gi]
  decide +kernel
theorem rt_lt : ∀ m, m < 16 → rt m < 7681 := by decide +kernel
theorem bt_lt : ∀ m, m < 16 → bt m < 7681 := by decide +kernel
theorem zro_i {m : Nat} (h : m < 16) : (zro m).toInt = (rt m : Int) := by rw [zro_t m h, nI_toInt (by have := rt_lt m h; omega)]
theorem zba_i {m : Nat} (h : m < 16) : (zba m).toInt = (bt m : Int) := by rw [zba_t m h, nI_toInt (by have := bt_lt m h; omega)]
theorem zro_rg : ∀ m, m < 16 → rg (zro m) := fun m h => by unfold rg; rw [zro_i h]; have := rt_lt m h; omega
theorem zba_rg : ∀ m, m < 16 → rg (zba m) := fun m h => by unfold rg; rw [zba_i h]; have := bt_lt m h; omega
def sn (f : Nat → Nat) : Nat → Nat
  | 0 => 0
  | n + 1 => sn f n + f n
theorem sn_i (f : Nat → Nat) (n : Nat) : ((sn f n : Nat) : Int) = sg (fun i => (f i : Int)) n := by
  induction n with
  | zero => rfl
  | succ n ih => rw [sg_s, ← ih]; exact Int.natCast_add _ _
set_option maxHeartbeats 4000000 in
theorem orth_n : ∀ a, a < 16 → ∀ b, b < 16 → ∀ u, u < 16 → sn (fun k => rt (k * a % 16) * rt (k * b % 16) * bt (u * k % 16)) 16 % 7681 = if (a + b) % 16 = u then 16 else 0 := by decide +kernel
/-- one line's sum of three powers -/
def or1 (a b u : Nat) : Int := sg (fun k => (zro (k * a % 16)).toInt * (zro (k * b % 16)).toInt * (zba (u * k % 16)).toInt) 16
theorem or1_cg {a b u : Nat} (ha : a < 16) (hb : b < 16) (hu : u < 16) : cg (or1 a b u) (if (a + b) % 16 = u then 16 else 0) := by
  have h := orth_n a ha b hb u hu
  have e : or1 a b u = ((sn (fun k => rt (k * a % 16) * rt (k * b % 16) * bt (u * k % 16)) 16 : Nat) : Int) := by
    rw [sn_i]
    unfold or1
    refine sg_congr (fun k _ => ?_)
    rw [zro_i (Nat.mod_lt _ (by decide)), zro_i (Nat.mod_lt _ (by decide)), zba_i (Nat.mod_lt _ (by decide)), Int.natCast_mul, Int.natCast_mul]
  rw [e]
  refine cg_tr (cg_sy (cg_mod _)) (cg_eq ?_)
  have h2 : ((sn (fun k => rt (k * a % 16) * rt (k * b % 16) * bt (u * k % 16)) 16 : Nat) : Int) % 7681 = ((sn (fun k => rt (k * a % 16) * rt (k * b % 16) * bt (u * k % 16)) 16 % 7681 : Nat) : Int) := by omega
  rw [h2, h]
  by_cases q : (a + b) % 16 = u
  · rw [if_pos q, if_pos q]; rfl
  · rw [if_neg q, if_neg q]; rfl
/-- do q and s add up to w, place by place -/
def hit (q s w : Nat) : Int := if (q % 16 + s % 16) % 16 = w % 16 ∧ (q / 16 + s / 16) % 16 = w / 16 then 256 else 0
theorem or2_cg {q s w : Nat} (hq : q < 256) (hs : s < 256) (hw : w < 256) : cg (sg (fun a => T2 zro a q * T2 zro a s * T2 zba w a) 256) (hit q s w) := by
  have e : sg (fun a => T2 zro a q * T2 zro a s * T2 zba w a) 256 = or1 (q % 16) (s % 16) (w % 16) * or1 (q / 16) (s / 16) (w / 16) := by
    rw [sg_256]
    unfold or1
    rw [sg_mull]
    refine sg_congr (fun r hr => ?_)
    rw [sg_mulr]
    refine sg_congr (fun i hi => ?_)
    unfold T2
    rw [show (16 * r + i) % 16 = i by omega, show (16 * r + i) / 16 = r by omega]
    generalize (zro (i * (q % 16) % 16)).toInt = x1
    generalize (zro (r * (q / 16) % 16)).toInt = x2
    generalize (zro (i * (s % 16) % 16)).toInt = x3
    generalize (zro (r * (s / 16) % 16)).toInt = x4
    generalize (zba (w % 16 * i % 16)).toInt = x5
    generalize (zba (w / 16 * r % 16)).toInt = x6
    grind
  rw [e]
  refine cg_tr (cg_mul (or1_cg (by omega) (by omega) (by omega)) (or1_cg (by omega) (by omega) (by omega))) (cg_eq ?_)
  unfold hit
  by_cases q1 : (q % 16 + s % 16) % 16 = w % 16
  · by_cases q2 : (q / 16 + s / 16) % 16 = w / 16
    · rw [if_pos q1, if_pos q2, if_pos ⟨q1, q2⟩]; rfl
    · rw [if_pos q1, if_neg q2, if_neg (fun z => q2 z.2)]; rfl
  · rw [if_neg q1, Int.zero_mul, if_neg (fun z => q1 z.1)]
/-- the transform of a function -/
def FT (f : Nat → Int) (a : Nat) : Int := sg (fun q => f q * T2 zro a q) 256
theorem conv_cg (f g : Nat → Int) {w : Nat} (hw : w < 256) : cg (sg (fun a => FT f a * FT g a * T2 zba w a) 256) (sg (fun q => sg (fun s => f q * g s * hit q s w) 256) 256) := by
  have e : sg (fun a => FT f a * FT g a * T2 zba w a) 256 = sg (fun q => sg (fun s => f q * g s * sg (fun a => T2 zro a q * T2 zro a s * T2 zba w a) 256) 256) 256 := by
    have e1 : sg (fun a => FT f a * FT g a * T2 zba w a) 256 = sg (fun a => sg (fun q => sg (fun s => f q * g s * (T2 zro a q * T2 zro a s * T2 zba w a)) 256) 256) 256 := by
      refine sg_congr (fun a _ => ?_)
      unfold FT
      rw [sg_mulr, sg_mulr]
      refine sg_congr (fun q _ => ?_)
      rw [sg_mull, sg_mulr]
      refine sg_congr (fun s _ => ?_)
      generalize T2 zro a q = x1
      generalize T2 zro a s = x2
      generalize T2 zba w a = x3
      generalize f q = x4
      generalize g s = x5
      grind
    rw [e1, sg_swap]
    refine sg_congr (fun q _ => ?_)
    rw [sg_swap]
    refine sg_congr (fun s _ => ?_)
    rw [sg_mull]
  rw [e]
  exact cg_sg (fun q hq => cg_sg (fun s hs => cg_mul (cg_rf _) (or2_cg hq hs hw)))
/-! the kernel's and the picture's arrays -/
def kf (ke : Nat → Int32) (c q : Nat) : Int := if q / 16 ≤ 2 ∧ q % 16 ≤ 2 then (ke (9 * c + 3 * (2 - q / 16) + (2 - q % 16))).toInt else 0
def pf (pi : Nat → Int32) (c s : Nat) : Int := if 1 ≤ s / 16 ∧ s / 16 ≤ 8 ∧ 1 ≤ s % 16 ∧ s % 16 ≤ 8 then (pi (64 * c + 8 * (s / 16 - 1) + (s % 16 - 1))).toInt else 0
theorem rg_0 : rg (nI 0) := by unfold rg; rw [show (nI 0).toInt = 0 by decide]; decide
theorem zkp_cg {ke : Nat → Int32} (hk : ∀ j, -9 ≤ (ke j).toInt ∧ (ke j).toInt ≤ 9) (c : Nat) (pl : Nat → Int32) {q : Nat} (hq : q < 256) : rg (zkp ke c (zclr 256 pl) q) ∧ cg (zkp ke c (zclr 256 pl) q).toInt (kf ke c q) := by
  unfold kf
  by_cases h : q / 16 ≤ 2 ∧ q % 16 ≤ 2
  · obtain ⟨h1, h2⟩ := h
    have e : zkp ke c (zclr 256 pl) q = zred (ke (9 * c + 3 * (2 - q / 16) + (2 - q % 16))) := by
      unfold zkp
      refine obs_hit (fun u : Nat → Int32 => u q) (fun _ => zred (ke (9 * c + 3 * (2 - q / 16) + (2 - q % 16)))) (i0 := 2 - q / 16) (by omega) (fun u => ?_) (fun i hi hne u => ?_)
      · refine obs_hit (fun u : Nat → Int32 => u q) (fun _ => zred (ke (9 * c + 3 * (2 - q / 16) + (2 - q % 16)))) (i0 := 2 - q % 16) (by omega) (fun u => ?_) (fun i hi hne u => pk_un (by omega))
        show upd u (16 * (2 - (2 - q / 16)) + 2 - (2 - q % 16)) _ q = _
        rw [show 16 * (2 - (2 - q / 16)) + 2 - (2 - q % 16) = q by omega]
        exact pk_us
      · exact obs_miss (fun u : Nat → Int32 => u q) (fun k hk u => pk_un (by omega))
    rw [e, if_pos ⟨h1, h2⟩]
    exact zred_rg ⟨by have := (hk (9 * c + 3 * (2 - q / 16) + (2 - q % 16))).1; omega, by have := (hk (9 * c + 3 * (2 - q / 16) + (2 - q % 16))).2; omega⟩
  · have e : zkp ke c (zclr 256 pl) q = nI 0 := by
      rw [← zclr_at hq pl]
      unfold zkp
      exact obs_miss (fun u : Nat → Int32 => u q) (fun j hj u => obs_miss (fun u : Nat → Int32 => u q) (fun i hi u => pk_un (by omega)))
    rw [e, if_neg h, show (nI 0).toInt = 0 by decide]
    exact ⟨rg_0, cg_rf 0⟩
theorem zpp_cg {pi : Nat → Int32} (hp : ∀ j, -20 ≤ (pi j).toInt ∧ (pi j).toInt ≤ 20) (c : Nat) (pl : Nat → Int32) {s : Nat} (hs : s < 256) : rg (zpp pi c (zclr 256 pl) s) ∧ cg (zpp pi c (zclr 256 pl) s).toInt (pf pi c s) := by
  unfold pf
  by_cases h : 1 ≤ s / 16 ∧ s / 16 ≤ 8 ∧ 1 ≤ s % 16 ∧ s % 16 ≤ 8
  · obtain ⟨h1, h2, h3, h4⟩ := h
    have e : zpp pi c (zclr 256 pl) s = zred (pi (64 * c + 8 * (s / 16 - 1) + (s % 16 - 1))) := by
      unfold zpp
      refine obs_hit (fun u : Nat → Int32 => u s) (fun _ => zred (pi (64 * c + 8 * (s / 16 - 1) + (s % 16 - 1)))) (i0 := s / 16 - 1) (by omega) (fun u => ?_) (fun i hi hne u => ?_)
      · refine obs_hit (fun u : Nat → Int32 => u s) (fun _ => zred (pi (64 * c + 8 * (s / 16 - 1) + (s % 16 - 1)))) (i0 := s % 16 - 1) (by omega) (fun u => ?_) (fun i hi hne u => pk_un (by omega))
        show upd u (16 * (s / 16 - 1 + 1) + (s % 16 - 1) + 1) _ s = _
        rw [show 16 * (s / 16 - 1 + 1) + (s % 16 - 1) + 1 = s by omega]
        exact pk_us
      · exact obs_miss (fun u : Nat → Int32 => u s) (fun k hk u => pk_un (by omega))
    rw [e, if_pos ⟨h1, h2, h3, h4⟩]
    exact zred_rg (hp _)
  · have e : zpp pi c (zclr 256 pl) s = nI 0 := by
      rw [← zclr_at hs pl]
      unfold zpp
      exact obs_miss (fun u : Nat → Int32 => u s) (fun j hj u => obs_miss (fun u : Nat → Int32 => u s) (fun i hi u => pk_un (by omega)))
    rw [e, if_neg h, show (nI 0).toInt = 0 by decide]
    exact ⟨rg_0, cg_rf 0⟩
theorem zcpy_at (g f : Nat → Int32) {j : Nat} (h : j < 256) : zcpy g f j = g j := by
  unfold zcpy
  exact obs_hit (fun u : Nat → Int32 => u j) (fun _ => g j) h (fun u => pk_us) (fun i hi hne u => pk_un (by omega))
theorem ztot_at (pl ot t : Nat → Int32) {j : Nat} (h : j < 256) : ztot pl ot t j = rmd (t j + pl j * ot j) P7 := by
  unfold ztot
  exact obs_hit (fun u : Nat → Int32 => u j) (fun a => rmd (a + pl j * ot j) P7) h (fun u => pk_us) (fun i hi hne u => pk_un (by omega))
section TR
variable {pi ke : Nat → Int32}
theorem zk1_cg (hk : ∀ j, -9 ≤ (ke j).toInt ∧ (ke j).toInt ≤ 9) (c : Nat) (t : A2) : ∀ a, a < 256 → rg ((zk1 ke zro c t).1 a) ∧ cg ((zk1 ke zro c t).1 a).toInt (FT (kf ke c) a) := by
  intro a ha
  obtain ⟨h1, h2⟩ := ztr_spec (tb := zro) (pl := zkp ke c (zclr 256 t.1)) (li := t.2) (fun j hj => (zkp_cg hk c t.1 hj).1) zro_rg a ha
  exact ⟨h1, cg_tr h2 (cg_sg (fun q hq => cg_mul (zkp_cg hk c t.1 hq).2 (cg_rf _)))⟩
theorem zk2_cg (hp : ∀ j, -20 ≤ (pi j).toInt ∧ (pi j).toInt ≤ 20) (c : Nat) (t : A2) : ∀ a, a < 256 → rg ((zk2 pi zro c t).1 a) ∧ cg ((zk2 pi zro c t).1 a).toInt (FT (pf pi c) a) := by
  intro a ha
  obtain ⟨h1, h2⟩ := ztr_spec (tb := zro) (pl := zpp pi c (zclr 256 t.1)) (li := t.2) (fun j hj => (zpp_cg hp c t.1 hj).1) zro_rg a ha
  exact ⟨h1, cg_tr h2 (cg_sg (fun q hq => cg_mul (zpp_cg hp c t.1 hq).2 (cg_rf _)))⟩
theorem zat2_cg (hp : ∀ j, -20 ≤ (pi j).toInt ∧ (pi j).toInt ≤ 20) (hk : ∀ j, -9 ≤ (ke j).toInt ∧ (ke j).toInt ≤ 9) (c : Nat) (t : A4) {a : Nat} (ha : a < 256) (h0 : rg (t.2.2.1 a)) : rg ((zat2 pi ke zro c t).2.2.1 a) ∧ cg ((zat2 pi ke zro c t).2.2.1 a).toInt ((t.2.2.1 a).toInt + FT (kf ke c) a * FT (pf pi c) a) := by
  show rg (ztot (zk2 pi zro c (zk1 ke zro c (t.1, t.2.2.2))).1 (zcpy (zk1 ke zro c (t.1, t.2.2.2)).1 t.2.1) t.2.2.1 a) ∧ cg (ztot (zk2 pi zro c (zk1 ke zro c (t.1, t.2.2.2))).1 (zcpy (zk1 ke zro c (t.1, t.2.2.2)).1 t.2.1) t.2.2.1 a).toInt _
  rw [ztot_at _ _ _ ha, zcpy_at _ _ ha]
  obtain ⟨k1, k2⟩ := zk1_cg hk c (t.1, t.2.2.2) a ha
  obtain ⟨p1, p2⟩ := zk2_cg hp c (zk1 ke zro c (t.1, t.2.2.2)) a ha
  obtain ⟨m1, m2, m3⟩ := rg_mul p1 k1
  have g1 := h0.1
  have g2 := h0.2
  have e := b_toInt_add (a := t.2.2.1 a) (b := (zk2 pi zro c (zk1 ke zro c (t.1, t.2.2.2))).1 a * (zk1 ke zro c (t.1, t.2.2.2)).1 a) (A := 7681) (B := 58997761) ⟨by omega, by omega⟩ ⟨by omega, by omega⟩ (by decide)
  obtain ⟨r1, r2⟩ := rmd_rg (x := t.2.2.1 a + (zk2 pi zro c (zk1 ke zro c (t.1, t.2.2.2))).1 a * (zk1 ke zro c (t.1, t.2.2.2)).1 a) (by omega)
  refine ⟨r1, cg_tr r2 ?_⟩
  rw [e, m1, Int.mul_comm]
  exact cg_add (cg_rf _) (cg_mul k2 p2)
theorem zmt0_cg (hp : ∀ j, -20 ≤ (pi j).toInt ∧ (pi j).toInt ≤ 20) (hk : ∀ j, -9 ≤ (ke j).toInt ∧ (ke j).toInt ≤ 9) (t : A4) {a : Nat} (ha : a < 256) : rg ((zmt0 pi ke zro t).2.2.1 a) ∧ cg ((zmt0 pi ke zro t).2.2.1 a).toInt (FT (kf ke 0) a * FT (pf pi 0) a + FT (kf ke 1) a * FT (pf pi 1) a) := by
  have e0 : (t.1, t.2.1, zclr 256 t.2.2.1, t.2.2.2).2.2.1 a = nI 0 := zclr_at ha _
  obtain ⟨a1, a2⟩ := zat2_cg hp hk 0 (t.1, t.2.1, zclr 256 t.2.2.1, t.2.2.2) ha (by rw [e0]; exact rg_0)
  obtain ⟨b1, b2⟩ := zat2_cg hp hk 1 (zat2 pi ke zro 0 (t.1, t.2.1, zclr 256 t.2.2.1, t.2.2.2)) ha a1
  refine ⟨b1, cg_tr b2 (cg_add ?_ (cg_rf _))⟩
  rw [e0, show (nI 0).toInt = 0 by decide, Int.zero_add] at a2
  exact a2
theorem zmt1_cg (hp : ∀ j, -20 ≤ (pi j).toInt ∧ (pi j).toInt ≤ 20) (hk : ∀ j, -9 ≤ (ke j).toInt ∧ (ke j).toInt ≤ 9) (t : A4) {w : Nat} (hw : w < 256) : rg ((zmt1 zba (zmt0 pi ke zro t)).1 w) ∧ cg ((zmt1 zba (zmt0 pi ke zro t)).1 w).toInt (sg (fun q => sg (fun s => kf ke 0 q * pf pi 0 s * hit q s w) 256) 256 + sg (fun q => sg (fun s => kf ke 1 q * pf pi 1 s * hit q s w) 256) 256) := by
  obtain ⟨h1, h2⟩ := ztr_spec (tb := zba) (pl := zcpy (zmt0 pi ke zro t).2.2.1 (zmt0 pi ke zro t).1) (li := (zmt0 pi ke zro t).2.2.2) (fun j hj => by rw [zcpy_at _ _ hj]; exact (zmt0_cg hp hk t hj).1) zba_rg w hw
  refine ⟨h1, cg_tr h2 (cg_tr (b := sg (fun a => FT (kf ke 0) a * FT (pf pi 0) a * T2 zba w a) 256 + sg (fun a => FT (kf ke 1) a * FT (pf pi 1) a * T2 zba w a) 256) ?_ (cg_add (conv_cg _ _ hw) (conv_cg _ _ hw)))⟩
  rw [← sg_plus]
  refine cg_sg (fun a ha => ?_)
  rw [zcpy_at _ _ ha, ← Int.add_mul]
  exact cg_mul (zmt0_cg hp hk t ha).2 (cg_rf _)
/-- the sum over all places: nine of them count -/
theorem nine (ke pi : Nat → Int32) (c : Nat) {u v : Nat} (hu : 2 ≤ u) (hu2 : u < 16) (hv : 2 ≤ v) (hv2 : v < 16) : sg (fun q => sg (fun s => kf ke c q * pf pi c s * hit q s (16 * v + u)) 256) 256 = sg (fun a => sg (fun b => kf ke c (16 * a + b) * pf pi c (16 * (v - a) + (u - b)) * 256) 3) 3 := by
  have z : ∀ q, ¬ (q / 16 ≤ 2 ∧ q % 16 ≤ 2) → sg (fun s => kf ke c q * pf pi c s * hit q s (16 * v + u)) 256 = 0 := by
    intro q hq
    refine sg_0 (fun s _ => ?_)
    unfold kf
    rw [if_neg hq, Int.zero_mul, Int.zero_mul]
  rw [sg_256, sg_tail (m := 3) (by decide) (fun a ha h3 => sg_0 (fun b hb => z (16 * a + b) (by omega)))]
  refine sg_congr (fun a ha => ?_)
  rw [sg_tail (m := 3) (by decide) (fun b hb h3 => z (16 * a + b) (by omega))]
  refine sg_congr (fun b hb => ?_)
  rw [sg_one (i0 := 16 * (v - a) + (u - b)) (by omega) (fun s hs hne => ?_)]
  · unfold hit
    rw [if_pos (by omega)]
  · unfold hit
    rw [if_neg (by omega), Int.mul_zero]
theorem zat_pad (pi : Nat → Int32) (c : Nat) {A B mg : Nat} (hA : A ≤ 30) (hB : B ≤ 30) (hmg : mg ≤ 1) : (zat pi c (nI A - nI mg) (nI B - nI mg)).toInt = pf pi c (16 * (B + 1 - mg) + (A + 1 - mg)) ∨ 16 ≤ A + 1 - mg := by
  by_cases h16 : 16 ≤ A + 1 - mg
  · exact Or.inr h16
  · left
    have eA : (nI A - nI mg).toInt = (A : Int) - mg := pk_sub_toInt (by omega) (by omega)
    have eB : (nI B - nI mg).toInt = (B : Int) - mg := pk_sub_toInt (by omega) (by omega)
    have h0 : (0 : Int32).toInt = 0 := by decide
    have h8 : (nI 8).toInt = 8 := by decide
    have n0 : (nI 0).toInt = 0 := by decide
    unfold pf
    rw [show (16 * (B + 1 - mg) + (A + 1 - mg)) / 16 = B + 1 - mg by omega, show (16 * (B + 1 - mg) + (A + 1 - mg)) % 16 = A + 1 - mg by omega]
    unfold zat
    by_cases c1 : nI A - nI mg < 0
    · rw [if_pos c1, n0]
      rw [Int32.lt_iff_toInt_lt, eA, h0] at c1
      rw [if_neg (by omega)]
    · rw [if_neg c1]
      rw [Int32.lt_iff_toInt_lt, eA, h0] at c1
      by_cases c2 : nI 8 ≤ nI A - nI mg
      · rw [if_pos c2, n0]
        rw [Int32.le_iff_toInt_le, eA, h8] at c2
        rw [if_neg (by omega)]
      · rw [if_neg c2]
        rw [Int32.le_iff_toInt_le, eA, h8] at c2
        by_cases c3 : nI B - nI mg < 0
        · rw [if_pos c3, n0]
          rw [Int32.lt_iff_toInt_lt, eB, h0] at c3
          rw [if_neg (by omega)]
        · rw [if_neg c3]
          rw [Int32.lt_iff_toInt_lt, eB, h0] at c3
          by_cases c4 : nI B - nI mg < nI 8
          · rw [if_pos c4]
            rw [Int32.lt_iff_toInt_lt, eB, h8] at c4
            rw [if_pos (by omega), pk_sub (show mg ≤ A by omega), pk_sub (show mg ≤ B by omega), nI_clamp (by omega), nI_clamp (by omega), show B + 1 - mg - 1 = B - mg by omega, show A + 1 - mg - 1 = A - mg by omega]
          · rw [if_neg c4, n0]
            rw [Int32.lt_iff_toInt_lt, eB, h8] at c4
            rw [if_neg (by omega)]
/-- one of the eighteen products -/
def KP (pi ke : Nat → Int32) (st mg x y k : Nat) : Int := (ke k).toInt * (pxk pi st mg x y k).toInt
theorem term_eq (pi ke : Nat → Int32) {st mg x y c a b : Nat} (hmg : mg ≤ 1) (hx : st * x ≤ 7) (hy : st * y ≤ 7) (hc : c < 2) (ha : a < 3) (hb : b < 3) : kf ke c (16 * a + b) * pf pi c (16 * (st * y + 3 - mg - a) + (st * x + 3 - mg - b)) * 256 = KP pi ke st mg x y (9 * c + 3 * (2 - a) + (2 - b)) * 256 := by
  unfold KP pxk kf
  rw [if_pos (by omega), show (16 * a + b) / 16 = a by omega, show (16 * a + b) % 16 = b by omega, show (9 * c + 3 * (2 - a) + (2 - b)) / 9 = c by omega, show (9 * c + 3 * (2 - a) + (2 - b)) % 3 = 2 - b by omega, show (9 * c + 3 * (2 - a) + (2 - b)) % 9 / 3 = 2 - a by omega]
  rcases zat_pad pi c (A := st * x + (2 - b)) (B := st * y + (2 - a)) (mg := mg) (by omega) (by omega) hmg with e | e
  · rw [e, show st * y + (2 - a) + 1 - mg = st * y + 3 - mg - a by omega, show st * x + (2 - b) + 1 - mg = st * x + 3 - mg - b by omega]
  · omega
theorem sum_int {g : Nat → Int32} {B : Int} (hB : 0 ≤ B) (n : Nat) (hg : ∀ k, k < n → -B ≤ (g k).toInt ∧ (g k).toInt ≤ B) (hn : (n : Int) * B ≤ 1000000) : (it (fun k a => a + g k) (nI 0) n).toInt = sg (fun k => (g k).toInt) n := by
  induction n with
  | zero => show (nI 0).toInt = 0; decide
  | succ n ih =>
    have e : ((n + 1 : Nat) : Int) * B = (n : Int) * B + B := by rw [Int.natCast_add, Int.add_mul]; simp
    rw [e] at hn
    have h1 := sum_bd hB n (fun k hk => hg k (by omega)) (by omega)
    rw [it_s, b_toInt_add h1 (hg n (by omega)) (by omega), ih (fun k hk => hg k (by omega)) (by omega), sg_s]
theorem zprod_int (hp : ∀ j, -20 ≤ (pi j).toInt ∧ (pi j).toInt ≤ 20) (hk : ∀ j, -9 ≤ (ke j).toInt ∧ (ke j).toInt ≤ 9) (st mg x y : Nat) : (zprod pi ke st mg x y).toInt = sg (KP pi ke st mg x y) 18 ∧ -3240 ≤ (zprod pi ke st mg x y).toInt ∧ (zprod pi ke st mg x y).toInt ≤ 3240 := by
  have hg : ∀ k, k < 18 → -180 ≤ (ke k * pxk pi st mg x y k).toInt ∧ (ke k * pxk pi st mg x y k).toInt ≤ 180 := by
    intro k _
    have h2 := zat_bd hp (k / 9) (nI (st * x + k % 3) - nI mg) (nI (st * y + k % 9 / 3) - nI mg)
    have h3 := b_mul (hk k) h2
    show -180 ≤ (ke k * zat pi _ _ _).toInt ∧ (ke k * zat pi _ _ _).toInt ≤ 180
    rw [b_toInt_mul (hk k) h2 (by decide)]
    omega
  rw [zprod_eq]
  refine ⟨?_, sum_bd (B := 180) (by decide) 18 hg (by decide)⟩
  rw [sum_int (B := 180) (by decide) 18 hg (by decide)]
  refine sg_congr (fun k _ => ?_)
  exact b_toInt_mul (hk k) (zat_bd hp (k / 9) (nI (st * x + k % 3) - nI mg) (nI (st * y + k % 9 / 3) - nI mg)) (by decide)
theorem nine_c (f : Nat → Int) : sg (fun a => sg (fun b => f (9 * 0 + 3 * (2 - a) + (2 - b)) * 256) 3) 3 + sg (fun a => sg (fun b => f (9 * 1 + 3 * (2 - a) + (2 - b)) * 256) 3) 3 = 256 * sg f 18 := by
  show (0 + (0 + f 8 * 256 + f 7 * 256 + f 6 * 256) + (0 + f 5 * 256 + f 4 * 256 + f 3 * 256) + (0 + f 2 * 256 + f 1 * 256 + f 0 * 256)) + (0 + (0 + f 17 * 256 + f 16 * 256 + f 15 * 256) + (0 + f 14 * 256 + f 13 * 256 + f 12 * 256) + (0 + f 11 * 256 + f 10 * 256 + f 9 * 256)) = 256 * (0 + f 0 + f 1 + f 2 + f 3 + f 4 + f 5 + f 6 + f 7 + f 8 + f 9 + f 10 + f 11 + f 12 + f 13 + f 14 + f 15 + f 16 + f 17)
  omega
theorem trans_eq (hp : ∀ j, -20 ≤ (pi j).toInt ∧ (pi j).toInt ≤ 20) (hk : ∀ j, -9 ≤ (ke j).toInt ∧ (ke j).toInt ≤ 9) (t : A4) {st mg x y : Nat} (hmg : mg ≤ 1) (hx : st * x ≤ 7) (hy : st * y ≤ 7) : zcen (rmd ((zmt1 zba (zmt0 pi ke zro t)).1 (16 * (st * y + 3 - mg) + st * x + 3 - mg) * zpow (nI 256) 7679) P7) = zprod pi ke st mg x y := by
  have ew : 16 * (st * y + 3 - mg) + st * x + 3 - mg = 16 * (st * y + 3 - mg) + (st * x + 3 - mg) := by omega
  rw [ew, zpow_sc]
  obtain ⟨u1, u2⟩ := zmt1_cg hp hk t (w := 16 * (st * y + 3 - mg) + (st * x + 3 - mg)) (by omega)
  rw [nine ke pi 0 (by omega) (by omega) (by omega) (by omega), nine ke pi 1 (by omega) (by omega) (by omega) (by omega)] at u2
  have e0 : sg (fun a => sg (fun b => kf ke 0 (16 * a + b) * pf pi 0 (16 * (st * y + 3 - mg - a) + (st * x + 3 - mg - b)) * 256) 3) 3 = sg (fun a => sg (fun b => KP pi ke st mg x y (9 * 0 + 3 * (2 - a) + (2 - b)) * 256) 3) 3 := sg_congr (fun a ha => sg_congr (fun b hb => term_eq pi ke hmg hx hy (by decide) ha hb))
  have e1 : sg (fun a => sg (fun b => kf ke 1 (16 * a + b) * pf pi 1 (16 * (st * y + 3 - mg - a) + (st * x + 3 - mg - b)) * 256) 3) 3 = sg (fun a => sg (fun b => KP pi ke st mg x y (9 * 1 + 3 * (2 - a) + (2 - b)) * 256) 3) 3 := sg_congr (fun a ha => sg_congr (fun b hb => term_eq pi ke hmg hx hy (by decide) ha hb))
  rw [e0, e1, nine_c, ← (zprod_int hp hk st mg x y).1] at u2
  obtain ⟨-, z1, z2⟩ := zprod_int hp hk st mg x y
  generalize zprod pi ke st mg x y = Z at u2 z1 z2 ⊢
  generalize (zmt1 zba (zmt0 pi ke zro t)).1 (16 * (st * y + 3 - mg) + (st * x + 3 - mg)) = U at u1 u2 ⊢
  have hs : rg (nI 7651) := by unfold rg; rw [show (nI 7651).toInt = 7651 by decide]; decide
  obtain ⟨m1, m2, m3⟩ := rg_mul u1 hs
  obtain ⟨r1, r2⟩ := rmd_rg (x := U * nI 7651) (by omega)
  rw [m1, show (nI 7651).toInt = 7651 by decide] at r2
  have r3 : cg (rmd (U * nI 7651) P7).toInt Z.toInt := by
    refine cg_tr r2 ?_
    obtain ⟨k, e⟩ := u2
    exact ⟨255 * Z.toInt + 7651 * k, by rw [e]; omega⟩
  generalize rmd (U * nI 7651) P7 = V at r1 r3 ⊢
  obtain ⟨k, ek⟩ := r3
  have r4 := r1.1
  have r5 := r1.2
  apply Int32.toInt_inj.mp
  unfold zcen
  have h3 : (nI 3840).toInt = 3840 := by decide
  have h7 : P7.toInt = 7681 := by decide
  by_cases q : V ≤ nI 3840
  · rw [if_pos q]
    rw [Int32.le_iff_toInt_le, h3] at q
    omega
  · rw [if_neg q]
    rw [Int32.le_iff_toInt_le, h3] at q
    have e : (V - P7).toInt = V.toInt - 7681 := by
      rw [Int32.toInt_sub, h7]
      exact Int.bmod_eq_of_le (by omega) (by omega)
    rw [e]
    omega
end TR
end
section
set_option maxRecDepth 100000
section MOVE
variable {pi ke : Nat → Int32} {st mg ch wd : Nat} {ou re : Nat → Int32}
theorem zmvM_at (pi ke : Nat → Int32) (st mg : Nat) {w : Nat} (hw : w ≤ 8) (re : Nat → Int32) {x y : Nat} (hx : x < w) (hy : y < w) : zmvM pi ke st mg w re (8 * y + x) = zprod pi ke st mg x y := by
  unfold zmvM
  exact grd_at (fun x y => zprod pi ke st mg x y) hw re hx hy
theorem agr_t (h : Rel pi ke st mg ch wd ou re) (h1 : st = 1) (hf sh pc pr : Nat → Int32) : agr (zwid st mg) (it (ztiles pi ke (zwid st mg) mg) (hf, sh, pc, pr, zclr 64 ou) 2).2.2.2.2 (zmvM pi ke st mg (zwid st mg) re) := by
  obtain ⟨hw8, hsw8, hev, -⟩ := zwid_le h.1 h.2.1
  intro x y hx hy
  rw [zmvM_at pi ke st mg hw8 re hx hy, tiles_eq h.2.2.2.2.1 h.2.2.2.2.2.1 hw8 (hev h1) hx hy, h1]
theorem agr_f (h : Rel pi ke st mg ch wd ou re) (t : A4) : agr (zwid st mg) (zout (zmt1 zba (zmt0 pi ke zro t)).1 (zpow (nI 256) 7679) (zwid st mg) st mg (zclr 64 ou)) (zmvM pi ke st mg (zwid st mg) re) := by
  obtain ⟨hw8, hsw8, hev, -⟩ := zwid_le h.1 h.2.1
  intro x y hx hy
  have hst := h.1
  have hx7 : st * x ≤ 7 := by
    generalize zwid st mg = w at *
    rcases hst with q | q <;> subst q <;> omega
  have hy7 : st * y ≤ 7 := by
    generalize zwid st mg = w at *
    rcases hst with q | q <;> subst q <;> omega
  rw [zmvM_at pi ke st mg hw8 re hx hy, ← trans_eq h.2.2.2.2.1 h.2.2.2.2.2.1 t h.2.1 hx7 hy7]
  unfold zout
  exact grd_at (fun x y => zcen (rmd ((zmt1 zba (zmt0 pi ke zro t)).1 (16 * (st * y + 3 - mg) + st * x + 3 - mg) * zpow (nI 256) 7679) P7)) hw8 _ hx hy
theorem agr_w (h : Rel pi ke st mg ch wd ou re) (wi : Nat → Int32) : agr (zwid st mg) (zwo (zws pi (zwid st mg) st mg wi) ke (zwid st mg) (zclr 64 ou)) (zmvM pi ke st mg (zwid st mg) re) := by
  obtain ⟨hw8, hsw8, hev, -⟩ := zwid_le h.1 h.2.1
  intro x y hx hy
  rw [zmvM_at pi ke st mg hw8 re hx hy, win_eq pi ke wi ou st mg hw8 hx hy]
theorem rel_mv (h : Rel pi ke st mg ch wd ou re) {o r : Nat → Int32} (ha : agr (zwid st mg) o r) : Rel pi ke st mg ch (zwid st mg) o r := ⟨h.1, h.2.1, h.2.2.1, (zwid_le h.1 h.2.1).1, h.2.2.2.2.1, h.2.2.2.2.2.1, ha⟩
theorem r_move {pc hf sh pr pl ot tt li wi : Nat → Int32} (h : Rel pi ke st mg ch wd ou re) : ∃ ou2 pc2 hf2 sh2 pr2 pl2 ot2 tt2 li2 wi2 : Nat → Int32, (if (if ch = 0 then st else ch) = 1 then (if st = 1 then xs pi ke st mg ch (zwid st mg) ((it (ztiles pi ke (zwid st mg) mg) (hf, sh, pc, pr, zclr 64 ou) 2).2.2.2.2) ((it (ztiles pi ke (zwid st mg) mg) (hf, sh, pc, pr, zclr 64 ou) 2).2.2.1) ((it (ztiles pi ke (zwid st mg) mg) (hf, sh, pc, pr, zclr 64 ou) 2).1) ((it (ztiles pi ke (zwid st mg) mg) (hf, sh, pc, pr, zclr 64 ou) 2).2.1) ((it (ztiles pi ke (zwid st mg) mg) (hf, sh, pc, pr, zclr 64 ou) 2).2.2.2.1) pl ot tt li zro zba wi else if (if ch = 0 then st else ch) = 2 then xs pi ke st mg ch (zwid st mg) (zout (zmt1 zba (zmt0 pi ke zro (pl, ot, tt, li))).1 (zpow (nI 256) 7679) (zwid st mg) st mg (zclr 64 ou)) pc hf sh pr ((zmt1 zba (zmt0 pi ke zro (pl, ot, tt, li))).1) ((zmt0 pi ke zro (pl, ot, tt, li)).2.1) ((zmt0 pi ke zro (pl, ot, tt, li)).2.2.1) ((zmt1 zba (zmt0 pi ke zro (pl, ot, tt, li))).2) zro zba wi else xs pi ke st mg ch (zwid st mg) (zwo (zws pi (zwid st mg) st mg wi) ke (zwid st mg) (zclr 64 ou)) pc hf sh pr pl ot tt li zro zba (zws pi (zwid st mg) st mg wi)) else if (if ch = 0 then st else ch) = 2 then xs pi ke st mg ch (zwid st mg) (zout (zmt1 zba (zmt0 pi ke zro (pl, ot, tt, li))).1 (zpow (nI 256) 7679) (zwid st mg) st mg (zclr 64 ou)) pc hf sh pr ((zmt1 zba (zmt0 pi ke zro (pl, ot, tt, li))).1) ((zmt0 pi ke zro (pl, ot, tt, li)).2.1) ((zmt0 pi ke zro (pl, ot, tt, li)).2.2.1) ((zmt1 zba (zmt0 pi ke zro (pl, ot, tt, li))).2) zro zba wi else xs pi ke st mg ch (zwid st mg) (zwo (zws pi (zwid st mg) st mg wi) ke (zwid st mg) (zclr 64 ou)) pc hf sh pr pl ot tt li zro zba (zws pi (zwid st mg) st mg wi)) = xs pi ke st mg ch (zwid st mg) ou2 pc2 hf2 sh2 pr2 pl2 ot2 tt2 li2 zro zba wi2 ∧ Rel pi ke st mg ch (zwid st mg) ou2 (zmvM pi ke st mg (zwid st mg) re) := by
  by_cases h1 : (if ch = 0 then st else ch) = 1
  · by_cases h2 : st = 1
    · simp only [if_pos h1, if_pos h2]
      exact ⟨_, _, _, _, _, _, _, _, _, _, rfl, rel_mv h (agr_t h h2 hf sh pc pr)⟩
    · by_cases h3 : (if ch = 0 then st else ch) = 2
      · simp only [if_pos h1, if_neg h2, if_pos h3]
        exact ⟨_, _, _, _, _, _, _, _, _, _, rfl, rel_mv h (agr_f h (pl, ot, tt, li))⟩
      · simp only [if_pos h1, if_neg h2, if_neg h3]
        exact ⟨_, _, _, _, _, _, _, _, _, _, rfl, rel_mv h (agr_w h wi)⟩
  · by_cases h3 : (if ch = 0 then st else ch) = 2
    · simp only [if_neg h1, if_pos h3]
      exact ⟨_, _, _, _, _, _, _, _, _, _, rfl, rel_mv h (agr_f h (pl, ot, tt, li))⟩
    · simp only [if_neg h1, if_neg h3]
      exact ⟨_, _, _, _, _, _, _, _, _, _, rfl, rel_mv h (agr_w h wi)⟩
end MOVE
end
section
set_option maxRecDepth 100000
def R_law : String := "ConvKernelsLaw"
def lw_P (b : Addr) (xs : List Int32) (args : Array Value) (s : State) : Prop := args = #[.ref b] ∧ s.IntsAt b xs ∧ xs.length ≤ 320 ∧ (Jvm.Cond.and given_1 narrow_1).before args s = true
def lw_Q (_ : Array Value) (s : State) (o : Outcome) (t : State) : Prop := o = .returned (some (.int 1)) ∧ Framed s o t [] 600000 7290000
def lw_Z (below : List Frame) (a : Array Value) (s : State) : State → Prop := fun t => ∃ o, t.status = .running ∧ Ended t below o ∧ lw_Q a s o t
/-- the law's own end, with 1 on the stack, nothing written that was there before, its room as the claim has it -/
theorem lw_ret {p : Program} {l : Launch} {e : Env} {s : State} {m : MethodId} {below : List Frame} {meth : Method} {c : Code} {b : Nat} (hx : p.tables.exec = Jvm.exec) (hb : c.code = code) (hr : meth.sig.returnType = ret) (hlocks : meth.locks = false) {pc : Nat} {H : Heap} {ls : Array Slot} (hdg : decode code pc = .ok (.ireturn, 1)) : W p l e room_1 s m #[Value.ref b] below meth c H [] 600000 7290000 (lw_Z below #[Value.ref b] s) (F0 m pc ls [.int 1]) := by
  intro T hT X
  obtain ⟨fs, hret, hrun, hended, hW, hframe⟩ := X.leave (v := some (.int 1)) (hlocks := hlocks) (fun h => by rw [hr] at h; cases h)
  have hmeth' : T.vm.method? m = some meth := X.method'
  refine ⟨T.setFrames fs, ?_, .returned (some (.int 1)), hrun, hended, rfl, ⟨_, rfl⟩, hW, hframe⟩
  jvm_step X.here [X.here.top, hx, hb, hdg, hmeth', hr, ret, narrow_b1]
  (try refine ⟨rfl, ?_⟩); (try refine ⟨rfl, ?_⟩)
  first | (intro acts; rw [hret _ acts rfl rfl rfl]) | rw [hret _ _ rfl rfl rfl]
  exact Steps.refl _
/-- what holds at the law's entry: the machine, the code, the tables' words (any of lw_tbl by 'hts w (by decide +kernel)'), the script of L ints xs at the cell b, what the Statement gives of the start (any of its parts by flat_of_before) -/
def lw_At (p : Program) (s : State) (m : MethodId) (meth : Method) (c : Code) (b L : Nat) (xs : Nat → Int32) : Prop :=
  p.tables.exec = Jvm.exec ∧ c.code = code ∧ meth.sig.returnType = ret ∧ c.maxLocals = 4 ∧ s.vm.findClass R_law = some m.cls ∧ (∀ w ∈ lw_tbl, w.before #[Value.ref b] s = true) ∧ va_X b L xs s s.heap ∧ b < s.heap.size ∧ meth.locks = false ∧ (Jvm.Cond.and given_1 narrow_1).before #[Value.ref b] s = true
theorem va_P.left {D : va_G} {cl : List vw_C} {a b : va_W} {H : Heap} (h : va_P D cl (a ++ b) H) : va_P D cl a H := fun k q hk => h k q (by rw [List.getElem?_append_left (List.getElem?_eq_some_iff.mp hk).1]; exact hk)
theorem va_P.right {D : va_G} {cl : List vw_C} {a b : va_W} {H : Heap} (h : va_P D cl (a ++ b) H) : va_P D cl b H := fun k q hk => h (a.length + k) q (by rw [List.getElem?_append_right (Nat.le_add_right _ _), Nat.add_sub_cancel_left]; exact hk)
theorem va_D.left {A : Nat → Prop} {a b : va_W} (h : va_D A (a ++ b)) : va_D A a := by
  have key : ∀ {k : Nat} {q : Nat × va_E}, a[k]? = some q → (a ++ b)[k]? = some q := fun {k q} hk => by rw [List.getElem?_append_left (List.getElem?_eq_some_iff.mp hk).1]; exact hk
  exact ⟨fun i j x y hi hj e => h.1 i j x y (key hi) (key hj) e, fun k q hk => h.2 k q (key hk)⟩
theorem va_D.right {A : Nat → Prop} {a b : va_W} (h : va_D A (a ++ b)) : va_D A b := by
  have key : ∀ {k : Nat} {q : Nat × va_E}, b[k]? = some q → (a ++ b)[a.length + k]? = some q := fun {k q} hk => by rw [List.getElem?_append_right (Nat.le_add_right _ _), Nat.add_sub_cancel_left]; exact hk
  refine ⟨fun i j x y hi hj e => ?_, fun k q hk => h.2 _ q (key hk)⟩
  have := h.1 _ _ x y (key hi) (key hj) e
  omega
theorem va_D.apart {A : Nat → Prop} {a b : va_W} (h : va_D A (a ++ b)) {i j : Nat} {x y : Nat × va_E} (hx : a[i]? = some x) (hy : b[j]? = some y) : x.1 ≠ y.1 := by
  intro e
  have hl := (List.getElem?_eq_some_iff.mp hx).1
  have h1 : (a ++ b)[i]? = some x := by rw [List.getElem?_append_left hl]; exact hx
  have h2 : (a ++ b)[a.length + j]? = some y := by rw [List.getElem?_append_right (Nat.le_add_right _ _), Nat.add_sub_cancel_left]; exact hy
  have := h.1 _ _ x y h1 h2 e
  omega
/-- behind a call on the left object: the right one stands -/
theorem joinL {A : Nat → Prop} {D : va_G} {cl : List vw_C} {a b a' : va_W} {H H1 : Heap} (hP : va_P D cl (a ++ b) H) (hD : va_D A (a ++ b)) (hk : ∀ q : Nat, q < H.size → ¬ va_A a H.size q → H1[q]? = H[q]?) (hF : ∀ q, va_A a H.size q → A q) (hP1 : va_P D cl a' H1) (hD1 : va_D (va_A a H.size) a') : va_P D cl (a' ++ b) H1 ∧ va_D A (a' ++ b) := by
  have apart : ∀ (k : Nat) (q : Nat × va_E), b[k]? = some q → q.1 < H.size ∧ ¬ va_A a H.size q.1 := by
    intro k q hq
    have hl := (hP.right k q hq).lt
    refine ⟨hl, fun h => ?_⟩
    rcases h with ⟨k2, e, h⟩ | h
    · exact hD.apart h hq rfl
    · omega
  refine ⟨va_P.app hP1 (fun k q hq => ?_), va_D.app (hD1.weaken (fun k q _ h => hF q.1 h)) hD.right (fun i j x y hx hy hxy => ?_)⟩
  · obtain ⟨g1, g2⟩ := apart k q hq
    exact (hP.right k q hq).kept (hk q.1 g1 g2)
  · exact (apart j y hy).2 (by rw [← hxy]; exact hD1.2 i x hx)
theorem joinR {A : Nat → Prop} {D : va_G} {cl : List vw_C} {a b b' : va_W} {H H1 : Heap} (hP : va_P D cl (a ++ b) H) (hD : va_D A (a ++ b)) (hk : ∀ q : Nat, q < H.size → ¬ va_A b H.size q → H1[q]? = H[q]?) (hF : ∀ q, va_A b H.size q → A q) (hP1 : va_P D cl b' H1) (hD1 : va_D (va_A b H.size) b') : va_P D cl (a ++ b') H1 ∧ va_D A (a ++ b') := by
  have apart : ∀ (k : Nat) (q : Nat × va_E), a[k]? = some q → q.1 < H.size ∧ ¬ va_A b H.size q.1 := by
    intro k q hq
    have hl := (hP.left k q hq).lt
    refine ⟨hl, fun h => ?_⟩
    rcases h with ⟨k2, e, h⟩ | h
    · exact hD.apart hq h rfl
    · omega
  refine ⟨va_P.app (fun k q hq => ?_) hP1, va_D.app hD.left (hD1.weaken (fun k q _ h => hF q.1 h)) (fun i j x y hx hy hxy => ?_)⟩
  · obtain ⟨g1, g2⟩ := apart k q hq
    exact (hP.left k q hq).kept (hk q.1 g1 g2)
  · exact (apart i x hx).2 (by rw [hxy]; exact hD1.2 j y hy)
def lG (p : Program) (l : Launch) (e : Env) (s : State) (m : MethodId) (b : Nat) (below : List Frame) (meth : Method) (c : Code) (k n : Nat) (Q : State → Prop) (D : va_G) (d0 d1 : ClassId) (A : Nat → Prop) (h0 : Nat) (ad0 : Nat → Nat) (h1 : Nat) (ad1 : Nat → Nat) : gS → gS → Nat → List Value → List Value → Prop := fun S0 S1 pc lv st =>
  ∀ (H : Heap) (locs : List Loc) (ls : Array Slot), va_P D vwCl (gw 0 h0 ad0 d0 len0 S0 ++ gw 1 h1 ad1 d1 len1 S1) H → va_D A (gw 0 h0 ad0 d0 len0 S0 ++ gw 1 h1 ad1 d1 len1 S1) → va_S A s.heap H locs → gL ls 4 lv → W p l e room_1 s m #[Value.ref b] below meth c H locs k n Q (F0 m pc ls st)
def lOK (l : Launch) (b L : Nat) (sc : Nat → Int32) (h0 h1 : Nat) (G : gS → gS → Nat → List Value → List Value → Prop) : Prop :=
  ∃ (p : Program) (e : Env) (s : State) (m : MethodId) (below : List Frame) (meth : Method) (c : Code) (k n : Nat) (Q : State → Prop) (D : va_G) (d0 d1 : ClassId) (A : Nat → Prop) (ad0 ad1 : Nat → Nat),
    G = lG p l e s m b below meth c k n Q D d0 d1 A h0 ad0 h1 ad1 ∧ p.tables.exec = Jvm.exec ∧ c.code = code ∧ c.maxLocals = 4 ∧ s.vm.findClass R_law = some m.cls ∧ (∀ w ∈ lw_all, w.before #[Value.ref b] s = true) ∧ va_K D vwCl [(d0, .int)] s ∧ va_K D vwCl [(d1, .int)] s ∧ (∀ q, s.heap.size ≤ q → A q) ∧ (k ≤ room_1.cells ∧ n ≤ room_1.slots) ∧ va_X b L sc s s.heap ∧ b < s.heap.size ∧ ¬ A b ∧
    (∀ (H : Heap) (locs : List Loc) (ls : Array Slot) (pc : Nat), va_S A s.heap H locs → decode code pc = .ok (.ireturn, 1) → W p l e room_1 s m #[Value.ref b] below meth c H locs k n Q (F0 m pc ls [.int 1]))
section LROWS
variable {l : Launch} {b L : Nat} {sc : Nat → Int32} {h0 h1 : Nat} {G : gS → gS → Nat → List Value → List Value → Prop} {S0 S1 : gS} {pc : Nat} {lv st : List Value}
theorem la_iconst (X : lOK l b L sc h0 h1 G) {n : Int} {v : Int32} (hd : decode code pc = .ok (.iconst n, 1)) (hv : Int32.ofInt n = v) (k : G S0 S1 (pc + 1) lv (.int v :: st)) : G S0 S1 pc lv st := by
  obtain ⟨p, e, s, m, below, meth, c, kc, n0, Q, D, d0, d1, A, ad0, ad1, rfl, hx, hb, hml, hown, hts, hK0, hK1, hA, hkn, hX, hbl, hbA, hret⟩ := X
  intro H locs ls hP hD hS hl
  exact lv_iconst hx hb hd hv (k H locs ls hP hD hS hl)
theorem la_bipush (X : lOK l b L sc h0 h1 G) {n : Int} {v : Int32} (hd : decode code pc = .ok (.bipush n, 2)) (hv : (Int8.ofInt n).toInt32 = v) (k : G S0 S1 (pc + 2) lv (.int v :: st)) : G S0 S1 pc lv st := by
  obtain ⟨p, e, s, m, below, meth, c, kc, n0, Q, D, d0, d1, A, ad0, ad1, rfl, hx, hb, hml, hown, hts, hK0, hK1, hA, hkn, hX, hbl, hbA, hret⟩ := X
  intro H locs ls hP hD hS hl
  exact lv_bipush hx hb hd hv (k H locs ls hP hD hS hl)
theorem la_iload_n (X : lOK l b L sc h0 h1 G) {i : Fin 4} {x : Int32} (hd : decode code pc = .ok (.iload_n i, 1)) (hi : lv[(i : Nat)]? = some (.int x)) (k : G S0 S1 (pc + 1) lv (.int x :: st)) : G S0 S1 pc lv st := by
  obtain ⟨p, e, s, m, below, meth, c, kc, n0, Q, D, d0, d1, A, ad0, ad1, rfl, hx, hb, hml, hown, hts, hK0, hK1, hA, hkn, hX, hbl, hbA, hret⟩ := X
  intro H locs ls hP hD hS hl
  exact lv_iload_n hx hb hd rfl (hl.at hi) (k H locs ls hP hD hS hl)
theorem la_aload_n (X : lOK l b L sc h0 h1 G) {i : Fin 4} {x : Nat} (hd : decode code pc = .ok (.aload_n i, 1)) (hi : lv[(i : Nat)]? = some (.ref x)) (k : G S0 S1 (pc + 1) lv (.ref x :: st)) : G S0 S1 pc lv st := by
  obtain ⟨p, e, s, m, below, meth, c, kc, n0, Q, D, d0, d1, A, ad0, ad1, rfl, hx, hb, hml, hown, hts, hK0, hK1, hA, hkn, hX, hbl, hbA, hret⟩ := X
  intro H locs ls hP hD hS hl
  exact lv_aload_n hx hb hd rfl (hl.at hi) (k H locs ls hP hD hS hl)
theorem la_iadd (X : lOK l b L sc h0 h1 G) {x y : Nat} (hd : decode code pc = .ok (.iadd, 1)) (k : G S0 S1 (pc + 1) lv (.int (nI (x + y)) :: st)) : G S0 S1 pc lv (.int (nI y) :: .int (nI x) :: st) := by
  obtain ⟨p, e, s, m, below, meth, c, kc, n0, Q, D, d0, d1, A, ad0, ad1, rfl, hx, hb, hml, hown, hts, hK0, hK1, hA, hkn, hX, hbl, hbA, hret⟩ := X
  intro H locs ls hP hD hS hl
  refine lv_iadd hx hb hd ?_
  rw [nI_add]
  exact k H locs ls hP hD hS hl
theorem la_isub (X : lOK l b L sc h0 h1 G) {x y : Int32} (hd : decode code pc = .ok (.isub, 1)) (k : G S0 S1 (pc + 1) lv (.int (x - y) :: st)) : G S0 S1 pc lv (.int y :: .int x :: st) := by
  obtain ⟨p, e, s, m, below, meth, c, kc, n0, Q, D, d0, d1, A, ad0, ad1, rfl, hx, hb, hml, hown, hts, hK0, hK1, hA, hkn, hX, hbl, hbA, hret⟩ := X
  intro H locs ls hP hD hS hl
  exact lv_isub hx hb hd (k H locs ls hP hD hS hl)
theorem la_iand (X : lOK l b L sc h0 h1 G) {x y : Int32} (hd : decode code pc = .ok (.iand, 1)) (k : G S0 S1 (pc + 1) lv (.int (x &&& y) :: st)) : G S0 S1 pc lv (.int y :: .int x :: st) := by
  obtain ⟨p, e, s, m, below, meth, c, kc, n0, Q, D, d0, d1, A, ad0, ad1, rfl, hx, hb, hml, hown, hts, hK0, hK1, hA, hkn, hX, hbl, hbA, hret⟩ := X
  intro H locs ls hP hD hS hl
  exact lv_iand hx hb hd (k H locs ls hP hD hS hl)
theorem la_goto (X : lOK l b L sc h0 h1 G) {off : Int} {tgt : Nat} (hd : decode code pc = .ok (.goto off, 3)) (ht : (pc : Int) + off = (tgt : Int)) (k : G S0 S1 tgt lv st) : G S0 S1 pc lv st := by
  obtain ⟨p, e, s, m, below, meth, c, kc, n0, Q, D, d0, d1, A, ad0, ad1, rfl, hx, hb, hml, hown, hts, hK0, hK1, hA, hkn, hX, hbl, hbA, hret⟩ := X
  intro H locs ls hP hD hS hl
  exact lv_goto hx hb hd ht (k H locs ls hP hD hS hl)
theorem la_icmp_gt (X : lOK l b L sc h0 h1 G) {x y : Int32} {off : Int} (tgt : Nat) (hd : decode code pc = .ok (.if_icmp .gt off, 3)) (ht : (pc : Int) + off = (tgt : Int)) (kt : y < x → G S0 S1 tgt lv st) (kf : ¬ y < x → G S0 S1 (pc + 3) lv st) : G S0 S1 pc lv (.int y :: .int x :: st) := by
  obtain ⟨p, e, s, m, below, meth, c, kc, n0, Q, D, d0, d1, A, ad0, ad1, rfl, hx, hb, hml, hown, hts, hK0, hK1, hA, hkn, hX, hbl, hbA, hret⟩ := X
  intro H locs ls hP hD hS hl
  exact lv_icmp_gt hx hb hd ht (fun q => kt q H locs ls hP hD hS hl) (fun q => kf q H locs ls hP hD hS hl)
theorem la_icmp_eq (X : lOK l b L sc h0 h1 G) {x y : Int32} {off : Int} (tgt : Nat) (hd : decode code pc = .ok (.if_icmp .eq off, 3)) (ht : (pc : Int) + off = (tgt : Int)) (z : x = y) (kt : G S0 S1 tgt lv st) : G S0 S1 pc lv (.int y :: .int x :: st) := by
  obtain ⟨p, e, s, m, below, meth, c, kc, n0, Q, D, d0, d1, A, ad0, ad1, rfl, hx, hb, hml, hown, hts, hK0, hK1, hA, hkn, hX, hbl, hbA, hret⟩ := X
  intro H locs ls hP hD hS hl
  exact lv_icmp_eq hx hb hd ht (fun q => kt H locs ls hP hD hS hl) (fun q => absurd z q)
theorem la_iinc5 (X : lOK l b L sc h0 h1 G) {i a : Nat} {lv' : List Value} (hd : decode code pc = .ok (.iinc i 5, 3)) (hn : i < 4) (hi : lv[i]? = some (.int (nI a))) (hp : lput i (.int (nI (a + 5))) lv = lv') (k : G S0 S1 (pc + 3) lv' st) : G S0 S1 pc lv st := by
  obtain ⟨p, e, s, m, below, meth, c, kc, n0, Q, D, d0, d1, A, ad0, ad1, rfl, hx, hb, hml, hown, hts, hK0, hK1, hA, hkn, hX, hbl, hbA, hret⟩ := X
  intro H locs ls hP hD hS hl
  subst hp
  have hg := gz_get (j := 0) hi
  rw [Nat.zero_add] at hg
  exact lv_iinc hx hb hd hl.1 hg (nI_add a 5) hn rfl (fun ls' hl' => k H locs ls' hP hD hS (hl.put rfl hl'))
theorem la_sld (X : lOK l b L sc h0 h1 G) {n : Nat} (hL : L ≤ 320) (hn : n < L) (hd : decode code pc = .ok (.iaload, 1)) (k : G S0 S1 (pc + 1) lv (.int (sc n) :: st)) : G S0 S1 pc lv (.int (nI n) :: .ref b :: st) := by
  obtain ⟨p, e, s, m, below, meth, c, kc, n0, Q, D, d0, d1, A, ad0, ad1, rfl, hx, hb, hml, hown, hts, hK0, hK1, hA, hkn, hX, hbl, hbA, hret⟩ := X
  intro H locs ls hP hD hS hl
  refine va_sld hx hb hX hbl hbA hS (i := nI n) (vp_in_nI hn (by omega)) hd ?_
  rw [nI_clamp (by omega)]
  exact k H locs ls hP hD hS hl
theorem la_slen (X : lOK l b L sc h0 h1 G) (hd : decode code pc = .ok (.arraylength, 1)) (k : G S0 S1 (pc + 1) lv (.int (nI L) :: st)) : G S0 S1 pc lv (.ref b :: st) := by
  obtain ⟨p, e, s, m, below, meth, c, kc, n0, Q, D, d0, d1, A, ad0, ad1, rfl, hx, hb, hml, hown, hts, hK0, hK1, hA, hkn, hX, hbl, hbA, hret⟩ := X
  intro H locs ls hP hD hS hl
  exact va_slen hx hb hX hbl hbA hS hd (k H locs ls hP hD hS hl)
theorem la_tabIn (X : lOK l b L sc h0 h1 G) {dflt lo hi : Int} {offs : Array Int} {ln : Nat} {x : Int32} {off : Int} (tgt : Nat) (hd : decode code pc = .ok (.tableswitch dflt lo hi offs, ln)) (h1 : ¬ x.toInt < lo) (h2 : ¬ hi < x.toInt) (ho : offs[(x.toInt - lo).toNat]? = some off) (ht : (pc : Int) + off = (tgt : Int)) (k : G S0 S1 tgt lv st) : G S0 S1 pc lv (.int x :: st) := by
  obtain ⟨p, e, s, m, below, meth, c, kc, n0, Q, D, d0, d1, A, ad0, ad1, rfl, hx, hb, hml, hown, hts, hK0, hK1, hA, hkn, hX, hbl, hbA, hret⟩ := X
  intro H locs ls hP hD hS hl
  exact lv_tableIn hx hb hd h1 h2 ho ht (k H locs ls hP hD hS hl)
theorem la_tabOut (X : lOK l b L sc h0 h1 G) {dflt lo hi : Int} {offs : Array Int} {ln : Nat} {x : Int32} (tgt : Nat) (hd : decode code pc = .ok (.tableswitch dflt lo hi offs, ln)) (h : x.toInt < lo ∨ hi < x.toInt) (ht : (pc : Int) + dflt = (tgt : Int)) (k : G S0 S1 tgt lv st) : G S0 S1 pc lv (.int x :: st) := by
  obtain ⟨p, e, s, m, below, meth, c, kc, n0, Q, D, d0, d1, A, ad0, ad1, rfl, hx, hb, hml, hown, hts, hK0, hK1, hA, hkn, hX, hbl, hbA, hret⟩ := X
  intro H locs ls hP hD hS hl
  exact lv_tableOut hx hb hd h ht (k H locs ls hP hD hS hl)
theorem la_ret (X : lOK l b L sc h0 h1 G) (hd : decode code pc = .ok (.ireturn, 1)) : G S0 S1 pc lv [.int 1] := by
  obtain ⟨p, e, s, m, below, meth, c, kc, n0, Q, D, d0, d1, A, ad0, ad1, rfl, hx, hb, hml, hown, hts, hK0, hK1, hA, hkn, hX, hbl, hbA, hret⟩ := X
  intro H locs ls hP hD hS hl
  exact hret H locs ls pc hS hd
theorem la_eq {S0' : gS} (hS : S0 = S0') (k : G S0' S1 pc lv st) : G S0 S1 pc lv st := by rw [hS]; exact k
theorem la_call0 (X : lOK l b L sc h0 h1 G) {st0 : List Value} {y : MethodName} {cy : ByteArray} {nLy : Nat} {rm : Room} {as : List Value} {v : Int32} {S0' : gS} {idx : Nat} (hM : DX l y cy nLy rm 0 len0 as S0 v S0') (hw : GoodIn lw_all (wsV R_law idx RX0 y (ws_ y cy nLy (some .int)))) (n : Nat) (hy : y.cls = RX0 ∧ y.cls ≠ "java/lang/invoke/MethodHandle" ∧ y.cls ≠ "java/lang/invoke/VarHandle" ∧ (parseMethodDescriptor y.desc).map (fun d => d.parameters.length) = some n) (hn : as.length = n) (hrm : rm.cells = 0 ∧ rm.slots = 0) (hR : rm.frames + 1 ≤ room_1.frames ∧ 8 + (nLy + 11) + rm.locals ≤ room_1.locals) (hst : st0 = as.reverse ++ .ref h0 :: st) (hst8 : (st.map fun v => v.category).sum ≤ 8) (hdg : decode code pc = .ok (.invokevirtual idx, 3)) (k : G S0' S1 (pc + 3) lv (.int v :: st)) : G S0 S1 pc lv st0 := by
  obtain ⟨p, e, s, m, below, meth, c, kc, n0, Q, D, d0, d1, A, ad0, ad1, rfl, hx, hb, hml, hown, hts, hK0, hK1, hA, hkn, hX, hbl, hbA, hret⟩ := X
  intro H locs ls hP hD hS hl
  have hPc := hP.left
  have hDc := hD.left
  have hF : ∀ q, va_A (gw 0 h0 ad0 d0 len0 S0) H.size q → A q := fun q hq => hq.elim (fun ⟨k, e, h1⟩ => hDc.2 k (q, e) h1) (fun h1 => hA q (Nat.le_trans hS.1 h1))
  refine va_calli (va_runV (As := as) (rest := st) ⟨hx, hb, hml, hown, hts⟩ (hM D d0 h0 ad0 H.size) (cwV n hts hw rfl hrm.1 hrm.2 hy hR) ⟨fun a U g mk q => by obtain ⟨q0, q1, qP, qK, qD⟩ := q; exact ⟨q0, q1, qP, va_K.moved (u := U) (U := U.calling g mk a) (Vm.Alike.refl U.vm) qK, qD⟩, va_recv hK0 hPc (ci := 0) (q0 := 0) rfl rfl, fun U hU hW => ⟨rfl, by rw [hU], by rw [hU]; exact hPc, va_K.moved hW.alike hK0, hDc.weaken (fun _ _ _ _ => trivial)⟩⟩ rfl hn hl.1.1 hst (lv_room hst8) hdg ⟨hkn.1, hkn.2⟩) hS (fun q _ h1 => hF q h1) hF (fun r u t H1 locs1 ht hvm hw1 hB hz1 hk1 hS1 => ?_)
  obtain ⟨rfl, rfl⟩ := hw1
  obtain ⟨hP1, -, hD1⟩ := hB
  rw [ht] at hP1
  obtain ⟨hP2, hD2⟩ := joinL hP hD hk1 hF hP1 hD1
  exact k H1 locs1 ls hP2 hD2 hS1 hl
theorem la_call1 (X : lOK l b L sc h0 h1 G) {st0 : List Value} {y : MethodName} {cy : ByteArray} {nLy : Nat} {rm : Room} {as : List Value} {v : Int32} {S1' : gS} {idx : Nat} (hM : DX l y cy nLy rm 1 len1 as S1 v S1') (hw : GoodIn lw_all (wsV R_law idx RX1 y (ws_ y cy nLy (some .int)))) (n : Nat) (hy : y.cls = RX1 ∧ y.cls ≠ "java/lang/invoke/MethodHandle" ∧ y.cls ≠ "java/lang/invoke/VarHandle" ∧ (parseMethodDescriptor y.desc).map (fun d => d.parameters.length) = some n) (hn : as.length = n) (hrm : rm.cells = 0 ∧ rm.slots = 0) (hR : rm.frames + 1 ≤ room_1.frames ∧ 8 + (nLy + 11) + rm.locals ≤ room_1.locals) (hst : st0 = as.reverse ++ .ref h1 :: st) (hst8 : (st.map fun v => v.category).sum ≤ 8) (hdg : decode code pc = .ok (.invokevirtual idx, 3)) (k : G S0 S1' (pc + 3) lv (.int v :: st)) : G S0 S1 pc lv st0 := by
  obtain ⟨p, e, s, m, below, meth, c, kc, n0, Q, D, d0, d1, A, ad0, ad1, rfl, hx, hb, hml, hown, hts, hK0, hK1, hA, hkn, hX, hbl, hbA, hret⟩ := X
  intro H locs ls hP hD hS hl
  have hPc := hP.right
  have hDc := hD.right
  have hF : ∀ q, va_A (gw 1 h1 ad1 d1 len1 S1) H.size q → A q := fun q hq => hq.elim (fun ⟨k, e, h1⟩ => hDc.2 k (q, e) h1) (fun h1 => hA q (Nat.le_trans hS.1 h1))
  refine va_calli (va_runV (As := as) (rest := st) ⟨hx, hb, hml, hown, hts⟩ (hM D d1 h1 ad1 H.size) (cwV n hts hw rfl hrm.1 hrm.2 hy hR) ⟨fun a U g mk q => by obtain ⟨q0, q1, qP, qK, qD⟩ := q; exact ⟨q0, q1, qP, va_K.moved (u := U) (U := U.calling g mk a) (Vm.Alike.refl U.vm) qK, qD⟩, va_recv hK1 hPc (ci := 1) (q0 := 0) rfl rfl, fun U hU hW => ⟨rfl, by rw [hU], by rw [hU]; exact hPc, va_K.moved hW.alike hK1, hDc.weaken (fun _ _ _ _ => trivial)⟩⟩ rfl hn hl.1.1 hst (lv_room hst8) hdg ⟨hkn.1, hkn.2⟩) hS (fun q _ h1 => hF q h1) hF (fun r u t H1 locs1 ht hvm hw1 hB hz1 hk1 hS1 => ?_)
  obtain ⟨rfl, rfl⟩ := hw1
  obtain ⟨hP1, -, hD1⟩ := hB
  rw [ht] at hP1
  obtain ⟨hP2, hD2⟩ := joinR hP hD hk1 hF hP1 hD1
  exact k H1 locs1 ls hP2 hD2 hS1 hl
end LROWS
theorem wL_X0_put : GoodIn lw_all (wsV R_law 13 RX0 yX0_put (ws_ yX0_put cX0_put 4 (some .int))) := lw_V q95 q96 q97 q25 q98
theorem hL_X0_put : yX0_put.cls = RX0 ∧ yX0_put.cls ≠ "java/lang/invoke/MethodHandle" ∧ yX0_put.cls ≠ "java/lang/invoke/VarHandle" ∧ (parseMethodDescriptor yX0_put.desc).map (fun d => d.parameters.length) = some 2 := by decide +kernel
theorem wL_X1_put : GoodIn lw_all (wsV R_law 17 RX1 yX1_put (ws_ yX1_put cX1_put 4 (some .int))) := lw_V q254 q255 q256 q26 q257
theorem hL_X1_put : yX1_put.cls = RX1 ∧ yX1_put.cls ≠ "java/lang/invoke/MethodHandle" ∧ yX1_put.cls ≠ "java/lang/invoke/VarHandle" ∧ (parseMethodDescriptor yX1_put.desc).map (fun d => d.parameters.length) = some 2 := by decide +kernel
theorem wL_X0_fill : GoodIn lw_all (wsV R_law 18 RX0 yX0_fill (ws_ yX0_fill cX0_fill 9 (some .int))) := lw_V q100 q101 q102 q25 q103
theorem hL_X0_fill : yX0_fill.cls = RX0 ∧ yX0_fill.cls ≠ "java/lang/invoke/MethodHandle" ∧ yX0_fill.cls ≠ "java/lang/invoke/VarHandle" ∧ (parseMethodDescriptor yX0_fill.desc).map (fun d => d.parameters.length) = some 4 := by decide +kernel
theorem wL_X1_fill : GoodIn lw_all (wsV R_law 22 RX1 yX1_fill (ws_ yX1_fill cX1_fill 10 (some .int))) := lw_V q259 q260 q261 q26 q262
theorem hL_X1_fill : yX1_fill.cls = RX1 ∧ yX1_fill.cls ≠ "java/lang/invoke/MethodHandle" ∧ yX1_fill.cls ≠ "java/lang/invoke/VarHandle" ∧ (parseMethodDescriptor yX1_fill.desc).map (fun d => d.parameters.length) = some 4 := by decide +kernel
theorem wL_X0_kernel : GoodIn lw_all (wsV R_law 23 RX0 yX0_kernel (ws_ yX0_kernel cX0_kernel 4 (some .int))) := lw_V q108 q109 q110 q25 q111
theorem hL_X0_kernel : yX0_kernel.cls = RX0 ∧ yX0_kernel.cls ≠ "java/lang/invoke/MethodHandle" ∧ yX0_kernel.cls ≠ "java/lang/invoke/VarHandle" ∧ (parseMethodDescriptor yX0_kernel.desc).map (fun d => d.parameters.length) = some 2 := by decide +kernel
theorem wL_X1_kernel : GoodIn lw_all (wsV R_law 26 RX1 yX1_kernel (ws_ yX1_kernel cX1_kernel 4 (some .int))) := lw_V q267 q268 q269 q26 q270
theorem hL_X1_kernel : yX1_kernel.cls = RX1 ∧ yX1_kernel.cls ≠ "java/lang/invoke/MethodHandle" ∧ yX1_kernel.cls ≠ "java/lang/invoke/VarHandle" ∧ (parseMethodDescriptor yX1_kernel.desc).map (fun d => d.parameters.length) = some 2 := by decide +kernel
theorem wL_X0_pixel : GoodIn lw_all (wsV R_law 27 RX0 yX0_pixel (ws_ yX0_pixel cX0_pixel 2 (some .int))) := lw_V q112 q113 q114 q25 q115
theorem hL_X0_pixel : yX0_pixel.cls = RX0 ∧ yX0_pixel.cls ≠ "java/lang/invoke/MethodHandle" ∧ yX0_pixel.cls ≠ "java/lang/invoke/VarHandle" ∧ (parseMethodDescriptor yX0_pixel.desc).map (fun d => d.parameters.length) = some 1 := by decide +kernel
theorem wL_X1_pixel : GoodIn lw_all (wsV R_law 31 RX1 yX1_pixel (ws_ yX1_pixel cX1_pixel 2 (some .int))) := lw_V q271 q272 q273 q26 q274
theorem hL_X1_pixel : yX1_pixel.cls = RX1 ∧ yX1_pixel.cls ≠ "java/lang/invoke/MethodHandle" ∧ yX1_pixel.cls ≠ "java/lang/invoke/VarHandle" ∧ (parseMethodDescriptor yX1_pixel.desc).map (fun d => d.parameters.length) = some 1 := by decide +kernel
theorem wL_X0_shape : GoodIn lw_all (wsV R_law 32 RX0 yX0_shape (ws_ yX0_shape cX0_shape 3 (some .int))) := lw_V q116 q117 q118 q25 q119
theorem hL_X0_shape : yX0_shape.cls = RX0 ∧ yX0_shape.cls ≠ "java/lang/invoke/MethodHandle" ∧ yX0_shape.cls ≠ "java/lang/invoke/VarHandle" ∧ (parseMethodDescriptor yX0_shape.desc).map (fun d => d.parameters.length) = some 2 := by decide +kernel
theorem wL_X1_shape : GoodIn lw_all (wsV R_law 35 RX1 yX1_shape (ws_ yX1_shape cX1_shape 3 (some .int))) := lw_V q275 q276 q277 q26 q278
theorem hL_X1_shape : yX1_shape.cls = RX1 ∧ yX1_shape.cls ≠ "java/lang/invoke/MethodHandle" ∧ yX1_shape.cls ≠ "java/lang/invoke/VarHandle" ∧ (parseMethodDescriptor yX1_shape.desc).map (fun d => d.parameters.length) = some 2 := by decide +kernel
theorem wL_X0_move : GoodIn lw_all (wsV R_law 36 RX0 yX0_move (ws_ yX0_move cX0_move 2 (some .int))) := lw_V q124 q125 q126 q25 q127
theorem hL_X0_move : yX0_move.cls = RX0 ∧ yX0_move.cls ≠ "java/lang/invoke/MethodHandle" ∧ yX0_move.cls ≠ "java/lang/invoke/VarHandle" ∧ (parseMethodDescriptor yX0_move.desc).map (fun d => d.parameters.length) = some 0 := by decide +kernel
theorem wL_X1_move : GoodIn lw_all (wsV R_law 40 RX1 yX1_move (ws_ yX1_move cX1_move 3 (some .int))) := lw_V q283 q284 q285 q26 q286
theorem hL_X1_move : yX1_move.cls = RX1 ∧ yX1_move.cls ≠ "java/lang/invoke/MethodHandle" ∧ yX1_move.cls ≠ "java/lang/invoke/VarHandle" ∧ (parseMethodDescriptor yX1_move.desc).map (fun d => d.parameters.length) = some 0 := by decide +kernel
theorem wL_X0_width : GoodIn lw_all (wsV R_law 41 RX0 yX0_width (ws_ yX0_width cX0_width 1 (some .int))) := lw_V q188 q189 q190 q25 q191
theorem hL_X0_width : yX0_width.cls = RX0 ∧ yX0_width.cls ≠ "java/lang/invoke/MethodHandle" ∧ yX0_width.cls ≠ "java/lang/invoke/VarHandle" ∧ (parseMethodDescriptor yX0_width.desc).map (fun d => d.parameters.length) = some 0 := by decide +kernel
theorem wL_X1_width : GoodIn lw_all (wsV R_law 44 RX1 yX1_width (ws_ yX1_width cX1_width 1 (some .int))) := lw_V q295 q296 q297 q26 q298
theorem hL_X1_width : yX1_width.cls = RX1 ∧ yX1_width.cls ≠ "java/lang/invoke/MethodHandle" ∧ yX1_width.cls ≠ "java/lang/invoke/VarHandle" ∧ (parseMethodDescriptor yX1_width.desc).map (fun d => d.parameters.length) = some 0 := by decide +kernel
theorem wL_X0_result : GoodIn lw_all (wsV R_law 45 RX0 yX0_result (ws_ yX0_result cX0_result 3 (some .int))) := lw_V q192 q193 q194 q25 q195
theorem hL_X0_result : yX0_result.cls = RX0 ∧ yX0_result.cls ≠ "java/lang/invoke/MethodHandle" ∧ yX0_result.cls ≠ "java/lang/invoke/VarHandle" ∧ (parseMethodDescriptor yX0_result.desc).map (fun d => d.parameters.length) = some 2 := by decide +kernel
theorem wL_X1_result : GoodIn lw_all (wsV R_law 48 RX1 yX1_result (ws_ yX1_result cX1_result 3 (some .int))) := lw_V q299 q300 q301 q26 q302
theorem hL_X1_result : yX1_result.cls = RX1 ∧ yX1_result.cls ≠ "java/lang/invoke/MethodHandle" ∧ yX1_result.cls ≠ "java/lang/invoke/VarHandle" ∧ (parseMethodDescriptor yX1_result.desc).map (fun d => d.parameters.length) = some 2 := by decide +kernel
theorem wL_X0_floor : GoodIn lw_all (wsV R_law 49 RX0 yX0_floor (ws_ yX0_floor cX0_floor 4 (some .int))) := lw_V q196 q197 q198 q25 q199
theorem hL_X0_floor : yX0_floor.cls = RX0 ∧ yX0_floor.cls ≠ "java/lang/invoke/MethodHandle" ∧ yX0_floor.cls ≠ "java/lang/invoke/VarHandle" ∧ (parseMethodDescriptor yX0_floor.desc).map (fun d => d.parameters.length) = some 0 := by decide +kernel
theorem wL_X1_floor : GoodIn lw_all (wsV R_law 52 RX1 yX1_floor (ws_ yX1_floor cX1_floor 3 (some .int))) := lw_V q303 q304 q305 q26 q306
theorem hL_X1_floor : yX1_floor.cls = RX1 ∧ yX1_floor.cls ≠ "java/lang/invoke/MethodHandle" ∧ yX1_floor.cls ≠ "java/lang/invoke/VarHandle" ∧ (parseMethodDescriptor yX1_floor.desc).map (fun d => d.parameters.length) = some 0 := by decide +kernel
theorem wL_X0_thin : GoodIn lw_all (wsV R_law 53 RX0 yX0_thin (ws_ yX0_thin cX0_thin 7 (some .int))) := lw_V q200 q201 q202 q25 q203
theorem hL_X0_thin : yX0_thin.cls = RX0 ∧ yX0_thin.cls ≠ "java/lang/invoke/MethodHandle" ∧ yX0_thin.cls ≠ "java/lang/invoke/VarHandle" ∧ (parseMethodDescriptor yX0_thin.desc).map (fun d => d.parameters.length) = some 0 := by decide +kernel
theorem wL_X1_thin : GoodIn lw_all (wsV R_law 56 RX1 yX1_thin (ws_ yX1_thin cX1_thin 3 (some .int))) := lw_V q307 q308 q309 q26 q310
theorem hL_X1_thin : yX1_thin.cls = RX1 ∧ yX1_thin.cls ≠ "java/lang/invoke/MethodHandle" ∧ yX1_thin.cls ≠ "java/lang/invoke/VarHandle" ∧ (parseMethodDescriptor yX1_thin.desc).map (fun d => d.parameters.length) = some 0 := by decide +kernel
theorem wL_X0_divide : GoodIn lw_all (wsV R_law 57 RX0 yX0_divide (ws_ yX0_divide cX0_divide 3 (some .int))) := lw_V q208 q209 q210 q25 q211
theorem hL_X0_divide : yX0_divide.cls = RX0 ∧ yX0_divide.cls ≠ "java/lang/invoke/MethodHandle" ∧ yX0_divide.cls ≠ "java/lang/invoke/VarHandle" ∧ (parseMethodDescriptor yX0_divide.desc).map (fun d => d.parameters.length) = some 1 := by decide +kernel
theorem wL_X1_divide : GoodIn lw_all (wsV R_law 60 RX1 yX1_divide (ws_ yX1_divide cX1_divide 3 (some .int))) := lw_V q315 q316 q317 q26 q318
theorem hL_X1_divide : yX1_divide.cls = RX1 ∧ yX1_divide.cls ≠ "java/lang/invoke/MethodHandle" ∧ yX1_divide.cls ≠ "java/lang/invoke/VarHandle" ∧ (parseMethodDescriptor yX1_divide.desc).map (fun d => d.parameters.length) = some 1 := by decide +kernel
theorem wL_X0_take : GoodIn lw_all (wsV R_law 61 RX0 yX0_take (ws_ yX0_take cX0_take 8 (some .int))) := lw_V q212 q213 q214 q25 q215
theorem hL_X0_take : yX0_take.cls = RX0 ∧ yX0_take.cls ≠ "java/lang/invoke/MethodHandle" ∧ yX0_take.cls ≠ "java/lang/invoke/VarHandle" ∧ (parseMethodDescriptor yX0_take.desc).map (fun d => d.parameters.length) = some 1 := by decide +kernel
theorem wL_X1_take : GoodIn lw_all (wsV R_law 64 RX1 yX1_take (ws_ yX1_take cX1_take 6 (some .int))) := lw_V q319 q320 q321 q26 q322
theorem hL_X1_take : yX1_take.cls = RX1 ∧ yX1_take.cls ≠ "java/lang/invoke/MethodHandle" ∧ yX1_take.cls ≠ "java/lang/invoke/VarHandle" ∧ (parseMethodDescriptor yX1_take.desc).map (fun d => d.parameters.length) = some 1 := by decide +kernel
theorem wL_X0_sum : GoodIn lw_all (wsV R_law 65 RX0 yX0_sum (ws_ yX0_sum cX0_sum 4 (some .int))) := lw_V q217 q218 q219 q25 q220
theorem hL_X0_sum : yX0_sum.cls = RX0 ∧ yX0_sum.cls ≠ "java/lang/invoke/MethodHandle" ∧ yX0_sum.cls ≠ "java/lang/invoke/VarHandle" ∧ (parseMethodDescriptor yX0_sum.desc).map (fun d => d.parameters.length) = some 0 := by decide +kernel
theorem wL_X1_sum : GoodIn lw_all (wsV R_law 68 RX1 yX1_sum (ws_ yX1_sum cX1_sum 3 (some .int))) := lw_V q324 q325 q326 q26 q327
theorem hL_X1_sum : yX1_sum.cls = RX1 ∧ yX1_sum.cls ≠ "java/lang/invoke/MethodHandle" ∧ yX1_sum.cls ≠ "java/lang/invoke/VarHandle" ∧ (parseMethodDescriptor yX1_sum.desc).map (fun d => d.parameters.length) = some 0 := by decide +kernel
theorem wL_X0_peak : GoodIn lw_all (wsV R_law 69 RX0 yX0_peak (ws_ yX0_peak cX0_peak 4 (some .int))) := lw_V q221 q222 q223 q25 q224
theorem hL_X0_peak : yX0_peak.cls = RX0 ∧ yX0_peak.cls ≠ "java/lang/invoke/MethodHandle" ∧ yX0_peak.cls ≠ "java/lang/invoke/VarHandle" ∧ (parseMethodDescriptor yX0_peak.desc).map (fun d => d.parameters.length) = some 0 := by decide +kernel
theorem wL_X1_peak : GoodIn lw_all (wsV R_law 72 RX1 yX1_peak (ws_ yX1_peak cX1_peak 3 (some .int))) := lw_V q328 q329 q330 q26 q331
theorem hL_X1_peak : yX1_peak.cls = RX1 ∧ yX1_peak.cls ≠ "java/lang/invoke/MethodHandle" ∧ yX1_peak.cls ≠ "java/lang/invoke/VarHandle" ∧ (parseMethodDescriptor yX1_peak.desc).map (fun d => d.parameters.length) = some 0 := by decide +kernel
theorem wL_X0_way : GoodIn lw_all (wsV R_law 73 RX0 yX0_way (ws_ yX0_way cX0_way 2 (some .int))) := lw_V q225 q226 q227 q25 q228
theorem hL_X0_way : yX0_way.cls = RX0 ∧ yX0_way.cls ≠ "java/lang/invoke/MethodHandle" ∧ yX0_way.cls ≠ "java/lang/invoke/VarHandle" ∧ (parseMethodDescriptor yX0_way.desc).map (fun d => d.parameters.length) = some 1 := by decide +kernel
theorem wL_X1_way : GoodIn lw_all (wsV R_law 76 RX1 yX1_way (ws_ yX1_way cX1_way 2 (some .int))) := lw_V q332 q333 q334 q26 q335
theorem hL_X1_way : yX1_way.cls = RX1 ∧ yX1_way.cls ≠ "java/lang/invoke/MethodHandle" ∧ yX1_way.cls ≠ "java/lang/invoke/VarHandle" ∧ (parseMethodDescriptor yX1_way.desc).map (fun d => d.parameters.length) = some 1 := by decide +kernel
end
section
set_option maxRecDepth 100000
theorem law_cmp {L n : Nat} (hL : L ≤ 320) (hn : 5 * n ≤ 320) : nI L - nI 5 < nI (5 * n) ↔ L < 5 * n + 5 := by
  rw [Int32.lt_iff_toInt_lt, pk_sub_toInt (by omega) (by omega), nI_toInt (by omega)]
  omega
theorem law_16 (x : Int32) : ∃ j : Nat, j < 16 ∧ x &&& nI 15 = nI j := pk_andE x (m := nI 15) 4 (by decide)
set_option maxHeartbeats 4000000 in
set_option maxRecDepth 100000 in
/-- the law's loop -/
theorem law_loop {l : Launch} {b L : Nat} {sc : Nat → Int32} {h0 h1 : Nat} {G : gS → gS → Nat → List Value → List Value → Prop} (hL : L ≤ 320) (X : lOK l b L sc h0 h1 G) : G xs0 ms0 18 [.ref b, .ref h0, .ref h1, .int (nI 0)] [] := by
  have key : ∀ (pi ke : Nat → Int32) (st mg ch wd : Nat) (ou pc hf sh pr pl ot tt li wi re : Nat → Int32), Rel pi ke st mg ch wd ou re → G (xs pi ke st mg ch wd ou pc hf sh pr pl ot tt li zro zba wi) (ms pi ke st mg re wd) 18 [.ref b, .ref h0, .ref h1, .int (nI (5 * 0))] [] := by
    refine up_loop0 (P := fun n => ∀ (pi ke : Nat → Int32) (st mg ch wd : Nat) (ou pc hf sh pr pl ot tt li wi re : Nat → Int32), Rel pi ke st mg ch wd ou re → G (xs pi ke st mg ch wd ou pc hf sh pr pl ot tt li zro zba wi) (ms pi ke st mg re wd) 18 [.ref b, .ref h0, .ref h1, .int (nI (5 * n))] []) (L / 5) ?_ ?_
    · intro pi ke st mg ch wd ou pc hf sh pr pl ot tt li wi re hR
      refine la_iload_n X dL_law_18 rfl ?_
      refine la_aload_n X dL_law_19 rfl ?_
      refine la_slen X dL_law_20 ?_
      refine la_iconst X (v := nI 5) dL_law_21 (by decide) ?_
      refine la_isub X dL_law_22 ?_
      refine la_icmp_gt X 469 dL_law_23 (by decide) (fun _ => ?_) (fun q => absurd ((law_cmp hL (by omega)).mpr (by omega)) q)
      refine la_iconst X (v := 1) dL_law_469 (by decide) ?_
      exact la_ret X dL_law_470
    · intro n hn ih pi ke st mg ch wd ou pc hf sh pr pl ot tt li wi re hR
      refine la_iload_n X dL_law_18 rfl ?_
      refine la_aload_n X dL_law_19 rfl ?_
      refine la_slen X dL_law_20 ?_
      refine la_iconst X (v := nI 5) dL_law_21 (by decide) ?_
      refine la_isub X dL_law_22 ?_
      refine la_icmp_gt X 469 dL_law_23 (by decide) (fun q => absurd ((law_cmp hL (by omega)).mp q) (by omega)) (fun _ => ?_)
      refine la_aload_n X dL_law_26 rfl ?_
      refine la_iload_n X dL_law_27 rfl ?_
      refine la_sld X hL (by omega) dL_law_28 ?_
      refine la_bipush X (v := nI 15) dL_law_29 (by decide) ?_
      refine la_iand X dL_law_31 ?_
      obtain ⟨j, hj, ej⟩ := law_16 (sc (5 * n))
      rw [ej]
      clear ej
      have hj : j = 0 ∨ j = 1 ∨ j = 2 ∨ j = 3 ∨ j = 4 ∨ j = 5 ∨ j = 6 ∨ j = 7 ∨ j = 8 ∨ j = 9 ∨ j = 10 ∨ j = 11 ∨ j = 12 ∨ j = 13 ∨ j = 14 ∨ j = 15 := by omega
      rcases hj with rfl | rfl | rfl | rfl | rfl | rfl | rfl | rfl | rfl | rfl | rfl | rfl | rfl | rfl | rfl | rfl
      · refine la_tabIn X (off := 76) 108 dL_law_32 (by decide) (by decide) (by decide) (by decide) ?_
        refine la_aload_n X dL_law_108 rfl ?_
        refine la_aload_n X dL_law_109 rfl ?_
        refine la_iload_n X dL_law_110 rfl ?_
        refine la_iconst X (v := nI 1) dL_law_111 (by decide) ?_
        refine la_iadd X dL_law_112 ?_
        refine la_sld X hL (by omega) dL_law_113 ?_
        refine la_aload_n X dL_law_114 rfl ?_
        refine la_iload_n X dL_law_115 rfl ?_
        refine la_iconst X (v := nI 2) dL_law_116 (by decide) ?_
        refine la_iadd X dL_law_117 ?_
        refine la_sld X hL (by omega) dL_law_118 ?_
        refine la_call0 X (mX0_put l) wL_X0_put 2 hL_X0_put rfl ⟨rfl, rfl⟩ ⟨by decide, by decide⟩ rfl (Nat.le_of_ble_eq_true rfl) dL_law_119 ?_
        refine la_aload_n X dL_law_122 rfl ?_
        refine la_aload_n X dL_law_123 rfl ?_
        refine la_iload_n X dL_law_124 rfl ?_
        refine la_iconst X (v := nI 1) dL_law_125 (by decide) ?_
        refine la_iadd X dL_law_126 ?_
        refine la_sld X hL (by omega) dL_law_127 ?_
        refine la_aload_n X dL_law_128 rfl ?_
        refine la_iload_n X dL_law_129 rfl ?_
        refine la_iconst X (v := nI 2) dL_law_130 (by decide) ?_
        refine la_iadd X dL_law_131 ?_
        refine la_sld X hL (by omega) dL_law_132 ?_
        refine la_call1 X (mX1_put l) wL_X1_put 2 hL_X1_put rfl ⟨rfl, rfl⟩ ⟨by decide, by decide⟩ rfl (Nat.le_of_ble_eq_true rfl) dL_law_133 ?_
        refine la_icmp_eq X 463 dL_law_136 (by decide) (rfl) ?_
        refine la_iinc5 X (lv' := [_, _, _, _]) dL_law_463 (by decide) rfl rfl ?_
        refine la_goto X (tgt := 18) dL_law_466 (by decide) ?_
        exact ih _ _ _ _ _ _ _ _ _ _ _ _ _ _ _ _ _ (r_put hR)
      · refine la_tabIn X (off := 109) 141 dL_law_32 (by decide) (by decide) (by decide) (by decide) ?_
        refine la_aload_n X dL_law_141 rfl ?_
        refine la_aload_n X dL_law_142 rfl ?_
        refine la_iload_n X dL_law_143 rfl ?_
        refine la_iconst X (v := nI 1) dL_law_144 (by decide) ?_
        refine la_iadd X dL_law_145 ?_
        refine la_sld X hL (by omega) dL_law_146 ?_
        refine la_aload_n X dL_law_147 rfl ?_
        refine la_iload_n X dL_law_148 rfl ?_
        refine la_iconst X (v := nI 2) dL_law_149 (by decide) ?_
        refine la_iadd X dL_law_150 ?_
        refine la_sld X hL (by omega) dL_law_151 ?_
        refine la_aload_n X dL_law_152 rfl ?_
        refine la_iload_n X dL_law_153 rfl ?_
        refine la_iconst X (v := nI 3) dL_law_154 (by decide) ?_
        refine la_iadd X dL_law_155 ?_
        refine la_sld X hL (by omega) dL_law_156 ?_
        refine la_aload_n X dL_law_157 rfl ?_
        refine la_iload_n X dL_law_158 rfl ?_
        refine la_iconst X (v := nI 4) dL_law_159 (by decide) ?_
        refine la_iadd X dL_law_160 ?_
        refine la_sld X hL (by omega) dL_law_161 ?_
        refine la_call0 X (mX0_fill l) wL_X0_fill 4 hL_X0_fill rfl ⟨rfl, rfl⟩ ⟨by decide, by decide⟩ rfl (Nat.le_of_ble_eq_true rfl) dL_law_162 ?_
        refine la_aload_n X dL_law_165 rfl ?_
        refine la_aload_n X dL_law_166 rfl ?_
        refine la_iload_n X dL_law_167 rfl ?_
        refine la_iconst X (v := nI 1) dL_law_168 (by decide) ?_
        refine la_iadd X dL_law_169 ?_
        refine la_sld X hL (by omega) dL_law_170 ?_
        refine la_aload_n X dL_law_171 rfl ?_
        refine la_iload_n X dL_law_172 rfl ?_
        refine la_iconst X (v := nI 2) dL_law_173 (by decide) ?_
        refine la_iadd X dL_law_174 ?_
        refine la_sld X hL (by omega) dL_law_175 ?_
        refine la_aload_n X dL_law_176 rfl ?_
        refine la_iload_n X dL_law_177 rfl ?_
        refine la_iconst X (v := nI 3) dL_law_178 (by decide) ?_
        refine la_iadd X dL_law_179 ?_
        refine la_sld X hL (by omega) dL_law_180 ?_
        refine la_aload_n X dL_law_181 rfl ?_
        refine la_iload_n X dL_law_182 rfl ?_
        refine la_iconst X (v := nI 4) dL_law_183 (by decide) ?_
        refine la_iadd X dL_law_184 ?_
        refine la_sld X hL (by omega) dL_law_185 ?_
        refine la_call1 X (mX1_fill l) wL_X1_fill 4 hL_X1_fill rfl ⟨rfl, rfl⟩ ⟨by decide, by decide⟩ rfl (Nat.le_of_ble_eq_true rfl) dL_law_186 ?_
        refine la_icmp_eq X 463 dL_law_189 (by decide) (by rw [r_fill]) ?_
        refine la_iinc5 X (lv' := [_, _, _, _]) dL_law_463 (by decide) rfl rfl ?_
        refine la_goto X (tgt := 18) dL_law_466 (by decide) ?_
        rw [r_fill]
        exact ih _ _ _ _ _ _ _ _ _ _ _ _ _ _ _ _ _ (r_fillR hR)
      · refine la_tabIn X (off := 162) 194 dL_law_32 (by decide) (by decide) (by decide) (by decide) ?_
        refine la_aload_n X dL_law_194 rfl ?_
        refine la_aload_n X dL_law_195 rfl ?_
        refine la_iload_n X dL_law_196 rfl ?_
        refine la_iconst X (v := nI 1) dL_law_197 (by decide) ?_
        refine la_iadd X dL_law_198 ?_
        refine la_sld X hL (by omega) dL_law_199 ?_
        refine la_aload_n X dL_law_200 rfl ?_
        refine la_iload_n X dL_law_201 rfl ?_
        refine la_iconst X (v := nI 2) dL_law_202 (by decide) ?_
        refine la_iadd X dL_law_203 ?_
        refine la_sld X hL (by omega) dL_law_204 ?_
        refine la_call0 X (mX0_kernel l) wL_X0_kernel 2 hL_X0_kernel rfl ⟨rfl, rfl⟩ ⟨by decide, by decide⟩ rfl (Nat.le_of_ble_eq_true rfl) dL_law_205 ?_
        refine la_aload_n X dL_law_208 rfl ?_
        refine la_aload_n X dL_law_209 rfl ?_
        refine la_iload_n X dL_law_210 rfl ?_
        refine la_iconst X (v := nI 1) dL_law_211 (by decide) ?_
        refine la_iadd X dL_law_212 ?_
        refine la_sld X hL (by omega) dL_law_213 ?_
        refine la_aload_n X dL_law_214 rfl ?_
        refine la_iload_n X dL_law_215 rfl ?_
        refine la_iconst X (v := nI 2) dL_law_216 (by decide) ?_
        refine la_iadd X dL_law_217 ?_
        refine la_sld X hL (by omega) dL_law_218 ?_
        refine la_call1 X (mX1_kernel l) wL_X1_kernel 2 hL_X1_kernel rfl ⟨rfl, rfl⟩ ⟨by decide, by decide⟩ rfl (Nat.le_of_ble_eq_true rfl) dL_law_219 ?_
        refine la_icmp_eq X 463 dL_law_222 (by decide) (rfl) ?_
        refine la_iinc5 X (lv' := [_, _, _, _]) dL_law_463 (by decide) rfl rfl ?_
        refine la_goto X (tgt := 18) dL_law_466 (by decide) ?_
        exact ih _ _ _ _ _ _ _ _ _ _ _ _ _ _ _ _ _ (r_kernel hR)
      · refine la_tabIn X (off := 195) 227 dL_law_32 (by decide) (by decide) (by decide) (by decide) ?_
        refine la_aload_n X dL_law_227 rfl ?_
        refine la_aload_n X dL_law_228 rfl ?_
        refine la_iload_n X dL_law_229 rfl ?_
        refine la_iconst X (v := nI 1) dL_law_230 (by decide) ?_
        refine la_iadd X dL_law_231 ?_
        refine la_sld X hL (by omega) dL_law_232 ?_
        refine la_call0 X (mX0_pixel l) wL_X0_pixel 1 hL_X0_pixel rfl ⟨rfl, rfl⟩ ⟨by decide, by decide⟩ rfl (Nat.le_of_ble_eq_true rfl) dL_law_233 ?_
        refine la_aload_n X dL_law_236 rfl ?_
        refine la_aload_n X dL_law_237 rfl ?_
        refine la_iload_n X dL_law_238 rfl ?_
        refine la_iconst X (v := nI 1) dL_law_239 (by decide) ?_
        refine la_iadd X dL_law_240 ?_
        refine la_sld X hL (by omega) dL_law_241 ?_
        refine la_call1 X (mX1_pixel l) wL_X1_pixel 1 hL_X1_pixel rfl ⟨rfl, rfl⟩ ⟨by decide, by decide⟩ rfl (Nat.le_of_ble_eq_true rfl) dL_law_242 ?_
        refine la_icmp_eq X 463 dL_law_245 (by decide) (rfl) ?_
        refine la_iinc5 X (lv' := [_, _, _, _]) dL_law_463 (by decide) rfl rfl ?_
        refine la_goto X (tgt := 18) dL_law_466 (by decide) ?_
        exact ih _ _ _ _ _ _ _ _ _ _ _ _ _ _ _ _ _ hR
      · refine la_tabIn X (off := 218) 250 dL_law_32 (by decide) (by decide) (by decide) (by decide) ?_
        refine la_aload_n X dL_law_250 rfl ?_
        refine la_aload_n X dL_law_251 rfl ?_
        refine la_iload_n X dL_law_252 rfl ?_
        refine la_iconst X (v := nI 1) dL_law_253 (by decide) ?_
        refine la_iadd X dL_law_254 ?_
        refine la_sld X hL (by omega) dL_law_255 ?_
        refine la_aload_n X dL_law_256 rfl ?_
        refine la_iload_n X dL_law_257 rfl ?_
        refine la_iconst X (v := nI 2) dL_law_258 (by decide) ?_
        refine la_iadd X dL_law_259 ?_
        refine la_sld X hL (by omega) dL_law_260 ?_
        refine la_call0 X (mX0_shape l) wL_X0_shape 2 hL_X0_shape rfl ⟨rfl, rfl⟩ ⟨by decide, by decide⟩ rfl (Nat.le_of_ble_eq_true rfl) dL_law_261 ?_
        refine la_aload_n X dL_law_264 rfl ?_
        refine la_aload_n X dL_law_265 rfl ?_
        refine la_iload_n X dL_law_266 rfl ?_
        refine la_iconst X (v := nI 1) dL_law_267 (by decide) ?_
        refine la_iadd X dL_law_268 ?_
        refine la_sld X hL (by omega) dL_law_269 ?_
        refine la_aload_n X dL_law_270 rfl ?_
        refine la_iload_n X dL_law_271 rfl ?_
        refine la_iconst X (v := nI 2) dL_law_272 (by decide) ?_
        refine la_iadd X dL_law_273 ?_
        refine la_sld X hL (by omega) dL_law_274 ?_
        refine la_call1 X (mX1_shape l) wL_X1_shape 2 hL_X1_shape rfl ⟨rfl, rfl⟩ ⟨by decide, by decide⟩ rfl (Nat.le_of_ble_eq_true rfl) dL_law_275 ?_
        refine la_icmp_eq X 463 dL_law_278 (by decide) (rfl) ?_
        refine la_iinc5 X (lv' := [_, _, _, _]) dL_law_463 (by decide) rfl rfl ?_
        refine la_goto X (tgt := 18) dL_law_466 (by decide) ?_
        exact ih _ _ _ _ _ _ _ _ _ _ _ _ _ _ _ _ _ (r_shape hR)
      · refine la_tabIn X (off := 251) 283 dL_law_32 (by decide) (by decide) (by decide) (by decide) ?_
        refine la_aload_n X dL_law_283 rfl ?_
        refine la_call0 X (mX0_move l hR.1 hR.2.1 hR.2.2.1) wL_X0_move 0 hL_X0_move rfl ⟨rfl, rfl⟩ ⟨by decide, by decide⟩ rfl (Nat.le_of_ble_eq_true rfl) dL_law_284 ?_
        obtain ⟨ou2, pc2, hf2, sh2, pr2, pl2, ot2, tt2, li2, wi2, e2, hR2⟩ := r_move (pc := pc) (hf := hf) (sh := sh) (pr := pr) (pl := pl) (ot := ot) (tt := tt) (li := li) (wi := wi) hR
        refine la_eq e2 ?_
        refine la_aload_n X dL_law_287 rfl ?_
        refine la_call1 X (mX1_move l hR.1 hR.2.1) wL_X1_move 0 hL_X1_move rfl ⟨rfl, rfl⟩ ⟨by decide, by decide⟩ rfl (Nat.le_of_ble_eq_true rfl) dL_law_288 ?_
        refine la_icmp_eq X 463 dL_law_291 (by decide) (rfl) ?_
        refine la_iinc5 X (lv' := [_, _, _, _]) dL_law_463 (by decide) rfl rfl ?_
        refine la_goto X (tgt := 18) dL_law_466 (by decide) ?_
        exact ih _ _ _ _ _ _ _ _ _ _ _ _ _ _ _ _ _ hR2
      · refine la_tabIn X (off := 264) 296 dL_law_32 (by decide) (by decide) (by decide) (by decide) ?_
        refine la_aload_n X dL_law_296 rfl ?_
        refine la_call0 X (mX0_width l) wL_X0_width 0 hL_X0_width rfl ⟨rfl, rfl⟩ ⟨by decide, by decide⟩ rfl (Nat.le_of_ble_eq_true rfl) dL_law_297 ?_
        refine la_aload_n X dL_law_300 rfl ?_
        refine la_call1 X (mX1_width l) wL_X1_width 0 hL_X1_width rfl ⟨rfl, rfl⟩ ⟨by decide, by decide⟩ rfl (Nat.le_of_ble_eq_true rfl) dL_law_301 ?_
        refine la_icmp_eq X 463 dL_law_304 (by decide) (rfl) ?_
        refine la_iinc5 X (lv' := [_, _, _, _]) dL_law_463 (by decide) rfl rfl ?_
        refine la_goto X (tgt := 18) dL_law_466 (by decide) ?_
        exact ih _ _ _ _ _ _ _ _ _ _ _ _ _ _ _ _ _ hR
      · refine la_tabIn X (off := 277) 309 dL_law_32 (by decide) (by decide) (by decide) (by decide) ?_
        refine la_aload_n X dL_law_309 rfl ?_
        refine la_aload_n X dL_law_310 rfl ?_
        refine la_iload_n X dL_law_311 rfl ?_
        refine la_iconst X (v := nI 1) dL_law_312 (by decide) ?_
        refine la_iadd X dL_law_313 ?_
        refine la_sld X hL (by omega) dL_law_314 ?_
        refine la_aload_n X dL_law_315 rfl ?_
        refine la_iload_n X dL_law_316 rfl ?_
        refine la_iconst X (v := nI 2) dL_law_317 (by decide) ?_
        refine la_iadd X dL_law_318 ?_
        refine la_sld X hL (by omega) dL_law_319 ?_
        refine la_call0 X (mX0_result l hR.2.2.2.1) wL_X0_result 2 hL_X0_result rfl ⟨rfl, rfl⟩ ⟨by decide, by decide⟩ rfl (Nat.le_of_ble_eq_true rfl) dL_law_320 ?_
        refine la_aload_n X dL_law_323 rfl ?_
        refine la_aload_n X dL_law_324 rfl ?_
        refine la_iload_n X dL_law_325 rfl ?_
        refine la_iconst X (v := nI 1) dL_law_326 (by decide) ?_
        refine la_iadd X dL_law_327 ?_
        refine la_sld X hL (by omega) dL_law_328 ?_
        refine la_aload_n X dL_law_329 rfl ?_
        refine la_iload_n X dL_law_330 rfl ?_
        refine la_iconst X (v := nI 2) dL_law_331 (by decide) ?_
        refine la_iadd X dL_law_332 ?_
        refine la_sld X hL (by omega) dL_law_333 ?_
        refine la_call1 X (mX1_result l hR.2.2.2.1) wL_X1_result 2 hL_X1_result rfl ⟨rfl, rfl⟩ ⟨by decide, by decide⟩ rfl (Nat.le_of_ble_eq_true rfl) dL_law_334 ?_
        refine la_icmp_eq X 463 dL_law_337 (by decide) (r_res hR _ _) ?_
        refine la_iinc5 X (lv' := [_, _, _, _]) dL_law_463 (by decide) rfl rfl ?_
        refine la_goto X (tgt := 18) dL_law_466 (by decide) ?_
        exact ih _ _ _ _ _ _ _ _ _ _ _ _ _ _ _ _ _ hR
      · refine la_tabIn X (off := 310) 342 dL_law_32 (by decide) (by decide) (by decide) (by decide) ?_
        refine la_aload_n X dL_law_342 rfl ?_
        refine la_call0 X (mX0_floor l hR.2.2.2.1) wL_X0_floor 0 hL_X0_floor rfl ⟨rfl, rfl⟩ ⟨by decide, by decide⟩ rfl (Nat.le_of_ble_eq_true rfl) dL_law_343 ?_
        refine la_aload_n X dL_law_346 rfl ?_
        refine la_call1 X (mX1_floor l hR.2.2.2.1) wL_X1_floor 0 hL_X1_floor rfl ⟨rfl, rfl⟩ ⟨by decide, by decide⟩ rfl (Nat.le_of_ble_eq_true rfl) dL_law_347 ?_
        refine la_icmp_eq X 463 dL_law_350 (by decide) (r_floorV hR) ?_
        refine la_iinc5 X (lv' := [_, _, _, _]) dL_law_463 (by decide) rfl rfl ?_
        refine la_goto X (tgt := 18) dL_law_466 (by decide) ?_
        exact ih _ _ _ _ _ _ _ _ _ _ _ _ _ _ _ _ _ (r_floor hR)
      · refine la_tabIn X (off := 323) 355 dL_law_32 (by decide) (by decide) (by decide) (by decide) ?_
        refine la_aload_n X dL_law_355 rfl ?_
        refine la_call0 X (mX0_thin l hR.2.2.2.1) wL_X0_thin 0 hL_X0_thin rfl ⟨rfl, rfl⟩ ⟨by decide, by decide⟩ rfl (Nat.le_of_ble_eq_true rfl) dL_law_356 ?_
        refine la_aload_n X dL_law_359 rfl ?_
        refine la_call1 X (mX1_thin l hR.2.2.2.1) wL_X1_thin 0 hL_X1_thin rfl ⟨rfl, rfl⟩ ⟨by decide, by decide⟩ rfl (Nat.le_of_ble_eq_true rfl) dL_law_360 ?_
        refine la_icmp_eq X 463 dL_law_363 (by decide) (rfl) ?_
        refine la_iinc5 X (lv' := [_, _, _, _]) dL_law_463 (by decide) rfl rfl ?_
        refine la_goto X (tgt := 18) dL_law_466 (by decide) ?_
        exact ih _ _ _ _ _ _ _ _ _ _ _ _ _ _ _ _ _ (r_thin hR)
      · refine la_tabIn X (off := 336) 368 dL_law_32 (by decide) (by decide) (by decide) (by decide) ?_
        refine la_aload_n X dL_law_368 rfl ?_
        refine la_aload_n X dL_law_369 rfl ?_
        refine la_iload_n X dL_law_370 rfl ?_
        refine la_iconst X (v := nI 1) dL_law_371 (by decide) ?_
        refine la_iadd X dL_law_372 ?_
        refine la_sld X hL (by omega) dL_law_373 ?_
        refine la_call0 X (mX0_divide l) wL_X0_divide 1 hL_X0_divide rfl ⟨rfl, rfl⟩ ⟨by decide, by decide⟩ rfl (Nat.le_of_ble_eq_true rfl) dL_law_374 ?_
        refine la_aload_n X dL_law_377 rfl ?_
        refine la_aload_n X dL_law_378 rfl ?_
        refine la_iload_n X dL_law_379 rfl ?_
        refine la_iconst X (v := nI 1) dL_law_380 (by decide) ?_
        refine la_iadd X dL_law_381 ?_
        refine la_sld X hL (by omega) dL_law_382 ?_
        refine la_call1 X (mX1_divide l) wL_X1_divide 1 hL_X1_divide rfl ⟨rfl, rfl⟩ ⟨by decide, by decide⟩ rfl (Nat.le_of_ble_eq_true rfl) dL_law_383 ?_
        refine la_icmp_eq X 463 dL_law_386 (by decide) (r_divV hR _) ?_
        refine la_iinc5 X (lv' := [_, _, _, _]) dL_law_463 (by decide) rfl rfl ?_
        refine la_goto X (tgt := 18) dL_law_466 (by decide) ?_
        exact ih _ _ _ _ _ _ _ _ _ _ _ _ _ _ _ _ _ (r_div hR _)
      · refine la_tabIn X (off := 359) 391 dL_law_32 (by decide) (by decide) (by decide) (by decide) ?_
        refine la_aload_n X dL_law_391 rfl ?_
        refine la_aload_n X dL_law_392 rfl ?_
        refine la_iload_n X dL_law_393 rfl ?_
        refine la_iconst X (v := nI 1) dL_law_394 (by decide) ?_
        refine la_iadd X dL_law_395 ?_
        refine la_sld X hL (by omega) dL_law_396 ?_
        refine la_call0 X (mX0_take l hR.2.2.2.1) wL_X0_take 1 hL_X0_take rfl ⟨rfl, rfl⟩ ⟨by decide, by decide⟩ rfl (Nat.le_of_ble_eq_true rfl) dL_law_397 ?_
        refine la_aload_n X dL_law_400 rfl ?_
        refine la_aload_n X dL_law_401 rfl ?_
        refine la_iload_n X dL_law_402 rfl ?_
        refine la_iconst X (v := nI 1) dL_law_403 (by decide) ?_
        refine la_iadd X dL_law_404 ?_
        refine la_sld X hL (by omega) dL_law_405 ?_
        refine la_call1 X (mX1_take l hR.2.2.2.1) wL_X1_take 1 hL_X1_take rfl ⟨rfl, rfl⟩ ⟨by decide, by decide⟩ rfl (Nat.le_of_ble_eq_true rfl) dL_law_406 ?_
        refine la_icmp_eq X 463 dL_law_409 (by decide) (by rw [r_take hR]) ?_
        refine la_iinc5 X (lv' := [_, _, _, _]) dL_law_463 (by decide) rfl rfl ?_
        refine la_goto X (tgt := 18) dL_law_466 (by decide) ?_
        rw [r_take hR]
        exact ih _ _ _ _ _ _ _ _ _ _ _ _ _ _ _ _ _ (r_takeR hR)
      · refine la_tabIn X (off := 382) 414 dL_law_32 (by decide) (by decide) (by decide) (by decide) ?_
        refine la_aload_n X dL_law_414 rfl ?_
        refine la_call0 X (mX0_sum l hR.2.2.2.1) wL_X0_sum 0 hL_X0_sum rfl ⟨rfl, rfl⟩ ⟨by decide, by decide⟩ rfl (Nat.le_of_ble_eq_true rfl) dL_law_415 ?_
        refine la_aload_n X dL_law_418 rfl ?_
        refine la_call1 X (mX1_sum l hR.2.2.2.1) wL_X1_sum 0 hL_X1_sum rfl ⟨rfl, rfl⟩ ⟨by decide, by decide⟩ rfl (Nat.le_of_ble_eq_true rfl) dL_law_419 ?_
        refine la_icmp_eq X 463 dL_law_422 (by decide) (r_sum hR) ?_
        refine la_iinc5 X (lv' := [_, _, _, _]) dL_law_463 (by decide) rfl rfl ?_
        refine la_goto X (tgt := 18) dL_law_466 (by decide) ?_
        exact ih _ _ _ _ _ _ _ _ _ _ _ _ _ _ _ _ _ hR
      · refine la_tabIn X (off := 395) 427 dL_law_32 (by decide) (by decide) (by decide) (by decide) ?_
        refine la_aload_n X dL_law_427 rfl ?_
        refine la_call0 X (mX0_peak l hR.2.2.2.1) wL_X0_peak 0 hL_X0_peak rfl ⟨rfl, rfl⟩ ⟨by decide, by decide⟩ rfl (Nat.le_of_ble_eq_true rfl) dL_law_428 ?_
        refine la_aload_n X dL_law_431 rfl ?_
        refine la_call1 X (mX1_peak l hR.2.2.2.1) wL_X1_peak 0 hL_X1_peak rfl ⟨rfl, rfl⟩ ⟨by decide, by decide⟩ rfl (Nat.le_of_ble_eq_true rfl) dL_law_432 ?_
        refine la_icmp_eq X 463 dL_law_435 (by decide) (r_peak hR) ?_
        refine la_iinc5 X (lv' := [_, _, _, _]) dL_law_463 (by decide) rfl rfl ?_
        refine la_goto X (tgt := 18) dL_law_466 (by decide) ?_
        exact ih _ _ _ _ _ _ _ _ _ _ _ _ _ _ _ _ _ hR
      · refine la_tabIn X (off := 408) 440 dL_law_32 (by decide) (by decide) (by decide) (by decide) ?_
        refine la_aload_n X dL_law_440 rfl ?_
        refine la_aload_n X dL_law_441 rfl ?_
        refine la_iload_n X dL_law_442 rfl ?_
        refine la_iconst X (v := nI 1) dL_law_443 (by decide) ?_
        refine la_iadd X dL_law_444 ?_
        refine la_sld X hL (by omega) dL_law_445 ?_
        refine la_call0 X (mX0_way l) wL_X0_way 1 hL_X0_way rfl ⟨rfl, rfl⟩ ⟨by decide, by decide⟩ rfl (Nat.le_of_ble_eq_true rfl) dL_law_446 ?_
        refine la_aload_n X dL_law_449 rfl ?_
        refine la_aload_n X dL_law_450 rfl ?_
        refine la_iload_n X dL_law_451 rfl ?_
        refine la_iconst X (v := nI 1) dL_law_452 (by decide) ?_
        refine la_iadd X dL_law_453 ?_
        refine la_sld X hL (by omega) dL_law_454 ?_
        refine la_call1 X (mX1_way l) wL_X1_way 1 hL_X1_way rfl ⟨rfl, rfl⟩ ⟨by decide, by decide⟩ rfl (Nat.le_of_ble_eq_true rfl) dL_law_455 ?_
        refine la_icmp_eq X 463 dL_law_458 (by decide) (r_wayV _ _) ?_
        refine la_iinc5 X (lv' := [_, _, _, _]) dL_law_463 (by decide) rfl rfl ?_
        refine la_goto X (tgt := 18) dL_law_466 (by decide) ?_
        exact ih _ _ _ _ _ _ _ _ _ _ _ _ _ _ _ _ _ (r_way hR)
      · refine la_tabOut X 463 dL_law_32 (by decide) (by decide) ?_
        refine la_iinc5 X (lv' := [_, _, _, _]) dL_law_463 (by decide) rfl rfl ?_
        refine la_goto X (tgt := 18) dL_law_466 (by decide) ?_
        exact ih _ _ _ _ _ _ _ _ _ _ _ _ _ _ _ _ _ hR
  exact key _ _ _ _ _ _ _ _ _ _ _ _ _ _ _ _ _ r_start
end
section
set_option maxRecDepth 100000
theorem law_classes {s0 : State} {b0 : Addr} (ht0 : ∀ w ∈ lw_tbl, w.before #[Value.ref b0] s0 = true) : ∃ D : va_G, ∀ (k : Nat) (q : vw_C), vwCl[k]? = some q → u_Kn s0 q.1 q.2.1 q.2.2 (D.1 k) (D.2 k) := by
  obtain ⟨c0_, iS0, hKn0⟩ := u_known (C := RX0) (T := TX0) (N := 18) (n := 18) ht0 (fun w h => lw_all_tbl (in_X0 w h)) (ht0 _ (lw_all_tbl q28))
  obtain ⟨c1_, iS1, hKn1⟩ := u_known (C := RX1) (T := TX1) (N := 6) (n := 6) ht0 (fun w h => lw_all_tbl (in_X1 w h)) (ht0 _ (lw_all_tbl q230))
  refine ⟨(fun k => if k = 0 then c0_ else c1_, fun k => if k = 0 then iS0 else iS1), ?_⟩
  intro k q hq
  match k, hq with
  | 0, hq => cases hq; exact hKn0
  | 1, hq => cases hq; exact hKn1
  | k + 2, hq => simp [vwCl] at hq
set_option maxHeartbeats 4000000 in
set_option maxRecDepth 100000 in
theorem law_start {p : Program} {e : Env} {s : State} {m : MethodId} {below : List Frame} {meth : Method} {c : Code} (l : Launch) {b L : Nat} {sc : Nat → Int32} (hL : L ≤ 320) (C0 : lw_At p s m meth c b L sc) : W p l e room_1 s m #[Value.ref b] below meth c s.heap [] 0 0 (lw_Z below #[Value.ref b] s) (entryFrame m ([Value.ref b] : List Value).toArray 4) := by
  obtain ⟨hx, hb, hr, hml, hown, hts0, hX, hbl, hlocks, -⟩ := C0
  have hts : ∀ w ∈ lw_all, w.before #[Value.ref b] s = true := fun w h => hts0 w (lw_all_tbl h)
  obtain ⟨D, hKc⟩ := law_classes hts0
  have hK : va_K D vwCl [] s := ⟨hKc, fun k q h => by simp at h⟩
  generalize hAe : (fun q : Nat => s.heap.size ≤ q) = A
  have hA : ∀ q : Nat, s.heap.size ≤ q → A q := fun q h => by rw [← hAe]; exact h
  have hA' : ∀ q : Nat, A q → s.heap.size ≤ q := fun q h => by rw [← hAe] at h; exact h
  have hS : va_S A s.heap s.heap [] := va_S.rf
  have hP : va_P D vwCl [] s.heap := fun k q h => by simp at h
  have hD : va_D A [] := ⟨fun i j x y h => by simp at h, fun k q h => by simp at h⟩
  have hcat : ∀ x ∈ [Value.ref b], x.category = 1 := List.forall_mem_cons.mpr ⟨rfl, fun _ h => absurd h List.not_mem_nil⟩
  have hl := lv_entry ([.ref b]) (n := 4) (Nat.le_of_ble_eq_true rfl)
  rw [lg_entry_eq]
  generalize (lg_sl ([.ref b]) ++ List.replicate (4 - (lg_sl ([.ref b])).length) Slot.unset).toArray = ls at hl ⊢
  have hl : gL ls 4 [.ref b] := ⟨hl, hcat⟩
  refine va_new (ci := 0) (fs := fX0) (C := RX0) (T := TX0) (N := 18) hx hb hts in_X0 tyX0 tyX0_ok hown (hts _ q27) (hts _ q28) (hts _ q25) hK hP hD hS hA rfl (by decide) (Nat.le_of_ble_eq_true rfl) (Nat.le_of_ble_eq_true rfl) dL_law_0 (fun h0 H hP hD hS => ?_)
  have hP : va_P D vwCl [(h0, .inr (0, fX0))] H := hP
  have hD : va_D A [(h0, .inr (0, fX0))] := hD
  refine W.widen (k := 1) (n := 18) (Nat.le_of_ble_eq_true rfl) (Nat.le_of_ble_eq_true rfl) ?_
  refine lv_dup hx hb dL_law_3 rfl ?_
  have hF : ∀ q, va_A [(h0, .inr (0, fX0))] H.size q → A q := fun q hq => hq.elim (fun ⟨k, e, h1⟩ => hD.2 k (q, e) h1) (fun h1 => hA q (Nat.le_trans hS.1 h1))
  refine va_callv (va_runI (As := []) (rest := [.ref h0]) ⟨hx, hb, hml, hown, hts⟩ (mX0_init l D h0 H.size) (cwI 0 hts (lw_meth q31) rfl rfl rfl (hts _ q25) (hts _ q29) (hts _ q30) rfl (by decide +kernel) ⟨Nat.le_of_ble_eq_true rfl, Nat.le_of_ble_eq_true rfl⟩) ⟨fun a U g mk q => by obtain ⟨q0, q1, qP, qK, qD⟩ := q; exact ⟨q0, q1, qP, va_K.moved (u := U) (U := U.calling g mk a) (Vm.Alike.refl U.vm) qK, qD⟩, fun U hU hW => ⟨rfl, by rw [hU], by rw [hU]; exact hP, va_K.moved hW.alike hK, hD.weaken (fun _ _ _ _ => trivial)⟩⟩ rfl rfl hl.1.1 rfl (lv_room (Nat.le_of_ble_eq_true rfl)) dL_law_4 ⟨Nat.le_of_ble_eq_true rfl, Nat.le_of_ble_eq_true rfl⟩) hS (fun q _ h => hF q h) hF (fun u t H1 locs ht hvm hw1 hB hz1 hk1 hS => ?_)
  obtain ⟨ad0, d0⟩ := u
  obtain ⟨hP1, hK1, hD1⟩ := hB
  rw [ht] at hP1
  have hK0 : va_K D vwCl [(d0, .int)] s := va_K.moved hvm.symm hK1
  have hP : va_P D vwCl (gw 0 h0 ad0 d0 len0 xs0) H1 := hP1
  have hD : va_D A (gw 0 h0 ad0 d0 len0 xs0) := hD1.weaken (fun _ _ _ h1 => hF _ h1)
  clear hP1 hD1 hF
  refine W.widen (k := 100) (n := 5000) (Nat.le_of_ble_eq_true rfl) (Nat.le_of_ble_eq_true rfl) ?_
  refine lv_astore_n hx hb dL_law_7 rfl hl.1 (by decide) rfl (fun ls hl' => ?_)
  have hl : gL ls 4 [.ref b, .ref h0] := hl.put (i := 1) rfl hl'
  refine va_new (ci := 1) (fs := fX1) (C := RX1) (T := TX1) (N := 6) hx hb hts in_X1 tyX1 tyX1_ok hown (hts _ q229) (hts _ q230) (hts _ q26) hK0 hP hD hS hA rfl (by decide) (Nat.le_of_ble_eq_true rfl) (Nat.le_of_ble_eq_true rfl) dL_law_8 (fun h1 H hP hD hS => ?_)
  refine W.widen (k := 101) (n := 5006) (Nat.le_of_ble_eq_true rfl) (Nat.le_of_ble_eq_true rfl) ?_
  refine lv_dup hx hb dL_law_11 rfl ?_
  have hPc := hP.right
  have hDc := hD.right
  have hF : ∀ q, va_A [(h1, .inr (1, fX1))] H.size q → A q := fun q hq => hq.elim (fun ⟨k, e, h1⟩ => hDc.2 k (q, e) h1) (fun h1 => hA q (Nat.le_trans hS.1 h1))
  refine va_callv (va_runI (As := []) (rest := [.ref h1]) ⟨hx, hb, hml, hown, hts⟩ (mX1_init l D h1 H.size) (cwI 0 hts (lw_meth q233) rfl rfl rfl (hts _ q26) (hts _ q231) (hts _ q232) rfl (by decide +kernel) ⟨Nat.le_of_ble_eq_true rfl, Nat.le_of_ble_eq_true rfl⟩) ⟨fun a U g mk q => by obtain ⟨q0, q1, qP, qK, qD⟩ := q; exact ⟨q0, q1, qP, va_K.moved (u := U) (U := U.calling g mk a) (Vm.Alike.refl U.vm) qK, qD⟩, fun U hU hW => ⟨rfl, by rw [hU], by rw [hU]; exact hPc, va_K.moved hW.alike hK, hDc.weaken (fun _ _ _ _ => trivial)⟩⟩ rfl rfl hl.1.1 rfl (lv_room (Nat.le_of_ble_eq_true rfl)) dL_law_12 ⟨Nat.le_of_ble_eq_true rfl, Nat.le_of_ble_eq_true rfl⟩) hS (fun q _ h => hF q h) hF (fun u t H1 locs ht hvm hw1 hB hz1 hk1 hS => ?_)
  obtain ⟨ad1, d1⟩ := u
  obtain ⟨hP1, hK1, hD1⟩ := hB
  rw [ht] at hP1
  have hK1 : va_K D vwCl [(d1, .int)] s := va_K.moved hvm.symm hK1
  obtain ⟨hP, hD⟩ := joinR hP hD hk1 hF hP1 hD1
  refine W.widen (k := 200) (n := 10000) (Nat.le_of_ble_eq_true rfl) (Nat.le_of_ble_eq_true rfl) ?_
  refine lv_astore_n hx hb dL_law_15 rfl hl.1 (by decide) rfl (fun ls hl' => ?_)
  have hl : gL ls 4 [.ref b, .ref h0, .ref h1] := hl.put (i := 2) rfl hl'
  refine lv_iconst (v := nI 0) hx hb dL_law_16 (by decide) ?_
  refine lv_istore_n hx hb dL_law_17 rfl hl.1 (by decide) rfl (fun ls hl' => ?_)
  have hl : gL ls 4 [.ref b, .ref h0, .ref h1, .int (nI 0)] := hl.put (i := 3) rfl hl'
  refine law_loop (l := l) (h0 := h0) (h1 := h1) (sc := sc) hL ⟨p, e, s, m, below, meth, c, 200, 10000, _, D, d0, d1, A, ad0, ad1, rfl, hx, hb, hml, hown, hts, hK0, hK1, hA, ⟨Nat.le_of_ble_eq_true rfl, Nat.le_of_ble_eq_true rfl⟩, hX, hbl, fun q => Nat.lt_irrefl _ (Nat.lt_of_lt_of_le hbl (hA' _ q)), ?_⟩ H1 locs ls hP hD hS hl
  intro H locs ls pc hS hd
  refine va_forget (fun q hq => hA' _ (hS.2.2 q hq)) ?_
  refine W.widen (k := 600000) (n := 7290000) (Nat.le_of_ble_eq_true rfl) (Nat.le_of_ble_eq_true rfl) ?_
  exact lw_ret hx hb hr hlocks hd
theorem whole_start {p : Program} {e : Env} {s : State} {m : MethodId} {below : List Frame} {meth : Method} {c : Code} (l : Launch) {b L : Nat} {xs : Nat → Int32} (hL : L ≤ 320) (C0 : lw_At p s m meth c b L xs) : W p l e room_1 s m #[Value.ref b] below meth c s.heap [] 0 0 (lw_Z below #[Value.ref b] s) (entryFrame m ([Value.ref b] : List Value).toArray 4) := law_start l hL C0
set_option maxHeartbeats 4000000 in
theorem lw_walk (l : Launch) (b : Addr) (xs : List Int32) : MetFree l x (headSpec (Jvm.Cond.code x code maxLocals ret :: tables_1) room_1) (lw_P b xs) (fun _ _ _ _ _ => True) lw_Q := by
  refine MetFree.of_bodyS (code := code) (maxLocals := maxLocals) (ret := ret) (by decide) ?_ ?_
  · intro args s m h hn
    obtain ⟨meth, c, h1, h2, h3, h4, h5, h6, -, -⟩ := Cond.code_spec hn (atoms_spec (ws := Jvm.Cond.code x code maxLocals ret :: tables_1) h _ List.mem_cons_self)
    exact ⟨meth, c, h1, h2, h3, h4, h5, h6⟩
  · intro p e s m args below meth c s₁ B hml0 hP _
    obtain ⟨rfl, hx, hbd, hgv⟩ := hP
    obtain ⟨scr, harrAt, hlist, hof, hsmall⟩ := hx
    obtain ⟨hcb, hkn, -, -⟩ := State.arrayAt?_spec harrAt
    have hown : s.vm.findClass R_law = some m.cls := findClass_of_methodNamed B.named
    have hts0 : ∀ c ∈ (Jvm.Cond.code x code maxLocals ret :: tables_1), c.before #[Value.ref b] s = true := atoms_spec (ws := Jvm.Cond.code x code maxLocals ret :: tables_1) B.pre
    have hts : ∀ w ∈ lw_tbl, w.before #[Value.ref b] s = true := k2_hts_sels lw_privs (fun w hw => hts0 w (List.mem_cons_of_mem _ hw)) lw_privs_ok
    have hml : c.maxLocals = 4 := B.maxLocals_eq (hts0 _ List.mem_cons_self)
    have X₀ : Stand p l e room_1 s m #[Value.ref b] below meth c s₁ [] 0 0 := Stand.of_body B
    have hh0 : s₁.heap = s.heap := by rw [B.state]; rfl
    have hsz : scr.slots.size = xs.length := by rw [← Array.length_toList, hlist, List.length_map]
    have hval : ∀ j : Nat, j < xs.length → scr.slots[j]? = some (.int (xs.getD j 0)) := fun j hj => by
      rw [← Array.getElem?_toList, hlist]
      simp [hj]
    have hbl : b < s.heap.size := (Array.getElem?_eq_some_iff.mp hcb).1
    have hX : va_X b xs.length (fun j => xs.getD j 0) s s.heap := ⟨scr, hcb, hof, hkn, hsz, hval⟩
    have K : W p l e room_1 s m #[Value.ref b] below meth c s₁.heap [] 0 0 (lw_Z below #[Value.ref b] s) (entryFrame m ([Value.ref b] : List Value).toArray 4) := by
      rw [hh0]
      exact whole_start l hbd ⟨B.exec, B.bytes, B.returns, hml, hown, hts, hX, hbl, B.notSynchronized, hgv⟩
    obtain ⟨t, a1, o, b1, b2, b3⟩ := K s₁ rfl X₀
    exact ⟨t, o, a1, b1, b2, b3⟩
theorem lw_pre_spec {args : Array Value} {s : State} (h : (Jvm.Cond.and given_1 narrow_1).before args s = true) (hr : rest_1_c.before args s = true) : ∃ (b : Addr) (xs : List Int32), lw_P b xs args s := by
  have hs := flat_of_before _ h
  have hq := flat_of_before _ hr
  have hc : (Cond.count 1).before args s = true := hs _ (by decide +kernel)
  have harr : (Cond.arrayOf (.arg 0) .int).before args s = true := hs _ (by decide +kernel)
  have hle : (Cond.le (.length (.arg 0)) (.int 320)).before args s = true := hs _ (by decide +kernel)
  have hlen : (Cond.isInt (.length (.arg 0))).before args s = true := hq _ (by decide +kernel)
  have hall : (Cond.all (.arg 0) (.isInt (.elem (.arg 0) (.index 0)))).before args s = true := hq _ (by decide +kernel)
  obtain ⟨b, xs, hb, hx⟩ := State.ints_of_pre rfl harr hlen hall
  have hsm : xs.length < 2 ^ 31 := hx.choose_spec.2.2.2
  have hev : (Term.length (.arg 0)).eval args s none [] s = some (.int xs.length.toInt32) := hx.length_eval hb
  have hv := Cond.le_ints hev (show (Term.int 320).eval args s none [] s = some (.int 320) from rfl)
  have hd : xs.length.toInt32 ≤ 320 := by
    simpa [Cond.before, Cond.holds, hv] using hle
  have hN : xs.length ≤ 320 := (Int32.ofNat_le_ofNat hsm (by decide)).mp (show Int32.ofNat xs.length ≤ Int32.ofNat 320 from hd)
  exact ⟨b, xs, Cond.one_arg hc (show args[0]? = some (.ref b) from hb), hx, hN, h⟩
theorem lw_comes (l : Launch) : Comes l x (Jvm.Cond.code x code maxLocals ret :: tables_1) room_1 (fun tb e args s => Calls_1 tb e args s ∧ rest_1 tb e args s ∧ Pre_1 tb e args s)
    (fun _ _ args s o t => lw_Q args s o t) := by
  intro p e ha hc hk s m args below hf hfit hheap happ hpre
  obtain ⟨b, xs, hP⟩ := lw_pre_spec hpre.2.2 hpre.2.1
  obtain ⟨k, o, h1, h2, h3, hQ⟩ := lw_walk l b xs p e ha hc hk s m args below hf ((Spec.applies_iff_loose hf).mp happ).1 hP trivial
  exact ⟨k, o, h1, h2, h3, hQ⟩
theorem lw_frame {s t : State} {o : Outcome} {args : Array Value} (h : Framed s o t [] 600000 7290000) :
    Framed s o t (fieldLocs frame_1_writes args s ++ arrayLocs frame_1_arrays args s ++ staticLocs frame_1_statics s) 600000 7290000 := h
theorem lw_limb (L : Cond) (hL : ∀ (args : Array Value) (s t : State), L.after args s (.returned (some (.int 1))) t = true) :
    ArmFor flags0 classFile x code maxLocals ret World_1 tables_1 room_1 Calls_1 rest_1 Pre_1
      (fun tb e a s o t => postC L tb e a s o t ∧ Framed s o t (fieldLocs frame_1_writes a s ++ arrayLocs frame_1_arrays a s ++ staticLocs frame_1_statics s) 600000 7290000) := by
  intro l _ _ _ p e ha hc hk s m args below hf hfit hheap happ hpre
  obtain ⟨k, o, h1, h2, h3, rfl, hF⟩ := lw_comes l p e ha hc hk s m args below hf hfit hheap happ hpre
  exact ⟨k, _, h1, h2, h3, hL args s _, lw_frame hF⟩
theorem i_vc : Claimed_1_1 ∧ Claimed_1_2 := ⟨lw_limb limb_1_1 (fun args s t => by simp [limb_1_1, Cond.after, Cond.holds, Cond.value]), lw_limb limb_1_2 (fun args s t => Cond.after_iff.mpr (by
  first | (rw [show limb_1_2 = Cond.eq .result (.int 1) from rfl, Cond.eq_ints (x := 1) (y := 1) rfl rfl]; simp; done) | (simp [limb_1_2, Cond.value, Term.eval]; done)))⟩
end
