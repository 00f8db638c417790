section
-- ===== PART A: goes FIRST, ahead of the names: the tables' words, and 'selects' of the private methods out of them =====
/-- a private method of a class that the tables say can be made, by its rows of tables_1 -/
def lw_okq (q : MethodName × Nat) : Prop := (q.1.cls ≠ "java/lang/invoke/MethodHandle" ∧ q.1.cls ≠ "java/lang/invoke/VarHandle") ∧ Cond.instantiable q.1.cls q.2 ∈ tables_1 ∧ Cond.privateMethod q.1 ∈ tables_1 ∧ Cond.instanceMethod q.1 ∈ tables_1
theorem lw_p0 : lw_okq (⟨"ZoneHeap", "leads", "(I)V"⟩, 15) := ⟨⟨by decide +kernel, by decide +kernel⟩, List.mem_of_getElem? (i := 11) (by decide +kernel), List.mem_of_getElem? (i := 72) (by decide +kernel), List.mem_of_getElem? (i := 73) (by decide +kernel)⟩
theorem lw_p1 : lw_okq (⟨"ZoneHeap", "under", "(I)I"⟩, 15) := ⟨⟨by decide +kernel, by decide +kernel⟩, List.mem_of_getElem? (i := 11) (by decide +kernel), List.mem_of_getElem? (i := 76) (by decide +kernel), List.mem_of_getElem? (i := 77) (by decide +kernel)⟩
theorem lw_p2 : lw_okq (⟨"ZoneHeap", "word", "(I)I"⟩, 15) := ⟨⟨by decide +kernel, by decide +kernel⟩, List.mem_of_getElem? (i := 11) (by decide +kernel), List.mem_of_getElem? (i := 80) (by decide +kernel), List.mem_of_getElem? (i := 81) (by decide +kernel)⟩
theorem lw_p3 : lw_okq (⟨"java/lang/Throwable", "fillInStackTrace", "(I)Ljava/lang/Throwable;"⟩, 6) := ⟨⟨by decide +kernel, by decide +kernel⟩, List.mem_of_getElem? (i := 133) (by decide +kernel), List.mem_of_getElem? (i := 131) (by decide +kernel), List.mem_of_getElem? (i := 132) (by decide +kernel)⟩
theorem lw_p4 : lw_okq (⟨"ZoneHeap", "made", "(I)I"⟩, 15) := ⟨⟨by decide +kernel, by decide +kernel⟩, List.mem_of_getElem? (i := 11) (by decide +kernel), List.mem_of_getElem? (i := 158) (by decide +kernel), List.mem_of_getElem? (i := 159) (by decide +kernel)⟩
theorem lw_p5 : lw_okq (⟨"ZoneHeap", "gap", "(I)I"⟩, 15) := ⟨⟨by decide +kernel, by decide +kernel⟩, List.mem_of_getElem? (i := 11) (by decide +kernel), List.mem_of_getElem? (i := 162) (by decide +kernel), List.mem_of_getElem? (i := 163) (by decide +kernel)⟩
theorem lw_p6 : lw_okq (⟨"ZoneHeap", "end", "(I)I"⟩, 15) := ⟨⟨by decide +kernel, by decide +kernel⟩, List.mem_of_getElem? (i := 11) (by decide +kernel), List.mem_of_getElem? (i := 172) (by decide +kernel), List.mem_of_getElem? (i := 173) (by decide +kernel)⟩
theorem lw_p7 : lw_okq (⟨"ZoneHeap", "move", "(II)V"⟩, 15) := ⟨⟨by decide +kernel, by decide +kernel⟩, List.mem_of_getElem? (i := 11) (by decide +kernel), List.mem_of_getElem? (i := 176) (by decide +kernel), List.mem_of_getElem? (i := 177) (by decide +kernel)⟩
theorem lw_p8 : lw_okq (⟨"ZoneHeap", "standing", "(I)I"⟩, 15) := ⟨⟨by decide +kernel, by decide +kernel⟩, List.mem_of_getElem? (i := 11) (by decide +kernel), List.mem_of_getElem? (i := 188) (by decide +kernel), List.mem_of_getElem? (i := 189) (by decide +kernel)⟩
theorem lw_p9 : lw_okq (⟨"ZoneHeap", "give", "(I)V"⟩, 15) := ⟨⟨by decide +kernel, by decide +kernel⟩, List.mem_of_getElem? (i := 11) (by decide +kernel), List.mem_of_getElem? (i := 210) (by decide +kernel), List.mem_of_getElem? (i := 211) (by decide +kernel)⟩
theorem lw_p10 : lw_okq (⟨"ZoneHeap", "gone", "(I)V"⟩, 15) := ⟨⟨by decide +kernel, by decide +kernel⟩, List.mem_of_getElem? (i := 11) (by decide +kernel), List.mem_of_getElem? (i := 214) (by decide +kernel), List.mem_of_getElem? (i := 215) (by decide +kernel)⟩
theorem lw_p11 : lw_okq (⟨"ZoneHeap", "isLive", "(I)Z"⟩, 15) := ⟨⟨by decide +kernel, by decide +kernel⟩, List.mem_of_getElem? (i := 11) (by decide +kernel), List.mem_of_getElem? (i := 258) (by decide +kernel), List.mem_of_getElem? (i := 259) (by decide +kernel)⟩
theorem lw_p12 : lw_okq (⟨"ZoneHeap", "four", "(I)V"⟩, 15) := ⟨⟨by decide +kernel, by decide +kernel⟩, List.mem_of_getElem? (i := 11) (by decide +kernel), List.mem_of_getElem? (i := 269) (by decide +kernel), List.mem_of_getElem? (i := 270) (by decide +kernel)⟩
theorem lw_p13 : lw_okq (⟨"ZoneHeapModel", "fails", "(ZI)Z"⟩, 12) := ⟨⟨by decide +kernel, by decide +kernel⟩, List.mem_of_getElem? (i := 294) (by decide +kernel), List.mem_of_getElem? (i := 345) (by decide +kernel), List.mem_of_getElem? (i := 346) (by decide +kernel)⟩
theorem lw_p14 : lw_okq (⟨"ZoneHeapModel", "make", "(I)I"⟩, 12) := ⟨⟨by decide +kernel, by decide +kernel⟩, List.mem_of_getElem? (i := 294) (by decide +kernel), List.mem_of_getElem? (i := 349) (by decide +kernel), List.mem_of_getElem? (i := 350) (by decide +kernel)⟩
theorem lw_p15 : lw_okq (⟨"ZoneHeapModel", "room", "(I)I"⟩, 12) := ⟨⟨by decide +kernel, by decide +kernel⟩, List.mem_of_getElem? (i := 294) (by decide +kernel), List.mem_of_getElem? (i := 353) (by decide +kernel), List.mem_of_getElem? (i := 354) (by decide +kernel)⟩
def lw_privs_1 : List (MethodName × Nat) := [(⟨"ZoneHeap", "leads", "(I)V"⟩, 15), (⟨"ZoneHeap", "under", "(I)I"⟩, 15), (⟨"ZoneHeap", "word", "(I)I"⟩, 15), (⟨"java/lang/Throwable", "fillInStackTrace", "(I)Ljava/lang/Throwable;"⟩, 6), (⟨"ZoneHeap", "made", "(I)I"⟩, 15), (⟨"ZoneHeap", "gap", "(I)I"⟩, 15), (⟨"ZoneHeap", "end", "(I)I"⟩, 15), (⟨"ZoneHeap", "move", "(II)V"⟩, 15), (⟨"ZoneHeap", "standing", "(I)I"⟩, 15), (⟨"ZoneHeap", "give", "(I)V"⟩, 15), (⟨"ZoneHeap", "gone", "(I)V"⟩, 15), (⟨"ZoneHeap", "isLive", "(I)Z"⟩, 15), (⟨"ZoneHeap", "four", "(I)V"⟩, 15), (⟨"ZoneHeapModel", "fails", "(ZI)Z"⟩, 12), (⟨"ZoneHeapModel", "make", "(I)I"⟩, 12), (⟨"ZoneHeapModel", "room", "(I)I"⟩, 12)]
theorem lw_r1 : ∀ q ∈ lw_privs_1, lw_okq q := List.forall_mem_cons.mpr ⟨lw_p0, List.forall_mem_cons.mpr ⟨lw_p1, List.forall_mem_cons.mpr ⟨lw_p2, List.forall_mem_cons.mpr ⟨lw_p3, List.forall_mem_cons.mpr ⟨lw_p4, List.forall_mem_cons.mpr ⟨lw_p5, List.forall_mem_cons.mpr ⟨lw_p6, List.forall_mem_cons.mpr ⟨lw_p7, List.forall_mem_cons.mpr ⟨lw_p8, List.forall_mem_cons.mpr ⟨lw_p9, List.forall_mem_cons.mpr ⟨lw_p10, List.forall_mem_cons.mpr ⟨lw_p11, List.forall_mem_cons.mpr ⟨lw_p12, List.forall_mem_cons.mpr ⟨lw_p13, List.forall_mem_cons.mpr ⟨lw_p14, List.forall_mem_cons.mpr ⟨lw_p15, fun _ h => absurd h List.not_mem_nil⟩⟩⟩⟩⟩⟩⟩⟩⟩⟩⟩⟩⟩⟩⟩⟩
theorem lw_p16 : lw_okq (⟨"ZoneHeapModel", "at", "(II)I"⟩, 12) := ⟨⟨by decide +kernel, by decide +kernel⟩, List.mem_of_getElem? (i := 294) (by decide +kernel), List.mem_of_getElem? (i := 364) (by decide +kernel), List.mem_of_getElem? (i := 365) (by decide +kernel)⟩
theorem lw_p17 : lw_okq (⟨"ZoneHeapModel", "give", "(I)V"⟩, 12) := ⟨⟨by decide +kernel, by decide +kernel⟩, List.mem_of_getElem? (i := 294) (by decide +kernel), List.mem_of_getElem? (i := 368) (by decide +kernel), List.mem_of_getElem? (i := 369) (by decide +kernel)⟩
theorem lw_p18 : lw_okq (⟨"ZoneHeapModel", "kept", "()I"⟩, 12) := ⟨⟨by decide +kernel, by decide +kernel⟩, List.mem_of_getElem? (i := 294) (by decide +kernel), List.mem_of_getElem? (i := 372) (by decide +kernel), List.mem_of_getElem? (i := 373) (by decide +kernel)⟩
theorem lw_p19 : lw_okq (⟨"ZoneHeapModel", "of", "(II)I"⟩, 12) := ⟨⟨by decide +kernel, by decide +kernel⟩, List.mem_of_getElem? (i := 294) (by decide +kernel), List.mem_of_getElem? (i := 384) (by decide +kernel), List.mem_of_getElem? (i := 385) (by decide +kernel)⟩
theorem lw_p20 : lw_okq (⟨"ZoneHeapModel", "bad", "(I)Z"⟩, 12) := ⟨⟨by decide +kernel, by decide +kernel⟩, List.mem_of_getElem? (i := 294) (by decide +kernel), List.mem_of_getElem? (i := 396) (by decide +kernel), List.mem_of_getElem? (i := 397) (by decide +kernel)⟩
theorem lw_p21 : lw_okq (⟨"ZoneHeapModel", "word", "(I)I"⟩, 12) := ⟨⟨by decide +kernel, by decide +kernel⟩, List.mem_of_getElem? (i := 294) (by decide +kernel), List.mem_of_getElem? (i := 404) (by decide +kernel), List.mem_of_getElem? (i := 405) (by decide +kernel)⟩
theorem lw_p22 : lw_okq (⟨"ZoneHeapModel", "touch", "(I)Z"⟩, 12) := ⟨⟨by decide +kernel, by decide +kernel⟩, List.mem_of_getElem? (i := 294) (by decide +kernel), List.mem_of_getElem? (i := 412) (by decide +kernel), List.mem_of_getElem? (i := 413) (by decide +kernel)⟩
theorem lw_p23 : lw_okq (⟨"ZoneHeapModel", "leads", "(I)I"⟩, 12) := ⟨⟨by decide +kernel, by decide +kernel⟩, List.mem_of_getElem? (i := 294) (by decide +kernel), List.mem_of_getElem? (i := 416) (by decide +kernel), List.mem_of_getElem? (i := 417) (by decide +kernel)⟩
def lw_privs_2 : List (MethodName × Nat) := [(⟨"ZoneHeapModel", "at", "(II)I"⟩, 12), (⟨"ZoneHeapModel", "give", "(I)V"⟩, 12), (⟨"ZoneHeapModel", "kept", "()I"⟩, 12), (⟨"ZoneHeapModel", "of", "(II)I"⟩, 12), (⟨"ZoneHeapModel", "bad", "(I)Z"⟩, 12), (⟨"ZoneHeapModel", "word", "(I)I"⟩, 12), (⟨"ZoneHeapModel", "touch", "(I)Z"⟩, 12), (⟨"ZoneHeapModel", "leads", "(I)I"⟩, 12)]
theorem lw_r2 : ∀ q ∈ lw_privs_2, lw_okq q := List.forall_mem_cons.mpr ⟨lw_p16, List.forall_mem_cons.mpr ⟨lw_p17, List.forall_mem_cons.mpr ⟨lw_p18, List.forall_mem_cons.mpr ⟨lw_p19, List.forall_mem_cons.mpr ⟨lw_p20, List.forall_mem_cons.mpr ⟨lw_p21, List.forall_mem_cons.mpr ⟨lw_p22, List.forall_mem_cons.mpr ⟨lw_p23, fun _ h => absurd h List.not_mem_nil⟩⟩⟩⟩⟩⟩⟩⟩
def lw_privs : List (MethodName × Nat) := lw_privs_1 ++ (lw_privs_2)
def lw_tbl : List Cond := k2_sels lw_privs ++ tables_1
theorem lw_privs_ok : ∀ q ∈ lw_privs, lw_okq q := by
  show ∀ q ∈ lw_privs_1 ++ (lw_privs_2), lw_okq q
  exact List.forall_mem_append.mpr ⟨lw_r1, lw_r2⟩
end
section
/-! The frame of all walks: the word list zT, locals as a list, the judgement ZW over a picture M of the world w M -/
def zT : List Cond := lw_tbl.filter (fun w => goodWord w)
theorem zT_good : ∀ w ∈ zT, (w.onTables && w.keeps) = true ∨ ∃ ty, w = .arrayClass ty := fun w h => good_of_word (List.mem_filter.mp h).2
theorem zT_in {w : Cond} (i : Nat) (h : lw_tbl[i]? = some w) (g : goodWord w = true) : w ∈ zT := List.mem_filter.mpr ⟨List.mem_of_getElem? h, g⟩
def zl (ls : Array Slot) (nL : Nat) (L : List (Option Value)) : Prop := ls.size = nL ∧ lv_wf ls ∧ ∀ (i : Nat) (v : Value), L[i]? = some (some v) → ls[i]? = some (.val v) ∧ v.category = 1
def zq (L : List (Option Value)) : List (Nat × Value) := L.zipIdx.filterMap (fun q => q.1.map (fun v => (q.2, v)))
theorem zq_mem {L : List (Option Value)} {q : Nat × Value} : q ∈ zq L ↔ L[q.1]? = some (some q.2) := by
  obtain ⟨j, v⟩ := q
  simp only [zq, List.mem_filterMap]
  constructor
  · rintro ⟨⟨o, i⟩, h1, h2⟩
    rw [List.mem_zipIdx_iff_getElem?] at h1
    cases o with
    | none => cases h2
    | some w =>
      simp only [Option.map_some, Option.some.injEq, Prod.mk.injEq] at h2
      obtain ⟨rfl, rfl⟩ := h2
      exact h1
  · intro h
    exact ⟨(some v, j), List.mem_zipIdx_iff_getElem?.mpr h, rfl⟩
theorem zl.has {ls : Array Slot} {nL : Nat} {L : List (Option Value)} (h : zl ls nL L) : lv_has ls nL (zq L) :=
  ⟨h.1, h.2.1, fun q hq => (h.2.2 q.1 q.2 (zq_mem.mp hq)).1⟩
theorem zl.set {ls ls' : Array Slot} {nL i : Nat} {v : Value} {L : List (Option Value)} (h : zl ls nL L) (hv : v.category = 1) (h' : lv_has ls' nL ((i, v) :: (zq L).filter (fun q => !(q.1 == i) && !(q.1 + 1 == i && q.2.category == 2)))) : zl ls' nL (L.set i (some v)) := by
  refine ⟨h'.1, h'.2.1, fun j w hj => ?_⟩
  rw [List.getElem?_set] at hj
  by_cases hij : i = j
  · subst hij
    rw [if_pos rfl] at hj
    split at hj
    · simp only [Option.some.injEq] at hj
      subst hj
      exact ⟨h'.2.2 (i, v) List.mem_cons_self, hv⟩
    · cases hj
  · rw [if_neg hij] at hj
    have hc := (h.2.2 j w hj).2
    refine ⟨h'.2.2 (j, w) (List.mem_cons_of_mem _ (List.mem_filter.mpr ⟨zq_mem.mpr hj, ?_⟩)), hc⟩
    have : ¬ j = i := fun e => hij e.symm
    simp [this, hc]
theorem zl.entry (vs : List Value) {n : Nat} (h : (lg_sl vs).length ≤ n) (hc : ∀ v ∈ vs, v.category = 1) : zl ((lg_sl vs ++ List.replicate (n - (lg_sl vs).length) Slot.unset).toArray) n (vs.map some ++ List.replicate (n - vs.length) none) := by
  have h1 := lv_entry vs h
  refine ⟨h1.1, h1.2.1, fun i v hi => ?_⟩
  have key : ∀ (us : List Value) (k i : Nat) (v : Value), (∀ u ∈ us, u.category = 1) → us[i]? = some v → (k + i, v) ∈ lv_args k us := by
    intro us
    induction us with
    | nil => intro k i v _ hh; simp at hh
    | cons u us ih =>
      intro k i v hcs hh
      have hu : u.category = 1 := hcs u List.mem_cons_self
      cases i with
      | zero =>
        simp only [List.getElem?_cons_zero, Option.some.injEq] at hh
        subst hh
        exact List.mem_cons_self
      | succ i =>
        have := ih (k + 1) i v (fun z hz => hcs z (List.mem_cons_of_mem _ hz)) (by simpa using hh)
        simp only [lv_args, hu]
        refine List.mem_cons_of_mem _ ?_
        rw [show k + (i + 1) = k + 1 + i by omega]
        simpa using this
  by_cases hlt : i < vs.length
  · rw [List.getElem?_append_left (by simpa using hlt), List.getElem?_map] at hi
    cases hv : vs[i]? with
    | none => rw [hv] at hi; cases hi
    | some u =>
      rw [hv] at hi
      simp only [Option.map_some, Option.some.injEq] at hi
      subst hi
      have hm := key vs 0 i u hc hv
      rw [Nat.zero_add] at hm
      exact ⟨h1.2.2 (i, u) hm, hc u (List.mem_of_getElem? hv)⟩
  · rw [List.getElem?_append_right (by simpa using hlt)] at hi
    rw [List.getElem?_replicate] at hi
    split at hi <;> simp at hi
/-- what throwing needs of the state: words that hold wherever the tables are alike and Throwable's statics stand -/
def zC : List Cond := [.castable "java/lang/IllegalArgumentException" "java/lang/IllegalArgumentException", .castable "java/lang/IllegalStateException" "java/lang/IllegalStateException", .castable "java/lang/IndexOutOfBoundsException" "java/lang/IndexOutOfBoundsException",
  .declares ⟨"java/lang/RuntimeException", "<init>", "()V"⟩, .declares ⟨"java/lang/Exception", "<init>", "()V"⟩, .declares ⟨"java/lang/Throwable", "<init>", "()V"⟩,
  .laysStatic "java/lang/Throwable" "UNASSIGNED_STACK" "[Ljava/lang/StackTraceElement;", .laysStatic "java/lang/Throwable" "SUPPRESSED_SENTINEL" "Ljava/util/List;",
  .isRef (.static "java/lang/Throwable" "UNASSIGNED_STACK" "[Ljava/lang/StackTraceElement;"), .isRef (.static "java/lang/Throwable" "SUPPRESSED_SENTINEL" "Ljava/util/List;"),
  .not (.castable "java/lang/IllegalStateException" "java/lang/IllegalArgumentException"), .not (.castable "java/lang/IllegalStateException" "java/lang/IndexOutOfBoundsException")]
def zZ (A : Nat → Prop) (U : State) (H : Heap) : Prop := ∃ (q : Nat) (cell : Cell), ¬ A q ∧ H[q]? = some cell ∧ ∀ (U' : State) (a' : Array Value), U.vm.Alike U'.vm → U'.heap[q]? = some cell → ∀ w ∈ zC, w.before a' U' = true
theorem zZ.moved {A : Nat → Prop} {u U : State} {H : Heap} (hvm : u.vm.Alike U.vm) (h : zZ A u H) : zZ A U H := by
  obtain ⟨q, cell, h1, h2, h3⟩ := h
  exact ⟨q, cell, h1, h2, fun U' a' hU => h3 U' a' (hvm.trans hU)⟩
theorem zZ.kept {A : Nat → Prop} {U : State} {H H1 : Heap} (h : zZ A U H) (hq : ∀ a : Nat, a < H.size → ¬ A a → H1[a]? = H[a]?) : zZ A U H1 := by
  obtain ⟨q, cell, h1, h2, h3⟩ := h
  exact ⟨q, cell, h1, by rw [hq q (Array.getElem?_eq_some_iff.mp h2).1 h1]; exact h2, h3⟩
theorem zZ.narrow {A B : Nat → Prop} {U : State} {H : Heap} (h : zZ A U H) (hAB : ∀ q, B q → A q) : zZ B U H := by
  obtain ⟨q, cell, h1, h2, h3⟩ := h
  exact ⟨q, cell, fun z => h1 (hAB q z), h2, h3⟩
theorem zZ.use {A : Nat → Prop} {U : State} (h : zZ A U U.heap) (a' : Array Value) : ∀ w ∈ zC, w.before a' U = true := by
  obtain ⟨q, cell, h1, h2, h3⟩ := h
  exact h3 U a' (Vm.Alike.refl U.vm) h2
/-- the constant facts of a walk -/
def zE (p : Program) (s : State) (m : MethodId) (args : Array Value) (meth : Method) (c : Code) (cc : ByteArray) (nL : Nat) (own : String) (D : va_G) (cl : List vw_C) (tys : List (ClassId × FieldType)) (A : Nat → Prop) : Prop :=
  p.tables.exec = Jvm.exec ∧ c.code = cc ∧ c.maxLocals = nL ∧ s.vm.findClass own = some m.cls ∧ (∀ w ∈ zT, w.before args s = true) ∧ va_K D cl tys s ∧ (∀ q : Nat, s.heap.size ≤ q → A q) ∧ meth.locks = false ∧ zZ A s s.heap ∧ ∀ (q : Nat) (cell : Cell), A q → s.heap[q]? = some cell → cell.vm.isStatics = false
def ZW (p : Program) (l : Launch) (e : Env) (R : Room) (s : State) (m : MethodId) (args : Array Value) (below : List Frame) (meth : Method) (c : Code) (nL : Nat) {σ : Type} (D : va_G) (cl : List vw_C) (A : Nat → Prop) (w : σ → va_W) (cells slots : Nat) (Q : State → Prop) (pc : Nat) (L : List (Option Value)) (st : List Value) (M : σ) : Prop :=
  ∀ (H : Heap) (locs : List Loc) (ls : Array Slot), va_P D cl (w M) H → va_D A (w M) → va_S A s.heap H locs → zl ls nL L → W p l e R s m args below meth c H locs cells slots Q (F0 m pc ls st)
section ZR
variable {p : Program} {l : Launch} {e : Env} {R : Room} {s : State} {m : MethodId} {args : Array Value} {below : List Frame} {meth : Method} {c : Code} {cells slots : Nat} {Q : State → Prop}
variable {cc : ByteArray} {nL : Nat} {own : String} {D : va_G} {cl : List vw_C} {tys : List (ClassId × FieldType)} {A : Nat → Prop} {σ : Type} {w : σ → va_W} {pc : Nat} {L : List (Option Value)} {st : List Value} {M : σ}
theorem z_eq {L' : List (Option Value)} {st' : List Value} {M' : σ} (hL : L' = L) (hs : st' = st) (hM : M' = M) (k : ZW p l e R s m args below meth c nL D cl A w cells slots Q pc L' st' M') : ZW p l e R s m args below meth c nL D cl A w cells slots Q pc L st M := by
  subst hL; subst hs; subst hM; exact k
theorem z_widen {k n : Nat} (h1 : cells ≤ k) (h2 : slots ≤ n) (kk : ZW p l e R s m args below meth c nL D cl A w k n Q pc L st M) : ZW p l e R s m args below meth c nL D cl A w cells slots Q pc L st M :=
  fun H locs ls a1 a2 a3 a4 => W.widen h1 h2 (kk H locs ls a1 a2 a3 a4)
theorem z_iconst (E : zE p s m args meth c cc nL own D cl tys A) {n : Int} {v : Int32} (hd : decode cc pc = .ok (.iconst n, 1)) (hv : Int32.ofInt n = v) (k : ZW p l e R s m args below meth c nL D cl A w cells slots Q (pc + 1) L (.int v :: st) M) : ZW p l e R s m args below meth c nL D cl A w cells slots Q pc L st M :=
  fun H locs ls a1 a2 a3 a4 => lv_iconst E.1 E.2.1 hd hv (k H locs ls a1 a2 a3 a4)
theorem z_bipush (E : zE p s m args meth c cc nL own D cl tys A) {n : Int} {v : Int32} (hd : decode cc pc = .ok (.bipush n, 2)) (hv : (Int8.ofInt n).toInt32 = v) (k : ZW p l e R s m args below meth c nL D cl A w cells slots Q (pc + 2) L (.int v :: st) M) : ZW p l e R s m args below meth c nL D cl A w cells slots Q pc L st M :=
  fun H locs ls a1 a2 a3 a4 => lv_bipush E.1 E.2.1 hd hv (k H locs ls a1 a2 a3 a4)
theorem z_sipush (E : zE p s m args meth c cc nL own D cl tys A) {n : Int} {v : Int32} (hd : decode cc pc = .ok (.sipush n, 3)) (hv : (Int16.ofInt n).toInt32 = v) (k : ZW p l e R s m args below meth c nL D cl A w cells slots Q (pc + 3) L (.int v :: st) M) : ZW p l e R s m args below meth c nL D cl A w cells slots Q pc L st M :=
  fun H locs ls a1 a2 a3 a4 => lv_sipush E.1 E.2.1 hd hv (k H locs ls a1 a2 a3 a4)
theorem z_iload_n (E : zE p s m args meth c cc nL own D cl tys A) {k : Fin 4} {x : Int32} (i : Nat) (hd : decode cc pc = .ok (.iload_n k, 1)) (hi : (k : Nat) = i) (hl : L[i]? = some (some (.int x))) (kk : ZW p l e R s m args below meth c nL D cl A w cells slots Q (pc + 1) L (.int x :: st) M) : ZW p l e R s m args below meth c nL D cl A w cells slots Q pc L st M :=
  fun H locs ls a1 a2 a3 a4 => lv_iload_n E.1 E.2.1 hd hi (a4.2.2 i _ hl).1 (kk H locs ls a1 a2 a3 a4)
theorem z_iload (E : zE p s m args meth c cc nL own D cl tys A) {i : Nat} {x : Int32} (hd : decode cc pc = .ok (.iload i, 2)) (hl : L[i]? = some (some (.int x))) (kk : ZW p l e R s m args below meth c nL D cl A w cells slots Q (pc + 2) L (.int x :: st) M) : ZW p l e R s m args below meth c nL D cl A w cells slots Q pc L st M :=
  fun H locs ls a1 a2 a3 a4 => lv_iload E.1 E.2.1 hd (a4.2.2 i _ hl).1 (kk H locs ls a1 a2 a3 a4)
theorem z_aload_n (E : zE p s m args meth c cc nL own D cl tys A) {k : Fin 4} {x : Nat} (i : Nat) (hd : decode cc pc = .ok (.aload_n k, 1)) (hi : (k : Nat) = i) (hl : L[i]? = some (some (.ref x))) (kk : ZW p l e R s m args below meth c nL D cl A w cells slots Q (pc + 1) L (.ref x :: st) M) : ZW p l e R s m args below meth c nL D cl A w cells slots Q pc L st M :=
  fun H locs ls a1 a2 a3 a4 => lv_aload_n E.1 E.2.1 hd hi (a4.2.2 i _ hl).1 (kk H locs ls a1 a2 a3 a4)
theorem z_aload (E : zE p s m args meth c cc nL own D cl tys A) {i : Nat} {x : Nat} (hd : decode cc pc = .ok (.aload i, 2)) (hl : L[i]? = some (some (.ref x))) (kk : ZW p l e R s m args below meth c nL D cl A w cells slots Q (pc + 2) L (.ref x :: st) M) : ZW p l e R s m args below meth c nL D cl A w cells slots Q pc L st M :=
  fun H locs ls a1 a2 a3 a4 => lv_aload E.1 E.2.1 hd (a4.2.2 i _ hl).1 (kk H locs ls a1 a2 a3 a4)
theorem z_istore_n (E : zE p s m args meth c cc nL own D cl tys A) {k : Fin 4} {x : Int32} (i : Nat) (hd : decode cc pc = .ok (.istore_n k, 1)) (hi : (k : Nat) = i) (hn : i < nL) (kk : ZW p l e R s m args below meth c nL D cl A w cells slots Q (pc + 1) (L.set i (some (.int x))) st M) : ZW p l e R s m args below meth c nL D cl A w cells slots Q pc L (.int x :: st) M :=
  fun H locs ls a1 a2 a3 a4 => lv_istore_n E.1 E.2.1 hd hi a4.has hn rfl (fun ls' h' => kk H locs ls' a1 a2 a3 (a4.set rfl h'))
theorem z_istore (E : zE p s m args meth c cc nL own D cl tys A) {i : Nat} {x : Int32} (hd : decode cc pc = .ok (.istore i, 2)) (hn : i < nL) (kk : ZW p l e R s m args below meth c nL D cl A w cells slots Q (pc + 2) (L.set i (some (.int x))) st M) : ZW p l e R s m args below meth c nL D cl A w cells slots Q pc L (.int x :: st) M :=
  fun H locs ls a1 a2 a3 a4 => lv_istore E.1 E.2.1 hd a4.has hn rfl (fun ls' h' => kk H locs ls' a1 a2 a3 (a4.set rfl h'))
theorem z_astore_n (E : zE p s m args meth c cc nL own D cl tys A) {k : Fin 4} {x : Nat} (i : Nat) (hd : decode cc pc = .ok (.astore_n k, 1)) (hi : (k : Nat) = i) (hn : i < nL) (kk : ZW p l e R s m args below meth c nL D cl A w cells slots Q (pc + 1) (L.set i (some (.ref x))) st M) : ZW p l e R s m args below meth c nL D cl A w cells slots Q pc L (.ref x :: st) M :=
  fun H locs ls a1 a2 a3 a4 => lv_astore_n E.1 E.2.1 hd hi a4.has hn rfl (fun ls' h' => kk H locs ls' a1 a2 a3 (a4.set rfl h'))
theorem z_astore (E : zE p s m args meth c cc nL own D cl tys A) {i : Nat} {x : Nat} (hd : decode cc pc = .ok (.astore i, 2)) (hn : i < nL) (kk : ZW p l e R s m args below meth c nL D cl A w cells slots Q (pc + 2) (L.set i (some (.ref x))) st M) : ZW p l e R s m args below meth c nL D cl A w cells slots Q pc L (.ref x :: st) M :=
  fun H locs ls a1 a2 a3 a4 => lv_astore E.1 E.2.1 hd a4.has hn rfl (fun ls' h' => kk H locs ls' a1 a2 a3 (a4.set rfl h'))
theorem z_iinc (E : zE p s m args meth c cc nL own D cl tys A) {i : Nat} {n : Int} {x v : Int32} (hd : decode cc pc = .ok (.iinc i n, 3)) (hl : L[i]? = some (some (.int x))) (hv : x + Int32.ofInt n = v) (hn : i < nL) (kk : ZW p l e R s m args below meth c nL D cl A w cells slots Q (pc + 3) (L.set i (some (.int v))) st M) : ZW p l e R s m args below meth c nL D cl A w cells slots Q pc L st M := by
  intro H locs ls a1 a2 a3 a4
  obtain ⟨k, hk⟩ := List.getElem?_of_mem (zq_mem (q := (i, Value.int x)).mpr hl)
  exact lv_iinc E.1 E.2.1 hd a4.has hk hv hn rfl (fun ls' h' => kk H locs ls' a1 a2 a3 (a4.set rfl h'))
theorem z_iadd (E : zE p s m args meth c cc nL own D cl tys A) {x y : Int32} (hd : decode cc pc = .ok (.iadd, 1)) (k : ZW p l e R s m args below meth c nL D cl A w cells slots Q (pc + 1) L (.int (x + y) :: st) M) : ZW p l e R s m args below meth c nL D cl A w cells slots Q pc L (.int y :: .int x :: st) M :=
  fun H locs ls a1 a2 a3 a4 => lv_iadd E.1 E.2.1 hd (k H locs ls a1 a2 a3 a4)
theorem z_isub (E : zE p s m args meth c cc nL own D cl tys A) {x y : Int32} (hd : decode cc pc = .ok (.isub, 1)) (k : ZW p l e R s m args below meth c nL D cl A w cells slots Q (pc + 1) L (.int (x - y) :: st) M) : ZW p l e R s m args below meth c nL D cl A w cells slots Q pc L (.int y :: .int x :: st) M :=
  fun H locs ls a1 a2 a3 a4 => lv_isub E.1 E.2.1 hd (k H locs ls a1 a2 a3 a4)
theorem z_imul (E : zE p s m args meth c cc nL own D cl tys A) {x y : Int32} (hd : decode cc pc = .ok (.imul, 1)) (k : ZW p l e R s m args below meth c nL D cl A w cells slots Q (pc + 1) L (.int (x * y) :: st) M) : ZW p l e R s m args below meth c nL D cl A w cells slots Q pc L (.int y :: .int x :: st) M :=
  fun H locs ls a1 a2 a3 a4 => lv_imul E.1 E.2.1 hd (k H locs ls a1 a2 a3 a4)
theorem z_iand (E : zE p s m args meth c cc nL own D cl tys A) {x y : Int32} (hd : decode cc pc = .ok (.iand, 1)) (k : ZW p l e R s m args below meth c nL D cl A w cells slots Q (pc + 1) L (.int (x &&& y) :: st) M) : ZW p l e R s m args below meth c nL D cl A w cells slots Q pc L (.int y :: .int x :: st) M :=
  fun H locs ls a1 a2 a3 a4 => lv_iand E.1 E.2.1 hd (k H locs ls a1 a2 a3 a4)
theorem z_ior (E : zE p s m args meth c cc nL own D cl tys A) {x y : Int32} (hd : decode cc pc = .ok (.ior, 1)) (k : ZW p l e R s m args below meth c nL D cl A w cells slots Q (pc + 1) L (.int (x ||| y) :: st) M) : ZW p l e R s m args below meth c nL D cl A w cells slots Q pc L (.int y :: .int x :: st) M :=
  fun H locs ls a1 a2 a3 a4 => lv_ior E.1 E.2.1 hd (k H locs ls a1 a2 a3 a4)
theorem z_ixor (E : zE p s m args meth c cc nL own D cl tys A) {x y : Int32} (hd : decode cc pc = .ok (.ixor, 1)) (k : ZW p l e R s m args below meth c nL D cl A w cells slots Q (pc + 1) L (.int (x ^^^ y) :: st) M) : ZW p l e R s m args below meth c nL D cl A w cells slots Q pc L (.int y :: .int x :: st) M :=
  fun H locs ls a1 a2 a3 a4 => lv_ixor E.1 E.2.1 hd (k H locs ls a1 a2 a3 a4)
theorem z_ishl (E : zE p s m args meth c cc nL own D cl tys A) {x y : Int32} (hd : decode cc pc = .ok (.ishl, 1)) (k : ZW p l e R s m args below meth c nL D cl A w cells slots Q (pc + 1) L (.int (x <<< (y &&& 31)) :: st) M) : ZW p l e R s m args below meth c nL D cl A w cells slots Q pc L (.int y :: .int x :: st) M :=
  fun H locs ls a1 a2 a3 a4 => lv_ishl E.1 E.2.1 hd (k H locs ls a1 a2 a3 a4)
theorem z_ishr (E : zE p s m args meth c cc nL own D cl tys A) {x y : Int32} (hd : decode cc pc = .ok (.ishr, 1)) (k : ZW p l e R s m args below meth c nL D cl A w cells slots Q (pc + 1) L (.int (x >>> (y &&& 31)) :: st) M) : ZW p l e R s m args below meth c nL D cl A w cells slots Q pc L (.int y :: .int x :: st) M :=
  fun H locs ls a1 a2 a3 a4 => lv_ishr E.1 E.2.1 hd (k H locs ls a1 a2 a3 a4)
theorem z_idiv (E : zE p s m args meth c cc nL own D cl tys A) {x y : Int32} (hd : decode cc pc = .ok (.idiv, 1)) (hne : ¬ y = 0) (k : ZW p l e R s m args below meth c nL D cl A w cells slots Q (pc + 1) L (.int (x / y) :: st) M) : ZW p l e R s m args below meth c nL D cl A w cells slots Q pc L (.int y :: .int x :: st) M :=
  fun H locs ls a1 a2 a3 a4 => lv_idiv E.1 E.2.1 hd hne (k H locs ls a1 a2 a3 a4)
theorem z_i2b (E : zE p s m args meth c cc nL own D cl tys A) {x : Int32} (hd : decode cc pc = .ok (.i2b, 1)) (k : ZW p l e R s m args below meth c nL D cl A w cells slots Q (pc + 1) L (.int x.toInt8.toInt32 :: st) M) : ZW p l e R s m args below meth c nL D cl A w cells slots Q pc L (.int x :: st) M :=
  fun H locs ls a1 a2 a3 a4 => lv_i2b E.1 E.2.1 hd rfl (k H locs ls a1 a2 a3 a4)
theorem z_i2l (E : zE p s m args meth c cc nL own D cl tys A) {x : Int32} (hd : decode cc pc = .ok (.i2l, 1)) (k : ZW p l e R s m args below meth c nL D cl A w cells slots Q (pc + 1) L (.long x.toInt64 :: st) M) : ZW p l e R s m args below meth c nL D cl A w cells slots Q pc L (.int x :: st) M :=
  fun H locs ls a1 a2 a3 a4 => lv_i2l E.1 E.2.1 hd rfl (k H locs ls a1 a2 a3 a4)
theorem z_dup (E : zE p s m args meth c cc nL own D cl tys A) {v : Value} (hd : decode cc pc = .ok (.dup, 1)) (hv : v.category = 1) (k : ZW p l e R s m args below meth c nL D cl A w cells slots Q (pc + 1) L (v :: v :: st) M) : ZW p l e R s m args below meth c nL D cl A w cells slots Q pc L (v :: st) M :=
  fun H locs ls a1 a2 a3 a4 => lv_dup E.1 E.2.1 hd hv (k H locs ls a1 a2 a3 a4)
theorem z_pop (E : zE p s m args meth c cc nL own D cl tys A) {v : Value} (hd : decode cc pc = .ok (.pop, 1)) (hv : v.category = 1) (k : ZW p l e R s m args below meth c nL D cl A w cells slots Q (pc + 1) L st M) : ZW p l e R s m args below meth c nL D cl A w cells slots Q pc L (v :: st) M :=
  fun H locs ls a1 a2 a3 a4 => lv_pop E.1 E.2.1 hd hv (k H locs ls a1 a2 a3 a4)
theorem z_dup_x1 (E : zE p s m args meth c cc nL own D cl tys A) {v u : Value} (hd : decode cc pc = .ok (.dup_x1, 1)) (hv : v.category = 1) (hu : u.category = 1) (k : ZW p l e R s m args below meth c nL D cl A w cells slots Q (pc + 1) L (v :: u :: v :: st) M) : ZW p l e R s m args below meth c nL D cl A w cells slots Q pc L (v :: u :: st) M :=
  fun H locs ls a1 a2 a3 a4 => lv_dup_x1 E.1 E.2.1 hd hv hu (k H locs ls a1 a2 a3 a4)
theorem z_if_eq (E : zE p s m args meth c cc nL own D cl tys A) {x : Int32} {off : Int} (tgt : Nat) (hd : decode cc pc = .ok (.ifCond .eq off, 3)) (ht : (pc : Int) + off = (tgt : Int)) (kt : x = 0 → ZW p l e R s m args below meth c nL D cl A w cells slots Q tgt L st M) (kf : ¬ x = 0 → ZW p l e R s m args below meth c nL D cl A w cells slots Q (pc + 3) L st M) : ZW p l e R s m args below meth c nL D cl A w cells slots Q pc L (.int x :: st) M :=
  fun H locs ls a1 a2 a3 a4 => lv_if_eq E.1 E.2.1 hd ht (fun h => kt h H locs ls a1 a2 a3 a4) (fun h => kf h H locs ls a1 a2 a3 a4)
theorem z_if_ne (E : zE p s m args meth c cc nL own D cl tys A) {x : Int32} {off : Int} (tgt : Nat) (hd : decode cc pc = .ok (.ifCond .ne off, 3)) (ht : (pc : Int) + off = (tgt : Int)) (kt : ¬ x = 0 → ZW p l e R s m args below meth c nL D cl A w cells slots Q tgt L st M) (kf : x = 0 → ZW p l e R s m args below meth c nL D cl A w cells slots Q (pc + 3) L st M) : ZW p l e R s m args below meth c nL D cl A w cells slots Q pc L (.int x :: st) M :=
  fun H locs ls a1 a2 a3 a4 => lv_if_ne E.1 E.2.1 hd ht (fun h => kt h H locs ls a1 a2 a3 a4) (fun h => kf h H locs ls a1 a2 a3 a4)
theorem z_if_lt (E : zE p s m args meth c cc nL own D cl tys A) {x : Int32} {off : Int} (tgt : Nat) (hd : decode cc pc = .ok (.ifCond .lt off, 3)) (ht : (pc : Int) + off = (tgt : Int)) (kt : x < 0 → ZW p l e R s m args below meth c nL D cl A w cells slots Q tgt L st M) (kf : ¬ x < 0 → ZW p l e R s m args below meth c nL D cl A w cells slots Q (pc + 3) L st M) : ZW p l e R s m args below meth c nL D cl A w cells slots Q pc L (.int x :: st) M :=
  fun H locs ls a1 a2 a3 a4 => lv_if_lt E.1 E.2.1 hd ht (fun h => kt h H locs ls a1 a2 a3 a4) (fun h => kf h H locs ls a1 a2 a3 a4)
theorem z_if_ge (E : zE p s m args meth c cc nL own D cl tys A) {x : Int32} {off : Int} (tgt : Nat) (hd : decode cc pc = .ok (.ifCond .ge off, 3)) (ht : (pc : Int) + off = (tgt : Int)) (kt : 0 ≤ x → ZW p l e R s m args below meth c nL D cl A w cells slots Q tgt L st M) (kf : ¬ 0 ≤ x → ZW p l e R s m args below meth c nL D cl A w cells slots Q (pc + 3) L st M) : ZW p l e R s m args below meth c nL D cl A w cells slots Q pc L (.int x :: st) M :=
  fun H locs ls a1 a2 a3 a4 => lv_if_ge E.1 E.2.1 hd ht (fun h => kt h H locs ls a1 a2 a3 a4) (fun h => kf h H locs ls a1 a2 a3 a4)
theorem z_if_gt (E : zE p s m args meth c cc nL own D cl tys A) {x : Int32} {off : Int} (tgt : Nat) (hd : decode cc pc = .ok (.ifCond .gt off, 3)) (ht : (pc : Int) + off = (tgt : Int)) (kt : 0 < x → ZW p l e R s m args below meth c nL D cl A w cells slots Q tgt L st M) (kf : ¬ 0 < x → ZW p l e R s m args below meth c nL D cl A w cells slots Q (pc + 3) L st M) : ZW p l e R s m args below meth c nL D cl A w cells slots Q pc L (.int x :: st) M :=
  fun H locs ls a1 a2 a3 a4 => lv_if_gt E.1 E.2.1 hd ht (fun h => kt h H locs ls a1 a2 a3 a4) (fun h => kf h H locs ls a1 a2 a3 a4)
theorem z_if_le (E : zE p s m args meth c cc nL own D cl tys A) {x : Int32} {off : Int} (tgt : Nat) (hd : decode cc pc = .ok (.ifCond .le off, 3)) (ht : (pc : Int) + off = (tgt : Int)) (kt : x ≤ 0 → ZW p l e R s m args below meth c nL D cl A w cells slots Q tgt L st M) (kf : ¬ x ≤ 0 → ZW p l e R s m args below meth c nL D cl A w cells slots Q (pc + 3) L st M) : ZW p l e R s m args below meth c nL D cl A w cells slots Q pc L (.int x :: st) M :=
  fun H locs ls a1 a2 a3 a4 => lv_if_le E.1 E.2.1 hd ht (fun h => kt h H locs ls a1 a2 a3 a4) (fun h => kf h H locs ls a1 a2 a3 a4)
theorem z_icmp_eq (E : zE p s m args meth c cc nL own D cl tys A) {x y : Int32} {off : Int} (tgt : Nat) (hd : decode cc pc = .ok (.if_icmp .eq off, 3)) (ht : (pc : Int) + off = (tgt : Int)) (kt : x = y → ZW p l e R s m args below meth c nL D cl A w cells slots Q tgt L st M) (kf : ¬ x = y → ZW p l e R s m args below meth c nL D cl A w cells slots Q (pc + 3) L st M) : ZW p l e R s m args below meth c nL D cl A w cells slots Q pc L (.int y :: .int x :: st) M :=
  fun H locs ls a1 a2 a3 a4 => lv_icmp_eq E.1 E.2.1 hd ht (fun h => kt h H locs ls a1 a2 a3 a4) (fun h => kf h H locs ls a1 a2 a3 a4)
theorem z_icmp_ne (E : zE p s m args meth c cc nL own D cl tys A) {x y : Int32} {off : Int} (tgt : Nat) (hd : decode cc pc = .ok (.if_icmp .ne off, 3)) (ht : (pc : Int) + off = (tgt : Int)) (kt : ¬ x = y → ZW p l e R s m args below meth c nL D cl A w cells slots Q tgt L st M) (kf : x = y → ZW p l e R s m args below meth c nL D cl A w cells slots Q (pc + 3) L st M) : ZW p l e R s m args below meth c nL D cl A w cells slots Q pc L (.int y :: .int x :: st) M :=
  fun H locs ls a1 a2 a3 a4 => lv_icmp_ne E.1 E.2.1 hd ht (fun h => kt h H locs ls a1 a2 a3 a4) (fun h => kf h H locs ls a1 a2 a3 a4)
theorem z_icmp_lt (E : zE p s m args meth c cc nL own D cl tys A) {x y : Int32} {off : Int} (tgt : Nat) (hd : decode cc pc = .ok (.if_icmp .lt off, 3)) (ht : (pc : Int) + off = (tgt : Int)) (kt : x < y → ZW p l e R s m args below meth c nL D cl A w cells slots Q tgt L st M) (kf : ¬ x < y → ZW p l e R s m args below meth c nL D cl A w cells slots Q (pc + 3) L st M) : ZW p l e R s m args below meth c nL D cl A w cells slots Q pc L (.int y :: .int x :: st) M :=
  fun H locs ls a1 a2 a3 a4 => lv_icmp_lt E.1 E.2.1 hd ht (fun h => kt h H locs ls a1 a2 a3 a4) (fun h => kf h H locs ls a1 a2 a3 a4)
theorem z_icmp_ge (E : zE p s m args meth c cc nL own D cl tys A) {x y : Int32} {off : Int} (tgt : Nat) (hd : decode cc pc = .ok (.if_icmp .ge off, 3)) (ht : (pc : Int) + off = (tgt : Int)) (kt : y ≤ x → ZW p l e R s m args below meth c nL D cl A w cells slots Q tgt L st M) (kf : ¬ y ≤ x → ZW p l e R s m args below meth c nL D cl A w cells slots Q (pc + 3) L st M) : ZW p l e R s m args below meth c nL D cl A w cells slots Q pc L (.int y :: .int x :: st) M :=
  fun H locs ls a1 a2 a3 a4 => lv_icmp_ge E.1 E.2.1 hd ht (fun h => kt h H locs ls a1 a2 a3 a4) (fun h => kf h H locs ls a1 a2 a3 a4)
theorem z_icmp_gt (E : zE p s m args meth c cc nL own D cl tys A) {x y : Int32} {off : Int} (tgt : Nat) (hd : decode cc pc = .ok (.if_icmp .gt off, 3)) (ht : (pc : Int) + off = (tgt : Int)) (kt : y < x → ZW p l e R s m args below meth c nL D cl A w cells slots Q tgt L st M) (kf : ¬ y < x → ZW p l e R s m args below meth c nL D cl A w cells slots Q (pc + 3) L st M) : ZW p l e R s m args below meth c nL D cl A w cells slots Q pc L (.int y :: .int x :: st) M :=
  fun H locs ls a1 a2 a3 a4 => lv_icmp_gt E.1 E.2.1 hd ht (fun h => kt h H locs ls a1 a2 a3 a4) (fun h => kf h H locs ls a1 a2 a3 a4)
theorem z_icmp_le (E : zE p s m args meth c cc nL own D cl tys A) {x y : Int32} {off : Int} (tgt : Nat) (hd : decode cc pc = .ok (.if_icmp .le off, 3)) (ht : (pc : Int) + off = (tgt : Int)) (kt : x ≤ y → ZW p l e R s m args below meth c nL D cl A w cells slots Q tgt L st M) (kf : ¬ x ≤ y → ZW p l e R s m args below meth c nL D cl A w cells slots Q (pc + 3) L st M) : ZW p l e R s m args below meth c nL D cl A w cells slots Q pc L (.int y :: .int x :: st) M :=
  fun H locs ls a1 a2 a3 a4 => lv_icmp_le E.1 E.2.1 hd ht (fun h => kt h H locs ls a1 a2 a3 a4) (fun h => kf h H locs ls a1 a2 a3 a4)
theorem z_goto (E : zE p s m args meth c cc nL own D cl tys A) {off : Int} (tgt : Nat) (hd : decode cc pc = .ok (.goto off, 3)) (ht : (pc : Int) + off = (tgt : Int)) (k : ZW p l e R s m args below meth c nL D cl A w cells slots Q tgt L st M) : ZW p l e R s m args below meth c nL D cl A w cells slots Q pc L st M :=
  fun H locs ls a1 a2 a3 a4 => lv_goto E.1 E.2.1 hd ht (k H locs ls a1 a2 a3 a4)
theorem z_tableOut (E : zE p s m args meth c cc nL own D cl tys A) {dflt lo hi : Int} {offs : Array Int} {len : Nat} {x : Int32} (tgt : Nat) (hd : decode cc pc = .ok (.tableswitch dflt lo hi offs, len)) (h : x.toInt < lo ∨ hi < x.toInt) (ht : (pc : Int) + dflt = (tgt : Int)) (k : ZW p l e R s m args below meth c nL D cl A w cells slots Q tgt L st M) : ZW p l e R s m args below meth c nL D cl A w cells slots Q pc L (.int x :: st) M :=
  fun H locs ls a1 a2 a3 a4 => lv_tableOut E.1 E.2.1 hd h ht (k H locs ls a1 a2 a3 a4)
theorem z_tableIn (E : zE p s m args meth c cc nL own D cl tys A) {dflt lo hi : Int} {offs : Array Int} {len : Nat} {x : Int32} {off : Int} (tgt : Nat) (hd : decode cc pc = .ok (.tableswitch dflt lo hi offs, len)) (h1 : ¬ x.toInt < lo) (h2 : ¬ hi < x.toInt) (ho : offs[(x.toInt - lo).toNat]? = some off) (ht : (pc : Int) + off = (tgt : Int)) (k : ZW p l e R s m args below meth c nL D cl A w cells slots Q tgt L st M) : ZW p l e R s m args below meth c nL D cl A w cells slots Q pc L (.int x :: st) M :=
  fun H locs ls a1 a2 a3 a4 => lv_tableIn E.1 E.2.1 hd h1 h2 ho ht (k H locs ls a1 a2 a3 a4)
theorem z_get (E : zE p s m args meth c cc nL own D cl tys A) {ref C : String} {T : u_T} {N ci index a : Nat} (hin : ∀ x ∈ u_ws C T N, x ∈ zT) (q0 : Nat) {fs : List Value} (he : (w M)[q0]? = some (a, .inr (ci, fs))) (hc : cl[ci]? = some (C, T, N)) (k : Nat) (hk : k < N) (hlink : Cond.fieldLink own index ref (T k).2.1 (T k).2.2.1 ∈ zT) (hsame : (T k).1 = ref) {v : Value} (hv : fs[k]? = some v) (hd : decode cc pc = .ok (.getfield index, 3)) (kk : ZW p l e R s m args below meth c nL D cl A w cells slots Q (pc + 3) L (v :: st) M) : ZW p l e R s m args below meth c nL D cl A w cells slots Q pc L (.ref a :: st) M :=
  fun H locs ls a1 a2 a3 a4 => va_get E.1 E.2.1 E.2.2.2.2.1 hin E.2.2.2.1 E.2.2.2.2.2.1 a1 q0 he hc k hk (E.2.2.2.2.1 _ hlink) (fun x h => hsame ▸ h) hv hd (kk H locs ls a1 a2 a3 a4)
theorem z_put (E : zE p s m args meth c cc nL own D cl tys A) {ref C : String} {T : u_T} {N ci index a : Nat} (hin : ∀ x ∈ u_ws C T N, x ∈ zT) (ty0 : Nat → FieldType) (hty : ∀ k, k < N → parseFieldDescriptor (T k).2.2.1 = some (ty0 k)) (hnm : ∀ a, a < N → ∀ b, b < N → a ≠ b → (T a).2.1 ≠ (T b).2.1) (q0 : Nat) {fs : List Value} (he : (w M)[q0]? = some (a, .inr (ci, fs))) (hc : cl[ci]? = some (C, T, N)) (k : Nat) (hk : k < N) (hlink : Cond.fieldLink own index ref (T k).2.1 (T k).2.2.1 ∈ zT) (hsame : (T k).1 = ref) (hfin : (T k).2.2.2 = false) {ty : FieldType} {v : Value} (hdd : parseFieldDescriptor (T k).2.2.1 = some ty) (hn : narrow ty v = v) (hfit : fits ty v = true) (hl : k < fs.length) (M' : σ) (hM : (w M).set q0 (a, .inr (ci, fs.set k v)) = w M') (hd : decode cc pc = .ok (.putfield index, 3)) (kk : ZW p l e R s m args below meth c nL D cl A w cells slots Q (pc + 3) L st M') : ZW p l e R s m args below meth c nL D cl A w cells slots Q pc L (v :: .ref a :: st) M :=
  fun H locs ls a1 a2 a3 a4 => va_put E.1 E.2.1 E.2.2.2.2.1 hin ty0 hty hnm E.2.2.2.1 E.2.2.2.2.2.1 a1 a2 a3 q0 he hc k hk (E.2.2.2.2.1 _ hlink) (fun x h => hsame ▸ h) hfin hdd hn hfit hl hd (fun H1 locs1 b1 b2 b3 => kk H1 locs1 ls (hM ▸ b1) (hM ▸ b2) b3 a4)
theorem z_iald (E : zE p s m args meth c cc nL own D cl tys A) (q0 t0 : Nat) {a : Nat} {cA : ClassId} {n : Nat} {f : Nat → Int32} (ha : (w M)[q0]? = some (a, .inl (cA, n, .inl f))) (ht : tys[t0]? = some (cA, .int)) {i : Int32} (hin : vp_in i n) (hd : decode cc pc = .ok (.iaload, 1)) (kk : ZW p l e R s m args below meth c nL D cl A w cells slots Q (pc + 1) L (.int (f i.toNatClampNeg) :: st) M) : ZW p l e R s m args below meth c nL D cl A w cells slots Q pc L (.int i :: .ref a :: st) M :=
  fun H locs ls a1 a2 a3 a4 => va_iald E.1 E.2.1 E.2.2.2.2.2.1 a1 q0 t0 ha ht hin hd (kk H locs ls a1 a2 a3 a4)
theorem z_bald (E : zE p s m args meth c cc nL own D cl tys A) (q0 t0 : Nat) {a : Nat} {cA : ClassId} {n : Nat} {f : Nat → Int32} (ha : (w M)[q0]? = some (a, .inl (cA, n, .inl f))) (ht : tys[t0]? = some (cA, .byte)) {i : Int32} (hin : vp_in i n) (hd : decode cc pc = .ok (.baload, 1)) (kk : ZW p l e R s m args below meth c nL D cl A w cells slots Q (pc + 1) L (.int (f i.toNatClampNeg) :: st) M) : ZW p l e R s m args below meth c nL D cl A w cells slots Q pc L (.int i :: .ref a :: st) M :=
  fun H locs ls a1 a2 a3 a4 => va_bald E.1 E.2.1 E.2.2.2.2.2.1 a1 q0 t0 ha ht hin hd (kk H locs ls a1 a2 a3 a4)
theorem z_zald (E : zE p s m args meth c cc nL own D cl tys A) (q0 t0 : Nat) {a : Nat} {cA : ClassId} {n : Nat} {f : Nat → Int32} (ha : (w M)[q0]? = some (a, .inl (cA, n, .inl f))) (ht : tys[t0]? = some (cA, .boolean)) {i : Int32} (hin : vp_in i n) (hd : decode cc pc = .ok (.baload, 1)) (kk : ZW p l e R s m args below meth c nL D cl A w cells slots Q (pc + 1) L (.int (f i.toNatClampNeg) :: st) M) : ZW p l e R s m args below meth c nL D cl A w cells slots Q pc L (.int i :: .ref a :: st) M :=
  fun H locs ls a1 a2 a3 a4 => va_zald E.1 E.2.1 E.2.2.2.2.2.1 a1 q0 t0 ha ht hin hd (kk H locs ls a1 a2 a3 a4)
theorem z_iast (E : zE p s m args meth c cc nL own D cl tys A) (q0 t0 : Nat) {a : Nat} {cA : ClassId} {n : Nat} {f : Nat → Int32} (ha : (w M)[q0]? = some (a, .inl (cA, n, .inl f))) (ht : tys[t0]? = some (cA, .int)) {i x : Int32} (hin : vp_in i n) (M' : σ) (hM : (w M).set q0 (a, .inl (cA, n, .inl (upd f i.toNatClampNeg x))) = w M') (hd : decode cc pc = .ok (.iastore, 1)) (kk : ZW p l e R s m args below meth c nL D cl A w cells slots Q (pc + 1) L st M') : ZW p l e R s m args below meth c nL D cl A w cells slots Q pc L (.int x :: .int i :: .ref a :: st) M :=
  fun H locs ls a1 a2 a3 a4 => va_iast E.1 E.2.1 E.2.2.2.2.2.1 a1 a2 a3 q0 t0 ha ht hin hd (fun H1 locs1 b1 b2 b3 => kk H1 locs1 ls (hM ▸ b1) (hM ▸ b2) b3 a4)
theorem z_bast (E : zE p s m args meth c cc nL own D cl tys A) (q0 t0 : Nat) {a : Nat} {cA : ClassId} {n : Nat} {f : Nat → Int32} (ha : (w M)[q0]? = some (a, .inl (cA, n, .inl f))) (ht : tys[t0]? = some (cA, .byte)) {i x : Int32} (hin : vp_in i n) (M' : σ) (hM : (w M).set q0 (a, .inl (cA, n, .inl (upd f i.toNatClampNeg (vp_nar .byte x)))) = w M') (hd : decode cc pc = .ok (.bastore, 1)) (kk : ZW p l e R s m args below meth c nL D cl A w cells slots Q (pc + 1) L st M') : ZW p l e R s m args below meth c nL D cl A w cells slots Q pc L (.int x :: .int i :: .ref a :: st) M :=
  fun H locs ls a1 a2 a3 a4 => va_bast E.1 E.2.1 E.2.2.2.2.2.1 a1 a2 a3 q0 t0 ha ht hin hd (fun H1 locs1 b1 b2 b3 => kk H1 locs1 ls (hM ▸ b1) (hM ▸ b2) b3 a4)
theorem z_zast (E : zE p s m args meth c cc nL own D cl tys A) (q0 t0 : Nat) {a : Nat} {cA : ClassId} {n : Nat} {f : Nat → Int32} (ha : (w M)[q0]? = some (a, .inl (cA, n, .inl f))) (ht : tys[t0]? = some (cA, .boolean)) {i x : Int32} (hin : vp_in i n) (M' : σ) (hM : (w M).set q0 (a, .inl (cA, n, .inl (upd f i.toNatClampNeg (vp_nar .boolean x)))) = w M') (hd : decode cc pc = .ok (.bastore, 1)) (kk : ZW p l e R s m args below meth c nL D cl A w cells slots Q (pc + 1) L st M') : ZW p l e R s m args below meth c nL D cl A w cells slots Q pc L (.int x :: .int i :: .ref a :: st) M :=
  fun H locs ls a1 a2 a3 a4 => va_zast E.1 E.2.1 E.2.2.2.2.2.1 a1 a2 a3 q0 t0 ha ht hin hd (fun H1 locs1 b1 b2 b3 => kk H1 locs1 ls (hM ▸ b1) (hM ▸ b2) b3 a4)
end ZR
end
section
/-! Contracts over the whole world w M of an object: zMi (an int or boolean answer), zMv (none); calls of them -/
def zI (D : va_G) (cl : List vw_C) (tys : List (ClassId × FieldType)) (wM : va_W) (sz : Nat) (U : State) : Prop := U.heap.size = sz ∧ va_P D cl wM U.heap ∧ va_K D cl tys U ∧ va_D (fun _ => True) wM ∧ zZ (va_A wM sz) U U.heap
def zB (D : va_G) (cl : List vw_C) (tys : List (ClassId × FieldType)) (A : Nat → Prop) {σ : Type} (w : σ → va_W) (M : σ) (t : State) : Prop := va_P D cl (w M) t.heap ∧ va_K D cl tys t ∧ va_D A (w M)
def zMi (l : Launch) (y : MethodName) (b : ByteArray) (nL : Nat) (rt : FieldType) (rm : Room) (D : va_G) (cl : List vw_C) (tys : List (ClassId × FieldType)) {σ : Type} (w : σ → va_W) (av : List Value) (M : σ) (post : Int32 → σ → Prop) : Prop :=
  ∀ sz : Nat, Met l y (.code y b nL (some rt) :: zT) rm (va_Pc av (zI D cl tys (w M) sz)) (va_Qi post (zB D cl tys (va_A (w M) sz) w) (va_A (w M) sz)) rm.cells rm.slots (va_A (w M) sz)
def zMv (l : Launch) (y : MethodName) (b : ByteArray) (nL : Nat) (rm : Room) (D : va_G) (cl : List vw_C) (tys : List (ClassId × FieldType)) {σ : Type} (w : σ → va_W) (av : List Value) (M : σ) (post : σ → Prop) : Prop :=
  ∀ sz : Nat, Met l y (.code y b nL none :: zT) rm (va_Pc av (zI D cl tys (w M) sz)) (va_Qv post (zB D cl tys (va_A (w M) sz) w) (va_A (w M) sz)) rm.cells rm.slots (va_A (w M) sz)
def zQi (D : va_G) (cl : List vw_C) (tys : List (ClassId × FieldType)) (A : Nat → Prop) {σ : Type} (w : σ → va_W) (post : Int32 → σ → Prop) (rm : Room) (below : List Frame) (args : Array Value) (s : State) : State → Prop := MQ below (va_Qi post (zB D cl tys A w) A) args s rm.cells rm.slots A
def zQv (D : va_G) (cl : List vw_C) (tys : List (ClassId × FieldType)) (A : Nat → Prop) {σ : Type} (w : σ → va_W) (post : σ → Prop) (rm : Room) (below : List Frame) (args : Array Value) (s : State) : State → Prop := MQ below (va_Qv post (zB D cl tys A w) A) args s rm.cells rm.slots A
theorem zE_st {D : va_G} {cl : List vw_C} {W0 : va_W} {H : Heap} (hP : va_P D cl W0 H) : ∀ (q : Nat) (cell : Cell), va_A W0 H.size q → H[q]? = some cell → cell.vm.isStatics = false := by
  intro q cell hq hc
  rcases hq with ⟨k, x, h⟩ | h
  · have h1 := hP k _ h
    cases x with
    | inl a =>
      have h2 : H[q]? = some (vp_cell a.1 a.2) := h1
      cases h2.symm.trans hc
      obtain ⟨a1, n, f⟩ := a
      rcases f with f | f | f | f | f <;> rfl
    | inr o =>
      obtain ⟨r, -, cell', q1, -, q3, -⟩ := h1
      cases q1.symm.trans hc
      rw [q3]; rfl
  · have := (Array.getElem?_eq_some_iff.mp hc).1
    omega
section ZM
variable {l : Launch} {y : MethodName} {b : ByteArray} {nL : Nat} {rt : FieldType} {rm : Room} {D : va_G} {cl : List vw_C} {tys : List (ClassId × FieldType)} {σ : Type} {w : σ → va_W} {av : List Value} {M : σ}
theorem zMi.of {post : Int32 → σ → Prop} {own : String} (hy : plainName y.cls = true) (ho : y.cls = own) (hlen : (lg_sl av).length ≤ nL) (hcat : ∀ v ∈ av, v.category = 1)
    (body : ∀ (p : Program) (e : Env) (s : State) (m : MethodId) (args : Array Value) (below : List Frame) (meth : Method) (c : Code) (A : Nat → Prop), zE p s m args meth c b nL own D cl tys A → meth.sig.returnType = some rt → c.exceptionTable.toList = [] →
      ZW p l e rm s m args below meth c nL D cl A w 0 0 (zQi D cl tys A w post rm below args s) 0 (av.map some ++ List.replicate (nL - av.length) none) [] M) : zMi l y b nL rt rm D cl tys w av M post := by
  intro sz
  refine Met.ofW (cc := b) (maxL := nL) (ret := some rt) hy rfl ?_
  intro p e s m args below meth c s₁ B hml hv
  obtain ⟨rfl, hsz, hP, hK, hD0, hZ⟩ := hv
  have hts := atoms_spec (ws := .code y b nL (some rt) :: zT) B.pre
  have hown : s.vm.findClass own = some m.cls := ho ▸ findClass_of_methodNamed B.named
  have hex : c.exceptionTable.toList = [] := by
    have := B.noHandlers (hts _ List.mem_cons_self)
    simpa using this
  subst hsz
  have hD := hD0.self (sz := s.heap.size)
  have hA : ∀ q : Nat, s.heap.size ≤ q → va_A (w M) s.heap.size q := fun q h => Or.inr h
  rw [lg_entry_eq]
  exact body p e s m av.toArray below meth c (va_A (w M) s.heap.size) ⟨B.exec, B.bytes, hml, hown, fun x hx => hts x (List.mem_cons_of_mem _ hx), hK, hA, B.notSynchronized, hZ, zE_st hP⟩ B.returns hex s.heap [] _ hP hD va_S.rf (zl.entry av hlen hcat)
theorem zMv.of {post : σ → Prop} {own : String} (hy : plainName y.cls = true) (ho : y.cls = own) (hlen : (lg_sl av).length ≤ nL) (hcat : ∀ v ∈ av, v.category = 1)
    (body : ∀ (p : Program) (e : Env) (s : State) (m : MethodId) (args : Array Value) (below : List Frame) (meth : Method) (c : Code) (A : Nat → Prop), zE p s m args meth c b nL own D cl tys A → meth.sig.returnType = none → c.exceptionTable.toList = [] →
      ZW p l e rm s m args below meth c nL D cl A w 0 0 (zQv D cl tys A w post rm below args s) 0 (av.map some ++ List.replicate (nL - av.length) none) [] M) : zMv l y b nL rm D cl tys w av M post := by
  intro sz
  refine Met.ofW (cc := b) (maxL := nL) (ret := none) hy rfl ?_
  intro p e s m args below meth c s₁ B hml hv
  obtain ⟨rfl, hsz, hP, hK, hD0, hZ⟩ := hv
  have hts := atoms_spec (ws := .code y b nL none :: zT) B.pre
  have hown : s.vm.findClass own = some m.cls := ho ▸ findClass_of_methodNamed B.named
  have hex : c.exceptionTable.toList = [] := by
    have := B.noHandlers (hts _ List.mem_cons_self)
    simpa using this
  subst hsz
  have hD := hD0.self (sz := s.heap.size)
  have hA : ∀ q : Nat, s.heap.size ≤ q → va_A (w M) s.heap.size q := fun q h => Or.inr h
  rw [lg_entry_eq]
  exact body p e s m av.toArray below meth c (va_A (w M) s.heap.size) ⟨B.exec, B.bytes, hml, hown, fun x hx => hts x (List.mem_cons_of_mem _ hx), hK, hA, B.notSynchronized, hZ, zE_st hP⟩ B.returns hex s.heap [] _ hP hD va_S.rf (zl.entry av hlen hcat)
end ZM
/-- the words of a call: own calls y by the pool's entry 'index' -/
def zYv (own C : String) (index : Nat) (y : MethodName) (b : ByteArray) (nL : Nat) (ret : Option FieldType) (n : Nat) : Prop :=
  Cond.code y b nL ret ∈ zT ∧ Cond.initialized y.cls ∈ zT ∧ Cond.methodLink own index y ∈ zT ∧ Cond.instanceMethod y ∈ zT ∧ Cond.selects C y y ∈ zT ∧ (y.cls ≠ "java/lang/invoke/MethodHandle" ∧ y.cls ≠ "java/lang/invoke/VarHandle" ∧ (parseMethodDescriptor y.desc).map (fun d => d.parameters.length) = some n)
def zYs (own : String) (index : Nat) (y : MethodName) (b : ByteArray) (nL : Nat) (ret : Option FieldType) (n : Nat) : Prop :=
  Cond.code y b nL ret ∈ zT ∧ Cond.initialized y.cls ∈ zT ∧ Cond.methodLink own index y ∈ zT ∧ Cond.static y ∈ zT ∧ (y.cls ≠ "java/lang/invoke/MethodHandle" ∧ y.cls ≠ "java/lang/invoke/VarHandle" ∧ (parseMethodDescriptor y.desc).map (fun d => d.parameters.length) = some n)
def zYi (own : String) (index : Nat) (y : MethodName) (b : ByteArray) (nL : Nat) (n : Nat) : Prop :=
  Cond.code y b nL none ∈ zT ∧ Cond.initialized y.cls ∈ zT ∧ Cond.methodLink own index y ∈ zT ∧ Cond.instanceMethod y ∈ zT ∧ y.name = "<init>" ∧ (y.cls ≠ "java/lang/invoke/MethodHandle" ∧ y.cls ≠ "java/lang/invoke/VarHandle" ∧ (parseMethodDescriptor y.desc).map (fun d => d.parameters.length) = some n)
section ZC
variable {p : Program} {l : Launch} {e : Env} {R : Room} {s : State} {m : MethodId} {args : Array Value} {below : List Frame} {meth : Method} {c : Code} {cells slots : Nat} {Q : State → Prop}
variable {cc : ByteArray} {nL : Nat} {own : String} {D : va_G} {cl : List vw_C} {tys : List (ClassId × FieldType)} {A : Nat → Prop} {σ : Type} {w : σ → va_W} {pc : Nat} {L : List (Option Value)} {st : List Value} {M : σ}
theorem z_iret (E : zE p s m args meth c cc nL own D cl tys A) {post : Int32 → σ → Prop} {rm : Room} {v : Int32} (hr : meth.sig.returnType = some .int) (hp : post v M) (h1 : cells ≤ rm.cells) (h2 : slots ≤ rm.slots) (hd : decode cc pc = .ok (.ireturn, 1)) : ZW p l e R s m args below meth c nL D cl A w cells slots (zQi D cl tys A w post rm below args s) pc L [.int v] M := by
  intro H locs ls a1 a2 a3 a4
  refine W.widen h1 h2 ?_
  have hlocks : meth.locks = false := E.2.2.2.2.2.2.2.1
  exact W.iret E.1 E.2.1 hr (fun t ht hW => ⟨⟨v, M, rfl, hp, by rw [ht]; exact a1, va_K.moved hW.alike E.2.2.2.2.2.1, a2⟩, a3.F ht⟩) a3.2.2 hd
theorem z_zret (E : zE p s m args meth c cc nL own D cl tys A) {post : Int32 → σ → Prop} {rm : Room} {v : Int32} (hr : meth.sig.returnType = some .boolean) (hv : v = 0 ∨ v = 1) (hp : post v M) (h1 : cells ≤ rm.cells) (h2 : slots ≤ rm.slots) (hd : decode cc pc = .ok (.ireturn, 1)) : ZW p l e R s m args below meth c nL D cl A w cells slots (zQi D cl tys A w post rm below args s) pc L [.int v] M := by
  intro H locs ls a1 a2 a3 a4
  refine W.widen h1 h2 ?_
  have hlocks : meth.locks = false := E.2.2.2.2.2.2.2.1
  exact W.zret E.1 E.2.1 hr (by rcases hv with rfl | rfl <;> rfl) (fun t ht hW => ⟨⟨v, M, rfl, hp, by rw [ht]; exact a1, va_K.moved hW.alike E.2.2.2.2.2.1, a2⟩, a3.F ht⟩) a3.2.2 hd
theorem z_vret (E : zE p s m args meth c cc nL own D cl tys A) {post : σ → Prop} {rm : Room} (hr : meth.sig.returnType = none) (hp : post M) (h1 : cells ≤ rm.cells) (h2 : slots ≤ rm.slots) (hd : decode cc pc = .ok (.return_, 1)) : ZW p l e R s m args below meth c nL D cl A w cells slots (zQv D cl tys A w post rm below args s) pc L [] M := by
  intro H locs ls a1 a2 a3 a4
  refine W.widen h1 h2 ?_
  have hlocks : meth.locks = false := E.2.2.2.2.2.2.2.1
  exact W.vret E.1 E.2.1 hr (fun t ht hW => ⟨⟨M, rfl, hp, by rw [ht]; exact a1, va_K.moved hW.alike E.2.2.2.2.2.1, a2⟩, a3.F ht⟩) a3.2.2 hd
theorem z_in (E : zE p s m args meth c cc nL own D cl tys A) {H : Heap} {locs : List Loc} (a2 : va_D A (w M)) (a3 : va_S A s.heap H locs) : ∀ q, va_A (w M) H.size q → A q := by
  intro q h
  rcases h with ⟨k, x, h⟩ | h
  · exact a2.2 k _ h
  · exact E.2.2.2.2.2.2.1 q (Nat.le_trans a3.1 h)
theorem z_pre (E : zE p s m args meth c cc nL own D cl tys A) {H : Heap} {locs : List Loc} (a1 : va_P D cl (w M) H) (a2 : va_D A (w M)) (a3 : va_S A s.heap H locs) (av : List Value) :
    FrameBlind (va_Pc av (zI D cl tys (w M) H.size)) ∧ ∀ U : State, U.heap = H → s.WarmedH U.vm → va_Pc av (zI D cl tys (w M) H.size) av.toArray U := by
  refine ⟨fun a U g mk q => ?_, fun U hU hW => ⟨rfl, by rw [hU], by rw [hU]; exact a1, va_K.moved hW.alike E.2.2.2.2.2.1, a2.weaken (fun _ _ _ _ => trivial), ?_⟩⟩
  · obtain ⟨q0, q1, qP, qK, qD, qZ⟩ := q
    exact ⟨q0, q1, qP, va_K.moved (u := U) (U := U.calling g mk a) (Vm.Alike.refl U.vm) qK, qD, zZ.moved (u := U) (U := U.calling g mk a) (Vm.Alike.refl U.vm) qZ⟩
  · rw [hU]
    exact ((E.2.2.2.2.2.2.2.2.1.kept a3.2.1).narrow (z_in E a2 a3)).moved hW.alike
theorem z_cb (E : zE p s m args meth c cc nL own D cl tys A) {y : MethodName} {b : ByteArray} {n1 index n : Nat} {ret : Option FieldType} {rm : Room} (h1 : Cond.code y b n1 ret ∈ zT) (h2 : Cond.initialized y.cls ∈ zT) (h3 : Cond.methodLink own index y ∈ zT) (hd : y.cls ≠ "java/lang/invoke/MethodHandle" ∧ y.cls ≠ "java/lang/invoke/VarHandle" ∧ (parseMethodDescriptor y.desc).map (fun d => d.parameters.length) = some n) (hR : rm.frames + 1 ≤ R.frames ∧ 8 + (n1 + 11) + rm.locals ≤ R.locals) :
    CallB R s args own index y b n1 ret (.code y b n1 ret :: zT) rm rm.cells rm.slots n := by
  have hts := E.2.2.2.2.1
  refine ⟨rfl, rfl, hR.1, hR.2, fun x hx a' U hW => ?_, List.mem_cons_self, hts _ h1, hts _ h2, ⟨hd.1, hd.2.1⟩, fun sig hs => ?_, hts _ h3⟩
  · rcases List.mem_cons.mp hx with rfl | hx
    · exact word_at hW (zT_good _ h1) (hts _ h1)
    · exact word_at hW (zT_good _ hx) (hts _ hx)
  · have h := hd.2.2
    rw [hs] at h
    simpa using h.symm
theorem z_calli (E : zE p s m args meth c cc nL own D cl tys A) {y : MethodName} {b : ByteArray} {n1 index n : Nat} {rt : FieldType} {rm : Room} {post : Int32 → σ → Prop} {C : String} {o : Nat} {As stk : List Value} (hM : zMi l y b n1 rt rm D cl tys w (.ref o :: As) M post) (hY : zYv own C index y b n1 (some rt) n) (q0 : Nat) {ci : Nat} {fs : List Value} {T : u_T} {N : Nat} (he : (w M)[q0]? = some (o, .inr (ci, fs))) (hc : cl[ci]? = some (C, T, N)) (hs : stk = As.reverse ++ .ref o :: st) (hn : As.length = n) (hR : rm.frames + 1 ≤ R.frames ∧ 8 + (n1 + 11) + rm.locals ≤ R.locals) (hw : (st.map fun v => v.category).sum ≤ 8) (hf : cells + rm.cells ≤ R.cells ∧ slots + rm.slots ≤ R.slots) (hd : decode cc pc = .ok (.invokevirtual index, 3))
    (kk : ∀ (r : Int32) (M' : σ), post r M' → ZW p l e R s m args below meth c nL D cl A w (cells + rm.cells) (slots + rm.slots) Q (pc + 3) L (.int r :: st) M') : ZW p l e R s m args below meth c nL D cl A w cells slots Q pc L stk M := by
  intro H locs ls a1 a2 a3 a4
  obtain ⟨h1, h2, h3, h4, h5, h6⟩ := hY
  obtain ⟨p1, p2⟩ := z_pre E a1 a2 a3 (.ref o :: As)
  have hin := z_in E a2 a3
  refine va_calli (va_runV (cc := cc) (nL := nL) (Ts := zT) (own := own) (C := C) (b := o) (As := As) (rest := st) (n := n) ⟨E.1, E.2.1, E.2.2.1, E.2.2.2.1, E.2.2.2.2.1⟩ (hM H.size) ⟨z_cb E h1 h2 h3 h6 hR, E.2.2.2.2.1 _ h4, E.2.2.2.2.1 _ h5⟩ ⟨p1, va_recv E.2.2.2.2.2.1 a1 hc he, p2⟩ rfl hn a4.1 hs (lv_room hw) hd hf) a3 (fun q _ h => hin q h) hin (fun r M' t H1 locs1 ht hvm hp hB hz hk hS => ?_)
  obtain ⟨b1, b2, b3⟩ := hB
  rw [ht] at b1
  exact kk r M' hp H1 locs1 ls b1 (b3.weaken (fun k q _ h => hin q.1 h)) hS a4
theorem z_callv (E : zE p s m args meth c cc nL own D cl tys A) {y : MethodName} {b : ByteArray} {n1 index n : Nat} {rm : Room} {post : σ → Prop} {C : String} {o : Nat} {As stk : List Value} (hM : zMv l y b n1 rm D cl tys w (.ref o :: As) M post) (hY : zYv own C index y b n1 none n) (q0 : Nat) {ci : Nat} {fs : List Value} {T : u_T} {N : Nat} (he : (w M)[q0]? = some (o, .inr (ci, fs))) (hc : cl[ci]? = some (C, T, N)) (hs : stk = As.reverse ++ .ref o :: st) (hn : As.length = n) (hR : rm.frames + 1 ≤ R.frames ∧ 8 + (n1 + 11) + rm.locals ≤ R.locals) (hw : (st.map fun v => v.category).sum ≤ 8) (hf : cells + rm.cells ≤ R.cells ∧ slots + rm.slots ≤ R.slots) (hd : decode cc pc = .ok (.invokevirtual index, 3))
    (kk : ∀ (M' : σ), post M' → ZW p l e R s m args below meth c nL D cl A w (cells + rm.cells) (slots + rm.slots) Q (pc + 3) L st M') : ZW p l e R s m args below meth c nL D cl A w cells slots Q pc L stk M := by
  intro H locs ls a1 a2 a3 a4
  obtain ⟨h1, h2, h3, h4, h5, h6⟩ := hY
  obtain ⟨p1, p2⟩ := z_pre E a1 a2 a3 (.ref o :: As)
  have hin := z_in E a2 a3
  refine va_callv (va_runV (cc := cc) (nL := nL) (Ts := zT) (own := own) (C := C) (b := o) (As := As) (rest := st) (n := n) ⟨E.1, E.2.1, E.2.2.1, E.2.2.2.1, E.2.2.2.2.1⟩ (hM H.size) ⟨z_cb E h1 h2 h3 h6 hR, E.2.2.2.2.1 _ h4, E.2.2.2.2.1 _ h5⟩ ⟨p1, va_recv E.2.2.2.2.2.1 a1 hc he, p2⟩ rfl hn a4.1 hs (lv_room hw) hd hf) a3 (fun q _ h => hin q h) hin (fun M' t H1 locs1 ht hvm hp hB hz hk hS => ?_)
  obtain ⟨b1, b2, b3⟩ := hB
  rw [ht] at b1
  exact kk M' hp H1 locs1 ls b1 (b3.weaken (fun k q _ h => hin q.1 h)) hS a4
theorem z_callsi (E : zE p s m args meth c cc nL own D cl tys A) {y : MethodName} {b : ByteArray} {n1 index n : Nat} {rt : FieldType} {rm : Room} {post : Int32 → σ → Prop} {As stk : List Value} (hM : zMi l y b n1 rt rm D cl tys w As M post) (hY : zYs own index y b n1 (some rt) n) (hs : stk = As.reverse ++ st) (hn : As.length = n) (hR : rm.frames + 1 ≤ R.frames ∧ 8 + (n1 + 11) + rm.locals ≤ R.locals) (hw : (st.map fun v => v.category).sum ≤ 8) (hf : cells + rm.cells ≤ R.cells ∧ slots + rm.slots ≤ R.slots) (hd : decode cc pc = .ok (.invokestatic index, 3))
    (kk : ∀ (r : Int32) (M' : σ), post r M' → ZW p l e R s m args below meth c nL D cl A w (cells + rm.cells) (slots + rm.slots) Q (pc + 3) L (.int r :: st) M') : ZW p l e R s m args below meth c nL D cl A w cells slots Q pc L stk M := by
  intro H locs ls a1 a2 a3 a4
  obtain ⟨h1, h2, h3, h4, h6⟩ := hY
  have hin := z_in E a2 a3
  refine va_calli (va_runS (cc := cc) (nL := nL) (Ts := zT) (own := own) (As := As) (rest := st) (n := n) ⟨E.1, E.2.1, E.2.2.1, E.2.2.2.1, E.2.2.2.2.1⟩ (hM H.size) ⟨z_cb E h1 h2 h3 h6 hR, E.2.2.2.2.1 _ h4⟩ (z_pre E a1 a2 a3 As) rfl hn a4.1 hs (lv_room hw) hd hf) a3 (fun q _ h => hin q h) hin (fun r M' t H1 locs1 ht hvm hp hB hz hk hS => ?_)
  obtain ⟨b1, b2, b3⟩ := hB
  rw [ht] at b1
  exact kk r M' hp H1 locs1 ls b1 (b3.weaken (fun k q _ h => hin q.1 h)) hS a4
theorem z_callsv (E : zE p s m args meth c cc nL own D cl tys A) {y : MethodName} {b : ByteArray} {n1 index n : Nat} {rm : Room} {post : σ → Prop} {As stk : List Value} (hM : zMv l y b n1 rm D cl tys w As M post) (hY : zYs own index y b n1 none n) (hs : stk = As.reverse ++ st) (hn : As.length = n) (hR : rm.frames + 1 ≤ R.frames ∧ 8 + (n1 + 11) + rm.locals ≤ R.locals) (hw : (st.map fun v => v.category).sum ≤ 8) (hf : cells + rm.cells ≤ R.cells ∧ slots + rm.slots ≤ R.slots) (hd : decode cc pc = .ok (.invokestatic index, 3))
    (kk : ∀ (M' : σ), post M' → ZW p l e R s m args below meth c nL D cl A w (cells + rm.cells) (slots + rm.slots) Q (pc + 3) L st M') : ZW p l e R s m args below meth c nL D cl A w cells slots Q pc L stk M := by
  intro H locs ls a1 a2 a3 a4
  obtain ⟨h1, h2, h3, h4, h6⟩ := hY
  have hin := z_in E a2 a3
  refine va_callv (va_runS (cc := cc) (nL := nL) (Ts := zT) (own := own) (As := As) (rest := st) (n := n) ⟨E.1, E.2.1, E.2.2.1, E.2.2.2.1, E.2.2.2.2.1⟩ (hM H.size) ⟨z_cb E h1 h2 h3 h6 hR, E.2.2.2.2.1 _ h4⟩ (z_pre E a1 a2 a3 As) rfl hn a4.1 hs (lv_room hw) hd hf) a3 (fun q _ h => hin q h) hin (fun M' t H1 locs1 ht hvm hp hB hz hk hS => ?_)
  obtain ⟨b1, b2, b3⟩ := hB
  rw [ht] at b1
  exact kk M' hp H1 locs1 ls b1 (b3.weaken (fun k q _ h => hin q.1 h)) hS a4
end ZC
end
section
/-! Methods that throw: their contract zMt (the world stays), throw new X(), a call that throws, in a method without handlers -/
def zFT (first : State) (o : Outcome) (t : State) (L : List Loc) (k n : Nat) : Prop := (∃ x, o = .threw x) ∧ first.WarmedH t.vm ∧ first.sameButNew ({ t with vm := first.vm } : State) L k n
def zMetT (l : Launch) (y : MethodName) (ws : List Cond) (rm : Room) (Pc : Array Value → State → Prop) (Qc : Array Value → State → Outcome → State → Prop) (mc ms : Nat) (free : Addr → Prop) : Prop :=
  MetFree l y (headSpec ws rm) Pc (fun _ _ _ _ _ => True) (fun a st o t => Qc a st o t ∧ ∃ L, zFT st o t L mc ms ∧ ∀ q ∈ L, free q.base)
def zQt (X : String) (D : va_G) (cl : List vw_C) (tys : List (ClassId × FieldType)) (A : Nat → Prop) {σ : Type} (w : σ → va_W) (M : σ) : Array Value → State → Outcome → State → Prop := fun _ st oc t =>
  (∃ (x : Nat) (ce : Cell), oc = .threw x ∧ t.heap[x]? = some ce ∧ t.vm.findClass X = some ce.cls ∧ ce.vm.isStatics = false ∧ zB D cl tys A w M t) ∧ va_F A st t
def zMt (l : Launch) (y : MethodName) (b : ByteArray) (nL : Nat) (ret : Option FieldType) (rm : Room) (D : va_G) (cl : List vw_C) (tys : List (ClassId × FieldType)) {σ : Type} (w : σ → va_W) (av : List Value) (M : σ) (X : String) : Prop :=
  ∀ sz : Nat, zMetT l y (.code y b nL ret :: zT) rm (va_Pc av (zI D cl tys (w M) sz)) (zQt X D cl tys (va_A (w M) sz) w M) rm.cells rm.slots (va_A (w M) sz)
def zQT (D : va_G) (cl : List vw_C) (tys : List (ClassId × FieldType)) (A : Nat → Prop) {σ : Type} (w : σ → va_W) (M : σ) (X : String) (rm : Room) (below : List Frame) (args : Array Value) (s : State) : State → Prop := fun t =>
  ∃ o, t.status = .running ∧ Ended t below o ∧ zQt X D cl tys A w M args s o t ∧ ∃ L, zFT s o t L rm.cells rm.slots ∧ ∀ q ∈ L, A q.base
theorem zMt.of {l : Launch} {y : MethodName} {b : ByteArray} {nL : Nat} {ret : Option FieldType} {rm : Room} {D : va_G} {cl : List vw_C} {tys : List (ClassId × FieldType)} {σ : Type} {w : σ → va_W} {av : List Value} {M : σ} {X own : String} (hy : plainName y.cls = true) (ho : y.cls = own) (hlen : (lg_sl av).length ≤ nL) (hcat : ∀ v ∈ av, v.category = 1)
    (body : ∀ (p : Program) (e : Env) (s : State) (m : MethodId) (args : Array Value) (below : List Frame) (meth : Method) (c : Code) (A : Nat → Prop), l.admits e → zE p s m args meth c b nL own D cl tys A → c.exceptionTable.toList = [] →
      ZW p l e rm s m args below meth c nL D cl A w 0 0 (zQT D cl tys A w M X rm below args s) 0 (av.map some ++ List.replicate (nL - av.length) none) [] M) : zMt l y b nL ret rm D cl tys w av M X := by
  intro sz
  refine MetFree.of_bodyS (code := b) (maxLocals := nL) (ret := ret) hy ?_ ?_
  · intro args s m h hn
    obtain ⟨meth, c, h1, h2, h3, h4, h5, h6, -, -⟩ := Cond.code_spec hn (atoms_spec (ws := .code y b nL ret :: zT) h _ List.mem_cons_self)
    exact ⟨meth, c, h1, h2, h3, h4, h5, h6⟩
  · intro p e s m args below meth c s₁ B hml hv _
    have hh0 : s₁.heap = s.heap := by rw [B.state]; rfl
    obtain ⟨rfl, hsz, hP, hK, hD0, hZ⟩ := hv
    have hts := atoms_spec (ws := .code y b nL ret :: zT) B.pre
    have hown : s.vm.findClass own = some m.cls := ho ▸ findClass_of_methodNamed B.named
    have hex : c.exceptionTable.toList = [] := by
      have := B.noHandlers (hts _ List.mem_cons_self)
      simpa using this
    subst hsz
    have hD := hD0.self (sz := s.heap.size)
    have hA : ∀ q : Nat, s.heap.size ≤ q → va_A (w M) s.heap.size q := fun q h => Or.inr h
    have K := body p e s m av.toArray below meth c (va_A (w M) s.heap.size) B.admits ⟨B.exec, B.bytes, hml, hown, fun x hx => hts x (List.mem_cons_of_mem _ hx), hK, hA, B.notSynchronized, hZ, zE_st hP⟩ hex s.heap [] _ hP hD va_S.rf (zl.entry av hlen hcat)
    rw [← lg_entry_eq] at K
    obtain ⟨t, a1, o, b1, b2, b3, b4⟩ := K s₁ hh0 (Stand.of_body B)
    exact ⟨t, o, a1, b1, b2, b3, b4⟩
theorem zMt.of0 {l : Launch} {y : MethodName} {b : ByteArray} {nL : Nat} {ret : Option FieldType} {rm : Room} {D : va_G} {cl : List vw_C} {tys : List (ClassId × FieldType)} {σ : Type} {w : σ → va_W} {av : List Value} {M : σ} {X own : String} (hy : plainName y.cls = true) (ho : y.cls = own) (hlen : (lg_sl av).length ≤ nL) (hcat : ∀ v ∈ av, v.category = 1)
    (body : ∀ (p : Program) (e : Env) (s : State) (m : MethodId) (args : Array Value) (below : List Frame) (meth : Method) (c : Code) (A : Nat → Prop) (ls : Array Slot), l.admits e → zE p s m args meth c b nL own D cl tys A → c.exceptionTable.toList = [] → va_P D cl (w M) s.heap → va_D A (w M) → zl ls nL (av.map some ++ List.replicate (nL - av.length) none) →
      W p l e rm s m args below meth c s.heap [] 0 0 (zQT D cl tys A w M X rm below args s) (F0 m 0 ls [])) : zMt l y b nL ret rm D cl tys w av M X := by
  intro sz
  refine MetFree.of_bodyS (code := b) (maxLocals := nL) (ret := ret) hy ?_ ?_
  · intro args s m h hn
    obtain ⟨meth, c, h1, h2, h3, h4, h5, h6, -, -⟩ := Cond.code_spec hn (atoms_spec (ws := .code y b nL ret :: zT) h _ List.mem_cons_self)
    exact ⟨meth, c, h1, h2, h3, h4, h5, h6⟩
  · intro p e s m args below meth c s₁ B hml hv _
    have hh0 : s₁.heap = s.heap := by rw [B.state]; rfl
    obtain ⟨rfl, hsz, hP, hK, hD0, hZ⟩ := hv
    have hts := atoms_spec (ws := .code y b nL ret :: zT) B.pre
    have hown : s.vm.findClass own = some m.cls := ho ▸ findClass_of_methodNamed B.named
    have hex : c.exceptionTable.toList = [] := by
      have := B.noHandlers (hts _ List.mem_cons_self)
      simpa using this
    subst hsz
    have hD := hD0.self (sz := s.heap.size)
    have hA : ∀ q : Nat, s.heap.size ≤ q → va_A (w M) s.heap.size q := fun q h => Or.inr h
    have K := body p e s m av.toArray below meth c (va_A (w M) s.heap.size) _ B.admits ⟨B.exec, B.bytes, hml, hown, fun x hx => hts x (List.mem_cons_of_mem _ hx), hK, hA, B.notSynchronized, hZ, zE_st hP⟩ hex hP hD (zl.entry av hlen hcat)
    rw [← lg_entry_eq] at K
    obtain ⟨t, a1, o, b1, b2, b3, b4⟩ := K s₁ hh0 (Stand.of_body B)
    exact ⟨t, o, a1, b1, b2, b3, b4⟩
section ZT
variable {p : Program} {l : Launch} {e : Env} {R : Room} {s : State} {m : MethodId} {args : Array Value} {below : List Frame} {meth : Method} {c : Code} {cells slots : Nat} {Q : State → Prop}
variable {cc : ByteArray} {nL : Nat} {own : String} {D : va_G} {cl : List vw_C} {tys : List (ClassId × FieldType)} {A : Nat → Prop} {σ : Type} {w : σ → va_W} {pc : Nat} {L : List (Option Value)} {st : List Value} {M : σ}
/-- a callee that throws: back in the caller, the note over its frame -/
theorem zt_back {y : MethodName} {b : ByteArray} {n1 index n mc ms : Nat} {ret : Option FieldType} {ws : List Cond} {rm : Room} {Pc : Array Value → State → Prop} {Qc : Array Value → State → Outcome → State → Prop} {free : Addr → Prop} (hM : zMetT l y ws rm Pc Qc mc ms free) (hbl : FrameBlind Pc) (cb : CallB R s args own index y b n1 ret ws rm mc ms n)
    {U : State} {locs : List Loc} (X : Stand p l e R s m args below meth c U locs cells slots) {g : JFrame} (hg : g.method = m) (hsize : g.locals.size = c.maxLocals) {ig : Instr} {len : Nat} (hdg : decode c.code g.pc = .ok (ig, len)) (hW : 2 * g.monitorRoom + (g.stack.map fun v => v.category).sum ≤ 8) {mk : MethodId} (hn : U.methodNamed? y = some mk) (hf : cells + mc ≤ R.cells ∧ slots + ms ≤ R.slots) {a : Array Value} (hP : Pc a U) :
    ∃ (x : Addr) (t T' : State) (Lo : List Loc), Stand p l e R s m args below meth c T' (locs ++ Lo) (cells + mc) (slots + ms) ∧ (∀ q ∈ Lo, free q.base) ∧ T'.heap = t.heap ∧ T'.vm = t.vm ∧ Qc a (U.calling g mk a) (.threw x) t ∧ Steps p.tables e below (doInvoke e (U.setTop g) [] mk a).1 ((T'.setTop g).pushFrame (.throwing x)) := by
  obtain ⟨hrc, hrs, hfr, hlo, hws, hcw, -, hini, -⟩ := cb
  have h1 : (headSpec ws rm).pre.before a U = true := atoms_intro fun x hx => hws x hx _ _ X.warmed
  have h2 := hws _ hcw a U X.warmed
  have h3 : (Cond.initialized y.cls).before a U = true := word_at X.warmed (Or.inl rfl) hini
  obtain ⟨methY, cY, hmY, hcY, -, hlY, -, -, -, -⟩ := Cond.code_spec hn h2
  obtain ⟨kY, hkY, -⟩ := className_of_methodNamed hn
  have hinitY : kY.init = .initialized := Cond.initialized_spec (findClass_of_methodNamed hn) hkY h3
  have h : At U g.method c below := by rw [hg]; exact X.here
  have happ : (headSpec ws rm).appliesLoose y e.platform (U.calling g mk a) = true :=
    Spec.appliesLoose_calling (g := g) h hdg hn hkY hinitY (X.room_calling (g := g) (R' := rm) hsize hmY hcY hfr (by rw [hlY]; omega) (by rw [hrc]; exact hf.1) (by rw [hrs]; exact hf.2)) h1
  obtain ⟨mid, hmid⟩ := h.above
  have hfm : (U.setTop g).frames = (.java g :: mid) ++ below := by rw [State.frames_setTop' g h.top, hmid]; rfl
  obtain ⟨o, s₂, hsteps, -, hend, hq, Lo, ⟨⟨x, rfl⟩, hW2, hsame⟩, hL⟩ := Steps.callFree hM p X.admits X.cas X.clock (acts := []) hfm happ (hbl a U g mk hP) trivial
  rw [State.frames_setTop' g h.top, X.tail] at hend
  obtain ⟨T', X', -, -, ht⟩ := X.outOfThrown hg (mk := mk) (a := a) hend hW2 hsame
  refine ⟨x, s₂, T', Lo, X', hL, ?_, ?_, hq, by rw [← ht]; exact hsteps⟩
  · rw [ht, Stand.throwing_heap]
  · rw [ht, Stand.throwing_vm]
/-- what throwing needs of words: those of the tables and those that zZ carries -/
def zThr (own : String) (ix ic : Nat) (X : String) : Prop :=
  Cond.classLink own ix X ∈ zT ∧ Cond.instantiable X 6 ∈ zT ∧ Cond.initialized X ∈ zT ∧ Bundle.fit X = true ∧ ∀ a ∈ Bundle.ownAtoms0 own ic X ["java/lang/RuntimeException", "java/lang/Exception"], a ∈ zT ∨ a ∈ zC
theorem zt_new (E : zE p s m args meth c cc nL own D cl tys A) (hex : c.exceptionTable.toList = []) (htr : e.platform.stackTraces = false) {X : String} {rm : Room} {ix ic : Nat} (hX : zThr own ix ic X) (hc : 1 ≤ R.cells ∧ 6 ≤ R.slots) (hc' : 1 ≤ rm.cells ∧ 6 ≤ rm.slots) (hR : 5 < R.frames ∧ 81 ≤ R.locals)
    (d0 : decode cc pc = .ok (.new ix, 3)) (d3 : decode cc (pc + 3) = .ok (.dup, 1)) (d4 : decode cc (pc + 4) = .ok (.invokespecial ic, 3)) (d7 : decode cc (pc + 7) = .ok (.athrow, 1))
    {ls : Array Slot} (a1 : va_P D cl (w M) s.heap) (a2 : va_D A (w M)) (a4 : ls.size = nL) :
    W p l e R s m args below meth c s.heap [] 0 0 (zQT D cl tys A w M X rm below args s) (F0 m pc ls []) := by
  obtain ⟨x1, x2, x3, x4, x5⟩ := hX
  obtain ⟨e1, e2, e3, e4, e5, e6, e7, e8, e9, e10⟩ := E
  have hZu := e9.use args
  have hwords : ∀ a ∈ Bundle.ownAtoms0 own ic X ["java/lang/RuntimeException", "java/lang/Exception"], a.before args s = true := fun a ha => by
    rcases x5 a ha with h | h
    · exact e5 a h
    · exact hZu a h
  refine W.newc e1 e2 e4 (e5 _ x1) (e5 _ x2) (e5 _ x3) rfl d0 (by rw [Nat.zero_add]; exact hc.1) (by rw [Nat.zero_add]; exact hc.2) (fun cC kC h1 h2 h3 h4 => ?_)
  refine lv_dup e1 e2 d3 rfl ?_
  intro T hT X0
  have hcell : T.heap[s.heap.size]? = some (freshCell cC kC) := by rw [hT]; simp [freshCell]
  subst e2
  obtain ⟨U, hst, hrun, hend, hWu, hsame, ce, hce, hown⟩ := X0.ctorThrow0 e1 htr (own := own) (cls := X) (names := ["java/lang/RuntimeException", "java/lang/Exception"]) (ic := ic) e4 x4 (by intro n hn; rcases List.mem_cons.mp hn with rfl | hn; decide +kernel; rcases List.mem_cons.mp hn with rfl | hn; decide +kernel; cases hn) hwords
    (fun x hx => by cases hx) h1 h2 hcell (Nat.le_refl _) (g := F0 m (pc + 4) ls [.ref s.heap.size, .ref s.heap.size]) rfl (a4.trans e3.symm) rfl rfl rfl d4 d7 (by rw [hex]; intro x hx; cases hx) (by show 2 + 3 < R.frames; omega) (by show 2 * 0 + 1 + (13 * (2 + 1) + 41) ≤ R.locals; omega) e8
  have hkeep : ∀ q : Nat, q < s.heap.size → U.heap[q]? = s.heap[q]? := fun q hq => by
    obtain ⟨cq, hcq⟩ : ∃ cq, s.heap[q]? = some cq := ⟨s.heap[q], Array.getElem?_eq_getElem hq⟩
    rw [hcq]
    exact State.sameButNew.old_cell hsame hcq
  refine ⟨U, hst, .threw s.heap.size, hrun, hend, ⟨⟨s.heap.size, ce, rfl, hce, by rw [hWu.alike.findClass]; exact hown.cls, by rw [hown.vm]; rfl, a1.kept (fun k q hk => hkeep q.1 (a1 k q hk).lt), va_K.moved hWu.alike e6, a2⟩, hsame.2.1, fun q h _ => hkeep q h⟩, [], ⟨⟨_, rfl⟩, hWu, hsame.mono (by omega) (by omega)⟩, fun q hq => by cases hq⟩
/-- a call of a method that throws, in a method without handlers: it's thrown on -/
theorem zt_out (E : zE p s m args meth c cc nL own D cl tys A) (hex : c.exceptionTable.toList = []) {X : String} {rm : Room} {locs : List Loc} {x : Addr} {t T' : State} {Lo : List Loc} {H : Heap} {k n : Nat} (X' : Stand p l e R s m args below meth c T' (locs ++ Lo) k n) (hLo : ∀ q ∈ Lo, A q.base) (e1 : T'.heap = t.heap) (e2 : T'.vm = t.vm) {st0 : State} (h0 : st0.heap = H) (hin : ∀ q, va_A (w M) H.size q → A q) (a3 : va_S A s.heap H locs)
    (hq : zQt X D cl tys (va_A (w M) H.size) w M args st0 (.threw x) t) (hk : k ≤ rm.cells) (hn : n ≤ rm.slots) {g : JFrame} (hg : g.method = m) (hl : g.locked = none) (he : g.entered = []) :
    ∃ t2, Steps p.tables e below ((T'.setTop g).pushFrame (.throwing x)) t2 ∧ zQT D cl tys A w M X rm below args s t2 := by
  obtain ⟨⟨x', ce, hx, hce, hfc, hvm, b1, b2, b3⟩, hz, hkk⟩ := hq
  cases hx
  rw [h0] at hz hkk
  obtain ⟨hst, hrun, hend, hW, hsame⟩ := X'.leaveThrown x hg hl he (by rw [hex]; intro y hy; cases hy) E.2.2.2.2.2.2.2.1
  have hal : t.vm.Alike (T'.setFrames (.throwing x :: below)).vm := by
    show t.vm.Alike T'.vm
    rw [e2]; exact Vm.Alike.refl _
  have hh : (T'.setFrames (.throwing x :: below)).heap = t.heap := e1
  refine ⟨_, hst, .threw x, hrun, hend, ⟨⟨x, ce, rfl, by rw [hh]; exact hce, by rw [hal.findClass]; exact hfc, hvm, by rw [hh]; exact b1, va_K.moved hal b2, b3.weaken (fun k q _ h => hin q.1 h)⟩, ?_, ?_⟩, locs ++ Lo, ⟨⟨_, rfl⟩, hW, hsame.mono hk hn⟩, ?_⟩
  · rw [hh]; exact Nat.le_trans a3.1 hz
  · intro q h1 h2
    rw [hh, hkk q (Nat.lt_of_lt_of_le h1 a3.1) (fun h => h2 (hin q h))]
    exact a3.2.1 q h1 h2
  · intro q hq
    rcases List.mem_append.mp hq with h | h
    · exact a3.2.2 q h
    · exact hLo q h
theorem zt_callv (E : zE p s m args meth c cc nL own D cl tys A) (hex : c.exceptionTable.toList = []) {X : String} {rm : Room} {y : MethodName} {b : ByteArray} {n1 index n : Nat} {ret : Option FieldType} {rm1 : Room} {C : String} {o : Nat} {As stk : List Value} (hM : zMt l y b n1 ret rm1 D cl tys w (.ref o :: As) M X) (hY : zYv own C index y b n1 ret n) (q0 : Nat) {ci : Nat} {fs : List Value} {T : u_T} {N : Nat} (he : (w M)[q0]? = some (o, .inr (ci, fs))) (hc : cl[ci]? = some (C, T, N)) (hs : stk = As.reverse ++ .ref o :: st) (hn : As.length = n) (hR : rm1.frames + 1 ≤ R.frames ∧ 8 + (n1 + 11) + rm1.locals ≤ R.locals) (hw : (st.map fun v => v.category).sum ≤ 8) (hf : cells + rm1.cells ≤ R.cells ∧ slots + rm1.slots ≤ R.slots) (hf' : cells + rm1.cells ≤ rm.cells ∧ slots + rm1.slots ≤ rm.slots) (hd : decode cc pc = .ok (.invokevirtual index, 3)) :
    ZW p l e R s m args below meth c nL D cl A w cells slots (zQT D cl tys A w M X rm below args s) pc L stk M := by
  intro H locs ls a1 a2 a3 a4 T0 hT0 X0
  obtain ⟨h1, h2, h3, h4, h5, h6⟩ := hY
  obtain ⟨p1, p2⟩ := z_pre E a1 a2 a3 (.ref o :: As)
  have hin := z_in E a2 a3
  have cb := z_cb (R := R) (rm := rm1) E h1 h2 h3 h6 hR
  obtain ⟨e1, e2, e3, e4, e5, e6, e7, e8, e9, e10⟩ := id E
  obtain ⟨cellB, hcB, hoB, hclB⟩ := va_recv e6 a1 hc he
  obtain ⟨mk, methM, hnamed, hmethM, hstM, habM⟩ := Cond.instanceMethod_spec (e5 _ h4)
  obtain ⟨methM', cM, hmethM', -, -, -, -, -, -, hsigM⟩ := Cond.code_spec hnamed (e5 _ h1)
  cases hmethM.symm.trans hmethM'
  obtain ⟨c2, r2, m2, q1, q2, q3, q4, kP, hkP, hkPi⟩ := Cond.selects_spec (e5 _ h5)
  cases hclB.symm.trans q1
  cases (State.methodFound?_of_named hnamed ⟨h6.1, h6.2.1⟩).symm.trans q2
  cases hnamed.symm.trans q3
  have hselP : selectMethod e.platform s.vm cellB.cls mk = .method mk := by rw [Launch.admits_selectMethod X0.admits]; exact q4
  subst e2
  obtain ⟨vm₁, X₁, hstep₁⟩ := X0.invokevirtual e1 e4 (e5 _ h3) hnamed hmethM hstM hkP hkPi ⟨h6.1, h6.2.1⟩ (a := o) (cell := cellB) (by rw [hT0]; exact hcB)
    (fun z h => by rw [h] at hoB; cases hoB) hselP hmethM habM hkP hkPi (g := F0 m pc ls stk) rfl (argsL := As) (rest := st) (hn.trans (cb.2.2.2.2.2.2.2.2.2.1 _ hsigM)) hs hd
  obtain ⟨x, t, T', Lo, X', hLo, f1, f2, hq, hsteps⟩ := zt_back (hM H.size) p1 cb X₁ (g := F0 m pc ls st) rfl (a4.1.trans e3.symm) hd (lv_room hw) (X₁.named hnamed) hf (p2 (T0.setVm vm₁) hT0 X₁.warmed)
  obtain ⟨t2, g1, g2⟩ := zt_out (rm := rm) E hex X' (fun q hq' => hin _ (hLo q hq')) f1 f2 (H := H) (st0 := (T0.setVm vm₁).calling (F0 m pc ls st) mk (Value.ref o :: As).toArray) hT0 hin a3 hq hf'.1 hf'.2 (g := F0 m pc ls st) rfl rfl rfl
  exact ⟨t2, hstep₁ _ (fun acts => by rw [doInvoke_state]; exact hsteps.trans g1), g2⟩
theorem zt_calls (E : zE p s m args meth c cc nL own D cl tys A) (hex : c.exceptionTable.toList = []) {X : String} {rm : Room} {y : MethodName} {b : ByteArray} {n1 index n : Nat} {ret : Option FieldType} {rm1 : Room} {As stk : List Value} (hM : zMt l y b n1 ret rm1 D cl tys w As M X) (hY : zYs own index y b n1 ret n) (hs : stk = As.reverse ++ st) (hn : As.length = n) (hR : rm1.frames + 1 ≤ R.frames ∧ 8 + (n1 + 11) + rm1.locals ≤ R.locals) (hw : (st.map fun v => v.category).sum ≤ 8) (hf : cells + rm1.cells ≤ R.cells ∧ slots + rm1.slots ≤ R.slots) (hf' : cells + rm1.cells ≤ rm.cells ∧ slots + rm1.slots ≤ rm.slots) (hd : decode cc pc = .ok (.invokestatic index, 3)) :
    ZW p l e R s m args below meth c nL D cl A w cells slots (zQT D cl tys A w M X rm below args s) pc L stk M := by
  intro H locs ls a1 a2 a3 a4 T0 hT0 X0
  obtain ⟨h1, h2, h3, h4, h6⟩ := hY
  obtain ⟨p1, p2⟩ := z_pre E a1 a2 a3 As
  have hin := z_in E a2 a3
  have cb := z_cb (R := R) (rm := rm1) E h1 h2 h3 h6 hR
  obtain ⟨e1, e2, e3, e4, e5, e6, e7, e8, e9, e10⟩ := id E
  obtain ⟨mk, hnamed⟩ := Cond.code_named (e5 _ h1)
  obtain ⟨methM, cM, hmethM, -, -, -, -, -, -, hsigM⟩ := Cond.code_spec hnamed (e5 _ h1)
  have hstatic : methM.isStatic = true := Cond.static_spec hnamed hmethM (e5 _ h4)
  obtain ⟨kP, hkP, -⟩ := className_of_methodNamed hnamed
  have hinitP : kP.init = .initialized := Cond.initialized_spec (findClass_of_methodNamed hnamed) hkP (e5 _ h2)
  subst e2
  obtain ⟨vm₁, X₁, hstep₁⟩ := X0.invokestatic e1 e4 (e5 _ h3) hnamed hmethM hstatic hkP hinitP ⟨h6.1, h6.2.1⟩ (g := F0 m pc ls stk) rfl (argsL := As) (rest := st) (hn.trans (cb.2.2.2.2.2.2.2.2.2.1 _ hsigM)) hs hd
  obtain ⟨x, t, T', Lo, X', hLo, f1, f2, hq, hsteps⟩ := zt_back (hM H.size) p1 cb X₁ (g := F0 m pc ls st) rfl (a4.1.trans e3.symm) hd (lv_room hw) (X₁.named hnamed) hf (p2 (T0.setVm vm₁) hT0 X₁.warmed)
  obtain ⟨t2, g1, g2⟩ := zt_out (rm := rm) E hex X' (fun q hq' => hin _ (hLo q hq')) f1 f2 (H := H) (st0 := (T0.setVm vm₁).calling (F0 m pc ls st) mk As.toArray) hT0 hin a3 hq hf'.1 hf'.2 (g := F0 m pc ls st) rfl rfl rfl
  exact ⟨t2, hstep₁ _ (fun acts => by rw [doInvoke_state]; exact hsteps.trans g1), g2⟩
end ZT
end
section
/-! names, field tables, worlds, words (printed by program) -/
def F_Z : u_T := fun k => match k with
  | 0 => ("ZoneHeap", "octets", "[B", true)
  | 1 => ("ZoneHeap", "at", "[I", true)
  | 2 => ("ZoneHeap", "size", "[I", true)
  | 3 => ("ZoneHeap", "when", "[I", true)
  | 4 => ("ZoneHeap", "live", "[Z", true)
  | 5 => ("ZoneHeap", "reached", "[Z", true)
  | 6 => ("ZoneHeap", "todo", "[I", true)
  | 7 => ("ZoneHeap", "lost", "[I", true)
  | 8 => ("ZoneHeap", "blocks", "I", false)
  | 9 => ("ZoneHeap", "made", "I", false)
  | 10 => ("ZoneHeap", "given", "I", false)
  | 11 => ("ZoneHeap", "keptOctets", "I", false)
  | 12 => ("ZoneHeap", "kept", "I", false)
  | 13 => ("ZoneHeap", "lostOnes", "I", false)
  | _ => ("ZoneHeap", "waiting", "I", false)
def t_Z : Nat → FieldType := fun k => match k with
  | 0 => .array .byte
  | 1 => .array .int
  | 2 => .array .int
  | 3 => .array .int
  | 4 => .array .boolean
  | 5 => .array .boolean
  | 6 => .array .int
  | 7 => .array .int
  | 8 => .int
  | 9 => .int
  | 10 => .int
  | 11 => .int
  | 12 => .int
  | 13 => .int
  | _ => .int
theorem n_Z : ∀ a, a < 15 → ∀ b, b < 15 → a ≠ b → (F_Z a).2.1 ≠ (F_Z b).2.1 := by decide +kernel
theorem t_Z_ok : ∀ k, k < 15 → parseFieldDescriptor (F_Z k).2.2.1 = some (t_Z k) := by decide +kernel
def F_M : u_T := fun k => match k with
  | 0 => ("ZoneHeapModel", "err", "I", false)
  | 1 => ("ZoneHeapModel", "octet", "[I", true)
  | 2 => ("ZoneHeapModel", "place", "[I", true)
  | 3 => ("ZoneHeapModel", "size", "[I", true)
  | 4 => ("ZoneHeapModel", "state", "[I", true)
  | 5 => ("ZoneHeapModel", "since", "[I", true)
  | 6 => ("ZoneHeapModel", "reached", "[Z", true)
  | 7 => ("ZoneHeapModel", "found", "[I", true)
  | 8 => ("ZoneHeapModel", "many", "I", false)
  | 9 => ("ZoneHeapModel", "made", "I", false)
  | 10 => ("ZoneHeapModel", "backs", "I", false)
  | _ => ("ZoneHeapModel", "lostMany", "I", false)
def t_M : Nat → FieldType := fun k => match k with
  | 0 => .int
  | 1 => .array .int
  | 2 => .array .int
  | 3 => .array .int
  | 4 => .array .int
  | 5 => .array .int
  | 6 => .array .boolean
  | 7 => .array .int
  | 8 => .int
  | 9 => .int
  | 10 => .int
  | _ => .int
theorem n_M : ∀ a, a < 12 → ∀ b, b < 12 → a ≠ b → (F_M a).2.1 ≠ (F_M b).2.1 := by decide +kernel
theorem t_M_ok : ∀ k, k < 12 → parseFieldDescriptor (F_M k).2.2.1 = some (t_M k) := by decide +kernel
abbrev zcl : List vw_C := [("ZoneHeap", F_Z, 15), ("ZoneHeapModel", F_M, 12)]
abbrev ztys (cA : Nat → ClassId) : List (ClassId × FieldType) := [(cA 0, .byte), (cA 1, .int), (cA 2, .boolean), (cA 3, .long)]
theorem in_Z : ∀ x ∈ u_ws "ZoneHeap" F_Z 15, x ∈ zT := by decide +kernel
theorem in_M : ∀ x ∈ u_ws "ZoneHeapModel" F_M 12, x ∈ zT := by decide +kernel
def y_Z_init : MethodName := ⟨"ZoneHeap", "<init>", "()V"⟩
abbrev b_Z_init : ByteArray := prog_1_method_1_code
def y_Obj_init : MethodName := ⟨"java/lang/Object", "<init>", "()V"⟩
abbrev b_Obj_init : ByteArray := object_method_1_code
def y_Z_lost : MethodName := ⟨"ZoneHeap", "lost", "(II)I"⟩
abbrev b_Z_lost : ByteArray := prog_1_method_25_code
def y_Z_leads : MethodName := ⟨"ZoneHeap", "leads", "(I)V"⟩
abbrev b_Z_leads : ByteArray := prog_1_method_24_code
def y_Z_under : MethodName := ⟨"ZoneHeap", "under", "(I)I"⟩
abbrev b_Z_under : ByteArray := prog_1_method_11_code
def y_Z_word : MethodName := ⟨"ZoneHeap", "word", "(I)I"⟩
abbrev b_Z_word : ByteArray := prog_1_method_22_code
def y_L_get : MethodName := ⟨"ZoneHeapLaw", "get", "(LZoneHeap;I[J)I"⟩
abbrev b_L_get : ByteArray := method_3_code
def y_Z_get : MethodName := ⟨"ZoneHeap", "get", "(I)I"⟩
abbrev b_Z_get : ByteArray := prog_1_method_12_code
def y_Z_legal : MethodName := ⟨"ZoneHeap", "legal", "(Z)V"⟩
abbrev b_Z_legal : ByteArray := prog_1_method_2_code
def y_Z_made : MethodName := ⟨"ZoneHeap", "made", "(I)I"⟩
abbrev b_Z_made : ByteArray := prog_1_method_8_code
def y_Z_gap : MethodName := ⟨"ZoneHeap", "gap", "(I)I"⟩
abbrev b_Z_gap : ByteArray := prog_1_method_7_code
def y_Z_room : MethodName := ⟨"ZoneHeap", "room", "(I)I"⟩
abbrev b_Z_room : ByteArray := prog_1_method_5_code
def y_Math_max : MethodName := ⟨"java/lang/Math", "max", "(II)I"⟩
abbrev b_Math_max : ByteArray := prog_8_method_65_code
def y_Z_end : MethodName := ⟨"ZoneHeap", "end", "(I)I"⟩
abbrev b_Z_end : ByteArray := prog_1_method_6_code
def y_Z_move : MethodName := ⟨"ZoneHeap", "move", "(II)V"⟩
abbrev b_Z_move : ByteArray := prog_1_method_9_code
def y_L_back : MethodName := ⟨"ZoneHeapLaw", "back", "(LZoneHeap;I[J)I"⟩
abbrev b_L_back : ByteArray := method_4_code
def y_Z_back : MethodName := ⟨"ZoneHeap", "back", "(I)I"⟩
abbrev b_Z_back : ByteArray := prog_1_method_15_code
def y_Z_standing : MethodName := ⟨"ZoneHeap", "standing", "(I)I"⟩
abbrev b_Z_standing : ByteArray := prog_1_method_13_code
def y_Z_state : MethodName := ⟨"ZoneHeap", "state", "(Z)V"⟩
abbrev b_Z_state : ByteArray := prog_1_method_4_code
def y_Z_give : MethodName := ⟨"ZoneHeap", "give", "(I)V"⟩
abbrev b_Z_give : ByteArray := prog_1_method_14_code
def y_Z_gone : MethodName := ⟨"ZoneHeap", "gone", "(I)V"⟩
abbrev b_Z_gone : ByteArray := prog_1_method_10_code
def y_L_again : MethodName := ⟨"ZoneHeapLaw", "again", "(LZoneHeap;II[J)I"⟩
abbrev b_L_again : ByteArray := method_5_code
def y_Z_again : MethodName := ⟨"ZoneHeap", "again", "(II)I"⟩
abbrev b_Z_again : ByteArray := prog_1_method_16_code
def y_L_kind : MethodName := ⟨"ZoneHeapLaw", "kind", "(LZoneHeap;I[J)I"⟩
abbrev b_L_kind : ByteArray := method_6_code
def y_Z_kind : MethodName := ⟨"ZoneHeap", "kind", "(I)I"⟩
abbrev b_Z_kind : ByteArray := prog_1_method_17_code
def y_Z_within : MethodName := ⟨"ZoneHeap", "within", "(Z)V"⟩
abbrev b_Z_within : ByteArray := prog_1_method_3_code
def y_L_block : MethodName := ⟨"ZoneHeapLaw", "block", "(LZoneHeap;I[J)I"⟩
abbrev b_L_block : ByteArray := method_7_code
def y_Z_block : MethodName := ⟨"ZoneHeap", "block", "(I)I"⟩
abbrev b_Z_block : ByteArray := prog_1_method_19_code
def y_Z_isLive : MethodName := ⟨"ZoneHeap", "isLive", "(I)Z"⟩
abbrev b_Z_isLive : ByteArray := prog_1_method_18_code
def y_L_write : MethodName := ⟨"ZoneHeapLaw", "write", "(LZoneHeap;II)I"⟩
abbrev b_L_write : ByteArray := method_8_code
def y_Z_write : MethodName := ⟨"ZoneHeap", "write", "(II)V"⟩
abbrev b_Z_write : ByteArray := prog_1_method_21_code
def y_Z_four : MethodName := ⟨"ZoneHeap", "four", "(I)V"⟩
abbrev b_Z_four : ByteArray := prog_1_method_20_code
def y_L_read : MethodName := ⟨"ZoneHeapLaw", "read", "(LZoneHeap;I[J)I"⟩
abbrev b_L_read : ByteArray := method_9_code
def y_Z_read : MethodName := ⟨"ZoneHeap", "read", "(I)I"⟩
abbrev b_Z_read : ByteArray := prog_1_method_23_code
def y_L_lostAt : MethodName := ⟨"ZoneHeapLaw", "lostAt", "(LZoneHeap;I[J)I"⟩
abbrev b_L_lostAt : ByteArray := method_10_code
def y_Z_lostAt : MethodName := ⟨"ZoneHeap", "lostAt", "(I)I"⟩
abbrev b_Z_lostAt : ByteArray := prog_1_method_26_code
def y_L_count : MethodName := ⟨"ZoneHeapLaw", "count", "(LZoneHeap;I[J)I"⟩
abbrev b_L_count : ByteArray := method_11_code
def y_Z_count : MethodName := ⟨"ZoneHeap", "count", "(I)I"⟩
abbrev b_Z_count : ByteArray := prog_1_method_27_code
def y_M_init : MethodName := ⟨"ZoneHeapModel", "<init>", "()V"⟩
abbrev b_M_init : ByteArray := prog_3_method_1_code
def y_M_thrown : MethodName := ⟨"ZoneHeapModel", "thrown", "()I"⟩
abbrev b_M_thrown : ByteArray := prog_3_method_2_code
def y_M_get : MethodName := ⟨"ZoneHeapModel", "get", "(I)I"⟩
abbrev b_M_get : ByteArray := prog_3_method_10_code
def y_M_fails : MethodName := ⟨"ZoneHeapModel", "fails", "(ZI)Z"⟩
abbrev b_M_fails : ByteArray := prog_3_method_3_code
def y_M_make : MethodName := ⟨"ZoneHeapModel", "make", "(I)I"⟩
abbrev b_M_make : ByteArray := prog_3_method_6_code
def y_M_room : MethodName := ⟨"ZoneHeapModel", "room", "(I)I"⟩
abbrev b_M_room : ByteArray := prog_3_method_5_code
def y_M_taken : MethodName := ⟨"ZoneHeapModel", "taken", "(I)I"⟩
abbrev b_M_taken : ByteArray := prog_3_method_4_code
def y_M_back : MethodName := ⟨"ZoneHeapModel", "back", "(I)I"⟩
abbrev b_M_back : ByteArray := prog_3_method_11_code
def y_M_at : MethodName := ⟨"ZoneHeapModel", "at", "(II)I"⟩
abbrev b_M_at : ByteArray := prog_3_method_7_code
def y_M_give : MethodName := ⟨"ZoneHeapModel", "give", "(I)V"⟩
abbrev b_M_give : ByteArray := prog_3_method_9_code
def y_M_kept : MethodName := ⟨"ZoneHeapModel", "kept", "()I"⟩
abbrev b_M_kept : ByteArray := prog_3_method_8_code
def y_M_again : MethodName := ⟨"ZoneHeapModel", "again", "(II)I"⟩
abbrev b_M_again : ByteArray := prog_3_method_12_code
def y_M_kind : MethodName := ⟨"ZoneHeapModel", "kind", "(I)I"⟩
abbrev b_M_kind : ByteArray := prog_3_method_14_code
def y_M_of : MethodName := ⟨"ZoneHeapModel", "of", "(II)I"⟩
abbrev b_M_of : ByteArray := prog_3_method_13_code
def y_M_block : MethodName := ⟨"ZoneHeapModel", "block", "(I)I"⟩
abbrev b_M_block : ByteArray := prog_3_method_15_code
def y_M_write : MethodName := ⟨"ZoneHeapModel", "write", "(II)V"⟩
abbrev b_M_write : ByteArray := prog_3_method_18_code
def y_M_bad : MethodName := ⟨"ZoneHeapModel", "bad", "(I)Z"⟩
abbrev b_M_bad : ByteArray := prog_3_method_16_code
def y_M_read : MethodName := ⟨"ZoneHeapModel", "read", "(I)I"⟩
abbrev b_M_read : ByteArray := prog_3_method_19_code
def y_M_word : MethodName := ⟨"ZoneHeapModel", "word", "(I)I"⟩
abbrev b_M_word : ByteArray := prog_3_method_17_code
def y_M_lost : MethodName := ⟨"ZoneHeapModel", "lost", "(II)I"⟩
abbrev b_M_lost : ByteArray := prog_3_method_22_code
def y_M_touch : MethodName := ⟨"ZoneHeapModel", "touch", "(I)Z"⟩
abbrev b_M_touch : ByteArray := prog_3_method_21_code
def y_M_leads : MethodName := ⟨"ZoneHeapModel", "leads", "(I)I"⟩
abbrev b_M_leads : ByteArray := prog_3_method_20_code
def y_M_lostAt : MethodName := ⟨"ZoneHeapModel", "lostAt", "(I)I"⟩
abbrev b_M_lostAt : ByteArray := prog_3_method_23_code
def y_M_count : MethodName := ⟨"ZoneHeapModel", "count", "(I)I"⟩
abbrev b_M_count : ByteArray := prog_3_method_24_code
theorem in_init (C : String) (h : C = "ZoneHeap" ∨ C = "ZoneHeapModel" ∨ C = "ZoneHeapLaw" ∨ C = "java/lang/Math") : Cond.initialized C ∈ zT := by
  rcases h with rfl | rfl | rfl | rfl
  · exact zT_in 25 (by decide +kernel) (by decide +kernel)
  · exact zT_in 26 (by decide +kernel) (by decide +kernel)
  · exact zT_in 24 (by decide +kernel) (by decide +kernel)
  · exact zT_in 31 (by decide +kernel) (by decide +kernel)
theorem fl_Z_9 : Cond.fieldLink "ZoneHeap" 9 "ZoneHeap" "octets" "[B" ∈ zT := zT_in 42 (by decide +kernel) (by decide +kernel)
theorem fl_Z_13 : Cond.fieldLink "ZoneHeap" 13 "ZoneHeap" "at" "[I" ∈ zT := zT_in 43 (by decide +kernel) (by decide +kernel)
theorem fl_Z_17 : Cond.fieldLink "ZoneHeap" 17 "ZoneHeap" "size" "[I" ∈ zT := zT_in 44 (by decide +kernel) (by decide +kernel)
theorem fl_Z_20 : Cond.fieldLink "ZoneHeap" 20 "ZoneHeap" "when" "[I" ∈ zT := zT_in 45 (by decide +kernel) (by decide +kernel)
theorem fl_Z_23 : Cond.fieldLink "ZoneHeap" 23 "ZoneHeap" "live" "[Z" ∈ zT := zT_in 46 (by decide +kernel) (by decide +kernel)
theorem fl_Z_27 : Cond.fieldLink "ZoneHeap" 27 "ZoneHeap" "reached" "[Z" ∈ zT := zT_in 47 (by decide +kernel) (by decide +kernel)
theorem fl_Z_30 : Cond.fieldLink "ZoneHeap" 30 "ZoneHeap" "todo" "[I" ∈ zT := zT_in 48 (by decide +kernel) (by decide +kernel)
theorem fl_Z_33 : Cond.fieldLink "ZoneHeap" 33 "ZoneHeap" "lost" "[I" ∈ zT := zT_in 49 (by decide +kernel) (by decide +kernel)
theorem fl_Z_55 : Cond.fieldLink "ZoneHeap" 55 "ZoneHeap" "blocks" "I" ∈ zT := zT_in 50 (by decide +kernel) (by decide +kernel)
theorem fl_Z_69 : Cond.fieldLink "ZoneHeap" 69 "ZoneHeap" "made" "I" ∈ zT := zT_in 51 (by decide +kernel) (by decide +kernel)
theorem fl_Z_84 : Cond.fieldLink "ZoneHeap" 84 "ZoneHeap" "given" "I" ∈ zT := zT_in 52 (by decide +kernel) (by decide +kernel)
theorem fl_Z_90 : Cond.fieldLink "ZoneHeap" 90 "ZoneHeap" "keptOctets" "I" ∈ zT := zT_in 53 (by decide +kernel) (by decide +kernel)
theorem fl_Z_87 : Cond.fieldLink "ZoneHeap" 87 "ZoneHeap" "kept" "I" ∈ zT := zT_in 54 (by decide +kernel) (by decide +kernel)
theorem fl_Z_122 : Cond.fieldLink "ZoneHeap" 122 "ZoneHeap" "lostOnes" "I" ∈ zT := zT_in 55 (by decide +kernel) (by decide +kernel)
theorem fl_Z_116 : Cond.fieldLink "ZoneHeap" 116 "ZoneHeap" "waiting" "I" ∈ zT := zT_in 56 (by decide +kernel) (by decide +kernel)
theorem fl_M_32 : Cond.fieldLink "ZoneHeapModel" 32 "ZoneHeapModel" "err" "I" ∈ zT := zT_in 323 (by decide +kernel) (by decide +kernel)
theorem fl_M_7 : Cond.fieldLink "ZoneHeapModel" 7 "ZoneHeapModel" "octet" "[I" ∈ zT := zT_in 324 (by decide +kernel) (by decide +kernel)
theorem fl_M_13 : Cond.fieldLink "ZoneHeapModel" 13 "ZoneHeapModel" "place" "[I" ∈ zT := zT_in 325 (by decide +kernel) (by decide +kernel)
theorem fl_M_16 : Cond.fieldLink "ZoneHeapModel" 16 "ZoneHeapModel" "size" "[I" ∈ zT := zT_in 326 (by decide +kernel) (by decide +kernel)
theorem fl_M_19 : Cond.fieldLink "ZoneHeapModel" 19 "ZoneHeapModel" "state" "[I" ∈ zT := zT_in 327 (by decide +kernel) (by decide +kernel)
theorem fl_M_22 : Cond.fieldLink "ZoneHeapModel" 22 "ZoneHeapModel" "since" "[I" ∈ zT := zT_in 328 (by decide +kernel) (by decide +kernel)
theorem fl_M_25 : Cond.fieldLink "ZoneHeapModel" 25 "ZoneHeapModel" "reached" "[Z" ∈ zT := zT_in 329 (by decide +kernel) (by decide +kernel)
theorem fl_M_29 : Cond.fieldLink "ZoneHeapModel" 29 "ZoneHeapModel" "found" "[I" ∈ zT := zT_in 330 (by decide +kernel) (by decide +kernel)
theorem fl_M_40 : Cond.fieldLink "ZoneHeapModel" 40 "ZoneHeapModel" "many" "I" ∈ zT := zT_in 331 (by decide +kernel) (by decide +kernel)
theorem fl_M_46 : Cond.fieldLink "ZoneHeapModel" 46 "ZoneHeapModel" "made" "I" ∈ zT := zT_in 332 (by decide +kernel) (by decide +kernel)
theorem fl_M_49 : Cond.fieldLink "ZoneHeapModel" 49 "ZoneHeapModel" "backs" "I" ∈ zT := zT_in 333 (by decide +kernel) (by decide +kernel)
theorem fl_M_87 : Cond.fieldLink "ZoneHeapModel" 87 "ZoneHeapModel" "lostMany" "I" ∈ zT := zT_in 334 (by decide +kernel) (by decide +kernel)
theorem ki_L_45 : zYi "ZoneHeapLaw" 45 y_Z_init b_Z_init 1 0 := ⟨zT_in 38 (by decide +kernel) (by decide +kernel), in_init _ (Or.inl rfl), zT_in 36 (by decide +kernel) (by decide +kernel), zT_in 37 (by decide +kernel) (by decide +kernel), rfl, ⟨by decide +kernel, by decide +kernel, by decide +kernel⟩⟩
theorem kv_L_79 : zYv "ZoneHeapLaw" "ZoneHeap" 79 y_Z_lost b_Z_lost 5 (some .int) 2 := ⟨zT_in 94 (by decide +kernel) (by decide +kernel), in_init _ (Or.inl rfl), zT_in 91 (by decide +kernel) (by decide +kernel), zT_in 92 (by decide +kernel) (by decide +kernel), zT_in 93 (by decide +kernel) (by decide +kernel), ⟨by decide +kernel, by decide +kernel, by decide +kernel⟩⟩
theorem kv_Z_119 : zYv "ZoneHeap" "ZoneHeap" 119 y_Z_leads b_Z_leads 3 none 1 := ⟨zT_in 98 (by decide +kernel) (by decide +kernel), in_init _ (Or.inl rfl), zT_in 95 (by decide +kernel) (by decide +kernel), zT_in 97 (by decide +kernel) (by decide +kernel), zT_in 0 (by decide +kernel) (by decide +kernel), ⟨by decide +kernel, by decide +kernel, by decide +kernel⟩⟩
theorem kv_Z_78 : zYv "ZoneHeap" "ZoneHeap" 78 y_Z_under b_Z_under 5 (some .int) 1 := ⟨zT_in 102 (by decide +kernel) (by decide +kernel), in_init _ (Or.inl rfl), zT_in 99 (by decide +kernel) (by decide +kernel), zT_in 101 (by decide +kernel) (by decide +kernel), zT_in 1 (by decide +kernel) (by decide +kernel), ⟨by decide +kernel, by decide +kernel, by decide +kernel⟩⟩
theorem kv_Z_113 : zYv "ZoneHeap" "ZoneHeap" 113 y_Z_word b_Z_word 2 (some .int) 1 := ⟨zT_in 106 (by decide +kernel) (by decide +kernel), in_init _ (Or.inl rfl), zT_in 103 (by decide +kernel) (by decide +kernel), zT_in 105 (by decide +kernel) (by decide +kernel), zT_in 2 (by decide +kernel) (by decide +kernel), ⟨by decide +kernel, by decide +kernel, by decide +kernel⟩⟩
theorem kw_L_49 : Cond.codeWith y_L_get b_L_get 4 (some .int) [(0, 9, 12, 13)] ∈ zT ∧ Cond.initialized y_L_get.cls ∈ zT ∧ Cond.methodLink "ZoneHeapLaw" 49 y_L_get ∈ zT ∧ Cond.static y_L_get ∈ zT := ⟨zT_in 109 (by decide +kernel) (by decide +kernel), in_init _ (Or.inr (Or.inr (Or.inl rfl))), zT_in 107 (by decide +kernel) (by decide +kernel), zT_in 108 (by decide +kernel) (by decide +kernel)⟩
theorem kv_L_7 : zYv "ZoneHeapLaw" "ZoneHeap" 7 y_Z_get b_Z_get 3 (some .int) 1 := ⟨zT_in 114 (by decide +kernel) (by decide +kernel), in_init _ (Or.inl rfl), zT_in 111 (by decide +kernel) (by decide +kernel), zT_in 112 (by decide +kernel) (by decide +kernel), zT_in 113 (by decide +kernel) (by decide +kernel), ⟨by decide +kernel, by decide +kernel, by decide +kernel⟩⟩
theorem ks_Z_72 : zYs "ZoneHeap" 72 y_Z_legal b_Z_legal 1 none 1 := ⟨zT_in 117 (by decide +kernel) (by decide +kernel), in_init _ (Or.inl rfl), zT_in 115 (by decide +kernel) (by decide +kernel), zT_in 116 (by decide +kernel) (by decide +kernel), ⟨by decide +kernel, by decide +kernel, by decide +kernel⟩⟩
theorem kv_Z_76 : zYv "ZoneHeap" "ZoneHeap" 76 y_Z_made b_Z_made 4 (some .int) 1 := ⟨zT_in 184 (by decide +kernel) (by decide +kernel), in_init _ (Or.inl rfl), zT_in 181 (by decide +kernel) (by decide +kernel), zT_in 183 (by decide +kernel) (by decide +kernel), zT_in 4 (by decide +kernel) (by decide +kernel), ⟨by decide +kernel, by decide +kernel, by decide +kernel⟩⟩
theorem kv_Z_62 : zYv "ZoneHeap" "ZoneHeap" 62 y_Z_gap b_Z_gap 6 (some .int) 1 := ⟨zT_in 188 (by decide +kernel) (by decide +kernel), in_init _ (Or.inl rfl), zT_in 185 (by decide +kernel) (by decide +kernel), zT_in 187 (by decide +kernel) (by decide +kernel), zT_in 5 (by decide +kernel) (by decide +kernel), ⟨by decide +kernel, by decide +kernel, by decide +kernel⟩⟩
theorem ks_Z_51 : zYs "ZoneHeap" 51 y_Z_room b_Z_room 1 (some .int) 1 := ⟨zT_in 191 (by decide +kernel) (by decide +kernel), in_init _ (Or.inl rfl), zT_in 189 (by decide +kernel) (by decide +kernel), zT_in 190 (by decide +kernel) (by decide +kernel), ⟨by decide +kernel, by decide +kernel, by decide +kernel⟩⟩
theorem ks_Z_45 : zYs "ZoneHeap" 45 y_Math_max b_Math_max 2 (some .int) 2 := ⟨zT_in 194 (by decide +kernel) (by decide +kernel), in_init _ (Or.inr (Or.inr (Or.inr rfl))), zT_in 192 (by decide +kernel) (by decide +kernel), zT_in 193 (by decide +kernel) (by decide +kernel), ⟨by decide +kernel, by decide +kernel, by decide +kernel⟩⟩
theorem kv_Z_59 : zYv "ZoneHeap" "ZoneHeap" 59 y_Z_end b_Z_end 2 (some .int) 1 := ⟨zT_in 198 (by decide +kernel) (by decide +kernel), in_init _ (Or.inl rfl), zT_in 195 (by decide +kernel) (by decide +kernel), zT_in 197 (by decide +kernel) (by decide +kernel), zT_in 6 (by decide +kernel) (by decide +kernel), ⟨by decide +kernel, by decide +kernel, by decide +kernel⟩⟩
theorem kv_Z_65 : zYv "ZoneHeap" "ZoneHeap" 65 y_Z_move b_Z_move 3 none 2 := ⟨zT_in 202 (by decide +kernel) (by decide +kernel), in_init _ (Or.inl rfl), zT_in 199 (by decide +kernel) (by decide +kernel), zT_in 201 (by decide +kernel) (by decide +kernel), zT_in 7 (by decide +kernel) (by decide +kernel), ⟨by decide +kernel, by decide +kernel, by decide +kernel⟩⟩
theorem kw_L_59 : Cond.codeWith y_L_back b_L_back 4 (some .int) [(0, 9, 12, 13), (0, 9, 15, 18)] ∈ zT ∧ Cond.initialized y_L_back.cls ∈ zT ∧ Cond.methodLink "ZoneHeapLaw" 59 y_L_back ∈ zT ∧ Cond.static y_L_back ∈ zT := ⟨zT_in 205 (by decide +kernel) (by decide +kernel), in_init _ (Or.inr (Or.inr (Or.inl rfl))), zT_in 203 (by decide +kernel) (by decide +kernel), zT_in 204 (by decide +kernel) (by decide +kernel)⟩
theorem kv_L_15 : zYv "ZoneHeapLaw" "ZoneHeap" 15 y_Z_back b_Z_back 4 (some .int) 1 := ⟨zT_in 210 (by decide +kernel) (by decide +kernel), in_init _ (Or.inl rfl), zT_in 207 (by decide +kernel) (by decide +kernel), zT_in 208 (by decide +kernel) (by decide +kernel), zT_in 209 (by decide +kernel) (by decide +kernel), ⟨by decide +kernel, by decide +kernel, by decide +kernel⟩⟩
theorem kv_Z_97 : zYv "ZoneHeap" "ZoneHeap" 97 y_Z_standing b_Z_standing 3 (some .int) 1 := ⟨zT_in 214 (by decide +kernel) (by decide +kernel), in_init _ (Or.inl rfl), zT_in 211 (by decide +kernel) (by decide +kernel), zT_in 213 (by decide +kernel) (by decide +kernel), zT_in 8 (by decide +kernel) (by decide +kernel), ⟨by decide +kernel, by decide +kernel, by decide +kernel⟩⟩
theorem ks_Z_81 : zYs "ZoneHeap" 81 y_Z_state b_Z_state 1 none 1 := ⟨zT_in 217 (by decide +kernel) (by decide +kernel), in_init _ (Or.inl rfl), zT_in 215 (by decide +kernel) (by decide +kernel), zT_in 216 (by decide +kernel) (by decide +kernel), ⟨by decide +kernel, by decide +kernel, by decide +kernel⟩⟩
theorem kv_Z_100 : zYv "ZoneHeap" "ZoneHeap" 100 y_Z_give b_Z_give 4 none 1 := ⟨zT_in 236 (by decide +kernel) (by decide +kernel), in_init _ (Or.inl rfl), zT_in 233 (by decide +kernel) (by decide +kernel), zT_in 235 (by decide +kernel) (by decide +kernel), zT_in 9 (by decide +kernel) (by decide +kernel), ⟨by decide +kernel, by decide +kernel, by decide +kernel⟩⟩
theorem kv_Z_93 : zYv "ZoneHeap" "ZoneHeap" 93 y_Z_gone b_Z_gone 3 none 1 := ⟨zT_in 240 (by decide +kernel) (by decide +kernel), in_init _ (Or.inl rfl), zT_in 237 (by decide +kernel) (by decide +kernel), zT_in 239 (by decide +kernel) (by decide +kernel), zT_in 10 (by decide +kernel) (by decide +kernel), ⟨by decide +kernel, by decide +kernel, by decide +kernel⟩⟩
theorem kw_L_62 : Cond.codeWith y_L_again b_L_again 5 (some .int) [(0, 10, 13, 13), (0, 10, 17, 18)] ∈ zT ∧ Cond.initialized y_L_again.cls ∈ zT ∧ Cond.methodLink "ZoneHeapLaw" 62 y_L_again ∈ zT ∧ Cond.static y_L_again ∈ zT := ⟨zT_in 243 (by decide +kernel) (by decide +kernel), in_init _ (Or.inr (Or.inr (Or.inl rfl))), zT_in 241 (by decide +kernel) (by decide +kernel), zT_in 242 (by decide +kernel) (by decide +kernel)⟩
theorem kv_L_20 : zYv "ZoneHeapLaw" "ZoneHeap" 20 y_Z_again b_Z_again 8 (some .int) 2 := ⟨zT_in 247 (by decide +kernel) (by decide +kernel), in_init _ (Or.inl rfl), zT_in 244 (by decide +kernel) (by decide +kernel), zT_in 245 (by decide +kernel) (by decide +kernel), zT_in 246 (by decide +kernel) (by decide +kernel), ⟨by decide +kernel, by decide +kernel, by decide +kernel⟩⟩
theorem kw_L_66 : Cond.codeWith y_L_kind b_L_kind 4 (some .int) [(0, 9, 12, 27)] ∈ zT ∧ Cond.initialized y_L_kind.cls ∈ zT ∧ Cond.methodLink "ZoneHeapLaw" 66 y_L_kind ∈ zT ∧ Cond.static y_L_kind ∈ zT := ⟨zT_in 250 (by decide +kernel) (by decide +kernel), in_init _ (Or.inr (Or.inr (Or.inl rfl))), zT_in 248 (by decide +kernel) (by decide +kernel), zT_in 249 (by decide +kernel) (by decide +kernel)⟩
theorem kv_L_24 : zYv "ZoneHeapLaw" "ZoneHeap" 24 y_Z_kind b_Z_kind 3 (some .int) 1 := ⟨zT_in 255 (by decide +kernel) (by decide +kernel), in_init _ (Or.inl rfl), zT_in 252 (by decide +kernel) (by decide +kernel), zT_in 253 (by decide +kernel) (by decide +kernel), zT_in 254 (by decide +kernel) (by decide +kernel), ⟨by decide +kernel, by decide +kernel, by decide +kernel⟩⟩
theorem ks_Z_103 : zYs "ZoneHeap" 103 y_Z_within b_Z_within 1 none 1 := ⟨zT_in 258 (by decide +kernel) (by decide +kernel), in_init _ (Or.inl rfl), zT_in 256 (by decide +kernel) (by decide +kernel), zT_in 257 (by decide +kernel) (by decide +kernel), ⟨by decide +kernel, by decide +kernel, by decide +kernel⟩⟩
theorem kw_L_69 : Cond.codeWith y_L_block b_L_block 4 (some .int) [(0, 9, 12, 27)] ∈ zT ∧ Cond.initialized y_L_block.cls ∈ zT ∧ Cond.methodLink "ZoneHeapLaw" 69 y_L_block ∈ zT ∧ Cond.static y_L_block ∈ zT := ⟨zT_in 276 (by decide +kernel) (by decide +kernel), in_init _ (Or.inr (Or.inr (Or.inl rfl))), zT_in 274 (by decide +kernel) (by decide +kernel), zT_in 275 (by decide +kernel) (by decide +kernel)⟩
theorem kv_L_29 : zYv "ZoneHeapLaw" "ZoneHeap" 29 y_Z_block b_Z_block 2 (some .int) 1 := ⟨zT_in 280 (by decide +kernel) (by decide +kernel), in_init _ (Or.inl rfl), zT_in 277 (by decide +kernel) (by decide +kernel), zT_in 278 (by decide +kernel) (by decide +kernel), zT_in 279 (by decide +kernel) (by decide +kernel), ⟨by decide +kernel, by decide +kernel, by decide +kernel⟩⟩
theorem kv_Z_106 : zYv "ZoneHeap" "ZoneHeap" 106 y_Z_isLive b_Z_isLive 3 (some .boolean) 1 := ⟨zT_in 284 (by decide +kernel) (by decide +kernel), in_init _ (Or.inl rfl), zT_in 281 (by decide +kernel) (by decide +kernel), zT_in 283 (by decide +kernel) (by decide +kernel), zT_in 11 (by decide +kernel) (by decide +kernel), ⟨by decide +kernel, by decide +kernel, by decide +kernel⟩⟩
theorem kw_L_72 : Cond.codeWith y_L_write b_L_write 4 (some .int) [(0, 6, 9, 27), (0, 6, 12, 18)] ∈ zT ∧ Cond.initialized y_L_write.cls ∈ zT ∧ Cond.methodLink "ZoneHeapLaw" 72 y_L_write ∈ zT ∧ Cond.static y_L_write ∈ zT := ⟨zT_in 287 (by decide +kernel) (by decide +kernel), in_init _ (Or.inr (Or.inr (Or.inl rfl))), zT_in 285 (by decide +kernel) (by decide +kernel), zT_in 286 (by decide +kernel) (by decide +kernel)⟩
theorem kv_L_32 : zYv "ZoneHeapLaw" "ZoneHeap" 32 y_Z_write b_Z_write 4 none 2 := ⟨zT_in 291 (by decide +kernel) (by decide +kernel), in_init _ (Or.inl rfl), zT_in 288 (by decide +kernel) (by decide +kernel), zT_in 289 (by decide +kernel) (by decide +kernel), zT_in 290 (by decide +kernel) (by decide +kernel), ⟨by decide +kernel, by decide +kernel, by decide +kernel⟩⟩
theorem kv_Z_110 : zYv "ZoneHeap" "ZoneHeap" 110 y_Z_four b_Z_four 2 none 1 := ⟨zT_in 295 (by decide +kernel) (by decide +kernel), in_init _ (Or.inl rfl), zT_in 292 (by decide +kernel) (by decide +kernel), zT_in 294 (by decide +kernel) (by decide +kernel), zT_in 12 (by decide +kernel) (by decide +kernel), ⟨by decide +kernel, by decide +kernel, by decide +kernel⟩⟩
theorem kw_L_76 : Cond.codeWith y_L_read b_L_read 4 (some .int) [(0, 9, 12, 27), (0, 9, 15, 18)] ∈ zT ∧ Cond.initialized y_L_read.cls ∈ zT ∧ Cond.methodLink "ZoneHeapLaw" 76 y_L_read ∈ zT ∧ Cond.static y_L_read ∈ zT := ⟨zT_in 298 (by decide +kernel) (by decide +kernel), in_init _ (Or.inr (Or.inr (Or.inl rfl))), zT_in 296 (by decide +kernel) (by decide +kernel), zT_in 297 (by decide +kernel) (by decide +kernel)⟩
theorem kv_L_36 : zYv "ZoneHeapLaw" "ZoneHeap" 36 y_Z_read b_Z_read 2 (some .int) 1 := ⟨zT_in 302 (by decide +kernel) (by decide +kernel), in_init _ (Or.inl rfl), zT_in 299 (by decide +kernel) (by decide +kernel), zT_in 300 (by decide +kernel) (by decide +kernel), zT_in 301 (by decide +kernel) (by decide +kernel), ⟨by decide +kernel, by decide +kernel, by decide +kernel⟩⟩
theorem kw_L_83 : Cond.codeWith y_L_lostAt b_L_lostAt 4 (some .int) [(0, 9, 12, 27)] ∈ zT ∧ Cond.initialized y_L_lostAt.cls ∈ zT ∧ Cond.methodLink "ZoneHeapLaw" 83 y_L_lostAt ∈ zT ∧ Cond.static y_L_lostAt ∈ zT := ⟨zT_in 305 (by decide +kernel) (by decide +kernel), in_init _ (Or.inr (Or.inr (Or.inl rfl))), zT_in 303 (by decide +kernel) (by decide +kernel), zT_in 304 (by decide +kernel) (by decide +kernel)⟩
theorem kv_L_39 : zYv "ZoneHeapLaw" "ZoneHeap" 39 y_Z_lostAt b_Z_lostAt 2 (some .int) 1 := ⟨zT_in 309 (by decide +kernel) (by decide +kernel), in_init _ (Or.inl rfl), zT_in 306 (by decide +kernel) (by decide +kernel), zT_in 307 (by decide +kernel) (by decide +kernel), zT_in 308 (by decide +kernel) (by decide +kernel), ⟨by decide +kernel, by decide +kernel, by decide +kernel⟩⟩
theorem kw_L_86 : Cond.codeWith y_L_count b_L_count 4 (some .int) [(0, 9, 12, 13)] ∈ zT ∧ Cond.initialized y_L_count.cls ∈ zT ∧ Cond.methodLink "ZoneHeapLaw" 86 y_L_count ∈ zT ∧ Cond.static y_L_count ∈ zT := ⟨zT_in 312 (by decide +kernel) (by decide +kernel), in_init _ (Or.inr (Or.inr (Or.inl rfl))), zT_in 310 (by decide +kernel) (by decide +kernel), zT_in 311 (by decide +kernel) (by decide +kernel)⟩
theorem kv_L_42 : zYv "ZoneHeapLaw" "ZoneHeap" 42 y_Z_count b_Z_count 4 (some .int) 1 := ⟨zT_in 316 (by decide +kernel) (by decide +kernel), in_init _ (Or.inl rfl), zT_in 313 (by decide +kernel) (by decide +kernel), zT_in 314 (by decide +kernel) (by decide +kernel), zT_in 315 (by decide +kernel) (by decide +kernel), ⟨by decide +kernel, by decide +kernel, by decide +kernel⟩⟩
theorem ki_L_48 : zYi "ZoneHeapLaw" 48 y_M_init b_M_init 1 0 := ⟨zT_in 321 (by decide +kernel) (by decide +kernel), in_init _ (Or.inr (Or.inl rfl)), zT_in 319 (by decide +kernel) (by decide +kernel), zT_in 320 (by decide +kernel) (by decide +kernel), rfl, ⟨by decide +kernel, by decide +kernel, by decide +kernel⟩⟩
theorem kv_L_55 : zYv "ZoneHeapLaw" "ZoneHeapModel" 55 y_M_thrown b_M_thrown 1 (some .int) 0 := ⟨zT_in 363 (by decide +kernel) (by decide +kernel), in_init _ (Or.inr (Or.inl rfl)), zT_in 360 (by decide +kernel) (by decide +kernel), zT_in 361 (by decide +kernel) (by decide +kernel), zT_in 362 (by decide +kernel) (by decide +kernel), ⟨by decide +kernel, by decide +kernel, by decide +kernel⟩⟩
theorem kv_L_54 : zYv "ZoneHeapLaw" "ZoneHeapModel" 54 y_M_get b_M_get 2 (some .int) 1 := ⟨zT_in 367 (by decide +kernel) (by decide +kernel), in_init _ (Or.inr (Or.inl rfl)), zT_in 364 (by decide +kernel) (by decide +kernel), zT_in 365 (by decide +kernel) (by decide +kernel), zT_in 366 (by decide +kernel) (by decide +kernel), ⟨by decide +kernel, by decide +kernel, by decide +kernel⟩⟩
theorem kv_M_56 : zYv "ZoneHeapModel" "ZoneHeapModel" 56 y_M_fails b_M_fails 3 (some .boolean) 2 := ⟨zT_in 371 (by decide +kernel) (by decide +kernel), in_init _ (Or.inr (Or.inl rfl)), zT_in 368 (by decide +kernel) (by decide +kernel), zT_in 370 (by decide +kernel) (by decide +kernel), zT_in 13 (by decide +kernel) (by decide +kernel), ⟨by decide +kernel, by decide +kernel, by decide +kernel⟩⟩
theorem kv_M_60 : zYv "ZoneHeapModel" "ZoneHeapModel" 60 y_M_make b_M_make 3 (some .int) 1 := ⟨zT_in 375 (by decide +kernel) (by decide +kernel), in_init _ (Or.inr (Or.inl rfl)), zT_in 372 (by decide +kernel) (by decide +kernel), zT_in 374 (by decide +kernel) (by decide +kernel), zT_in 14 (by decide +kernel) (by decide +kernel), ⟨by decide +kernel, by decide +kernel, by decide +kernel⟩⟩
theorem kv_M_43 : zYv "ZoneHeapModel" "ZoneHeapModel" 43 y_M_room b_M_room 5 (some .int) 1 := ⟨zT_in 379 (by decide +kernel) (by decide +kernel), in_init _ (Or.inr (Or.inl rfl)), zT_in 376 (by decide +kernel) (by decide +kernel), zT_in 378 (by decide +kernel) (by decide +kernel), zT_in 15 (by decide +kernel) (by decide +kernel), ⟨by decide +kernel, by decide +kernel, by decide +kernel⟩⟩
theorem ks_M_36 : zYs "ZoneHeapModel" 36 y_M_taken b_M_taken 1 (some .int) 1 := ⟨zT_in 382 (by decide +kernel) (by decide +kernel), in_init _ (Or.inr (Or.inl rfl)), zT_in 380 (by decide +kernel) (by decide +kernel), zT_in 381 (by decide +kernel) (by decide +kernel), ⟨by decide +kernel, by decide +kernel, by decide +kernel⟩⟩
theorem kv_L_61 : zYv "ZoneHeapLaw" "ZoneHeapModel" 61 y_M_back b_M_back 4 (some .int) 1 := ⟨zT_in 386 (by decide +kernel) (by decide +kernel), in_init _ (Or.inr (Or.inl rfl)), zT_in 383 (by decide +kernel) (by decide +kernel), zT_in 384 (by decide +kernel) (by decide +kernel), zT_in 385 (by decide +kernel) (by decide +kernel), ⟨by decide +kernel, by decide +kernel, by decide +kernel⟩⟩
theorem kv_M_63 : zYv "ZoneHeapModel" "ZoneHeapModel" 63 y_M_at b_M_at 4 (some .int) 2 := ⟨zT_in 390 (by decide +kernel) (by decide +kernel), in_init _ (Or.inr (Or.inl rfl)), zT_in 387 (by decide +kernel) (by decide +kernel), zT_in 389 (by decide +kernel) (by decide +kernel), zT_in 16 (by decide +kernel) (by decide +kernel), ⟨by decide +kernel, by decide +kernel, by decide +kernel⟩⟩
theorem kv_M_67 : zYv "ZoneHeapModel" "ZoneHeapModel" 67 y_M_give b_M_give 4 none 1 := ⟨zT_in 394 (by decide +kernel) (by decide +kernel), in_init _ (Or.inr (Or.inl rfl)), zT_in 391 (by decide +kernel) (by decide +kernel), zT_in 393 (by decide +kernel) (by decide +kernel), zT_in 17 (by decide +kernel) (by decide +kernel), ⟨by decide +kernel, by decide +kernel, by decide +kernel⟩⟩
theorem kv_M_52 : zYv "ZoneHeapModel" "ZoneHeapModel" 52 y_M_kept b_M_kept 3 (some .int) 0 := ⟨zT_in 398 (by decide +kernel) (by decide +kernel), in_init _ (Or.inr (Or.inl rfl)), zT_in 395 (by decide +kernel) (by decide +kernel), zT_in 397 (by decide +kernel) (by decide +kernel), zT_in 18 (by decide +kernel) (by decide +kernel), ⟨by decide +kernel, by decide +kernel, by decide +kernel⟩⟩
theorem kv_L_65 : zYv "ZoneHeapLaw" "ZoneHeapModel" 65 y_M_again b_M_again 6 (some .int) 2 := ⟨zT_in 402 (by decide +kernel) (by decide +kernel), in_init _ (Or.inr (Or.inl rfl)), zT_in 399 (by decide +kernel) (by decide +kernel), zT_in 400 (by decide +kernel) (by decide +kernel), zT_in 401 (by decide +kernel) (by decide +kernel), ⟨by decide +kernel, by decide +kernel, by decide +kernel⟩⟩
theorem kv_L_68 : zYv "ZoneHeapLaw" "ZoneHeapModel" 68 y_M_kind b_M_kind 3 (some .int) 1 := ⟨zT_in 406 (by decide +kernel) (by decide +kernel), in_init _ (Or.inr (Or.inl rfl)), zT_in 403 (by decide +kernel) (by decide +kernel), zT_in 404 (by decide +kernel) (by decide +kernel), zT_in 405 (by decide +kernel) (by decide +kernel), ⟨by decide +kernel, by decide +kernel, by decide +kernel⟩⟩
theorem kv_M_71 : zYv "ZoneHeapModel" "ZoneHeapModel" 71 y_M_of b_M_of 4 (some .int) 2 := ⟨zT_in 410 (by decide +kernel) (by decide +kernel), in_init _ (Or.inr (Or.inl rfl)), zT_in 407 (by decide +kernel) (by decide +kernel), zT_in 409 (by decide +kernel) (by decide +kernel), zT_in 19 (by decide +kernel) (by decide +kernel), ⟨by decide +kernel, by decide +kernel, by decide +kernel⟩⟩
theorem kv_L_71 : zYv "ZoneHeapLaw" "ZoneHeapModel" 71 y_M_block b_M_block 3 (some .int) 1 := ⟨zT_in 414 (by decide +kernel) (by decide +kernel), in_init _ (Or.inr (Or.inl rfl)), zT_in 411 (by decide +kernel) (by decide +kernel), zT_in 412 (by decide +kernel) (by decide +kernel), zT_in 413 (by decide +kernel) (by decide +kernel), ⟨by decide +kernel, by decide +kernel, by decide +kernel⟩⟩
theorem kv_L_75 : zYv "ZoneHeapLaw" "ZoneHeapModel" 75 y_M_write b_M_write 4 none 2 := ⟨zT_in 418 (by decide +kernel) (by decide +kernel), in_init _ (Or.inr (Or.inl rfl)), zT_in 415 (by decide +kernel) (by decide +kernel), zT_in 416 (by decide +kernel) (by decide +kernel), zT_in 417 (by decide +kernel) (by decide +kernel), ⟨by decide +kernel, by decide +kernel, by decide +kernel⟩⟩
theorem kv_M_74 : zYv "ZoneHeapModel" "ZoneHeapModel" 74 y_M_bad b_M_bad 3 (some .boolean) 1 := ⟨zT_in 422 (by decide +kernel) (by decide +kernel), in_init _ (Or.inr (Or.inl rfl)), zT_in 419 (by decide +kernel) (by decide +kernel), zT_in 421 (by decide +kernel) (by decide +kernel), zT_in 20 (by decide +kernel) (by decide +kernel), ⟨by decide +kernel, by decide +kernel, by decide +kernel⟩⟩
theorem kv_L_78 : zYv "ZoneHeapLaw" "ZoneHeapModel" 78 y_M_read b_M_read 2 (some .int) 1 := ⟨zT_in 426 (by decide +kernel) (by decide +kernel), in_init _ (Or.inr (Or.inl rfl)), zT_in 423 (by decide +kernel) (by decide +kernel), zT_in 424 (by decide +kernel) (by decide +kernel), zT_in 425 (by decide +kernel) (by decide +kernel), ⟨by decide +kernel, by decide +kernel, by decide +kernel⟩⟩
theorem kv_M_78 : zYv "ZoneHeapModel" "ZoneHeapModel" 78 y_M_word b_M_word 2 (some .int) 1 := ⟨zT_in 430 (by decide +kernel) (by decide +kernel), in_init _ (Or.inr (Or.inl rfl)), zT_in 427 (by decide +kernel) (by decide +kernel), zT_in 429 (by decide +kernel) (by decide +kernel), zT_in 21 (by decide +kernel) (by decide +kernel), ⟨by decide +kernel, by decide +kernel, by decide +kernel⟩⟩
theorem kv_L_82 : zYv "ZoneHeapLaw" "ZoneHeapModel" 82 y_M_lost b_M_lost 6 (some .int) 2 := ⟨zT_in 434 (by decide +kernel) (by decide +kernel), in_init _ (Or.inr (Or.inl rfl)), zT_in 431 (by decide +kernel) (by decide +kernel), zT_in 432 (by decide +kernel) (by decide +kernel), zT_in 433 (by decide +kernel) (by decide +kernel), ⟨by decide +kernel, by decide +kernel, by decide +kernel⟩⟩
theorem kv_M_84 : zYv "ZoneHeapModel" "ZoneHeapModel" 84 y_M_touch b_M_touch 3 (some .boolean) 1 := ⟨zT_in 438 (by decide +kernel) (by decide +kernel), in_init _ (Or.inr (Or.inl rfl)), zT_in 435 (by decide +kernel) (by decide +kernel), zT_in 437 (by decide +kernel) (by decide +kernel), zT_in 22 (by decide +kernel) (by decide +kernel), ⟨by decide +kernel, by decide +kernel, by decide +kernel⟩⟩
theorem kv_M_81 : zYv "ZoneHeapModel" "ZoneHeapModel" 81 y_M_leads b_M_leads 3 (some .int) 1 := ⟨zT_in 442 (by decide +kernel) (by decide +kernel), in_init _ (Or.inr (Or.inl rfl)), zT_in 439 (by decide +kernel) (by decide +kernel), zT_in 441 (by decide +kernel) (by decide +kernel), zT_in 23 (by decide +kernel) (by decide +kernel), ⟨by decide +kernel, by decide +kernel, by decide +kernel⟩⟩
theorem kv_L_85 : zYv "ZoneHeapLaw" "ZoneHeapModel" 85 y_M_lostAt b_M_lostAt 2 (some .int) 1 := ⟨zT_in 446 (by decide +kernel) (by decide +kernel), in_init _ (Or.inr (Or.inl rfl)), zT_in 443 (by decide +kernel) (by decide +kernel), zT_in 444 (by decide +kernel) (by decide +kernel), zT_in 445 (by decide +kernel) (by decide +kernel), ⟨by decide +kernel, by decide +kernel, by decide +kernel⟩⟩
theorem kv_L_88 : zYv "ZoneHeapLaw" "ZoneHeapModel" 88 y_M_count b_M_count 5 (some .int) 1 := ⟨zT_in 450 (by decide +kernel) (by decide +kernel), in_init _ (Or.inr (Or.inl rfl)), zT_in 447 (by decide +kernel) (by decide +kernel), zT_in 448 (by decide +kernel) (by decide +kernel), zT_in 449 (by decide +kernel) (by decide +kernel), ⟨by decide +kernel, by decide +kernel, by decide +kernel⟩⟩
theorem th_iae : zThr "ZoneHeap" 36 38 "java/lang/IllegalArgumentException" := ⟨zT_in 118 (by decide +kernel) (by decide +kernel), zT_in 119 (by decide +kernel) (by decide +kernel), zT_in 30 (by decide +kernel) (by decide +kernel), by decide +kernel, by decide +kernel⟩
theorem cl_L_13 : Cond.classLink "ZoneHeapLaw" 13 "java/lang/IllegalArgumentException" ∈ zT := zT_in 110 (by decide +kernel) (by decide +kernel)
theorem th_ioo : zThr "ZoneHeap" 39 41 "java/lang/IndexOutOfBoundsException" := ⟨zT_in 259 (by decide +kernel) (by decide +kernel), zT_in 260 (by decide +kernel) (by decide +kernel), zT_in 33 (by decide +kernel) (by decide +kernel), by decide +kernel, by decide +kernel⟩
theorem cl_L_27 : Cond.classLink "ZoneHeapLaw" 27 "java/lang/IndexOutOfBoundsException" ∈ zT := zT_in 251 (by decide +kernel) (by decide +kernel)
theorem th_ise : zThr "ZoneHeap" 42 44 "java/lang/IllegalStateException" := ⟨zT_in 218 (by decide +kernel) (by decide +kernel), zT_in 219 (by decide +kernel) (by decide +kernel), zT_in 32 (by decide +kernel) (by decide +kernel), by decide +kernel, by decide +kernel⟩
theorem cl_L_18 : Cond.classLink "ZoneHeapLaw" 18 "java/lang/IllegalStateException" ∈ zT := zT_in 206 (by decide +kernel) (by decide +kernel)
end
section
/-! the instructions (printed by program) -/
theorem d_Z_init_0 : decode b_Z_init 0 = .ok (.aload_n 0, 1) := by decide +kernel
theorem d_Z_init_1 : decode b_Z_init 1 = .ok (.invokespecial 1, 3) := by decide +kernel
theorem d_Z_init_4 : decode b_Z_init 4 = .ok (.aload_n 0, 1) := by decide +kernel
theorem d_Z_init_5 : decode b_Z_init 5 = .ok (.sipush 8192, 3) := by decide +kernel
theorem d_Z_init_8 : decode b_Z_init 8 = .ok (.newarray .byte, 2) := by decide +kernel
theorem d_Z_init_10 : decode b_Z_init 10 = .ok (.putfield 9, 3) := by decide +kernel
theorem d_Z_init_13 : decode b_Z_init 13 = .ok (.aload_n 0, 1) := by decide +kernel
theorem d_Z_init_14 : decode b_Z_init 14 = .ok (.sipush 256, 3) := by decide +kernel
theorem d_Z_init_17 : decode b_Z_init 17 = .ok (.newarray .int, 2) := by decide +kernel
theorem d_Z_init_19 : decode b_Z_init 19 = .ok (.putfield 13, 3) := by decide +kernel
theorem d_Z_init_22 : decode b_Z_init 22 = .ok (.aload_n 0, 1) := by decide +kernel
theorem d_Z_init_23 : decode b_Z_init 23 = .ok (.sipush 256, 3) := by decide +kernel
theorem d_Z_init_26 : decode b_Z_init 26 = .ok (.newarray .int, 2) := by decide +kernel
theorem d_Z_init_28 : decode b_Z_init 28 = .ok (.putfield 17, 3) := by decide +kernel
theorem d_Z_init_31 : decode b_Z_init 31 = .ok (.aload_n 0, 1) := by decide +kernel
theorem d_Z_init_32 : decode b_Z_init 32 = .ok (.sipush 256, 3) := by decide +kernel
theorem d_Z_init_35 : decode b_Z_init 35 = .ok (.newarray .int, 2) := by decide +kernel
theorem d_Z_init_37 : decode b_Z_init 37 = .ok (.putfield 20, 3) := by decide +kernel
theorem d_Z_init_40 : decode b_Z_init 40 = .ok (.aload_n 0, 1) := by decide +kernel
theorem d_Z_init_41 : decode b_Z_init 41 = .ok (.sipush 256, 3) := by decide +kernel
theorem d_Z_init_44 : decode b_Z_init 44 = .ok (.newarray .boolean, 2) := by decide +kernel
theorem d_Z_init_46 : decode b_Z_init 46 = .ok (.putfield 23, 3) := by decide +kernel
theorem d_Z_init_49 : decode b_Z_init 49 = .ok (.aload_n 0, 1) := by decide +kernel
theorem d_Z_init_50 : decode b_Z_init 50 = .ok (.sipush 256, 3) := by decide +kernel
theorem d_Z_init_53 : decode b_Z_init 53 = .ok (.newarray .boolean, 2) := by decide +kernel
theorem d_Z_init_55 : decode b_Z_init 55 = .ok (.putfield 27, 3) := by decide +kernel
theorem d_Z_init_58 : decode b_Z_init 58 = .ok (.aload_n 0, 1) := by decide +kernel
theorem d_Z_init_59 : decode b_Z_init 59 = .ok (.sipush 256, 3) := by decide +kernel
theorem d_Z_init_62 : decode b_Z_init 62 = .ok (.newarray .int, 2) := by decide +kernel
theorem d_Z_init_64 : decode b_Z_init 64 = .ok (.putfield 30, 3) := by decide +kernel
theorem d_Z_init_67 : decode b_Z_init 67 = .ok (.aload_n 0, 1) := by decide +kernel
theorem d_Z_init_68 : decode b_Z_init 68 = .ok (.sipush 256, 3) := by decide +kernel
theorem d_Z_init_71 : decode b_Z_init 71 = .ok (.newarray .int, 2) := by decide +kernel
theorem d_Z_init_73 : decode b_Z_init 73 = .ok (.putfield 33, 3) := by decide +kernel
theorem d_Z_init_76 : decode b_Z_init 76 = .ok (.return_, 1) := by decide +kernel
theorem d_Z_legal_0 : decode b_Z_legal 0 = .ok (.iload_n 0, 1) := by decide +kernel
theorem d_Z_legal_1 : decode b_Z_legal 1 = .ok (.ifCond .ne 11, 3) := by decide +kernel
theorem d_Z_legal_4 : decode b_Z_legal 4 = .ok (.new 36, 3) := by decide +kernel
theorem d_Z_legal_7 : decode b_Z_legal 7 = .ok (.dup, 1) := by decide +kernel
theorem d_Z_legal_8 : decode b_Z_legal 8 = .ok (.invokespecial 38, 3) := by decide +kernel
theorem d_Z_legal_11 : decode b_Z_legal 11 = .ok (.athrow, 1) := by decide +kernel
theorem d_Z_legal_12 : decode b_Z_legal 12 = .ok (.return_, 1) := by decide +kernel
theorem d_Z_within_0 : decode b_Z_within 0 = .ok (.iload_n 0, 1) := by decide +kernel
theorem d_Z_within_1 : decode b_Z_within 1 = .ok (.ifCond .ne 11, 3) := by decide +kernel
theorem d_Z_within_4 : decode b_Z_within 4 = .ok (.new 39, 3) := by decide +kernel
theorem d_Z_within_7 : decode b_Z_within 7 = .ok (.dup, 1) := by decide +kernel
theorem d_Z_within_8 : decode b_Z_within 8 = .ok (.invokespecial 41, 3) := by decide +kernel
theorem d_Z_within_11 : decode b_Z_within 11 = .ok (.athrow, 1) := by decide +kernel
theorem d_Z_within_12 : decode b_Z_within 12 = .ok (.return_, 1) := by decide +kernel
theorem d_Z_state_0 : decode b_Z_state 0 = .ok (.iload_n 0, 1) := by decide +kernel
theorem d_Z_state_1 : decode b_Z_state 1 = .ok (.ifCond .ne 11, 3) := by decide +kernel
theorem d_Z_state_4 : decode b_Z_state 4 = .ok (.new 42, 3) := by decide +kernel
theorem d_Z_state_7 : decode b_Z_state 7 = .ok (.dup, 1) := by decide +kernel
theorem d_Z_state_8 : decode b_Z_state 8 = .ok (.invokespecial 44, 3) := by decide +kernel
theorem d_Z_state_11 : decode b_Z_state 11 = .ok (.athrow, 1) := by decide +kernel
theorem d_Z_state_12 : decode b_Z_state 12 = .ok (.return_, 1) := by decide +kernel
theorem d_Z_room_0 : decode b_Z_room 0 = .ok (.bipush 16, 2) := by decide +kernel
theorem d_Z_room_2 : decode b_Z_room 2 = .ok (.iload_n 0, 1) := by decide +kernel
theorem d_Z_room_3 : decode b_Z_room 3 = .ok (.bipush 16, 2) := by decide +kernel
theorem d_Z_room_5 : decode b_Z_room 5 = .ok (.iadd, 1) := by decide +kernel
theorem d_Z_room_6 : decode b_Z_room 6 = .ok (.iconst 1, 1) := by decide +kernel
theorem d_Z_room_7 : decode b_Z_room 7 = .ok (.isub, 1) := by decide +kernel
theorem d_Z_room_8 : decode b_Z_room 8 = .ok (.bipush (-16), 2) := by decide +kernel
theorem d_Z_room_10 : decode b_Z_room 10 = .ok (.iand, 1) := by decide +kernel
theorem d_Z_room_11 : decode b_Z_room 11 = .ok (.invokestatic 45, 3) := by decide +kernel
theorem d_Z_room_14 : decode b_Z_room 14 = .ok (.ireturn, 1) := by decide +kernel
theorem d_Z_end_0 : decode b_Z_end 0 = .ok (.aload_n 0, 1) := by decide +kernel
theorem d_Z_end_1 : decode b_Z_end 1 = .ok (.getfield 13, 3) := by decide +kernel
theorem d_Z_end_4 : decode b_Z_end 4 = .ok (.iload_n 1, 1) := by decide +kernel
theorem d_Z_end_5 : decode b_Z_end 5 = .ok (.iaload, 1) := by decide +kernel
theorem d_Z_end_6 : decode b_Z_end 6 = .ok (.aload_n 0, 1) := by decide +kernel
theorem d_Z_end_7 : decode b_Z_end 7 = .ok (.getfield 17, 3) := by decide +kernel
theorem d_Z_end_10 : decode b_Z_end 10 = .ok (.iload_n 1, 1) := by decide +kernel
theorem d_Z_end_11 : decode b_Z_end 11 = .ok (.iaload, 1) := by decide +kernel
theorem d_Z_end_12 : decode b_Z_end 12 = .ok (.invokestatic 51, 3) := by decide +kernel
theorem d_Z_end_15 : decode b_Z_end 15 = .ok (.iadd, 1) := by decide +kernel
theorem d_Z_end_16 : decode b_Z_end 16 = .ok (.ireturn, 1) := by decide +kernel
theorem d_Z_gap_0 : decode b_Z_gap 0 = .ok (.iconst 0, 1) := by decide +kernel
theorem d_Z_gap_1 : decode b_Z_gap 1 = .ok (.istore_n 2, 1) := by decide +kernel
theorem d_Z_gap_2 : decode b_Z_gap 2 = .ok (.iload_n 1, 1) := by decide +kernel
theorem d_Z_gap_3 : decode b_Z_gap 3 = .ok (.invokestatic 51, 3) := by decide +kernel
theorem d_Z_gap_6 : decode b_Z_gap 6 = .ok (.bipush 32, 2) := by decide +kernel
theorem d_Z_gap_8 : decode b_Z_gap 8 = .ok (.iadd, 1) := by decide +kernel
theorem d_Z_gap_9 : decode b_Z_gap 9 = .ok (.istore_n 3, 1) := by decide +kernel
theorem d_Z_gap_10 : decode b_Z_gap 10 = .ok (.iconst 0, 1) := by decide +kernel
theorem d_Z_gap_11 : decode b_Z_gap 11 = .ok (.istore 4, 2) := by decide +kernel
theorem d_Z_gap_13 : decode b_Z_gap 13 = .ok (.iload 4, 2) := by decide +kernel
theorem d_Z_gap_15 : decode b_Z_gap 15 = .ok (.aload_n 0, 1) := by decide +kernel
theorem d_Z_gap_16 : decode b_Z_gap 16 = .ok (.getfield 55, 3) := by decide +kernel
theorem d_Z_gap_19 : decode b_Z_gap 19 = .ok (.if_icmp .gt 60, 3) := by decide +kernel
theorem d_Z_gap_22 : decode b_Z_gap 22 = .ok (.iload 4, 2) := by decide +kernel
theorem d_Z_gap_24 : decode b_Z_gap 24 = .ok (.aload_n 0, 1) := by decide +kernel
theorem d_Z_gap_25 : decode b_Z_gap 25 = .ok (.getfield 55, 3) := by decide +kernel
theorem d_Z_gap_28 : decode b_Z_gap 28 = .ok (.if_icmp .ge 13, 3) := by decide +kernel
theorem d_Z_gap_31 : decode b_Z_gap 31 = .ok (.aload_n 0, 1) := by decide +kernel
theorem d_Z_gap_32 : decode b_Z_gap 32 = .ok (.getfield 13, 3) := by decide +kernel
theorem d_Z_gap_35 : decode b_Z_gap 35 = .ok (.iload 4, 2) := by decide +kernel
theorem d_Z_gap_37 : decode b_Z_gap 37 = .ok (.iaload, 1) := by decide +kernel
theorem d_Z_gap_38 : decode b_Z_gap 38 = .ok (.goto 6, 3) := by decide +kernel
theorem d_Z_gap_41 : decode b_Z_gap 41 = .ok (.sipush 8192, 3) := by decide +kernel
theorem d_Z_gap_44 : decode b_Z_gap 44 = .ok (.istore 5, 2) := by decide +kernel
theorem d_Z_gap_46 : decode b_Z_gap 46 = .ok (.iload 5, 2) := by decide +kernel
theorem d_Z_gap_48 : decode b_Z_gap 48 = .ok (.iload_n 2, 1) := by decide +kernel
theorem d_Z_gap_49 : decode b_Z_gap 49 = .ok (.isub, 1) := by decide +kernel
theorem d_Z_gap_50 : decode b_Z_gap 50 = .ok (.iload_n 3, 1) := by decide +kernel
theorem d_Z_gap_51 : decode b_Z_gap 51 = .ok (.if_icmp .lt 6, 3) := by decide +kernel
theorem d_Z_gap_54 : decode b_Z_gap 54 = .ok (.iload 4, 2) := by decide +kernel
theorem d_Z_gap_56 : decode b_Z_gap 56 = .ok (.ireturn, 1) := by decide +kernel
theorem d_Z_gap_57 : decode b_Z_gap 57 = .ok (.iload 4, 2) := by decide +kernel
theorem d_Z_gap_59 : decode b_Z_gap 59 = .ok (.aload_n 0, 1) := by decide +kernel
theorem d_Z_gap_60 : decode b_Z_gap 60 = .ok (.getfield 55, 3) := by decide +kernel
theorem d_Z_gap_63 : decode b_Z_gap 63 = .ok (.if_icmp .ge 10, 3) := by decide +kernel
theorem d_Z_gap_66 : decode b_Z_gap 66 = .ok (.aload_n 0, 1) := by decide +kernel
theorem d_Z_gap_67 : decode b_Z_gap 67 = .ok (.iload 4, 2) := by decide +kernel
theorem d_Z_gap_69 : decode b_Z_gap 69 = .ok (.invokevirtual 59, 3) := by decide +kernel
theorem d_Z_gap_72 : decode b_Z_gap 72 = .ok (.istore_n 2, 1) := by decide +kernel
theorem d_Z_gap_73 : decode b_Z_gap 73 = .ok (.iinc 4 1, 3) := by decide +kernel
theorem d_Z_gap_76 : decode b_Z_gap 76 = .ok (.goto (-63), 3) := by decide +kernel
theorem d_Z_gap_79 : decode b_Z_gap 79 = .ok (.iconst (-1), 1) := by decide +kernel
theorem d_Z_gap_80 : decode b_Z_gap 80 = .ok (.ireturn, 1) := by decide +kernel
theorem d_Z_made_0 : decode b_Z_made 0 = .ok (.aload_n 0, 1) := by decide +kernel
theorem d_Z_made_1 : decode b_Z_made 1 = .ok (.iload_n 1, 1) := by decide +kernel
theorem d_Z_made_2 : decode b_Z_made 2 = .ok (.invokevirtual 62, 3) := by decide +kernel
theorem d_Z_made_5 : decode b_Z_made 5 = .ok (.istore_n 2, 1) := by decide +kernel
theorem d_Z_made_6 : decode b_Z_made 6 = .ok (.iload_n 2, 1) := by decide +kernel
theorem d_Z_made_7 : decode b_Z_made 7 = .ok (.ifCond .ge 5, 3) := by decide +kernel
theorem d_Z_made_10 : decode b_Z_made 10 = .ok (.iconst (-1), 1) := by decide +kernel
theorem d_Z_made_11 : decode b_Z_made 11 = .ok (.ireturn, 1) := by decide +kernel
theorem d_Z_made_12 : decode b_Z_made 12 = .ok (.aload_n 0, 1) := by decide +kernel
theorem d_Z_made_13 : decode b_Z_made 13 = .ok (.getfield 55, 3) := by decide +kernel
theorem d_Z_made_16 : decode b_Z_made 16 = .ok (.istore_n 3, 1) := by decide +kernel
theorem d_Z_made_17 : decode b_Z_made 17 = .ok (.iload_n 3, 1) := by decide +kernel
theorem d_Z_made_18 : decode b_Z_made 18 = .ok (.iload_n 2, 1) := by decide +kernel
theorem d_Z_made_19 : decode b_Z_made 19 = .ok (.if_icmp .le 17, 3) := by decide +kernel
theorem d_Z_made_22 : decode b_Z_made 22 = .ok (.aload_n 0, 1) := by decide +kernel
theorem d_Z_made_23 : decode b_Z_made 23 = .ok (.iload_n 3, 1) := by decide +kernel
theorem d_Z_made_24 : decode b_Z_made 24 = .ok (.iconst 1, 1) := by decide +kernel
theorem d_Z_made_25 : decode b_Z_made 25 = .ok (.isub, 1) := by decide +kernel
theorem d_Z_made_26 : decode b_Z_made 26 = .ok (.iload_n 3, 1) := by decide +kernel
theorem d_Z_made_27 : decode b_Z_made 27 = .ok (.invokevirtual 65, 3) := by decide +kernel
theorem d_Z_made_30 : decode b_Z_made 30 = .ok (.iinc 3 (-1), 3) := by decide +kernel
theorem d_Z_made_33 : decode b_Z_made 33 = .ok (.goto (-16), 3) := by decide +kernel
theorem d_Z_made_36 : decode b_Z_made 36 = .ok (.aload_n 0, 1) := by decide +kernel
theorem d_Z_made_37 : decode b_Z_made 37 = .ok (.getfield 13, 3) := by decide +kernel
theorem d_Z_made_40 : decode b_Z_made 40 = .ok (.iload_n 2, 1) := by decide +kernel
theorem d_Z_made_41 : decode b_Z_made 41 = .ok (.iload_n 2, 1) := by decide +kernel
theorem d_Z_made_42 : decode b_Z_made 42 = .ok (.ifCond .ne 7, 3) := by decide +kernel
theorem d_Z_made_45 : decode b_Z_made 45 = .ok (.iconst 0, 1) := by decide +kernel
theorem d_Z_made_46 : decode b_Z_made 46 = .ok (.goto 10, 3) := by decide +kernel
theorem d_Z_made_49 : decode b_Z_made 49 = .ok (.aload_n 0, 1) := by decide +kernel
theorem d_Z_made_50 : decode b_Z_made 50 = .ok (.iload_n 2, 1) := by decide +kernel
theorem d_Z_made_51 : decode b_Z_made 51 = .ok (.iconst 1, 1) := by decide +kernel
theorem d_Z_made_52 : decode b_Z_made 52 = .ok (.isub, 1) := by decide +kernel
theorem d_Z_made_53 : decode b_Z_made 53 = .ok (.invokevirtual 59, 3) := by decide +kernel
theorem d_Z_made_56 : decode b_Z_made 56 = .ok (.bipush 16, 2) := by decide +kernel
theorem d_Z_made_58 : decode b_Z_made 58 = .ok (.iadd, 1) := by decide +kernel
theorem d_Z_made_59 : decode b_Z_made 59 = .ok (.iastore, 1) := by decide +kernel
theorem d_Z_made_60 : decode b_Z_made 60 = .ok (.aload_n 0, 1) := by decide +kernel
theorem d_Z_made_61 : decode b_Z_made 61 = .ok (.getfield 17, 3) := by decide +kernel
theorem d_Z_made_64 : decode b_Z_made 64 = .ok (.iload_n 2, 1) := by decide +kernel
theorem d_Z_made_65 : decode b_Z_made 65 = .ok (.iload_n 1, 1) := by decide +kernel
theorem d_Z_made_66 : decode b_Z_made 66 = .ok (.iastore, 1) := by decide +kernel
theorem d_Z_made_67 : decode b_Z_made 67 = .ok (.aload_n 0, 1) := by decide +kernel
theorem d_Z_made_68 : decode b_Z_made 68 = .ok (.getfield 23, 3) := by decide +kernel
theorem d_Z_made_71 : decode b_Z_made 71 = .ok (.iload_n 2, 1) := by decide +kernel
theorem d_Z_made_72 : decode b_Z_made 72 = .ok (.iconst 1, 1) := by decide +kernel
theorem d_Z_made_73 : decode b_Z_made 73 = .ok (.bastore, 1) := by decide +kernel
theorem d_Z_made_74 : decode b_Z_made 74 = .ok (.aload_n 0, 1) := by decide +kernel
theorem d_Z_made_75 : decode b_Z_made 75 = .ok (.dup, 1) := by decide +kernel
theorem d_Z_made_76 : decode b_Z_made 76 = .ok (.getfield 55, 3) := by decide +kernel
theorem d_Z_made_79 : decode b_Z_made 79 = .ok (.iconst 1, 1) := by decide +kernel
theorem d_Z_made_80 : decode b_Z_made 80 = .ok (.iadd, 1) := by decide +kernel
theorem d_Z_made_81 : decode b_Z_made 81 = .ok (.putfield 55, 3) := by decide +kernel
theorem d_Z_made_84 : decode b_Z_made 84 = .ok (.aload_n 0, 1) := by decide +kernel
theorem d_Z_made_85 : decode b_Z_made 85 = .ok (.dup, 1) := by decide +kernel
theorem d_Z_made_86 : decode b_Z_made 86 = .ok (.getfield 69, 3) := by decide +kernel
theorem d_Z_made_89 : decode b_Z_made 89 = .ok (.iconst 1, 1) := by decide +kernel
theorem d_Z_made_90 : decode b_Z_made 90 = .ok (.iadd, 1) := by decide +kernel
theorem d_Z_made_91 : decode b_Z_made 91 = .ok (.putfield 69, 3) := by decide +kernel
theorem d_Z_made_94 : decode b_Z_made 94 = .ok (.iload_n 2, 1) := by decide +kernel
theorem d_Z_made_95 : decode b_Z_made 95 = .ok (.ireturn, 1) := by decide +kernel
theorem d_Z_move_0 : decode b_Z_move 0 = .ok (.aload_n 0, 1) := by decide +kernel
theorem d_Z_move_1 : decode b_Z_move 1 = .ok (.getfield 13, 3) := by decide +kernel
theorem d_Z_move_4 : decode b_Z_move 4 = .ok (.iload_n 2, 1) := by decide +kernel
theorem d_Z_move_5 : decode b_Z_move 5 = .ok (.aload_n 0, 1) := by decide +kernel
theorem d_Z_move_6 : decode b_Z_move 6 = .ok (.getfield 13, 3) := by decide +kernel
theorem d_Z_move_9 : decode b_Z_move 9 = .ok (.iload_n 1, 1) := by decide +kernel
theorem d_Z_move_10 : decode b_Z_move 10 = .ok (.iaload, 1) := by decide +kernel
theorem d_Z_move_11 : decode b_Z_move 11 = .ok (.iastore, 1) := by decide +kernel
theorem d_Z_move_12 : decode b_Z_move 12 = .ok (.aload_n 0, 1) := by decide +kernel
theorem d_Z_move_13 : decode b_Z_move 13 = .ok (.getfield 17, 3) := by decide +kernel
theorem d_Z_move_16 : decode b_Z_move 16 = .ok (.iload_n 2, 1) := by decide +kernel
theorem d_Z_move_17 : decode b_Z_move 17 = .ok (.aload_n 0, 1) := by decide +kernel
theorem d_Z_move_18 : decode b_Z_move 18 = .ok (.getfield 17, 3) := by decide +kernel
theorem d_Z_move_21 : decode b_Z_move 21 = .ok (.iload_n 1, 1) := by decide +kernel
theorem d_Z_move_22 : decode b_Z_move 22 = .ok (.iaload, 1) := by decide +kernel
theorem d_Z_move_23 : decode b_Z_move 23 = .ok (.iastore, 1) := by decide +kernel
theorem d_Z_move_24 : decode b_Z_move 24 = .ok (.aload_n 0, 1) := by decide +kernel
theorem d_Z_move_25 : decode b_Z_move 25 = .ok (.getfield 20, 3) := by decide +kernel
theorem d_Z_move_28 : decode b_Z_move 28 = .ok (.iload_n 2, 1) := by decide +kernel
theorem d_Z_move_29 : decode b_Z_move 29 = .ok (.aload_n 0, 1) := by decide +kernel
theorem d_Z_move_30 : decode b_Z_move 30 = .ok (.getfield 20, 3) := by decide +kernel
theorem d_Z_move_33 : decode b_Z_move 33 = .ok (.iload_n 1, 1) := by decide +kernel
theorem d_Z_move_34 : decode b_Z_move 34 = .ok (.iaload, 1) := by decide +kernel
theorem d_Z_move_35 : decode b_Z_move 35 = .ok (.iastore, 1) := by decide +kernel
theorem d_Z_move_36 : decode b_Z_move 36 = .ok (.aload_n 0, 1) := by decide +kernel
theorem d_Z_move_37 : decode b_Z_move 37 = .ok (.getfield 23, 3) := by decide +kernel
theorem d_Z_move_40 : decode b_Z_move 40 = .ok (.iload_n 2, 1) := by decide +kernel
theorem d_Z_move_41 : decode b_Z_move 41 = .ok (.aload_n 0, 1) := by decide +kernel
theorem d_Z_move_42 : decode b_Z_move 42 = .ok (.getfield 23, 3) := by decide +kernel
theorem d_Z_move_45 : decode b_Z_move 45 = .ok (.iload_n 1, 1) := by decide +kernel
theorem d_Z_move_46 : decode b_Z_move 46 = .ok (.baload, 1) := by decide +kernel
theorem d_Z_move_47 : decode b_Z_move 47 = .ok (.bastore, 1) := by decide +kernel
theorem d_Z_move_48 : decode b_Z_move 48 = .ok (.return_, 1) := by decide +kernel
theorem d_Z_gone_0 : decode b_Z_gone 0 = .ok (.aload_n 0, 1) := by decide +kernel
theorem d_Z_gone_1 : decode b_Z_gone 1 = .ok (.dup, 1) := by decide +kernel
theorem d_Z_gone_2 : decode b_Z_gone 2 = .ok (.getfield 55, 3) := by decide +kernel
theorem d_Z_gone_5 : decode b_Z_gone 5 = .ok (.iconst 1, 1) := by decide +kernel
theorem d_Z_gone_6 : decode b_Z_gone 6 = .ok (.isub, 1) := by decide +kernel
theorem d_Z_gone_7 : decode b_Z_gone 7 = .ok (.putfield 55, 3) := by decide +kernel
theorem d_Z_gone_10 : decode b_Z_gone 10 = .ok (.iload_n 1, 1) := by decide +kernel
theorem d_Z_gone_11 : decode b_Z_gone 11 = .ok (.istore_n 2, 1) := by decide +kernel
theorem d_Z_gone_12 : decode b_Z_gone 12 = .ok (.iload_n 2, 1) := by decide +kernel
theorem d_Z_gone_13 : decode b_Z_gone 13 = .ok (.aload_n 0, 1) := by decide +kernel
theorem d_Z_gone_14 : decode b_Z_gone 14 = .ok (.getfield 55, 3) := by decide +kernel
theorem d_Z_gone_17 : decode b_Z_gone 17 = .ok (.if_icmp .ge 17, 3) := by decide +kernel
theorem d_Z_gone_20 : decode b_Z_gone 20 = .ok (.aload_n 0, 1) := by decide +kernel
theorem d_Z_gone_21 : decode b_Z_gone 21 = .ok (.iload_n 2, 1) := by decide +kernel
theorem d_Z_gone_22 : decode b_Z_gone 22 = .ok (.iconst 1, 1) := by decide +kernel
theorem d_Z_gone_23 : decode b_Z_gone 23 = .ok (.iadd, 1) := by decide +kernel
theorem d_Z_gone_24 : decode b_Z_gone 24 = .ok (.iload_n 2, 1) := by decide +kernel
theorem d_Z_gone_25 : decode b_Z_gone 25 = .ok (.invokevirtual 65, 3) := by decide +kernel
theorem d_Z_gone_28 : decode b_Z_gone 28 = .ok (.iinc 2 1, 3) := by decide +kernel
theorem d_Z_gone_31 : decode b_Z_gone 31 = .ok (.goto (-19), 3) := by decide +kernel
theorem d_Z_gone_34 : decode b_Z_gone 34 = .ok (.return_, 1) := by decide +kernel
theorem d_Z_under_0 : decode b_Z_under 0 = .ok (.iconst 0, 1) := by decide +kernel
theorem d_Z_under_1 : decode b_Z_under 1 = .ok (.istore_n 2, 1) := by decide +kernel
theorem d_Z_under_2 : decode b_Z_under 2 = .ok (.aload_n 0, 1) := by decide +kernel
theorem d_Z_under_3 : decode b_Z_under 3 = .ok (.getfield 55, 3) := by decide +kernel
theorem d_Z_under_6 : decode b_Z_under 6 = .ok (.istore_n 3, 1) := by decide +kernel
theorem d_Z_under_7 : decode b_Z_under 7 = .ok (.iload_n 2, 1) := by decide +kernel
theorem d_Z_under_8 : decode b_Z_under 8 = .ok (.iload_n 3, 1) := by decide +kernel
theorem d_Z_under_9 : decode b_Z_under 9 = .ok (.if_icmp .ge 35, 3) := by decide +kernel
theorem d_Z_under_12 : decode b_Z_under 12 = .ok (.iload_n 2, 1) := by decide +kernel
theorem d_Z_under_13 : decode b_Z_under 13 = .ok (.iload_n 3, 1) := by decide +kernel
theorem d_Z_under_14 : decode b_Z_under 14 = .ok (.iadd, 1) := by decide +kernel
theorem d_Z_under_15 : decode b_Z_under 15 = .ok (.iconst 1, 1) := by decide +kernel
theorem d_Z_under_16 : decode b_Z_under 16 = .ok (.ishr, 1) := by decide +kernel
theorem d_Z_under_17 : decode b_Z_under 17 = .ok (.istore 4, 2) := by decide +kernel
theorem d_Z_under_19 : decode b_Z_under 19 = .ok (.aload_n 0, 1) := by decide +kernel
theorem d_Z_under_20 : decode b_Z_under 20 = .ok (.getfield 13, 3) := by decide +kernel
theorem d_Z_under_23 : decode b_Z_under 23 = .ok (.iload 4, 2) := by decide +kernel
theorem d_Z_under_25 : decode b_Z_under 25 = .ok (.iaload, 1) := by decide +kernel
theorem d_Z_under_26 : decode b_Z_under 26 = .ok (.iload_n 1, 1) := by decide +kernel
theorem d_Z_under_27 : decode b_Z_under 27 = .ok (.if_icmp .gt 11, 3) := by decide +kernel
theorem d_Z_under_30 : decode b_Z_under 30 = .ok (.iload 4, 2) := by decide +kernel
theorem d_Z_under_32 : decode b_Z_under 32 = .ok (.iconst 1, 1) := by decide +kernel
theorem d_Z_under_33 : decode b_Z_under 33 = .ok (.iadd, 1) := by decide +kernel
theorem d_Z_under_34 : decode b_Z_under 34 = .ok (.istore_n 2, 1) := by decide +kernel
theorem d_Z_under_35 : decode b_Z_under 35 = .ok (.goto 6, 3) := by decide +kernel
theorem d_Z_under_38 : decode b_Z_under 38 = .ok (.iload 4, 2) := by decide +kernel
theorem d_Z_under_40 : decode b_Z_under 40 = .ok (.istore_n 3, 1) := by decide +kernel
theorem d_Z_under_41 : decode b_Z_under 41 = .ok (.goto (-34), 3) := by decide +kernel
theorem d_Z_under_44 : decode b_Z_under 44 = .ok (.iload_n 2, 1) := by decide +kernel
theorem d_Z_under_45 : decode b_Z_under 45 = .ok (.iconst 1, 1) := by decide +kernel
theorem d_Z_under_46 : decode b_Z_under 46 = .ok (.isub, 1) := by decide +kernel
theorem d_Z_under_47 : decode b_Z_under 47 = .ok (.ireturn, 1) := by decide +kernel
theorem d_Z_get_0 : decode b_Z_get 0 = .ok (.iload_n 1, 1) := by decide +kernel
theorem d_Z_get_1 : decode b_Z_get 1 = .ok (.ifCond .lt 14, 3) := by decide +kernel
theorem d_Z_get_4 : decode b_Z_get 4 = .ok (.iload_n 1, 1) := by decide +kernel
theorem d_Z_get_5 : decode b_Z_get 5 = .ok (.sipush 2048, 3) := by decide +kernel
theorem d_Z_get_8 : decode b_Z_get 8 = .ok (.if_icmp .gt 7, 3) := by decide +kernel
theorem d_Z_get_11 : decode b_Z_get 11 = .ok (.iconst 1, 1) := by decide +kernel
theorem d_Z_get_12 : decode b_Z_get 12 = .ok (.goto 4, 3) := by decide +kernel
theorem d_Z_get_15 : decode b_Z_get 15 = .ok (.iconst 0, 1) := by decide +kernel
theorem d_Z_get_16 : decode b_Z_get 16 = .ok (.invokestatic 72, 3) := by decide +kernel
theorem d_Z_get_19 : decode b_Z_get 19 = .ok (.aload_n 0, 1) := by decide +kernel
theorem d_Z_get_20 : decode b_Z_get 20 = .ok (.iload_n 1, 1) := by decide +kernel
theorem d_Z_get_21 : decode b_Z_get 21 = .ok (.invokevirtual 76, 3) := by decide +kernel
theorem d_Z_get_24 : decode b_Z_get 24 = .ok (.istore_n 2, 1) := by decide +kernel
theorem d_Z_get_25 : decode b_Z_get 25 = .ok (.iload_n 2, 1) := by decide +kernel
theorem d_Z_get_26 : decode b_Z_get 26 = .ok (.ifCond .ge 7, 3) := by decide +kernel
theorem d_Z_get_29 : decode b_Z_get 29 = .ok (.iconst 0, 1) := by decide +kernel
theorem d_Z_get_30 : decode b_Z_get 30 = .ok (.goto 9, 3) := by decide +kernel
theorem d_Z_get_33 : decode b_Z_get 33 = .ok (.aload_n 0, 1) := by decide +kernel
theorem d_Z_get_34 : decode b_Z_get 34 = .ok (.getfield 13, 3) := by decide +kernel
theorem d_Z_get_37 : decode b_Z_get 37 = .ok (.iload_n 2, 1) := by decide +kernel
theorem d_Z_get_38 : decode b_Z_get 38 = .ok (.iaload, 1) := by decide +kernel
theorem d_Z_get_39 : decode b_Z_get 39 = .ok (.ireturn, 1) := by decide +kernel
theorem d_Z_standing_0 : decode b_Z_standing 0 = .ok (.aload_n 0, 1) := by decide +kernel
theorem d_Z_standing_1 : decode b_Z_standing 1 = .ok (.iload_n 1, 1) := by decide +kernel
theorem d_Z_standing_2 : decode b_Z_standing 2 = .ok (.invokevirtual 78, 3) := by decide +kernel
theorem d_Z_standing_5 : decode b_Z_standing 5 = .ok (.istore_n 2, 1) := by decide +kernel
theorem d_Z_standing_6 : decode b_Z_standing 6 = .ok (.iload_n 2, 1) := by decide +kernel
theorem d_Z_standing_7 : decode b_Z_standing 7 = .ok (.ifCond .lt 17, 3) := by decide +kernel
theorem d_Z_standing_10 : decode b_Z_standing 10 = .ok (.aload_n 0, 1) := by decide +kernel
theorem d_Z_standing_11 : decode b_Z_standing 11 = .ok (.getfield 13, 3) := by decide +kernel
theorem d_Z_standing_14 : decode b_Z_standing 14 = .ok (.iload_n 2, 1) := by decide +kernel
theorem d_Z_standing_15 : decode b_Z_standing 15 = .ok (.iaload, 1) := by decide +kernel
theorem d_Z_standing_16 : decode b_Z_standing 16 = .ok (.iload_n 1, 1) := by decide +kernel
theorem d_Z_standing_17 : decode b_Z_standing 17 = .ok (.if_icmp .ne 7, 3) := by decide +kernel
theorem d_Z_standing_20 : decode b_Z_standing 20 = .ok (.iconst 1, 1) := by decide +kernel
theorem d_Z_standing_21 : decode b_Z_standing 21 = .ok (.goto 4, 3) := by decide +kernel
theorem d_Z_standing_24 : decode b_Z_standing 24 = .ok (.iconst 0, 1) := by decide +kernel
theorem d_Z_standing_25 : decode b_Z_standing 25 = .ok (.invokestatic 72, 3) := by decide +kernel
theorem d_Z_standing_28 : decode b_Z_standing 28 = .ok (.aload_n 0, 1) := by decide +kernel
theorem d_Z_standing_29 : decode b_Z_standing 29 = .ok (.getfield 23, 3) := by decide +kernel
theorem d_Z_standing_32 : decode b_Z_standing 32 = .ok (.iload_n 2, 1) := by decide +kernel
theorem d_Z_standing_33 : decode b_Z_standing 33 = .ok (.baload, 1) := by decide +kernel
theorem d_Z_standing_34 : decode b_Z_standing 34 = .ok (.invokestatic 81, 3) := by decide +kernel
theorem d_Z_standing_37 : decode b_Z_standing 37 = .ok (.iload_n 2, 1) := by decide +kernel
theorem d_Z_standing_38 : decode b_Z_standing 38 = .ok (.ireturn, 1) := by decide +kernel
theorem d_Z_give_0 : decode b_Z_give 0 = .ok (.aload_n 0, 1) := by decide +kernel
theorem d_Z_give_1 : decode b_Z_give 1 = .ok (.getfield 23, 3) := by decide +kernel
theorem d_Z_give_4 : decode b_Z_give 4 = .ok (.iload_n 1, 1) := by decide +kernel
theorem d_Z_give_5 : decode b_Z_give 5 = .ok (.iconst 0, 1) := by decide +kernel
theorem d_Z_give_6 : decode b_Z_give 6 = .ok (.bastore, 1) := by decide +kernel
theorem d_Z_give_7 : decode b_Z_give 7 = .ok (.aload_n 0, 1) := by decide +kernel
theorem d_Z_give_8 : decode b_Z_give 8 = .ok (.getfield 20, 3) := by decide +kernel
theorem d_Z_give_11 : decode b_Z_give 11 = .ok (.iload_n 1, 1) := by decide +kernel
theorem d_Z_give_12 : decode b_Z_give 12 = .ok (.aload_n 0, 1) := by decide +kernel
theorem d_Z_give_13 : decode b_Z_give 13 = .ok (.dup, 1) := by decide +kernel
theorem d_Z_give_14 : decode b_Z_give 14 = .ok (.getfield 84, 3) := by decide +kernel
theorem d_Z_give_17 : decode b_Z_give 17 = .ok (.dup_x1, 1) := by decide +kernel
theorem d_Z_give_18 : decode b_Z_give 18 = .ok (.iconst 1, 1) := by decide +kernel
theorem d_Z_give_19 : decode b_Z_give 19 = .ok (.iadd, 1) := by decide +kernel
theorem d_Z_give_20 : decode b_Z_give 20 = .ok (.putfield 84, 3) := by decide +kernel
theorem d_Z_give_23 : decode b_Z_give 23 = .ok (.iastore, 1) := by decide +kernel
theorem d_Z_give_24 : decode b_Z_give 24 = .ok (.aload_n 0, 1) := by decide +kernel
theorem d_Z_give_25 : decode b_Z_give 25 = .ok (.dup, 1) := by decide +kernel
theorem d_Z_give_26 : decode b_Z_give 26 = .ok (.getfield 87, 3) := by decide +kernel
theorem d_Z_give_29 : decode b_Z_give 29 = .ok (.iconst 1, 1) := by decide +kernel
theorem d_Z_give_30 : decode b_Z_give 30 = .ok (.iadd, 1) := by decide +kernel
theorem d_Z_give_31 : decode b_Z_give 31 = .ok (.putfield 87, 3) := by decide +kernel
theorem d_Z_give_34 : decode b_Z_give 34 = .ok (.aload_n 0, 1) := by decide +kernel
theorem d_Z_give_35 : decode b_Z_give 35 = .ok (.dup, 1) := by decide +kernel
theorem d_Z_give_36 : decode b_Z_give 36 = .ok (.getfield 90, 3) := by decide +kernel
theorem d_Z_give_39 : decode b_Z_give 39 = .ok (.aload_n 0, 1) := by decide +kernel
theorem d_Z_give_40 : decode b_Z_give 40 = .ok (.getfield 17, 3) := by decide +kernel
theorem d_Z_give_43 : decode b_Z_give 43 = .ok (.iload_n 1, 1) := by decide +kernel
theorem d_Z_give_44 : decode b_Z_give 44 = .ok (.iaload, 1) := by decide +kernel
theorem d_Z_give_45 : decode b_Z_give 45 = .ok (.iadd, 1) := by decide +kernel
theorem d_Z_give_46 : decode b_Z_give 46 = .ok (.putfield 90, 3) := by decide +kernel
theorem d_Z_give_49 : decode b_Z_give 49 = .ok (.aload_n 0, 1) := by decide +kernel
theorem d_Z_give_50 : decode b_Z_give 50 = .ok (.getfield 90, 3) := by decide +kernel
theorem d_Z_give_53 : decode b_Z_give 53 = .ok (.sipush 512, 3) := by decide +kernel
theorem d_Z_give_56 : decode b_Z_give 56 = .ok (.if_icmp .le 84, 3) := by decide +kernel
theorem d_Z_give_59 : decode b_Z_give 59 = .ok (.iconst (-1), 1) := by decide +kernel
theorem d_Z_give_60 : decode b_Z_give 60 = .ok (.istore_n 2, 1) := by decide +kernel
theorem d_Z_give_61 : decode b_Z_give 61 = .ok (.iconst 0, 1) := by decide +kernel
theorem d_Z_give_62 : decode b_Z_give 62 = .ok (.istore_n 3, 1) := by decide +kernel
theorem d_Z_give_63 : decode b_Z_give 63 = .ok (.iload_n 3, 1) := by decide +kernel
theorem d_Z_give_64 : decode b_Z_give 64 = .ok (.aload_n 0, 1) := by decide +kernel
theorem d_Z_give_65 : decode b_Z_give 65 = .ok (.getfield 55, 3) := by decide +kernel
theorem d_Z_give_68 : decode b_Z_give 68 = .ok (.if_icmp .ge 39, 3) := by decide +kernel
theorem d_Z_give_71 : decode b_Z_give 71 = .ok (.aload_n 0, 1) := by decide +kernel
theorem d_Z_give_72 : decode b_Z_give 72 = .ok (.getfield 23, 3) := by decide +kernel
theorem d_Z_give_75 : decode b_Z_give 75 = .ok (.iload_n 3, 1) := by decide +kernel
theorem d_Z_give_76 : decode b_Z_give 76 = .ok (.baload, 1) := by decide +kernel
theorem d_Z_give_77 : decode b_Z_give 77 = .ok (.ifCond .ne 24, 3) := by decide +kernel
theorem d_Z_give_80 : decode b_Z_give 80 = .ok (.iload_n 2, 1) := by decide +kernel
theorem d_Z_give_81 : decode b_Z_give 81 = .ok (.ifCond .lt 18, 3) := by decide +kernel
theorem d_Z_give_84 : decode b_Z_give 84 = .ok (.aload_n 0, 1) := by decide +kernel
theorem d_Z_give_85 : decode b_Z_give 85 = .ok (.getfield 20, 3) := by decide +kernel
theorem d_Z_give_88 : decode b_Z_give 88 = .ok (.iload_n 3, 1) := by decide +kernel
theorem d_Z_give_89 : decode b_Z_give 89 = .ok (.iaload, 1) := by decide +kernel
theorem d_Z_give_90 : decode b_Z_give 90 = .ok (.aload_n 0, 1) := by decide +kernel
theorem d_Z_give_91 : decode b_Z_give 91 = .ok (.getfield 20, 3) := by decide +kernel
theorem d_Z_give_94 : decode b_Z_give 94 = .ok (.iload_n 2, 1) := by decide +kernel
theorem d_Z_give_95 : decode b_Z_give 95 = .ok (.iaload, 1) := by decide +kernel
theorem d_Z_give_96 : decode b_Z_give 96 = .ok (.if_icmp .ge 5, 3) := by decide +kernel
theorem d_Z_give_99 : decode b_Z_give 99 = .ok (.iload_n 3, 1) := by decide +kernel
theorem d_Z_give_100 : decode b_Z_give 100 = .ok (.istore_n 2, 1) := by decide +kernel
theorem d_Z_give_101 : decode b_Z_give 101 = .ok (.iinc 3 1, 3) := by decide +kernel
theorem d_Z_give_104 : decode b_Z_give 104 = .ok (.goto (-41), 3) := by decide +kernel
theorem d_Z_give_107 : decode b_Z_give 107 = .ok (.aload_n 0, 1) := by decide +kernel
theorem d_Z_give_108 : decode b_Z_give 108 = .ok (.dup, 1) := by decide +kernel
theorem d_Z_give_109 : decode b_Z_give 109 = .ok (.getfield 87, 3) := by decide +kernel
theorem d_Z_give_112 : decode b_Z_give 112 = .ok (.iconst 1, 1) := by decide +kernel
theorem d_Z_give_113 : decode b_Z_give 113 = .ok (.isub, 1) := by decide +kernel
theorem d_Z_give_114 : decode b_Z_give 114 = .ok (.putfield 87, 3) := by decide +kernel
theorem d_Z_give_117 : decode b_Z_give 117 = .ok (.aload_n 0, 1) := by decide +kernel
theorem d_Z_give_118 : decode b_Z_give 118 = .ok (.dup, 1) := by decide +kernel
theorem d_Z_give_119 : decode b_Z_give 119 = .ok (.getfield 90, 3) := by decide +kernel
theorem d_Z_give_122 : decode b_Z_give 122 = .ok (.aload_n 0, 1) := by decide +kernel
theorem d_Z_give_123 : decode b_Z_give 123 = .ok (.getfield 17, 3) := by decide +kernel
theorem d_Z_give_126 : decode b_Z_give 126 = .ok (.iload_n 2, 1) := by decide +kernel
theorem d_Z_give_127 : decode b_Z_give 127 = .ok (.iaload, 1) := by decide +kernel
theorem d_Z_give_128 : decode b_Z_give 128 = .ok (.isub, 1) := by decide +kernel
theorem d_Z_give_129 : decode b_Z_give 129 = .ok (.putfield 90, 3) := by decide +kernel
theorem d_Z_give_132 : decode b_Z_give 132 = .ok (.aload_n 0, 1) := by decide +kernel
theorem d_Z_give_133 : decode b_Z_give 133 = .ok (.iload_n 2, 1) := by decide +kernel
theorem d_Z_give_134 : decode b_Z_give 134 = .ok (.invokevirtual 93, 3) := by decide +kernel
theorem d_Z_give_137 : decode b_Z_give 137 = .ok (.goto (-88), 3) := by decide +kernel
theorem d_Z_give_140 : decode b_Z_give 140 = .ok (.return_, 1) := by decide +kernel
theorem d_Z_back_0 : decode b_Z_back 0 = .ok (.aload_n 0, 1) := by decide +kernel
theorem d_Z_back_1 : decode b_Z_back 1 = .ok (.iload_n 1, 1) := by decide +kernel
theorem d_Z_back_2 : decode b_Z_back 2 = .ok (.invokevirtual 97, 3) := by decide +kernel
theorem d_Z_back_5 : decode b_Z_back 5 = .ok (.istore_n 2, 1) := by decide +kernel
theorem d_Z_back_6 : decode b_Z_back 6 = .ok (.aload_n 0, 1) := by decide +kernel
theorem d_Z_back_7 : decode b_Z_back 7 = .ok (.getfield 17, 3) := by decide +kernel
theorem d_Z_back_10 : decode b_Z_back 10 = .ok (.iload_n 2, 1) := by decide +kernel
theorem d_Z_back_11 : decode b_Z_back 11 = .ok (.iaload, 1) := by decide +kernel
theorem d_Z_back_12 : decode b_Z_back 12 = .ok (.istore_n 3, 1) := by decide +kernel
theorem d_Z_back_13 : decode b_Z_back 13 = .ok (.aload_n 0, 1) := by decide +kernel
theorem d_Z_back_14 : decode b_Z_back 14 = .ok (.iload_n 2, 1) := by decide +kernel
theorem d_Z_back_15 : decode b_Z_back 15 = .ok (.invokevirtual 100, 3) := by decide +kernel
theorem d_Z_back_18 : decode b_Z_back 18 = .ok (.iload_n 3, 1) := by decide +kernel
theorem d_Z_back_19 : decode b_Z_back 19 = .ok (.ireturn, 1) := by decide +kernel
theorem d_Z_again_0 : decode b_Z_again 0 = .ok (.iload_n 2, 1) := by decide +kernel
theorem d_Z_again_1 : decode b_Z_again 1 = .ok (.ifCond .lt 14, 3) := by decide +kernel
theorem d_Z_again_4 : decode b_Z_again 4 = .ok (.iload_n 2, 1) := by decide +kernel
theorem d_Z_again_5 : decode b_Z_again 5 = .ok (.sipush 2048, 3) := by decide +kernel
theorem d_Z_again_8 : decode b_Z_again 8 = .ok (.if_icmp .gt 7, 3) := by decide +kernel
theorem d_Z_again_11 : decode b_Z_again 11 = .ok (.iconst 1, 1) := by decide +kernel
theorem d_Z_again_12 : decode b_Z_again 12 = .ok (.goto 4, 3) := by decide +kernel
theorem d_Z_again_15 : decode b_Z_again 15 = .ok (.iconst 0, 1) := by decide +kernel
theorem d_Z_again_16 : decode b_Z_again 16 = .ok (.invokestatic 72, 3) := by decide +kernel
theorem d_Z_again_19 : decode b_Z_again 19 = .ok (.aload_n 0, 1) := by decide +kernel
theorem d_Z_again_20 : decode b_Z_again 20 = .ok (.iload_n 1, 1) := by decide +kernel
theorem d_Z_again_21 : decode b_Z_again 21 = .ok (.invokevirtual 97, 3) := by decide +kernel
theorem d_Z_again_24 : decode b_Z_again 24 = .ok (.istore_n 3, 1) := by decide +kernel
theorem d_Z_again_25 : decode b_Z_again 25 = .ok (.aload_n 0, 1) := by decide +kernel
theorem d_Z_again_26 : decode b_Z_again 26 = .ok (.getfield 17, 3) := by decide +kernel
theorem d_Z_again_29 : decode b_Z_again 29 = .ok (.iload_n 3, 1) := by decide +kernel
theorem d_Z_again_30 : decode b_Z_again 30 = .ok (.iaload, 1) := by decide +kernel
theorem d_Z_again_31 : decode b_Z_again 31 = .ok (.istore 4, 2) := by decide +kernel
theorem d_Z_again_33 : decode b_Z_again 33 = .ok (.aload_n 0, 1) := by decide +kernel
theorem d_Z_again_34 : decode b_Z_again 34 = .ok (.iload_n 2, 1) := by decide +kernel
theorem d_Z_again_35 : decode b_Z_again 35 = .ok (.invokevirtual 76, 3) := by decide +kernel
theorem d_Z_again_38 : decode b_Z_again 38 = .ok (.istore 5, 2) := by decide +kernel
theorem d_Z_again_40 : decode b_Z_again 40 = .ok (.iload 5, 2) := by decide +kernel
theorem d_Z_again_42 : decode b_Z_again 42 = .ok (.ifCond .ge 5, 3) := by decide +kernel
theorem d_Z_again_45 : decode b_Z_again 45 = .ok (.iconst 0, 1) := by decide +kernel
theorem d_Z_again_46 : decode b_Z_again 46 = .ok (.ireturn, 1) := by decide +kernel
theorem d_Z_again_47 : decode b_Z_again 47 = .ok (.aload_n 0, 1) := by decide +kernel
theorem d_Z_again_48 : decode b_Z_again 48 = .ok (.getfield 13, 3) := by decide +kernel
theorem d_Z_again_51 : decode b_Z_again 51 = .ok (.iload 5, 2) := by decide +kernel
theorem d_Z_again_53 : decode b_Z_again 53 = .ok (.iaload, 1) := by decide +kernel
theorem d_Z_again_54 : decode b_Z_again 54 = .ok (.istore 6, 2) := by decide +kernel
theorem d_Z_again_56 : decode b_Z_again 56 = .ok (.iconst 0, 1) := by decide +kernel
theorem d_Z_again_57 : decode b_Z_again 57 = .ok (.istore 7, 2) := by decide +kernel
theorem d_Z_again_59 : decode b_Z_again 59 = .ok (.iload 7, 2) := by decide +kernel
theorem d_Z_again_61 : decode b_Z_again 61 = .ok (.iload_n 2, 1) := by decide +kernel
theorem d_Z_again_62 : decode b_Z_again 62 = .ok (.if_icmp .ge 35, 3) := by decide +kernel
theorem d_Z_again_65 : decode b_Z_again 65 = .ok (.iload 7, 2) := by decide +kernel
theorem d_Z_again_67 : decode b_Z_again 67 = .ok (.iload 4, 2) := by decide +kernel
theorem d_Z_again_69 : decode b_Z_again 69 = .ok (.if_icmp .ge 28, 3) := by decide +kernel
theorem d_Z_again_72 : decode b_Z_again 72 = .ok (.aload_n 0, 1) := by decide +kernel
theorem d_Z_again_73 : decode b_Z_again 73 = .ok (.getfield 9, 3) := by decide +kernel
theorem d_Z_again_76 : decode b_Z_again 76 = .ok (.iload 6, 2) := by decide +kernel
theorem d_Z_again_78 : decode b_Z_again 78 = .ok (.iload 7, 2) := by decide +kernel
theorem d_Z_again_80 : decode b_Z_again 80 = .ok (.iadd, 1) := by decide +kernel
theorem d_Z_again_81 : decode b_Z_again 81 = .ok (.aload_n 0, 1) := by decide +kernel
theorem d_Z_again_82 : decode b_Z_again 82 = .ok (.getfield 9, 3) := by decide +kernel
theorem d_Z_again_85 : decode b_Z_again 85 = .ok (.iload_n 1, 1) := by decide +kernel
theorem d_Z_again_86 : decode b_Z_again 86 = .ok (.iload 7, 2) := by decide +kernel
theorem d_Z_again_88 : decode b_Z_again 88 = .ok (.iadd, 1) := by decide +kernel
theorem d_Z_again_89 : decode b_Z_again 89 = .ok (.baload, 1) := by decide +kernel
theorem d_Z_again_90 : decode b_Z_again 90 = .ok (.bastore, 1) := by decide +kernel
theorem d_Z_again_91 : decode b_Z_again 91 = .ok (.iinc 7 1, 3) := by decide +kernel
theorem d_Z_again_94 : decode b_Z_again 94 = .ok (.goto (-35), 3) := by decide +kernel
theorem d_Z_again_97 : decode b_Z_again 97 = .ok (.aload_n 0, 1) := by decide +kernel
theorem d_Z_again_98 : decode b_Z_again 98 = .ok (.aload_n 0, 1) := by decide +kernel
theorem d_Z_again_99 : decode b_Z_again 99 = .ok (.iload_n 1, 1) := by decide +kernel
theorem d_Z_again_100 : decode b_Z_again 100 = .ok (.invokevirtual 78, 3) := by decide +kernel
theorem d_Z_again_103 : decode b_Z_again 103 = .ok (.invokevirtual 100, 3) := by decide +kernel
theorem d_Z_again_106 : decode b_Z_again 106 = .ok (.iload 6, 2) := by decide +kernel
theorem d_Z_again_108 : decode b_Z_again 108 = .ok (.ireturn, 1) := by decide +kernel
theorem d_Z_kind_0 : decode b_Z_kind 0 = .ok (.iload_n 1, 1) := by decide +kernel
theorem d_Z_kind_1 : decode b_Z_kind 1 = .ok (.ifCond .lt 14, 3) := by decide +kernel
theorem d_Z_kind_4 : decode b_Z_kind 4 = .ok (.iload_n 1, 1) := by decide +kernel
theorem d_Z_kind_5 : decode b_Z_kind 5 = .ok (.sipush 8192, 3) := by decide +kernel
theorem d_Z_kind_8 : decode b_Z_kind 8 = .ok (.if_icmp .ge 7, 3) := by decide +kernel
theorem d_Z_kind_11 : decode b_Z_kind 11 = .ok (.iconst 1, 1) := by decide +kernel
theorem d_Z_kind_12 : decode b_Z_kind 12 = .ok (.goto 4, 3) := by decide +kernel
theorem d_Z_kind_15 : decode b_Z_kind 15 = .ok (.iconst 0, 1) := by decide +kernel
theorem d_Z_kind_16 : decode b_Z_kind 16 = .ok (.invokestatic 103, 3) := by decide +kernel
theorem d_Z_kind_19 : decode b_Z_kind 19 = .ok (.aload_n 0, 1) := by decide +kernel
theorem d_Z_kind_20 : decode b_Z_kind 20 = .ok (.iload_n 1, 1) := by decide +kernel
theorem d_Z_kind_21 : decode b_Z_kind 21 = .ok (.invokevirtual 78, 3) := by decide +kernel
theorem d_Z_kind_24 : decode b_Z_kind 24 = .ok (.istore_n 2, 1) := by decide +kernel
theorem d_Z_kind_25 : decode b_Z_kind 25 = .ok (.iload_n 2, 1) := by decide +kernel
theorem d_Z_kind_26 : decode b_Z_kind 26 = .ok (.ifCond .lt 35, 3) := by decide +kernel
theorem d_Z_kind_29 : decode b_Z_kind 29 = .ok (.iload_n 1, 1) := by decide +kernel
theorem d_Z_kind_30 : decode b_Z_kind 30 = .ok (.aload_n 0, 1) := by decide +kernel
theorem d_Z_kind_31 : decode b_Z_kind 31 = .ok (.getfield 13, 3) := by decide +kernel
theorem d_Z_kind_34 : decode b_Z_kind 34 = .ok (.iload_n 2, 1) := by decide +kernel
theorem d_Z_kind_35 : decode b_Z_kind 35 = .ok (.iaload, 1) := by decide +kernel
theorem d_Z_kind_36 : decode b_Z_kind 36 = .ok (.aload_n 0, 1) := by decide +kernel
theorem d_Z_kind_37 : decode b_Z_kind 37 = .ok (.getfield 17, 3) := by decide +kernel
theorem d_Z_kind_40 : decode b_Z_kind 40 = .ok (.iload_n 2, 1) := by decide +kernel
theorem d_Z_kind_41 : decode b_Z_kind 41 = .ok (.iaload, 1) := by decide +kernel
theorem d_Z_kind_42 : decode b_Z_kind 42 = .ok (.iadd, 1) := by decide +kernel
theorem d_Z_kind_43 : decode b_Z_kind 43 = .ok (.if_icmp .ge 18, 3) := by decide +kernel
theorem d_Z_kind_46 : decode b_Z_kind 46 = .ok (.aload_n 0, 1) := by decide +kernel
theorem d_Z_kind_47 : decode b_Z_kind 47 = .ok (.getfield 23, 3) := by decide +kernel
theorem d_Z_kind_50 : decode b_Z_kind 50 = .ok (.iload_n 2, 1) := by decide +kernel
theorem d_Z_kind_51 : decode b_Z_kind 51 = .ok (.baload, 1) := by decide +kernel
theorem d_Z_kind_52 : decode b_Z_kind 52 = .ok (.ifCond .eq 7, 3) := by decide +kernel
theorem d_Z_kind_55 : decode b_Z_kind 55 = .ok (.iconst 1, 1) := by decide +kernel
theorem d_Z_kind_56 : decode b_Z_kind 56 = .ok (.goto 4, 3) := by decide +kernel
theorem d_Z_kind_59 : decode b_Z_kind 59 = .ok (.iconst 2, 1) := by decide +kernel
theorem d_Z_kind_60 : decode b_Z_kind 60 = .ok (.ireturn, 1) := by decide +kernel
theorem d_Z_kind_61 : decode b_Z_kind 61 = .ok (.iload_n 2, 1) := by decide +kernel
theorem d_Z_kind_62 : decode b_Z_kind 62 = .ok (.ifCond .lt 15, 3) := by decide +kernel
theorem d_Z_kind_65 : decode b_Z_kind 65 = .ok (.iload_n 1, 1) := by decide +kernel
theorem d_Z_kind_66 : decode b_Z_kind 66 = .ok (.aload_n 0, 1) := by decide +kernel
theorem d_Z_kind_67 : decode b_Z_kind 67 = .ok (.iload_n 2, 1) := by decide +kernel
theorem d_Z_kind_68 : decode b_Z_kind 68 = .ok (.invokevirtual 59, 3) := by decide +kernel
theorem d_Z_kind_71 : decode b_Z_kind 71 = .ok (.bipush 16, 2) := by decide +kernel
theorem d_Z_kind_73 : decode b_Z_kind 73 = .ok (.iadd, 1) := by decide +kernel
theorem d_Z_kind_74 : decode b_Z_kind 74 = .ok (.if_icmp .lt 28, 3) := by decide +kernel
theorem d_Z_kind_77 : decode b_Z_kind 77 = .ok (.iload_n 2, 1) := by decide +kernel
theorem d_Z_kind_78 : decode b_Z_kind 78 = .ok (.iconst 1, 1) := by decide +kernel
theorem d_Z_kind_79 : decode b_Z_kind 79 = .ok (.iadd, 1) := by decide +kernel
theorem d_Z_kind_80 : decode b_Z_kind 80 = .ok (.aload_n 0, 1) := by decide +kernel
theorem d_Z_kind_81 : decode b_Z_kind 81 = .ok (.getfield 55, 3) := by decide +kernel
theorem d_Z_kind_84 : decode b_Z_kind 84 = .ok (.if_icmp .ge 20, 3) := by decide +kernel
theorem d_Z_kind_87 : decode b_Z_kind 87 = .ok (.iload_n 1, 1) := by decide +kernel
theorem d_Z_kind_88 : decode b_Z_kind 88 = .ok (.aload_n 0, 1) := by decide +kernel
theorem d_Z_kind_89 : decode b_Z_kind 89 = .ok (.getfield 13, 3) := by decide +kernel
theorem d_Z_kind_92 : decode b_Z_kind 92 = .ok (.iload_n 2, 1) := by decide +kernel
theorem d_Z_kind_93 : decode b_Z_kind 93 = .ok (.iconst 1, 1) := by decide +kernel
theorem d_Z_kind_94 : decode b_Z_kind 94 = .ok (.iadd, 1) := by decide +kernel
theorem d_Z_kind_95 : decode b_Z_kind 95 = .ok (.iaload, 1) := by decide +kernel
theorem d_Z_kind_96 : decode b_Z_kind 96 = .ok (.bipush 16, 2) := by decide +kernel
theorem d_Z_kind_98 : decode b_Z_kind 98 = .ok (.isub, 1) := by decide +kernel
theorem d_Z_kind_99 : decode b_Z_kind 99 = .ok (.if_icmp .lt 5, 3) := by decide +kernel
theorem d_Z_kind_102 : decode b_Z_kind 102 = .ok (.iconst 3, 1) := by decide +kernel
theorem d_Z_kind_103 : decode b_Z_kind 103 = .ok (.ireturn, 1) := by decide +kernel
theorem d_Z_kind_104 : decode b_Z_kind 104 = .ok (.iconst 0, 1) := by decide +kernel
theorem d_Z_kind_105 : decode b_Z_kind 105 = .ok (.ireturn, 1) := by decide +kernel
theorem d_Z_isLive_0 : decode b_Z_isLive 0 = .ok (.aload_n 0, 1) := by decide +kernel
theorem d_Z_isLive_1 : decode b_Z_isLive 1 = .ok (.iload_n 1, 1) := by decide +kernel
theorem d_Z_isLive_2 : decode b_Z_isLive 2 = .ok (.invokevirtual 78, 3) := by decide +kernel
theorem d_Z_isLive_5 : decode b_Z_isLive 5 = .ok (.istore_n 2, 1) := by decide +kernel
theorem d_Z_isLive_6 : decode b_Z_isLive 6 = .ok (.iload_n 2, 1) := by decide +kernel
theorem d_Z_isLive_7 : decode b_Z_isLive 7 = .ok (.ifCond .lt 33, 3) := by decide +kernel
theorem d_Z_isLive_10 : decode b_Z_isLive 10 = .ok (.aload_n 0, 1) := by decide +kernel
theorem d_Z_isLive_11 : decode b_Z_isLive 11 = .ok (.getfield 23, 3) := by decide +kernel
theorem d_Z_isLive_14 : decode b_Z_isLive 14 = .ok (.iload_n 2, 1) := by decide +kernel
theorem d_Z_isLive_15 : decode b_Z_isLive 15 = .ok (.baload, 1) := by decide +kernel
theorem d_Z_isLive_16 : decode b_Z_isLive 16 = .ok (.ifCond .eq 24, 3) := by decide +kernel
theorem d_Z_isLive_19 : decode b_Z_isLive 19 = .ok (.iload_n 1, 1) := by decide +kernel
theorem d_Z_isLive_20 : decode b_Z_isLive 20 = .ok (.aload_n 0, 1) := by decide +kernel
theorem d_Z_isLive_21 : decode b_Z_isLive 21 = .ok (.getfield 13, 3) := by decide +kernel
theorem d_Z_isLive_24 : decode b_Z_isLive 24 = .ok (.iload_n 2, 1) := by decide +kernel
theorem d_Z_isLive_25 : decode b_Z_isLive 25 = .ok (.iaload, 1) := by decide +kernel
theorem d_Z_isLive_26 : decode b_Z_isLive 26 = .ok (.aload_n 0, 1) := by decide +kernel
theorem d_Z_isLive_27 : decode b_Z_isLive 27 = .ok (.getfield 17, 3) := by decide +kernel
theorem d_Z_isLive_30 : decode b_Z_isLive 30 = .ok (.iload_n 2, 1) := by decide +kernel
theorem d_Z_isLive_31 : decode b_Z_isLive 31 = .ok (.iaload, 1) := by decide +kernel
theorem d_Z_isLive_32 : decode b_Z_isLive 32 = .ok (.iadd, 1) := by decide +kernel
theorem d_Z_isLive_33 : decode b_Z_isLive 33 = .ok (.if_icmp .ge 7, 3) := by decide +kernel
theorem d_Z_isLive_36 : decode b_Z_isLive 36 = .ok (.iconst 1, 1) := by decide +kernel
theorem d_Z_isLive_37 : decode b_Z_isLive 37 = .ok (.goto 4, 3) := by decide +kernel
theorem d_Z_isLive_40 : decode b_Z_isLive 40 = .ok (.iconst 0, 1) := by decide +kernel
theorem d_Z_isLive_41 : decode b_Z_isLive 41 = .ok (.ireturn, 1) := by decide +kernel
theorem d_Z_block_0 : decode b_Z_block 0 = .ok (.iload_n 1, 1) := by decide +kernel
theorem d_Z_block_1 : decode b_Z_block 1 = .ok (.ifCond .lt 14, 3) := by decide +kernel
theorem d_Z_block_4 : decode b_Z_block 4 = .ok (.iload_n 1, 1) := by decide +kernel
theorem d_Z_block_5 : decode b_Z_block 5 = .ok (.sipush 8192, 3) := by decide +kernel
theorem d_Z_block_8 : decode b_Z_block 8 = .ok (.if_icmp .ge 7, 3) := by decide +kernel
theorem d_Z_block_11 : decode b_Z_block 11 = .ok (.iconst 1, 1) := by decide +kernel
theorem d_Z_block_12 : decode b_Z_block 12 = .ok (.goto 4, 3) := by decide +kernel
theorem d_Z_block_15 : decode b_Z_block 15 = .ok (.iconst 0, 1) := by decide +kernel
theorem d_Z_block_16 : decode b_Z_block 16 = .ok (.invokestatic 103, 3) := by decide +kernel
theorem d_Z_block_19 : decode b_Z_block 19 = .ok (.aload_n 0, 1) := by decide +kernel
theorem d_Z_block_20 : decode b_Z_block 20 = .ok (.iload_n 1, 1) := by decide +kernel
theorem d_Z_block_21 : decode b_Z_block 21 = .ok (.invokevirtual 106, 3) := by decide +kernel
theorem d_Z_block_24 : decode b_Z_block 24 = .ok (.ifCond .eq 16, 3) := by decide +kernel
theorem d_Z_block_27 : decode b_Z_block 27 = .ok (.aload_n 0, 1) := by decide +kernel
theorem d_Z_block_28 : decode b_Z_block 28 = .ok (.getfield 13, 3) := by decide +kernel
theorem d_Z_block_31 : decode b_Z_block 31 = .ok (.aload_n 0, 1) := by decide +kernel
theorem d_Z_block_32 : decode b_Z_block 32 = .ok (.iload_n 1, 1) := by decide +kernel
theorem d_Z_block_33 : decode b_Z_block 33 = .ok (.invokevirtual 78, 3) := by decide +kernel
theorem d_Z_block_36 : decode b_Z_block 36 = .ok (.iaload, 1) := by decide +kernel
theorem d_Z_block_37 : decode b_Z_block 37 = .ok (.goto 4, 3) := by decide +kernel
theorem d_Z_block_40 : decode b_Z_block 40 = .ok (.iconst (-1), 1) := by decide +kernel
theorem d_Z_block_41 : decode b_Z_block 41 = .ok (.ireturn, 1) := by decide +kernel
theorem d_Z_four_0 : decode b_Z_four 0 = .ok (.iload_n 1, 1) := by decide +kernel
theorem d_Z_four_1 : decode b_Z_four 1 = .ok (.ifCond .lt 14, 3) := by decide +kernel
theorem d_Z_four_4 : decode b_Z_four 4 = .ok (.iload_n 1, 1) := by decide +kernel
theorem d_Z_four_5 : decode b_Z_four 5 = .ok (.sipush 8188, 3) := by decide +kernel
theorem d_Z_four_8 : decode b_Z_four 8 = .ok (.if_icmp .gt 7, 3) := by decide +kernel
theorem d_Z_four_11 : decode b_Z_four 11 = .ok (.iconst 1, 1) := by decide +kernel
theorem d_Z_four_12 : decode b_Z_four 12 = .ok (.goto 4, 3) := by decide +kernel
theorem d_Z_four_15 : decode b_Z_four 15 = .ok (.iconst 0, 1) := by decide +kernel
theorem d_Z_four_16 : decode b_Z_four 16 = .ok (.invokestatic 103, 3) := by decide +kernel
theorem d_Z_four_19 : decode b_Z_four 19 = .ok (.aload_n 0, 1) := by decide +kernel
theorem d_Z_four_20 : decode b_Z_four 20 = .ok (.iload_n 1, 1) := by decide +kernel
theorem d_Z_four_21 : decode b_Z_four 21 = .ok (.invokevirtual 106, 3) := by decide +kernel
theorem d_Z_four_24 : decode b_Z_four 24 = .ok (.ifCond .eq 17, 3) := by decide +kernel
theorem d_Z_four_27 : decode b_Z_four 27 = .ok (.aload_n 0, 1) := by decide +kernel
theorem d_Z_four_28 : decode b_Z_four 28 = .ok (.iload_n 1, 1) := by decide +kernel
theorem d_Z_four_29 : decode b_Z_four 29 = .ok (.iconst 3, 1) := by decide +kernel
theorem d_Z_four_30 : decode b_Z_four 30 = .ok (.iadd, 1) := by decide +kernel
theorem d_Z_four_31 : decode b_Z_four 31 = .ok (.invokevirtual 106, 3) := by decide +kernel
theorem d_Z_four_34 : decode b_Z_four 34 = .ok (.ifCond .eq 7, 3) := by decide +kernel
theorem d_Z_four_37 : decode b_Z_four 37 = .ok (.iconst 1, 1) := by decide +kernel
theorem d_Z_four_38 : decode b_Z_four 38 = .ok (.goto 4, 3) := by decide +kernel
theorem d_Z_four_41 : decode b_Z_four 41 = .ok (.iconst 0, 1) := by decide +kernel
theorem d_Z_four_42 : decode b_Z_four 42 = .ok (.invokestatic 81, 3) := by decide +kernel
theorem d_Z_four_45 : decode b_Z_four 45 = .ok (.return_, 1) := by decide +kernel
theorem d_Z_write_0 : decode b_Z_write 0 = .ok (.aload_n 0, 1) := by decide +kernel
theorem d_Z_write_1 : decode b_Z_write 1 = .ok (.iload_n 1, 1) := by decide +kernel
theorem d_Z_write_2 : decode b_Z_write 2 = .ok (.invokevirtual 110, 3) := by decide +kernel
theorem d_Z_write_5 : decode b_Z_write 5 = .ok (.iconst 0, 1) := by decide +kernel
theorem d_Z_write_6 : decode b_Z_write 6 = .ok (.istore_n 3, 1) := by decide +kernel
theorem d_Z_write_7 : decode b_Z_write 7 = .ok (.iload_n 3, 1) := by decide +kernel
theorem d_Z_write_8 : decode b_Z_write 8 = .ok (.iconst 4, 1) := by decide +kernel
theorem d_Z_write_9 : decode b_Z_write 9 = .ok (.if_icmp .ge 24, 3) := by decide +kernel
theorem d_Z_write_12 : decode b_Z_write 12 = .ok (.aload_n 0, 1) := by decide +kernel
theorem d_Z_write_13 : decode b_Z_write 13 = .ok (.getfield 9, 3) := by decide +kernel
theorem d_Z_write_16 : decode b_Z_write 16 = .ok (.iload_n 1, 1) := by decide +kernel
theorem d_Z_write_17 : decode b_Z_write 17 = .ok (.iload_n 3, 1) := by decide +kernel
theorem d_Z_write_18 : decode b_Z_write 18 = .ok (.iadd, 1) := by decide +kernel
theorem d_Z_write_19 : decode b_Z_write 19 = .ok (.iload_n 2, 1) := by decide +kernel
theorem d_Z_write_20 : decode b_Z_write 20 = .ok (.bipush 8, 2) := by decide +kernel
theorem d_Z_write_22 : decode b_Z_write 22 = .ok (.iload_n 3, 1) := by decide +kernel
theorem d_Z_write_23 : decode b_Z_write 23 = .ok (.imul, 1) := by decide +kernel
theorem d_Z_write_24 : decode b_Z_write 24 = .ok (.ishr, 1) := by decide +kernel
theorem d_Z_write_25 : decode b_Z_write 25 = .ok (.i2b, 1) := by decide +kernel
theorem d_Z_write_26 : decode b_Z_write 26 = .ok (.bastore, 1) := by decide +kernel
theorem d_Z_write_27 : decode b_Z_write 27 = .ok (.iinc 3 1, 3) := by decide +kernel
theorem d_Z_write_30 : decode b_Z_write 30 = .ok (.goto (-23), 3) := by decide +kernel
theorem d_Z_write_33 : decode b_Z_write 33 = .ok (.return_, 1) := by decide +kernel
theorem d_Z_word_0 : decode b_Z_word 0 = .ok (.aload_n 0, 1) := by decide +kernel
theorem d_Z_word_1 : decode b_Z_word 1 = .ok (.getfield 9, 3) := by decide +kernel
theorem d_Z_word_4 : decode b_Z_word 4 = .ok (.iload_n 1, 1) := by decide +kernel
theorem d_Z_word_5 : decode b_Z_word 5 = .ok (.baload, 1) := by decide +kernel
theorem d_Z_word_6 : decode b_Z_word 6 = .ok (.sipush 255, 3) := by decide +kernel
theorem d_Z_word_9 : decode b_Z_word 9 = .ok (.iand, 1) := by decide +kernel
theorem d_Z_word_10 : decode b_Z_word 10 = .ok (.aload_n 0, 1) := by decide +kernel
theorem d_Z_word_11 : decode b_Z_word 11 = .ok (.getfield 9, 3) := by decide +kernel
theorem d_Z_word_14 : decode b_Z_word 14 = .ok (.iload_n 1, 1) := by decide +kernel
theorem d_Z_word_15 : decode b_Z_word 15 = .ok (.iconst 1, 1) := by decide +kernel
theorem d_Z_word_16 : decode b_Z_word 16 = .ok (.iadd, 1) := by decide +kernel
theorem d_Z_word_17 : decode b_Z_word 17 = .ok (.baload, 1) := by decide +kernel
theorem d_Z_word_18 : decode b_Z_word 18 = .ok (.sipush 255, 3) := by decide +kernel
theorem d_Z_word_21 : decode b_Z_word 21 = .ok (.iand, 1) := by decide +kernel
theorem d_Z_word_22 : decode b_Z_word 22 = .ok (.bipush 8, 2) := by decide +kernel
theorem d_Z_word_24 : decode b_Z_word 24 = .ok (.ishl, 1) := by decide +kernel
theorem d_Z_word_25 : decode b_Z_word 25 = .ok (.ior, 1) := by decide +kernel
theorem d_Z_word_26 : decode b_Z_word 26 = .ok (.aload_n 0, 1) := by decide +kernel
theorem d_Z_word_27 : decode b_Z_word 27 = .ok (.getfield 9, 3) := by decide +kernel
theorem d_Z_word_30 : decode b_Z_word 30 = .ok (.iload_n 1, 1) := by decide +kernel
theorem d_Z_word_31 : decode b_Z_word 31 = .ok (.iconst 2, 1) := by decide +kernel
theorem d_Z_word_32 : decode b_Z_word 32 = .ok (.iadd, 1) := by decide +kernel
theorem d_Z_word_33 : decode b_Z_word 33 = .ok (.baload, 1) := by decide +kernel
theorem d_Z_word_34 : decode b_Z_word 34 = .ok (.sipush 255, 3) := by decide +kernel
theorem d_Z_word_37 : decode b_Z_word 37 = .ok (.iand, 1) := by decide +kernel
theorem d_Z_word_38 : decode b_Z_word 38 = .ok (.bipush 16, 2) := by decide +kernel
theorem d_Z_word_40 : decode b_Z_word 40 = .ok (.ishl, 1) := by decide +kernel
theorem d_Z_word_41 : decode b_Z_word 41 = .ok (.ior, 1) := by decide +kernel
theorem d_Z_word_42 : decode b_Z_word 42 = .ok (.aload_n 0, 1) := by decide +kernel
theorem d_Z_word_43 : decode b_Z_word 43 = .ok (.getfield 9, 3) := by decide +kernel
theorem d_Z_word_46 : decode b_Z_word 46 = .ok (.iload_n 1, 1) := by decide +kernel
theorem d_Z_word_47 : decode b_Z_word 47 = .ok (.iconst 3, 1) := by decide +kernel
theorem d_Z_word_48 : decode b_Z_word 48 = .ok (.iadd, 1) := by decide +kernel
theorem d_Z_word_49 : decode b_Z_word 49 = .ok (.baload, 1) := by decide +kernel
theorem d_Z_word_50 : decode b_Z_word 50 = .ok (.bipush 24, 2) := by decide +kernel
theorem d_Z_word_52 : decode b_Z_word 52 = .ok (.ishl, 1) := by decide +kernel
theorem d_Z_word_53 : decode b_Z_word 53 = .ok (.ior, 1) := by decide +kernel
theorem d_Z_word_54 : decode b_Z_word 54 = .ok (.ireturn, 1) := by decide +kernel
theorem d_Z_read_0 : decode b_Z_read 0 = .ok (.aload_n 0, 1) := by decide +kernel
theorem d_Z_read_1 : decode b_Z_read 1 = .ok (.iload_n 1, 1) := by decide +kernel
theorem d_Z_read_2 : decode b_Z_read 2 = .ok (.invokevirtual 110, 3) := by decide +kernel
theorem d_Z_read_5 : decode b_Z_read 5 = .ok (.aload_n 0, 1) := by decide +kernel
theorem d_Z_read_6 : decode b_Z_read 6 = .ok (.iload_n 1, 1) := by decide +kernel
theorem d_Z_read_7 : decode b_Z_read 7 = .ok (.invokevirtual 113, 3) := by decide +kernel
theorem d_Z_read_10 : decode b_Z_read 10 = .ok (.ireturn, 1) := by decide +kernel
theorem d_Z_leads_0 : decode b_Z_leads 0 = .ok (.aload_n 0, 1) := by decide +kernel
theorem d_Z_leads_1 : decode b_Z_leads 1 = .ok (.iload_n 1, 1) := by decide +kernel
theorem d_Z_leads_2 : decode b_Z_leads 2 = .ok (.invokevirtual 78, 3) := by decide +kernel
theorem d_Z_leads_5 : decode b_Z_leads 5 = .ok (.istore_n 2, 1) := by decide +kernel
theorem d_Z_leads_6 : decode b_Z_leads 6 = .ok (.iload_n 2, 1) := by decide +kernel
theorem d_Z_leads_7 : decode b_Z_leads 7 = .ok (.ifCond .lt 48, 3) := by decide +kernel
theorem d_Z_leads_10 : decode b_Z_leads 10 = .ok (.aload_n 0, 1) := by decide +kernel
theorem d_Z_leads_11 : decode b_Z_leads 11 = .ok (.getfield 23, 3) := by decide +kernel
theorem d_Z_leads_14 : decode b_Z_leads 14 = .ok (.iload_n 2, 1) := by decide +kernel
theorem d_Z_leads_15 : decode b_Z_leads 15 = .ok (.baload, 1) := by decide +kernel
theorem d_Z_leads_16 : decode b_Z_leads 16 = .ok (.ifCond .eq 39, 3) := by decide +kernel
theorem d_Z_leads_19 : decode b_Z_leads 19 = .ok (.aload_n 0, 1) := by decide +kernel
theorem d_Z_leads_20 : decode b_Z_leads 20 = .ok (.getfield 27, 3) := by decide +kernel
theorem d_Z_leads_23 : decode b_Z_leads 23 = .ok (.iload_n 2, 1) := by decide +kernel
theorem d_Z_leads_24 : decode b_Z_leads 24 = .ok (.baload, 1) := by decide +kernel
theorem d_Z_leads_25 : decode b_Z_leads 25 = .ok (.ifCond .ne 30, 3) := by decide +kernel
theorem d_Z_leads_28 : decode b_Z_leads 28 = .ok (.iload_n 1, 1) := by decide +kernel
theorem d_Z_leads_29 : decode b_Z_leads 29 = .ok (.aload_n 0, 1) := by decide +kernel
theorem d_Z_leads_30 : decode b_Z_leads 30 = .ok (.getfield 13, 3) := by decide +kernel
theorem d_Z_leads_33 : decode b_Z_leads 33 = .ok (.iload_n 2, 1) := by decide +kernel
theorem d_Z_leads_34 : decode b_Z_leads 34 = .ok (.iaload, 1) := by decide +kernel
theorem d_Z_leads_35 : decode b_Z_leads 35 = .ok (.if_icmp .eq 21, 3) := by decide +kernel
theorem d_Z_leads_38 : decode b_Z_leads 38 = .ok (.iload_n 1, 1) := by decide +kernel
theorem d_Z_leads_39 : decode b_Z_leads 39 = .ok (.aload_n 0, 1) := by decide +kernel
theorem d_Z_leads_40 : decode b_Z_leads 40 = .ok (.getfield 13, 3) := by decide +kernel
theorem d_Z_leads_43 : decode b_Z_leads 43 = .ok (.iload_n 2, 1) := by decide +kernel
theorem d_Z_leads_44 : decode b_Z_leads 44 = .ok (.iaload, 1) := by decide +kernel
theorem d_Z_leads_45 : decode b_Z_leads 45 = .ok (.aload_n 0, 1) := by decide +kernel
theorem d_Z_leads_46 : decode b_Z_leads 46 = .ok (.getfield 17, 3) := by decide +kernel
theorem d_Z_leads_49 : decode b_Z_leads 49 = .ok (.iload_n 2, 1) := by decide +kernel
theorem d_Z_leads_50 : decode b_Z_leads 50 = .ok (.iaload, 1) := by decide +kernel
theorem d_Z_leads_51 : decode b_Z_leads 51 = .ok (.iadd, 1) := by decide +kernel
theorem d_Z_leads_52 : decode b_Z_leads 52 = .ok (.if_icmp .lt 4, 3) := by decide +kernel
theorem d_Z_leads_55 : decode b_Z_leads 55 = .ok (.return_, 1) := by decide +kernel
theorem d_Z_leads_56 : decode b_Z_leads 56 = .ok (.aload_n 0, 1) := by decide +kernel
theorem d_Z_leads_57 : decode b_Z_leads 57 = .ok (.getfield 27, 3) := by decide +kernel
theorem d_Z_leads_60 : decode b_Z_leads 60 = .ok (.iload_n 2, 1) := by decide +kernel
theorem d_Z_leads_61 : decode b_Z_leads 61 = .ok (.iconst 1, 1) := by decide +kernel
theorem d_Z_leads_62 : decode b_Z_leads 62 = .ok (.bastore, 1) := by decide +kernel
theorem d_Z_leads_63 : decode b_Z_leads 63 = .ok (.aload_n 0, 1) := by decide +kernel
theorem d_Z_leads_64 : decode b_Z_leads 64 = .ok (.getfield 30, 3) := by decide +kernel
theorem d_Z_leads_67 : decode b_Z_leads 67 = .ok (.aload_n 0, 1) := by decide +kernel
theorem d_Z_leads_68 : decode b_Z_leads 68 = .ok (.dup, 1) := by decide +kernel
theorem d_Z_leads_69 : decode b_Z_leads 69 = .ok (.getfield 116, 3) := by decide +kernel
theorem d_Z_leads_72 : decode b_Z_leads 72 = .ok (.dup_x1, 1) := by decide +kernel
theorem d_Z_leads_73 : decode b_Z_leads 73 = .ok (.iconst 1, 1) := by decide +kernel
theorem d_Z_leads_74 : decode b_Z_leads 74 = .ok (.iadd, 1) := by decide +kernel
theorem d_Z_leads_75 : decode b_Z_leads 75 = .ok (.putfield 116, 3) := by decide +kernel
theorem d_Z_leads_78 : decode b_Z_leads 78 = .ok (.iload_n 2, 1) := by decide +kernel
theorem d_Z_leads_79 : decode b_Z_leads 79 = .ok (.iastore, 1) := by decide +kernel
theorem d_Z_leads_80 : decode b_Z_leads 80 = .ok (.return_, 1) := by decide +kernel
theorem d_Z_lost_0 : decode b_Z_lost 0 = .ok (.iconst 0, 1) := by decide +kernel
theorem d_Z_lost_1 : decode b_Z_lost 1 = .ok (.istore_n 3, 1) := by decide +kernel
theorem d_Z_lost_2 : decode b_Z_lost 2 = .ok (.iload_n 3, 1) := by decide +kernel
theorem d_Z_lost_3 : decode b_Z_lost 3 = .ok (.aload_n 0, 1) := by decide +kernel
theorem d_Z_lost_4 : decode b_Z_lost 4 = .ok (.getfield 55, 3) := by decide +kernel
theorem d_Z_lost_7 : decode b_Z_lost 7 = .ok (.if_icmp .ge 16, 3) := by decide +kernel
theorem d_Z_lost_10 : decode b_Z_lost 10 = .ok (.aload_n 0, 1) := by decide +kernel
theorem d_Z_lost_11 : decode b_Z_lost 11 = .ok (.getfield 27, 3) := by decide +kernel
theorem d_Z_lost_14 : decode b_Z_lost 14 = .ok (.iload_n 3, 1) := by decide +kernel
theorem d_Z_lost_15 : decode b_Z_lost 15 = .ok (.iconst 0, 1) := by decide +kernel
theorem d_Z_lost_16 : decode b_Z_lost 16 = .ok (.bastore, 1) := by decide +kernel
theorem d_Z_lost_17 : decode b_Z_lost 17 = .ok (.iinc 3 1, 3) := by decide +kernel
theorem d_Z_lost_20 : decode b_Z_lost 20 = .ok (.goto (-18), 3) := by decide +kernel
theorem d_Z_lost_23 : decode b_Z_lost 23 = .ok (.aload_n 0, 1) := by decide +kernel
theorem d_Z_lost_24 : decode b_Z_lost 24 = .ok (.iconst 0, 1) := by decide +kernel
theorem d_Z_lost_25 : decode b_Z_lost 25 = .ok (.putfield 116, 3) := by decide +kernel
theorem d_Z_lost_28 : decode b_Z_lost 28 = .ok (.aload_n 0, 1) := by decide +kernel
theorem d_Z_lost_29 : decode b_Z_lost 29 = .ok (.iload_n 1, 1) := by decide +kernel
theorem d_Z_lost_30 : decode b_Z_lost 30 = .ok (.invokevirtual 119, 3) := by decide +kernel
theorem d_Z_lost_33 : decode b_Z_lost 33 = .ok (.aload_n 0, 1) := by decide +kernel
theorem d_Z_lost_34 : decode b_Z_lost 34 = .ok (.iload_n 2, 1) := by decide +kernel
theorem d_Z_lost_35 : decode b_Z_lost 35 = .ok (.invokevirtual 119, 3) := by decide +kernel
theorem d_Z_lost_38 : decode b_Z_lost 38 = .ok (.aload_n 0, 1) := by decide +kernel
theorem d_Z_lost_39 : decode b_Z_lost 39 = .ok (.getfield 116, 3) := by decide +kernel
theorem d_Z_lost_42 : decode b_Z_lost 42 = .ok (.ifCond .le 67, 3) := by decide +kernel
theorem d_Z_lost_45 : decode b_Z_lost 45 = .ok (.aload_n 0, 1) := by decide +kernel
theorem d_Z_lost_46 : decode b_Z_lost 46 = .ok (.getfield 30, 3) := by decide +kernel
theorem d_Z_lost_49 : decode b_Z_lost 49 = .ok (.aload_n 0, 1) := by decide +kernel
theorem d_Z_lost_50 : decode b_Z_lost 50 = .ok (.dup, 1) := by decide +kernel
theorem d_Z_lost_51 : decode b_Z_lost 51 = .ok (.getfield 116, 3) := by decide +kernel
theorem d_Z_lost_54 : decode b_Z_lost 54 = .ok (.iconst 1, 1) := by decide +kernel
theorem d_Z_lost_55 : decode b_Z_lost 55 = .ok (.isub, 1) := by decide +kernel
theorem d_Z_lost_56 : decode b_Z_lost 56 = .ok (.dup_x1, 1) := by decide +kernel
theorem d_Z_lost_57 : decode b_Z_lost 57 = .ok (.putfield 116, 3) := by decide +kernel
theorem d_Z_lost_60 : decode b_Z_lost 60 = .ok (.iaload, 1) := by decide +kernel
theorem d_Z_lost_61 : decode b_Z_lost 61 = .ok (.istore_n 3, 1) := by decide +kernel
theorem d_Z_lost_62 : decode b_Z_lost 62 = .ok (.aload_n 0, 1) := by decide +kernel
theorem d_Z_lost_63 : decode b_Z_lost 63 = .ok (.getfield 13, 3) := by decide +kernel
theorem d_Z_lost_66 : decode b_Z_lost 66 = .ok (.iload_n 3, 1) := by decide +kernel
theorem d_Z_lost_67 : decode b_Z_lost 67 = .ok (.iaload, 1) := by decide +kernel
theorem d_Z_lost_68 : decode b_Z_lost 68 = .ok (.istore 4, 2) := by decide +kernel
theorem d_Z_lost_70 : decode b_Z_lost 70 = .ok (.iload 4, 2) := by decide +kernel
theorem d_Z_lost_72 : decode b_Z_lost 72 = .ok (.iconst 4, 1) := by decide +kernel
theorem d_Z_lost_73 : decode b_Z_lost 73 = .ok (.iadd, 1) := by decide +kernel
theorem d_Z_lost_74 : decode b_Z_lost 74 = .ok (.aload_n 0, 1) := by decide +kernel
theorem d_Z_lost_75 : decode b_Z_lost 75 = .ok (.getfield 13, 3) := by decide +kernel
theorem d_Z_lost_78 : decode b_Z_lost 78 = .ok (.iload_n 3, 1) := by decide +kernel
theorem d_Z_lost_79 : decode b_Z_lost 79 = .ok (.iaload, 1) := by decide +kernel
theorem d_Z_lost_80 : decode b_Z_lost 80 = .ok (.aload_n 0, 1) := by decide +kernel
theorem d_Z_lost_81 : decode b_Z_lost 81 = .ok (.getfield 17, 3) := by decide +kernel
theorem d_Z_lost_84 : decode b_Z_lost 84 = .ok (.iload_n 3, 1) := by decide +kernel
theorem d_Z_lost_85 : decode b_Z_lost 85 = .ok (.iaload, 1) := by decide +kernel
theorem d_Z_lost_86 : decode b_Z_lost 86 = .ok (.iadd, 1) := by decide +kernel
theorem d_Z_lost_87 : decode b_Z_lost 87 = .ok (.if_icmp .gt 19, 3) := by decide +kernel
theorem d_Z_lost_90 : decode b_Z_lost 90 = .ok (.aload_n 0, 1) := by decide +kernel
theorem d_Z_lost_91 : decode b_Z_lost 91 = .ok (.aload_n 0, 1) := by decide +kernel
theorem d_Z_lost_92 : decode b_Z_lost 92 = .ok (.iload 4, 2) := by decide +kernel
theorem d_Z_lost_94 : decode b_Z_lost 94 = .ok (.invokevirtual 113, 3) := by decide +kernel
theorem d_Z_lost_97 : decode b_Z_lost 97 = .ok (.invokevirtual 119, 3) := by decide +kernel
theorem d_Z_lost_100 : decode b_Z_lost 100 = .ok (.iinc 4 4, 3) := by decide +kernel
theorem d_Z_lost_103 : decode b_Z_lost 103 = .ok (.goto (-33), 3) := by decide +kernel
theorem d_Z_lost_106 : decode b_Z_lost 106 = .ok (.goto (-68), 3) := by decide +kernel
theorem d_Z_lost_109 : decode b_Z_lost 109 = .ok (.aload_n 0, 1) := by decide +kernel
theorem d_Z_lost_110 : decode b_Z_lost 110 = .ok (.iconst 0, 1) := by decide +kernel
theorem d_Z_lost_111 : decode b_Z_lost 111 = .ok (.putfield 122, 3) := by decide +kernel
theorem d_Z_lost_114 : decode b_Z_lost 114 = .ok (.iconst 0, 1) := by decide +kernel
theorem d_Z_lost_115 : decode b_Z_lost 115 = .ok (.istore_n 3, 1) := by decide +kernel
theorem d_Z_lost_116 : decode b_Z_lost 116 = .ok (.iload_n 3, 1) := by decide +kernel
theorem d_Z_lost_117 : decode b_Z_lost 117 = .ok (.aload_n 0, 1) := by decide +kernel
theorem d_Z_lost_118 : decode b_Z_lost 118 = .ok (.getfield 55, 3) := by decide +kernel
theorem d_Z_lost_121 : decode b_Z_lost 121 = .ok (.if_icmp .ge 49, 3) := by decide +kernel
theorem d_Z_lost_124 : decode b_Z_lost 124 = .ok (.aload_n 0, 1) := by decide +kernel
theorem d_Z_lost_125 : decode b_Z_lost 125 = .ok (.getfield 23, 3) := by decide +kernel
theorem d_Z_lost_128 : decode b_Z_lost 128 = .ok (.iload_n 3, 1) := by decide +kernel
theorem d_Z_lost_129 : decode b_Z_lost 129 = .ok (.baload, 1) := by decide +kernel
theorem d_Z_lost_130 : decode b_Z_lost 130 = .ok (.ifCond .eq 34, 3) := by decide +kernel
theorem d_Z_lost_133 : decode b_Z_lost 133 = .ok (.aload_n 0, 1) := by decide +kernel
theorem d_Z_lost_134 : decode b_Z_lost 134 = .ok (.getfield 27, 3) := by decide +kernel
theorem d_Z_lost_137 : decode b_Z_lost 137 = .ok (.iload_n 3, 1) := by decide +kernel
theorem d_Z_lost_138 : decode b_Z_lost 138 = .ok (.baload, 1) := by decide +kernel
theorem d_Z_lost_139 : decode b_Z_lost 139 = .ok (.ifCond .ne 25, 3) := by decide +kernel
theorem d_Z_lost_142 : decode b_Z_lost 142 = .ok (.aload_n 0, 1) := by decide +kernel
theorem d_Z_lost_143 : decode b_Z_lost 143 = .ok (.getfield 33, 3) := by decide +kernel
theorem d_Z_lost_146 : decode b_Z_lost 146 = .ok (.aload_n 0, 1) := by decide +kernel
theorem d_Z_lost_147 : decode b_Z_lost 147 = .ok (.dup, 1) := by decide +kernel
theorem d_Z_lost_148 : decode b_Z_lost 148 = .ok (.getfield 122, 3) := by decide +kernel
theorem d_Z_lost_151 : decode b_Z_lost 151 = .ok (.dup_x1, 1) := by decide +kernel
theorem d_Z_lost_152 : decode b_Z_lost 152 = .ok (.iconst 1, 1) := by decide +kernel
theorem d_Z_lost_153 : decode b_Z_lost 153 = .ok (.iadd, 1) := by decide +kernel
theorem d_Z_lost_154 : decode b_Z_lost 154 = .ok (.putfield 122, 3) := by decide +kernel
theorem d_Z_lost_157 : decode b_Z_lost 157 = .ok (.aload_n 0, 1) := by decide +kernel
theorem d_Z_lost_158 : decode b_Z_lost 158 = .ok (.getfield 13, 3) := by decide +kernel
theorem d_Z_lost_161 : decode b_Z_lost 161 = .ok (.iload_n 3, 1) := by decide +kernel
theorem d_Z_lost_162 : decode b_Z_lost 162 = .ok (.iaload, 1) := by decide +kernel
theorem d_Z_lost_163 : decode b_Z_lost 163 = .ok (.iastore, 1) := by decide +kernel
theorem d_Z_lost_164 : decode b_Z_lost 164 = .ok (.iinc 3 1, 3) := by decide +kernel
theorem d_Z_lost_167 : decode b_Z_lost 167 = .ok (.goto (-51), 3) := by decide +kernel
theorem d_Z_lost_170 : decode b_Z_lost 170 = .ok (.aload_n 0, 1) := by decide +kernel
theorem d_Z_lost_171 : decode b_Z_lost 171 = .ok (.getfield 122, 3) := by decide +kernel
theorem d_Z_lost_174 : decode b_Z_lost 174 = .ok (.ireturn, 1) := by decide +kernel
theorem d_Z_lostAt_0 : decode b_Z_lostAt 0 = .ok (.iload_n 1, 1) := by decide +kernel
theorem d_Z_lostAt_1 : decode b_Z_lostAt 1 = .ok (.ifCond .lt 15, 3) := by decide +kernel
theorem d_Z_lostAt_4 : decode b_Z_lostAt 4 = .ok (.iload_n 1, 1) := by decide +kernel
theorem d_Z_lostAt_5 : decode b_Z_lostAt 5 = .ok (.aload_n 0, 1) := by decide +kernel
theorem d_Z_lostAt_6 : decode b_Z_lostAt 6 = .ok (.getfield 122, 3) := by decide +kernel
theorem d_Z_lostAt_9 : decode b_Z_lostAt 9 = .ok (.if_icmp .ge 7, 3) := by decide +kernel
theorem d_Z_lostAt_12 : decode b_Z_lostAt 12 = .ok (.iconst 1, 1) := by decide +kernel
theorem d_Z_lostAt_13 : decode b_Z_lostAt 13 = .ok (.goto 4, 3) := by decide +kernel
theorem d_Z_lostAt_16 : decode b_Z_lostAt 16 = .ok (.iconst 0, 1) := by decide +kernel
theorem d_Z_lostAt_17 : decode b_Z_lostAt 17 = .ok (.invokestatic 103, 3) := by decide +kernel
theorem d_Z_lostAt_20 : decode b_Z_lostAt 20 = .ok (.aload_n 0, 1) := by decide +kernel
theorem d_Z_lostAt_21 : decode b_Z_lostAt 21 = .ok (.getfield 33, 3) := by decide +kernel
theorem d_Z_lostAt_24 : decode b_Z_lostAt 24 = .ok (.iload_n 1, 1) := by decide +kernel
theorem d_Z_lostAt_25 : decode b_Z_lostAt 25 = .ok (.iaload, 1) := by decide +kernel
theorem d_Z_lostAt_26 : decode b_Z_lostAt 26 = .ok (.ireturn, 1) := by decide +kernel
theorem d_Z_count_0 : decode b_Z_count 0 = .ok (.iconst 0, 1) := by decide +kernel
theorem d_Z_count_1 : decode b_Z_count 1 = .ok (.istore_n 2, 1) := by decide +kernel
theorem d_Z_count_2 : decode b_Z_count 2 = .ok (.iload_n 1, 1) := by decide +kernel
theorem d_Z_count_3 : decode b_Z_count 3 = .ok (.tableswitch 94 0 4 #[33, 43, 79, 84, 89], 33) := by decide +kernel
theorem d_Z_count_36 : decode b_Z_count 36 = .ok (.aload_n 0, 1) := by decide +kernel
theorem d_Z_count_37 : decode b_Z_count 37 = .ok (.getfield 55, 3) := by decide +kernel
theorem d_Z_count_40 : decode b_Z_count 40 = .ok (.aload_n 0, 1) := by decide +kernel
theorem d_Z_count_41 : decode b_Z_count 41 = .ok (.getfield 87, 3) := by decide +kernel
theorem d_Z_count_44 : decode b_Z_count 44 = .ok (.isub, 1) := by decide +kernel
theorem d_Z_count_45 : decode b_Z_count 45 = .ok (.ireturn, 1) := by decide +kernel
theorem d_Z_count_46 : decode b_Z_count 46 = .ok (.iconst 0, 1) := by decide +kernel
theorem d_Z_count_47 : decode b_Z_count 47 = .ok (.istore_n 3, 1) := by decide +kernel
theorem d_Z_count_48 : decode b_Z_count 48 = .ok (.iload_n 3, 1) := by decide +kernel
theorem d_Z_count_49 : decode b_Z_count 49 = .ok (.aload_n 0, 1) := by decide +kernel
theorem d_Z_count_50 : decode b_Z_count 50 = .ok (.getfield 55, 3) := by decide +kernel
theorem d_Z_count_53 : decode b_Z_count 53 = .ok (.if_icmp .ge 27, 3) := by decide +kernel
theorem d_Z_count_56 : decode b_Z_count 56 = .ok (.aload_n 0, 1) := by decide +kernel
theorem d_Z_count_57 : decode b_Z_count 57 = .ok (.getfield 23, 3) := by decide +kernel
theorem d_Z_count_60 : decode b_Z_count 60 = .ok (.iload_n 3, 1) := by decide +kernel
theorem d_Z_count_61 : decode b_Z_count 61 = .ok (.baload, 1) := by decide +kernel
theorem d_Z_count_62 : decode b_Z_count 62 = .ok (.ifCond .eq 12, 3) := by decide +kernel
theorem d_Z_count_65 : decode b_Z_count 65 = .ok (.iload_n 2, 1) := by decide +kernel
theorem d_Z_count_66 : decode b_Z_count 66 = .ok (.aload_n 0, 1) := by decide +kernel
theorem d_Z_count_67 : decode b_Z_count 67 = .ok (.getfield 17, 3) := by decide +kernel
theorem d_Z_count_70 : decode b_Z_count 70 = .ok (.iload_n 3, 1) := by decide +kernel
theorem d_Z_count_71 : decode b_Z_count 71 = .ok (.iaload, 1) := by decide +kernel
theorem d_Z_count_72 : decode b_Z_count 72 = .ok (.iadd, 1) := by decide +kernel
theorem d_Z_count_73 : decode b_Z_count 73 = .ok (.istore_n 2, 1) := by decide +kernel
theorem d_Z_count_74 : decode b_Z_count 74 = .ok (.iinc 3 1, 3) := by decide +kernel
theorem d_Z_count_77 : decode b_Z_count 77 = .ok (.goto (-29), 3) := by decide +kernel
theorem d_Z_count_80 : decode b_Z_count 80 = .ok (.iload_n 2, 1) := by decide +kernel
theorem d_Z_count_81 : decode b_Z_count 81 = .ok (.ireturn, 1) := by decide +kernel
theorem d_Z_count_82 : decode b_Z_count 82 = .ok (.aload_n 0, 1) := by decide +kernel
theorem d_Z_count_83 : decode b_Z_count 83 = .ok (.getfield 87, 3) := by decide +kernel
theorem d_Z_count_86 : decode b_Z_count 86 = .ok (.ireturn, 1) := by decide +kernel
theorem d_Z_count_87 : decode b_Z_count 87 = .ok (.aload_n 0, 1) := by decide +kernel
theorem d_Z_count_88 : decode b_Z_count 88 = .ok (.getfield 90, 3) := by decide +kernel
theorem d_Z_count_91 : decode b_Z_count 91 = .ok (.ireturn, 1) := by decide +kernel
theorem d_Z_count_92 : decode b_Z_count 92 = .ok (.aload_n 0, 1) := by decide +kernel
theorem d_Z_count_93 : decode b_Z_count 93 = .ok (.getfield 69, 3) := by decide +kernel
theorem d_Z_count_96 : decode b_Z_count 96 = .ok (.ireturn, 1) := by decide +kernel
theorem d_Z_count_97 : decode b_Z_count 97 = .ok (.new 36, 3) := by decide +kernel
theorem d_Z_count_100 : decode b_Z_count 100 = .ok (.dup, 1) := by decide +kernel
theorem d_Z_count_101 : decode b_Z_count 101 = .ok (.invokespecial 38, 3) := by decide +kernel
theorem d_Z_count_104 : decode b_Z_count 104 = .ok (.athrow, 1) := by decide +kernel
theorem d_Math_max_0 : decode b_Math_max 0 = .ok (.iload_n 0, 1) := by decide +kernel
theorem d_Math_max_1 : decode b_Math_max 1 = .ok (.iload_n 1, 1) := by decide +kernel
theorem d_Math_max_2 : decode b_Math_max 2 = .ok (.if_icmp .lt 7, 3) := by decide +kernel
theorem d_Math_max_5 : decode b_Math_max 5 = .ok (.iload_n 0, 1) := by decide +kernel
theorem d_Math_max_6 : decode b_Math_max 6 = .ok (.goto 4, 3) := by decide +kernel
theorem d_Math_max_9 : decode b_Math_max 9 = .ok (.iload_n 1, 1) := by decide +kernel
theorem d_Math_max_10 : decode b_Math_max 10 = .ok (.ireturn, 1) := by decide +kernel
end
section
/-! the instructions (printed by program) -/
theorem d_M_init_0 : decode b_M_init 0 = .ok (.aload_n 0, 1) := by decide +kernel
theorem d_M_init_1 : decode b_M_init 1 = .ok (.invokespecial 1, 3) := by decide +kernel
theorem d_M_init_4 : decode b_M_init 4 = .ok (.aload_n 0, 1) := by decide +kernel
theorem d_M_init_5 : decode b_M_init 5 = .ok (.sipush 8192, 3) := by decide +kernel
theorem d_M_init_8 : decode b_M_init 8 = .ok (.newarray .int, 2) := by decide +kernel
theorem d_M_init_10 : decode b_M_init 10 = .ok (.putfield 7, 3) := by decide +kernel
theorem d_M_init_13 : decode b_M_init 13 = .ok (.aload_n 0, 1) := by decide +kernel
theorem d_M_init_14 : decode b_M_init 14 = .ok (.sipush 300, 3) := by decide +kernel
theorem d_M_init_17 : decode b_M_init 17 = .ok (.newarray .int, 2) := by decide +kernel
theorem d_M_init_19 : decode b_M_init 19 = .ok (.putfield 13, 3) := by decide +kernel
theorem d_M_init_22 : decode b_M_init 22 = .ok (.aload_n 0, 1) := by decide +kernel
theorem d_M_init_23 : decode b_M_init 23 = .ok (.sipush 300, 3) := by decide +kernel
theorem d_M_init_26 : decode b_M_init 26 = .ok (.newarray .int, 2) := by decide +kernel
theorem d_M_init_28 : decode b_M_init 28 = .ok (.putfield 16, 3) := by decide +kernel
theorem d_M_init_31 : decode b_M_init 31 = .ok (.aload_n 0, 1) := by decide +kernel
theorem d_M_init_32 : decode b_M_init 32 = .ok (.sipush 300, 3) := by decide +kernel
theorem d_M_init_35 : decode b_M_init 35 = .ok (.newarray .int, 2) := by decide +kernel
theorem d_M_init_37 : decode b_M_init 37 = .ok (.putfield 19, 3) := by decide +kernel
theorem d_M_init_40 : decode b_M_init 40 = .ok (.aload_n 0, 1) := by decide +kernel
theorem d_M_init_41 : decode b_M_init 41 = .ok (.sipush 300, 3) := by decide +kernel
theorem d_M_init_44 : decode b_M_init 44 = .ok (.newarray .int, 2) := by decide +kernel
theorem d_M_init_46 : decode b_M_init 46 = .ok (.putfield 22, 3) := by decide +kernel
theorem d_M_init_49 : decode b_M_init 49 = .ok (.aload_n 0, 1) := by decide +kernel
theorem d_M_init_50 : decode b_M_init 50 = .ok (.sipush 300, 3) := by decide +kernel
theorem d_M_init_53 : decode b_M_init 53 = .ok (.newarray .boolean, 2) := by decide +kernel
theorem d_M_init_55 : decode b_M_init 55 = .ok (.putfield 25, 3) := by decide +kernel
theorem d_M_init_58 : decode b_M_init 58 = .ok (.aload_n 0, 1) := by decide +kernel
theorem d_M_init_59 : decode b_M_init 59 = .ok (.sipush 300, 3) := by decide +kernel
theorem d_M_init_62 : decode b_M_init 62 = .ok (.newarray .int, 2) := by decide +kernel
theorem d_M_init_64 : decode b_M_init 64 = .ok (.putfield 29, 3) := by decide +kernel
theorem d_M_init_67 : decode b_M_init 67 = .ok (.return_, 1) := by decide +kernel
theorem d_M_thrown_0 : decode b_M_thrown 0 = .ok (.aload_n 0, 1) := by decide +kernel
theorem d_M_thrown_1 : decode b_M_thrown 1 = .ok (.getfield 32, 3) := by decide +kernel
theorem d_M_thrown_4 : decode b_M_thrown 4 = .ok (.ireturn, 1) := by decide +kernel
theorem d_M_fails_0 : decode b_M_fails 0 = .ok (.aload_n 0, 1) := by decide +kernel
theorem d_M_fails_1 : decode b_M_fails 1 = .ok (.iload_n 1, 1) := by decide +kernel
theorem d_M_fails_2 : decode b_M_fails 2 = .ok (.ifCond .eq 7, 3) := by decide +kernel
theorem d_M_fails_5 : decode b_M_fails 5 = .ok (.iload_n 2, 1) := by decide +kernel
theorem d_M_fails_6 : decode b_M_fails 6 = .ok (.goto 4, 3) := by decide +kernel
theorem d_M_fails_9 : decode b_M_fails 9 = .ok (.iconst 0, 1) := by decide +kernel
theorem d_M_fails_10 : decode b_M_fails 10 = .ok (.putfield 32, 3) := by decide +kernel
theorem d_M_fails_13 : decode b_M_fails 13 = .ok (.iload_n 1, 1) := by decide +kernel
theorem d_M_fails_14 : decode b_M_fails 14 = .ok (.ireturn, 1) := by decide +kernel
theorem d_M_taken_0 : decode b_M_taken 0 = .ok (.iload_n 0, 1) := by decide +kernel
theorem d_M_taken_1 : decode b_M_taken 1 = .ok (.ifCond .ne 8, 3) := by decide +kernel
theorem d_M_taken_4 : decode b_M_taken 4 = .ok (.bipush 16, 2) := by decide +kernel
theorem d_M_taken_6 : decode b_M_taken 6 = .ok (.goto 15, 3) := by decide +kernel
theorem d_M_taken_9 : decode b_M_taken 9 = .ok (.iload_n 0, 1) := by decide +kernel
theorem d_M_taken_10 : decode b_M_taken 10 = .ok (.bipush 16, 2) := by decide +kernel
theorem d_M_taken_12 : decode b_M_taken 12 = .ok (.iadd, 1) := by decide +kernel
theorem d_M_taken_13 : decode b_M_taken 13 = .ok (.iconst 1, 1) := by decide +kernel
theorem d_M_taken_14 : decode b_M_taken 14 = .ok (.isub, 1) := by decide +kernel
theorem d_M_taken_15 : decode b_M_taken 15 = .ok (.bipush 16, 2) := by decide +kernel
theorem d_M_taken_17 : decode b_M_taken 17 = .ok (.idiv, 1) := by decide +kernel
theorem d_M_taken_18 : decode b_M_taken 18 = .ok (.bipush 16, 2) := by decide +kernel
theorem d_M_taken_20 : decode b_M_taken 20 = .ok (.imul, 1) := by decide +kernel
theorem d_M_taken_21 : decode b_M_taken 21 = .ok (.ireturn, 1) := by decide +kernel
theorem d_M_room_0 : decode b_M_room 0 = .ok (.bipush 16, 2) := by decide +kernel
theorem d_M_room_2 : decode b_M_room 2 = .ok (.istore_n 2, 1) := by decide +kernel
theorem d_M_room_3 : decode b_M_room 3 = .ok (.iload_n 2, 1) := by decide +kernel
theorem d_M_room_4 : decode b_M_room 4 = .ok (.iload_n 1, 1) := by decide +kernel
theorem d_M_room_5 : decode b_M_room 5 = .ok (.invokestatic 36, 3) := by decide +kernel
theorem d_M_room_8 : decode b_M_room 8 = .ok (.iadd, 1) := by decide +kernel
theorem d_M_room_9 : decode b_M_room 9 = .ok (.bipush 16, 2) := by decide +kernel
theorem d_M_room_11 : decode b_M_room 11 = .ok (.iadd, 1) := by decide +kernel
theorem d_M_room_12 : decode b_M_room 12 = .ok (.sipush 8192, 3) := by decide +kernel
theorem d_M_room_15 : decode b_M_room 15 = .ok (.if_icmp .gt 81, 3) := by decide +kernel
theorem d_M_room_18 : decode b_M_room 18 = .ok (.iconst 1, 1) := by decide +kernel
theorem d_M_room_19 : decode b_M_room 19 = .ok (.istore_n 3, 1) := by decide +kernel
theorem d_M_room_20 : decode b_M_room 20 = .ok (.iconst 0, 1) := by decide +kernel
theorem d_M_room_21 : decode b_M_room 21 = .ok (.istore 4, 2) := by decide +kernel
theorem d_M_room_23 : decode b_M_room 23 = .ok (.iload 4, 2) := by decide +kernel
theorem d_M_room_25 : decode b_M_room 25 = .ok (.aload_n 0, 1) := by decide +kernel
theorem d_M_room_26 : decode b_M_room 26 = .ok (.getfield 40, 3) := by decide +kernel
theorem d_M_room_29 : decode b_M_room 29 = .ok (.if_icmp .ge 55, 3) := by decide +kernel
theorem d_M_room_32 : decode b_M_room 32 = .ok (.iload_n 2, 1) := by decide +kernel
theorem d_M_room_33 : decode b_M_room 33 = .ok (.bipush 16, 2) := by decide +kernel
theorem d_M_room_35 : decode b_M_room 35 = .ok (.isub, 1) := by decide +kernel
theorem d_M_room_36 : decode b_M_room 36 = .ok (.aload_n 0, 1) := by decide +kernel
theorem d_M_room_37 : decode b_M_room 37 = .ok (.getfield 13, 3) := by decide +kernel
theorem d_M_room_40 : decode b_M_room 40 = .ok (.iload 4, 2) := by decide +kernel
theorem d_M_room_42 : decode b_M_room 42 = .ok (.iaload, 1) := by decide +kernel
theorem d_M_room_43 : decode b_M_room 43 = .ok (.aload_n 0, 1) := by decide +kernel
theorem d_M_room_44 : decode b_M_room 44 = .ok (.getfield 16, 3) := by decide +kernel
theorem d_M_room_47 : decode b_M_room 47 = .ok (.iload 4, 2) := by decide +kernel
theorem d_M_room_49 : decode b_M_room 49 = .ok (.iaload, 1) := by decide +kernel
theorem d_M_room_50 : decode b_M_room 50 = .ok (.invokestatic 36, 3) := by decide +kernel
theorem d_M_room_53 : decode b_M_room 53 = .ok (.iadd, 1) := by decide +kernel
theorem d_M_room_54 : decode b_M_room 54 = .ok (.if_icmp .ge 24, 3) := by decide +kernel
theorem d_M_room_57 : decode b_M_room 57 = .ok (.aload_n 0, 1) := by decide +kernel
theorem d_M_room_58 : decode b_M_room 58 = .ok (.getfield 13, 3) := by decide +kernel
theorem d_M_room_61 : decode b_M_room 61 = .ok (.iload 4, 2) := by decide +kernel
theorem d_M_room_63 : decode b_M_room 63 = .ok (.iaload, 1) := by decide +kernel
theorem d_M_room_64 : decode b_M_room 64 = .ok (.iload_n 2, 1) := by decide +kernel
theorem d_M_room_65 : decode b_M_room 65 = .ok (.iload_n 1, 1) := by decide +kernel
theorem d_M_room_66 : decode b_M_room 66 = .ok (.invokestatic 36, 3) := by decide +kernel
theorem d_M_room_69 : decode b_M_room 69 = .ok (.iadd, 1) := by decide +kernel
theorem d_M_room_70 : decode b_M_room 70 = .ok (.bipush 16, 2) := by decide +kernel
theorem d_M_room_72 : decode b_M_room 72 = .ok (.iadd, 1) := by decide +kernel
theorem d_M_room_73 : decode b_M_room 73 = .ok (.if_icmp .ge 5, 3) := by decide +kernel
theorem d_M_room_76 : decode b_M_room 76 = .ok (.iconst 0, 1) := by decide +kernel
theorem d_M_room_77 : decode b_M_room 77 = .ok (.istore_n 3, 1) := by decide +kernel
theorem d_M_room_78 : decode b_M_room 78 = .ok (.iinc 4 1, 3) := by decide +kernel
theorem d_M_room_81 : decode b_M_room 81 = .ok (.goto (-58), 3) := by decide +kernel
theorem d_M_room_84 : decode b_M_room 84 = .ok (.iload_n 3, 1) := by decide +kernel
theorem d_M_room_85 : decode b_M_room 85 = .ok (.ifCond .eq 5, 3) := by decide +kernel
theorem d_M_room_88 : decode b_M_room 88 = .ok (.iload_n 2, 1) := by decide +kernel
theorem d_M_room_89 : decode b_M_room 89 = .ok (.ireturn, 1) := by decide +kernel
theorem d_M_room_90 : decode b_M_room 90 = .ok (.iinc 2 16, 3) := by decide +kernel
theorem d_M_room_93 : decode b_M_room 93 = .ok (.goto (-90), 3) := by decide +kernel
theorem d_M_room_96 : decode b_M_room 96 = .ok (.iconst 0, 1) := by decide +kernel
theorem d_M_room_97 : decode b_M_room 97 = .ok (.ireturn, 1) := by decide +kernel
theorem d_M_make_0 : decode b_M_make 0 = .ok (.aload_n 0, 1) := by decide +kernel
theorem d_M_make_1 : decode b_M_make 1 = .ok (.iload_n 1, 1) := by decide +kernel
theorem d_M_make_2 : decode b_M_make 2 = .ok (.invokevirtual 43, 3) := by decide +kernel
theorem d_M_make_5 : decode b_M_make 5 = .ok (.istore_n 2, 1) := by decide +kernel
theorem d_M_make_6 : decode b_M_make 6 = .ok (.iload_n 2, 1) := by decide +kernel
theorem d_M_make_7 : decode b_M_make 7 = .ok (.ifCond .ne 5, 3) := by decide +kernel
theorem d_M_make_10 : decode b_M_make 10 = .ok (.iconst 0, 1) := by decide +kernel
theorem d_M_make_11 : decode b_M_make 11 = .ok (.ireturn, 1) := by decide +kernel
theorem d_M_make_12 : decode b_M_make 12 = .ok (.aload_n 0, 1) := by decide +kernel
theorem d_M_make_13 : decode b_M_make 13 = .ok (.getfield 13, 3) := by decide +kernel
theorem d_M_make_16 : decode b_M_make 16 = .ok (.aload_n 0, 1) := by decide +kernel
theorem d_M_make_17 : decode b_M_make 17 = .ok (.getfield 40, 3) := by decide +kernel
theorem d_M_make_20 : decode b_M_make 20 = .ok (.iload_n 2, 1) := by decide +kernel
theorem d_M_make_21 : decode b_M_make 21 = .ok (.iastore, 1) := by decide +kernel
theorem d_M_make_22 : decode b_M_make 22 = .ok (.aload_n 0, 1) := by decide +kernel
theorem d_M_make_23 : decode b_M_make 23 = .ok (.getfield 16, 3) := by decide +kernel
theorem d_M_make_26 : decode b_M_make 26 = .ok (.aload_n 0, 1) := by decide +kernel
theorem d_M_make_27 : decode b_M_make 27 = .ok (.getfield 40, 3) := by decide +kernel
theorem d_M_make_30 : decode b_M_make 30 = .ok (.iload_n 1, 1) := by decide +kernel
theorem d_M_make_31 : decode b_M_make 31 = .ok (.iastore, 1) := by decide +kernel
theorem d_M_make_32 : decode b_M_make 32 = .ok (.aload_n 0, 1) := by decide +kernel
theorem d_M_make_33 : decode b_M_make 33 = .ok (.getfield 19, 3) := by decide +kernel
theorem d_M_make_36 : decode b_M_make 36 = .ok (.aload_n 0, 1) := by decide +kernel
theorem d_M_make_37 : decode b_M_make 37 = .ok (.dup, 1) := by decide +kernel
theorem d_M_make_38 : decode b_M_make 38 = .ok (.getfield 40, 3) := by decide +kernel
theorem d_M_make_41 : decode b_M_make 41 = .ok (.dup_x1, 1) := by decide +kernel
theorem d_M_make_42 : decode b_M_make 42 = .ok (.iconst 1, 1) := by decide +kernel
theorem d_M_make_43 : decode b_M_make 43 = .ok (.iadd, 1) := by decide +kernel
theorem d_M_make_44 : decode b_M_make 44 = .ok (.putfield 40, 3) := by decide +kernel
theorem d_M_make_47 : decode b_M_make 47 = .ok (.iconst 1, 1) := by decide +kernel
theorem d_M_make_48 : decode b_M_make 48 = .ok (.iastore, 1) := by decide +kernel
theorem d_M_make_49 : decode b_M_make 49 = .ok (.aload_n 0, 1) := by decide +kernel
theorem d_M_make_50 : decode b_M_make 50 = .ok (.dup, 1) := by decide +kernel
theorem d_M_make_51 : decode b_M_make 51 = .ok (.getfield 46, 3) := by decide +kernel
theorem d_M_make_54 : decode b_M_make 54 = .ok (.iconst 1, 1) := by decide +kernel
theorem d_M_make_55 : decode b_M_make 55 = .ok (.iadd, 1) := by decide +kernel
theorem d_M_make_56 : decode b_M_make 56 = .ok (.putfield 46, 3) := by decide +kernel
theorem d_M_make_59 : decode b_M_make 59 = .ok (.iload_n 2, 1) := by decide +kernel
theorem d_M_make_60 : decode b_M_make 60 = .ok (.ireturn, 1) := by decide +kernel
theorem d_M_at_0 : decode b_M_at 0 = .ok (.iconst 0, 1) := by decide +kernel
theorem d_M_at_1 : decode b_M_at 1 = .ok (.istore_n 3, 1) := by decide +kernel
theorem d_M_at_2 : decode b_M_at 2 = .ok (.iload_n 3, 1) := by decide +kernel
theorem d_M_at_3 : decode b_M_at 3 = .ok (.aload_n 0, 1) := by decide +kernel
theorem d_M_at_4 : decode b_M_at 4 = .ok (.getfield 40, 3) := by decide +kernel
theorem d_M_at_7 : decode b_M_at 7 = .ok (.if_icmp .ge 31, 3) := by decide +kernel
theorem d_M_at_10 : decode b_M_at 10 = .ok (.aload_n 0, 1) := by decide +kernel
theorem d_M_at_11 : decode b_M_at 11 = .ok (.getfield 13, 3) := by decide +kernel
theorem d_M_at_14 : decode b_M_at 14 = .ok (.iload_n 3, 1) := by decide +kernel
theorem d_M_at_15 : decode b_M_at 15 = .ok (.iaload, 1) := by decide +kernel
theorem d_M_at_16 : decode b_M_at 16 = .ok (.iload_n 1, 1) := by decide +kernel
theorem d_M_at_17 : decode b_M_at 17 = .ok (.if_icmp .ne 15, 3) := by decide +kernel
theorem d_M_at_20 : decode b_M_at 20 = .ok (.aload_n 0, 1) := by decide +kernel
theorem d_M_at_21 : decode b_M_at 21 = .ok (.getfield 19, 3) := by decide +kernel
theorem d_M_at_24 : decode b_M_at 24 = .ok (.iload_n 3, 1) := by decide +kernel
theorem d_M_at_25 : decode b_M_at 25 = .ok (.iaload, 1) := by decide +kernel
theorem d_M_at_26 : decode b_M_at 26 = .ok (.iload_n 2, 1) := by decide +kernel
theorem d_M_at_27 : decode b_M_at 27 = .ok (.if_icmp .ne 5, 3) := by decide +kernel
theorem d_M_at_30 : decode b_M_at 30 = .ok (.iload_n 3, 1) := by decide +kernel
theorem d_M_at_31 : decode b_M_at 31 = .ok (.ireturn, 1) := by decide +kernel
theorem d_M_at_32 : decode b_M_at 32 = .ok (.iinc 3 1, 3) := by decide +kernel
theorem d_M_at_35 : decode b_M_at 35 = .ok (.goto (-33), 3) := by decide +kernel
theorem d_M_at_38 : decode b_M_at 38 = .ok (.iconst (-1), 1) := by decide +kernel
theorem d_M_at_39 : decode b_M_at 39 = .ok (.ireturn, 1) := by decide +kernel
theorem d_M_kept_0 : decode b_M_kept 0 = .ok (.iconst 0, 1) := by decide +kernel
theorem d_M_kept_1 : decode b_M_kept 1 = .ok (.istore_n 1, 1) := by decide +kernel
theorem d_M_kept_2 : decode b_M_kept 2 = .ok (.iconst 0, 1) := by decide +kernel
theorem d_M_kept_3 : decode b_M_kept 3 = .ok (.istore_n 2, 1) := by decide +kernel
theorem d_M_kept_4 : decode b_M_kept 4 = .ok (.iload_n 2, 1) := by decide +kernel
theorem d_M_kept_5 : decode b_M_kept 5 = .ok (.aload_n 0, 1) := by decide +kernel
theorem d_M_kept_6 : decode b_M_kept 6 = .ok (.getfield 40, 3) := by decide +kernel
theorem d_M_kept_9 : decode b_M_kept 9 = .ok (.if_icmp .ge 28, 3) := by decide +kernel
theorem d_M_kept_12 : decode b_M_kept 12 = .ok (.aload_n 0, 1) := by decide +kernel
theorem d_M_kept_13 : decode b_M_kept 13 = .ok (.getfield 19, 3) := by decide +kernel
theorem d_M_kept_16 : decode b_M_kept 16 = .ok (.iload_n 2, 1) := by decide +kernel
theorem d_M_kept_17 : decode b_M_kept 17 = .ok (.iaload, 1) := by decide +kernel
theorem d_M_kept_18 : decode b_M_kept 18 = .ok (.iconst 2, 1) := by decide +kernel
theorem d_M_kept_19 : decode b_M_kept 19 = .ok (.if_icmp .ne 12, 3) := by decide +kernel
theorem d_M_kept_22 : decode b_M_kept 22 = .ok (.iload_n 1, 1) := by decide +kernel
theorem d_M_kept_23 : decode b_M_kept 23 = .ok (.aload_n 0, 1) := by decide +kernel
theorem d_M_kept_24 : decode b_M_kept 24 = .ok (.getfield 16, 3) := by decide +kernel
theorem d_M_kept_27 : decode b_M_kept 27 = .ok (.iload_n 2, 1) := by decide +kernel
theorem d_M_kept_28 : decode b_M_kept 28 = .ok (.iaload, 1) := by decide +kernel
theorem d_M_kept_29 : decode b_M_kept 29 = .ok (.iadd, 1) := by decide +kernel
theorem d_M_kept_30 : decode b_M_kept 30 = .ok (.istore_n 1, 1) := by decide +kernel
theorem d_M_kept_31 : decode b_M_kept 31 = .ok (.iinc 2 1, 3) := by decide +kernel
theorem d_M_kept_34 : decode b_M_kept 34 = .ok (.goto (-30), 3) := by decide +kernel
theorem d_M_kept_37 : decode b_M_kept 37 = .ok (.iload_n 1, 1) := by decide +kernel
theorem d_M_kept_38 : decode b_M_kept 38 = .ok (.ireturn, 1) := by decide +kernel
theorem d_M_give_0 : decode b_M_give 0 = .ok (.aload_n 0, 1) := by decide +kernel
theorem d_M_give_1 : decode b_M_give 1 = .ok (.getfield 19, 3) := by decide +kernel
theorem d_M_give_4 : decode b_M_give 4 = .ok (.iload_n 1, 1) := by decide +kernel
theorem d_M_give_5 : decode b_M_give 5 = .ok (.iconst 2, 1) := by decide +kernel
theorem d_M_give_6 : decode b_M_give 6 = .ok (.iastore, 1) := by decide +kernel
theorem d_M_give_7 : decode b_M_give 7 = .ok (.aload_n 0, 1) := by decide +kernel
theorem d_M_give_8 : decode b_M_give 8 = .ok (.getfield 22, 3) := by decide +kernel
theorem d_M_give_11 : decode b_M_give 11 = .ok (.iload_n 1, 1) := by decide +kernel
theorem d_M_give_12 : decode b_M_give 12 = .ok (.aload_n 0, 1) := by decide +kernel
theorem d_M_give_13 : decode b_M_give 13 = .ok (.dup, 1) := by decide +kernel
theorem d_M_give_14 : decode b_M_give 14 = .ok (.getfield 49, 3) := by decide +kernel
theorem d_M_give_17 : decode b_M_give 17 = .ok (.iconst 1, 1) := by decide +kernel
theorem d_M_give_18 : decode b_M_give 18 = .ok (.iadd, 1) := by decide +kernel
theorem d_M_give_19 : decode b_M_give 19 = .ok (.dup_x1, 1) := by decide +kernel
theorem d_M_give_20 : decode b_M_give 20 = .ok (.putfield 49, 3) := by decide +kernel
theorem d_M_give_23 : decode b_M_give 23 = .ok (.iastore, 1) := by decide +kernel
theorem d_M_give_24 : decode b_M_give 24 = .ok (.aload_n 0, 1) := by decide +kernel
theorem d_M_give_25 : decode b_M_give 25 = .ok (.invokevirtual 52, 3) := by decide +kernel
theorem d_M_give_28 : decode b_M_give 28 = .ok (.sipush 512, 3) := by decide +kernel
theorem d_M_give_31 : decode b_M_give 31 = .ok (.if_icmp .le 125, 3) := by decide +kernel
theorem d_M_give_34 : decode b_M_give 34 = .ok (.iconst (-1), 1) := by decide +kernel
theorem d_M_give_35 : decode b_M_give 35 = .ok (.istore_n 2, 1) := by decide +kernel
theorem d_M_give_36 : decode b_M_give 36 = .ok (.iconst 0, 1) := by decide +kernel
theorem d_M_give_37 : decode b_M_give 37 = .ok (.istore_n 3, 1) := by decide +kernel
theorem d_M_give_38 : decode b_M_give 38 = .ok (.iload_n 3, 1) := by decide +kernel
theorem d_M_give_39 : decode b_M_give 39 = .ok (.aload_n 0, 1) := by decide +kernel
theorem d_M_give_40 : decode b_M_give 40 = .ok (.getfield 40, 3) := by decide +kernel
theorem d_M_give_43 : decode b_M_give 43 = .ok (.if_icmp .ge 40, 3) := by decide +kernel
theorem d_M_give_46 : decode b_M_give 46 = .ok (.aload_n 0, 1) := by decide +kernel
theorem d_M_give_47 : decode b_M_give 47 = .ok (.getfield 19, 3) := by decide +kernel
theorem d_M_give_50 : decode b_M_give 50 = .ok (.iload_n 3, 1) := by decide +kernel
theorem d_M_give_51 : decode b_M_give 51 = .ok (.iaload, 1) := by decide +kernel
theorem d_M_give_52 : decode b_M_give 52 = .ok (.iconst 2, 1) := by decide +kernel
theorem d_M_give_53 : decode b_M_give 53 = .ok (.if_icmp .ne 24, 3) := by decide +kernel
theorem d_M_give_56 : decode b_M_give 56 = .ok (.iload_n 2, 1) := by decide +kernel
theorem d_M_give_57 : decode b_M_give 57 = .ok (.ifCond .lt 18, 3) := by decide +kernel
theorem d_M_give_60 : decode b_M_give 60 = .ok (.aload_n 0, 1) := by decide +kernel
theorem d_M_give_61 : decode b_M_give 61 = .ok (.getfield 22, 3) := by decide +kernel
theorem d_M_give_64 : decode b_M_give 64 = .ok (.iload_n 3, 1) := by decide +kernel
theorem d_M_give_65 : decode b_M_give 65 = .ok (.iaload, 1) := by decide +kernel
theorem d_M_give_66 : decode b_M_give 66 = .ok (.aload_n 0, 1) := by decide +kernel
theorem d_M_give_67 : decode b_M_give 67 = .ok (.getfield 22, 3) := by decide +kernel
theorem d_M_give_70 : decode b_M_give 70 = .ok (.iload_n 2, 1) := by decide +kernel
theorem d_M_give_71 : decode b_M_give 71 = .ok (.iaload, 1) := by decide +kernel
theorem d_M_give_72 : decode b_M_give 72 = .ok (.if_icmp .ge 5, 3) := by decide +kernel
theorem d_M_give_75 : decode b_M_give 75 = .ok (.iload_n 3, 1) := by decide +kernel
theorem d_M_give_76 : decode b_M_give 76 = .ok (.istore_n 2, 1) := by decide +kernel
theorem d_M_give_77 : decode b_M_give 77 = .ok (.iinc 3 1, 3) := by decide +kernel
theorem d_M_give_80 : decode b_M_give 80 = .ok (.goto (-42), 3) := by decide +kernel
theorem d_M_give_83 : decode b_M_give 83 = .ok (.aload_n 0, 1) := by decide +kernel
theorem d_M_give_84 : decode b_M_give 84 = .ok (.dup, 1) := by decide +kernel
theorem d_M_give_85 : decode b_M_give 85 = .ok (.getfield 40, 3) := by decide +kernel
theorem d_M_give_88 : decode b_M_give 88 = .ok (.iconst 1, 1) := by decide +kernel
theorem d_M_give_89 : decode b_M_give 89 = .ok (.isub, 1) := by decide +kernel
theorem d_M_give_90 : decode b_M_give 90 = .ok (.putfield 40, 3) := by decide +kernel
theorem d_M_give_93 : decode b_M_give 93 = .ok (.aload_n 0, 1) := by decide +kernel
theorem d_M_give_94 : decode b_M_give 94 = .ok (.getfield 13, 3) := by decide +kernel
theorem d_M_give_97 : decode b_M_give 97 = .ok (.iload_n 2, 1) := by decide +kernel
theorem d_M_give_98 : decode b_M_give 98 = .ok (.aload_n 0, 1) := by decide +kernel
theorem d_M_give_99 : decode b_M_give 99 = .ok (.getfield 13, 3) := by decide +kernel
theorem d_M_give_102 : decode b_M_give 102 = .ok (.aload_n 0, 1) := by decide +kernel
theorem d_M_give_103 : decode b_M_give 103 = .ok (.getfield 40, 3) := by decide +kernel
theorem d_M_give_106 : decode b_M_give 106 = .ok (.iaload, 1) := by decide +kernel
theorem d_M_give_107 : decode b_M_give 107 = .ok (.iastore, 1) := by decide +kernel
theorem d_M_give_108 : decode b_M_give 108 = .ok (.aload_n 0, 1) := by decide +kernel
theorem d_M_give_109 : decode b_M_give 109 = .ok (.getfield 16, 3) := by decide +kernel
theorem d_M_give_112 : decode b_M_give 112 = .ok (.iload_n 2, 1) := by decide +kernel
theorem d_M_give_113 : decode b_M_give 113 = .ok (.aload_n 0, 1) := by decide +kernel
theorem d_M_give_114 : decode b_M_give 114 = .ok (.getfield 16, 3) := by decide +kernel
theorem d_M_give_117 : decode b_M_give 117 = .ok (.aload_n 0, 1) := by decide +kernel
theorem d_M_give_118 : decode b_M_give 118 = .ok (.getfield 40, 3) := by decide +kernel
theorem d_M_give_121 : decode b_M_give 121 = .ok (.iaload, 1) := by decide +kernel
theorem d_M_give_122 : decode b_M_give 122 = .ok (.iastore, 1) := by decide +kernel
theorem d_M_give_123 : decode b_M_give 123 = .ok (.aload_n 0, 1) := by decide +kernel
theorem d_M_give_124 : decode b_M_give 124 = .ok (.getfield 19, 3) := by decide +kernel
theorem d_M_give_127 : decode b_M_give 127 = .ok (.iload_n 2, 1) := by decide +kernel
theorem d_M_give_128 : decode b_M_give 128 = .ok (.aload_n 0, 1) := by decide +kernel
theorem d_M_give_129 : decode b_M_give 129 = .ok (.getfield 19, 3) := by decide +kernel
theorem d_M_give_132 : decode b_M_give 132 = .ok (.aload_n 0, 1) := by decide +kernel
theorem d_M_give_133 : decode b_M_give 133 = .ok (.getfield 40, 3) := by decide +kernel
theorem d_M_give_136 : decode b_M_give 136 = .ok (.iaload, 1) := by decide +kernel
theorem d_M_give_137 : decode b_M_give 137 = .ok (.iastore, 1) := by decide +kernel
theorem d_M_give_138 : decode b_M_give 138 = .ok (.aload_n 0, 1) := by decide +kernel
theorem d_M_give_139 : decode b_M_give 139 = .ok (.getfield 22, 3) := by decide +kernel
theorem d_M_give_142 : decode b_M_give 142 = .ok (.iload_n 2, 1) := by decide +kernel
theorem d_M_give_143 : decode b_M_give 143 = .ok (.aload_n 0, 1) := by decide +kernel
theorem d_M_give_144 : decode b_M_give 144 = .ok (.getfield 22, 3) := by decide +kernel
theorem d_M_give_147 : decode b_M_give 147 = .ok (.aload_n 0, 1) := by decide +kernel
theorem d_M_give_148 : decode b_M_give 148 = .ok (.getfield 40, 3) := by decide +kernel
theorem d_M_give_151 : decode b_M_give 151 = .ok (.iaload, 1) := by decide +kernel
theorem d_M_give_152 : decode b_M_give 152 = .ok (.iastore, 1) := by decide +kernel
theorem d_M_give_153 : decode b_M_give 153 = .ok (.goto (-129), 3) := by decide +kernel
theorem d_M_give_156 : decode b_M_give 156 = .ok (.return_, 1) := by decide +kernel
theorem d_M_get_0 : decode b_M_get 0 = .ok (.aload_n 0, 1) := by decide +kernel
theorem d_M_get_1 : decode b_M_get 1 = .ok (.iload_n 1, 1) := by decide +kernel
theorem d_M_get_2 : decode b_M_get 2 = .ok (.ifCond .lt 10, 3) := by decide +kernel
theorem d_M_get_5 : decode b_M_get 5 = .ok (.iload_n 1, 1) := by decide +kernel
theorem d_M_get_6 : decode b_M_get 6 = .ok (.sipush 2048, 3) := by decide +kernel
theorem d_M_get_9 : decode b_M_get 9 = .ok (.if_icmp .le 7, 3) := by decide +kernel
theorem d_M_get_12 : decode b_M_get 12 = .ok (.iconst 1, 1) := by decide +kernel
theorem d_M_get_13 : decode b_M_get 13 = .ok (.goto 4, 3) := by decide +kernel
theorem d_M_get_16 : decode b_M_get 16 = .ok (.iconst 0, 1) := by decide +kernel
theorem d_M_get_17 : decode b_M_get 17 = .ok (.iconst 1, 1) := by decide +kernel
theorem d_M_get_18 : decode b_M_get 18 = .ok (.invokevirtual 56, 3) := by decide +kernel
theorem d_M_get_21 : decode b_M_get 21 = .ok (.ifCond .eq 5, 3) := by decide +kernel
theorem d_M_get_24 : decode b_M_get 24 = .ok (.iconst 0, 1) := by decide +kernel
theorem d_M_get_25 : decode b_M_get 25 = .ok (.ireturn, 1) := by decide +kernel
theorem d_M_get_26 : decode b_M_get 26 = .ok (.aload_n 0, 1) := by decide +kernel
theorem d_M_get_27 : decode b_M_get 27 = .ok (.iload_n 1, 1) := by decide +kernel
theorem d_M_get_28 : decode b_M_get 28 = .ok (.invokevirtual 60, 3) := by decide +kernel
theorem d_M_get_31 : decode b_M_get 31 = .ok (.ireturn, 1) := by decide +kernel
theorem d_M_back_0 : decode b_M_back 0 = .ok (.aload_n 0, 1) := by decide +kernel
theorem d_M_back_1 : decode b_M_back 1 = .ok (.iload_n 1, 1) := by decide +kernel
theorem d_M_back_2 : decode b_M_back 2 = .ok (.iconst 1, 1) := by decide +kernel
theorem d_M_back_3 : decode b_M_back 3 = .ok (.invokevirtual 63, 3) := by decide +kernel
theorem d_M_back_6 : decode b_M_back 6 = .ok (.istore_n 2, 1) := by decide +kernel
theorem d_M_back_7 : decode b_M_back 7 = .ok (.aload_n 0, 1) := by decide +kernel
theorem d_M_back_8 : decode b_M_back 8 = .ok (.iload_n 2, 1) := by decide +kernel
theorem d_M_back_9 : decode b_M_back 9 = .ok (.ifCond .ge 7, 3) := by decide +kernel
theorem d_M_back_12 : decode b_M_back 12 = .ok (.iconst 1, 1) := by decide +kernel
theorem d_M_back_13 : decode b_M_back 13 = .ok (.goto 4, 3) := by decide +kernel
theorem d_M_back_16 : decode b_M_back 16 = .ok (.iconst 0, 1) := by decide +kernel
theorem d_M_back_17 : decode b_M_back 17 = .ok (.aload_n 0, 1) := by decide +kernel
theorem d_M_back_18 : decode b_M_back 18 = .ok (.iload_n 1, 1) := by decide +kernel
theorem d_M_back_19 : decode b_M_back 19 = .ok (.iconst 2, 1) := by decide +kernel
theorem d_M_back_20 : decode b_M_back 20 = .ok (.invokevirtual 63, 3) := by decide +kernel
theorem d_M_back_23 : decode b_M_back 23 = .ok (.ifCond .lt 7, 3) := by decide +kernel
theorem d_M_back_26 : decode b_M_back 26 = .ok (.iconst 2, 1) := by decide +kernel
theorem d_M_back_27 : decode b_M_back 27 = .ok (.goto 4, 3) := by decide +kernel
theorem d_M_back_30 : decode b_M_back 30 = .ok (.iconst 1, 1) := by decide +kernel
theorem d_M_back_31 : decode b_M_back 31 = .ok (.invokevirtual 56, 3) := by decide +kernel
theorem d_M_back_34 : decode b_M_back 34 = .ok (.ifCond .eq 5, 3) := by decide +kernel
theorem d_M_back_37 : decode b_M_back 37 = .ok (.iconst 0, 1) := by decide +kernel
theorem d_M_back_38 : decode b_M_back 38 = .ok (.ireturn, 1) := by decide +kernel
theorem d_M_back_39 : decode b_M_back 39 = .ok (.aload_n 0, 1) := by decide +kernel
theorem d_M_back_40 : decode b_M_back 40 = .ok (.getfield 16, 3) := by decide +kernel
theorem d_M_back_43 : decode b_M_back 43 = .ok (.iload_n 2, 1) := by decide +kernel
theorem d_M_back_44 : decode b_M_back 44 = .ok (.iaload, 1) := by decide +kernel
theorem d_M_back_45 : decode b_M_back 45 = .ok (.istore_n 3, 1) := by decide +kernel
theorem d_M_back_46 : decode b_M_back 46 = .ok (.aload_n 0, 1) := by decide +kernel
theorem d_M_back_47 : decode b_M_back 47 = .ok (.iload_n 2, 1) := by decide +kernel
theorem d_M_back_48 : decode b_M_back 48 = .ok (.invokevirtual 67, 3) := by decide +kernel
theorem d_M_back_51 : decode b_M_back 51 = .ok (.iload_n 3, 1) := by decide +kernel
theorem d_M_back_52 : decode b_M_back 52 = .ok (.ireturn, 1) := by decide +kernel
theorem d_M_again_0 : decode b_M_again 0 = .ok (.aload_n 0, 1) := by decide +kernel
theorem d_M_again_1 : decode b_M_again 1 = .ok (.iload_n 2, 1) := by decide +kernel
theorem d_M_again_2 : decode b_M_again 2 = .ok (.ifCond .lt 10, 3) := by decide +kernel
theorem d_M_again_5 : decode b_M_again 5 = .ok (.iload_n 2, 1) := by decide +kernel
theorem d_M_again_6 : decode b_M_again 6 = .ok (.sipush 2048, 3) := by decide +kernel
theorem d_M_again_9 : decode b_M_again 9 = .ok (.if_icmp .le 7, 3) := by decide +kernel
theorem d_M_again_12 : decode b_M_again 12 = .ok (.iconst 1, 1) := by decide +kernel
theorem d_M_again_13 : decode b_M_again 13 = .ok (.goto 4, 3) := by decide +kernel
theorem d_M_again_16 : decode b_M_again 16 = .ok (.iconst 0, 1) := by decide +kernel
theorem d_M_again_17 : decode b_M_again 17 = .ok (.iconst 1, 1) := by decide +kernel
theorem d_M_again_18 : decode b_M_again 18 = .ok (.invokevirtual 56, 3) := by decide +kernel
theorem d_M_again_21 : decode b_M_again 21 = .ok (.ifCond .eq 5, 3) := by decide +kernel
theorem d_M_again_24 : decode b_M_again 24 = .ok (.iconst 0, 1) := by decide +kernel
theorem d_M_again_25 : decode b_M_again 25 = .ok (.ireturn, 1) := by decide +kernel
theorem d_M_again_26 : decode b_M_again 26 = .ok (.aload_n 0, 1) := by decide +kernel
theorem d_M_again_27 : decode b_M_again 27 = .ok (.iload_n 1, 1) := by decide +kernel
theorem d_M_again_28 : decode b_M_again 28 = .ok (.iconst 1, 1) := by decide +kernel
theorem d_M_again_29 : decode b_M_again 29 = .ok (.invokevirtual 63, 3) := by decide +kernel
theorem d_M_again_32 : decode b_M_again 32 = .ok (.istore_n 3, 1) := by decide +kernel
theorem d_M_again_33 : decode b_M_again 33 = .ok (.aload_n 0, 1) := by decide +kernel
theorem d_M_again_34 : decode b_M_again 34 = .ok (.iload_n 3, 1) := by decide +kernel
theorem d_M_again_35 : decode b_M_again 35 = .ok (.ifCond .ge 7, 3) := by decide +kernel
theorem d_M_again_38 : decode b_M_again 38 = .ok (.iconst 1, 1) := by decide +kernel
theorem d_M_again_39 : decode b_M_again 39 = .ok (.goto 4, 3) := by decide +kernel
theorem d_M_again_42 : decode b_M_again 42 = .ok (.iconst 0, 1) := by decide +kernel
theorem d_M_again_43 : decode b_M_again 43 = .ok (.aload_n 0, 1) := by decide +kernel
theorem d_M_again_44 : decode b_M_again 44 = .ok (.iload_n 1, 1) := by decide +kernel
theorem d_M_again_45 : decode b_M_again 45 = .ok (.iconst 2, 1) := by decide +kernel
theorem d_M_again_46 : decode b_M_again 46 = .ok (.invokevirtual 63, 3) := by decide +kernel
theorem d_M_again_49 : decode b_M_again 49 = .ok (.ifCond .lt 7, 3) := by decide +kernel
theorem d_M_again_52 : decode b_M_again 52 = .ok (.iconst 2, 1) := by decide +kernel
theorem d_M_again_53 : decode b_M_again 53 = .ok (.goto 4, 3) := by decide +kernel
theorem d_M_again_56 : decode b_M_again 56 = .ok (.iconst 1, 1) := by decide +kernel
theorem d_M_again_57 : decode b_M_again 57 = .ok (.invokevirtual 56, 3) := by decide +kernel
theorem d_M_again_60 : decode b_M_again 60 = .ok (.ifCond .eq 5, 3) := by decide +kernel
theorem d_M_again_63 : decode b_M_again 63 = .ok (.iconst 0, 1) := by decide +kernel
theorem d_M_again_64 : decode b_M_again 64 = .ok (.ireturn, 1) := by decide +kernel
theorem d_M_again_65 : decode b_M_again 65 = .ok (.aload_n 0, 1) := by decide +kernel
theorem d_M_again_66 : decode b_M_again 66 = .ok (.iload_n 2, 1) := by decide +kernel
theorem d_M_again_67 : decode b_M_again 67 = .ok (.invokevirtual 60, 3) := by decide +kernel
theorem d_M_again_70 : decode b_M_again 70 = .ok (.istore 4, 2) := by decide +kernel
theorem d_M_again_72 : decode b_M_again 72 = .ok (.iload 4, 2) := by decide +kernel
theorem d_M_again_74 : decode b_M_again 74 = .ok (.ifCond .ne 5, 3) := by decide +kernel
theorem d_M_again_77 : decode b_M_again 77 = .ok (.iconst 0, 1) := by decide +kernel
theorem d_M_again_78 : decode b_M_again 78 = .ok (.ireturn, 1) := by decide +kernel
theorem d_M_again_79 : decode b_M_again 79 = .ok (.iconst 0, 1) := by decide +kernel
theorem d_M_again_80 : decode b_M_again 80 = .ok (.istore 5, 2) := by decide +kernel
theorem d_M_again_82 : decode b_M_again 82 = .ok (.iload 5, 2) := by decide +kernel
theorem d_M_again_84 : decode b_M_again 84 = .ok (.iload_n 2, 1) := by decide +kernel
theorem d_M_again_85 : decode b_M_again 85 = .ok (.if_icmp .ge 39, 3) := by decide +kernel
theorem d_M_again_88 : decode b_M_again 88 = .ok (.iload 5, 2) := by decide +kernel
theorem d_M_again_90 : decode b_M_again 90 = .ok (.aload_n 0, 1) := by decide +kernel
theorem d_M_again_91 : decode b_M_again 91 = .ok (.getfield 16, 3) := by decide +kernel
theorem d_M_again_94 : decode b_M_again 94 = .ok (.iload_n 3, 1) := by decide +kernel
theorem d_M_again_95 : decode b_M_again 95 = .ok (.iaload, 1) := by decide +kernel
theorem d_M_again_96 : decode b_M_again 96 = .ok (.if_icmp .ge 28, 3) := by decide +kernel
theorem d_M_again_99 : decode b_M_again 99 = .ok (.aload_n 0, 1) := by decide +kernel
theorem d_M_again_100 : decode b_M_again 100 = .ok (.getfield 7, 3) := by decide +kernel
theorem d_M_again_103 : decode b_M_again 103 = .ok (.iload 4, 2) := by decide +kernel
theorem d_M_again_105 : decode b_M_again 105 = .ok (.iload 5, 2) := by decide +kernel
theorem d_M_again_107 : decode b_M_again 107 = .ok (.iadd, 1) := by decide +kernel
theorem d_M_again_108 : decode b_M_again 108 = .ok (.aload_n 0, 1) := by decide +kernel
theorem d_M_again_109 : decode b_M_again 109 = .ok (.getfield 7, 3) := by decide +kernel
theorem d_M_again_112 : decode b_M_again 112 = .ok (.iload_n 1, 1) := by decide +kernel
theorem d_M_again_113 : decode b_M_again 113 = .ok (.iload 5, 2) := by decide +kernel
theorem d_M_again_115 : decode b_M_again 115 = .ok (.iadd, 1) := by decide +kernel
theorem d_M_again_116 : decode b_M_again 116 = .ok (.iaload, 1) := by decide +kernel
theorem d_M_again_117 : decode b_M_again 117 = .ok (.iastore, 1) := by decide +kernel
theorem d_M_again_118 : decode b_M_again 118 = .ok (.iinc 5 1, 3) := by decide +kernel
theorem d_M_again_121 : decode b_M_again 121 = .ok (.goto (-39), 3) := by decide +kernel
theorem d_M_again_124 : decode b_M_again 124 = .ok (.aload_n 0, 1) := by decide +kernel
theorem d_M_again_125 : decode b_M_again 125 = .ok (.iload_n 3, 1) := by decide +kernel
theorem d_M_again_126 : decode b_M_again 126 = .ok (.invokevirtual 67, 3) := by decide +kernel
theorem d_M_again_129 : decode b_M_again 129 = .ok (.iload 4, 2) := by decide +kernel
theorem d_M_again_131 : decode b_M_again 131 = .ok (.ireturn, 1) := by decide +kernel
theorem d_M_of_0 : decode b_M_of 0 = .ok (.iconst 0, 1) := by decide +kernel
theorem d_M_of_1 : decode b_M_of 1 = .ok (.istore_n 3, 1) := by decide +kernel
theorem d_M_of_2 : decode b_M_of 2 = .ok (.iload_n 3, 1) := by decide +kernel
theorem d_M_of_3 : decode b_M_of 3 = .ok (.aload_n 0, 1) := by decide +kernel
theorem d_M_of_4 : decode b_M_of 4 = .ok (.getfield 40, 3) := by decide +kernel
theorem d_M_of_7 : decode b_M_of 7 = .ok (.if_icmp .ge 48, 3) := by decide +kernel
theorem d_M_of_10 : decode b_M_of 10 = .ok (.aload_n 0, 1) := by decide +kernel
theorem d_M_of_11 : decode b_M_of 11 = .ok (.getfield 19, 3) := by decide +kernel
theorem d_M_of_14 : decode b_M_of 14 = .ok (.iload_n 3, 1) := by decide +kernel
theorem d_M_of_15 : decode b_M_of 15 = .ok (.iaload, 1) := by decide +kernel
theorem d_M_of_16 : decode b_M_of 16 = .ok (.iload_n 2, 1) := by decide +kernel
theorem d_M_of_17 : decode b_M_of 17 = .ok (.if_icmp .ne 32, 3) := by decide +kernel
theorem d_M_of_20 : decode b_M_of 20 = .ok (.iload_n 1, 1) := by decide +kernel
theorem d_M_of_21 : decode b_M_of 21 = .ok (.aload_n 0, 1) := by decide +kernel
theorem d_M_of_22 : decode b_M_of 22 = .ok (.getfield 13, 3) := by decide +kernel
theorem d_M_of_25 : decode b_M_of 25 = .ok (.iload_n 3, 1) := by decide +kernel
theorem d_M_of_26 : decode b_M_of 26 = .ok (.iaload, 1) := by decide +kernel
theorem d_M_of_27 : decode b_M_of 27 = .ok (.if_icmp .lt 22, 3) := by decide +kernel
theorem d_M_of_30 : decode b_M_of 30 = .ok (.iload_n 1, 1) := by decide +kernel
theorem d_M_of_31 : decode b_M_of 31 = .ok (.aload_n 0, 1) := by decide +kernel
theorem d_M_of_32 : decode b_M_of 32 = .ok (.getfield 13, 3) := by decide +kernel
theorem d_M_of_35 : decode b_M_of 35 = .ok (.iload_n 3, 1) := by decide +kernel
theorem d_M_of_36 : decode b_M_of 36 = .ok (.iaload, 1) := by decide +kernel
theorem d_M_of_37 : decode b_M_of 37 = .ok (.aload_n 0, 1) := by decide +kernel
theorem d_M_of_38 : decode b_M_of 38 = .ok (.getfield 16, 3) := by decide +kernel
theorem d_M_of_41 : decode b_M_of 41 = .ok (.iload_n 3, 1) := by decide +kernel
theorem d_M_of_42 : decode b_M_of 42 = .ok (.iaload, 1) := by decide +kernel
theorem d_M_of_43 : decode b_M_of 43 = .ok (.iadd, 1) := by decide +kernel
theorem d_M_of_44 : decode b_M_of 44 = .ok (.if_icmp .ge 5, 3) := by decide +kernel
theorem d_M_of_47 : decode b_M_of 47 = .ok (.iload_n 3, 1) := by decide +kernel
theorem d_M_of_48 : decode b_M_of 48 = .ok (.ireturn, 1) := by decide +kernel
theorem d_M_of_49 : decode b_M_of 49 = .ok (.iinc 3 1, 3) := by decide +kernel
theorem d_M_of_52 : decode b_M_of 52 = .ok (.goto (-50), 3) := by decide +kernel
theorem d_M_of_55 : decode b_M_of 55 = .ok (.iconst (-1), 1) := by decide +kernel
theorem d_M_of_56 : decode b_M_of 56 = .ok (.ireturn, 1) := by decide +kernel
theorem d_M_kind_0 : decode b_M_kind 0 = .ok (.aload_n 0, 1) := by decide +kernel
theorem d_M_kind_1 : decode b_M_kind 1 = .ok (.iload_n 1, 1) := by decide +kernel
theorem d_M_kind_2 : decode b_M_kind 2 = .ok (.ifCond .lt 10, 3) := by decide +kernel
theorem d_M_kind_5 : decode b_M_kind 5 = .ok (.iload_n 1, 1) := by decide +kernel
theorem d_M_kind_6 : decode b_M_kind 6 = .ok (.sipush 8192, 3) := by decide +kernel
theorem d_M_kind_9 : decode b_M_kind 9 = .ok (.if_icmp .lt 7, 3) := by decide +kernel
theorem d_M_kind_12 : decode b_M_kind 12 = .ok (.iconst 1, 1) := by decide +kernel
theorem d_M_kind_13 : decode b_M_kind 13 = .ok (.goto 4, 3) := by decide +kernel
theorem d_M_kind_16 : decode b_M_kind 16 = .ok (.iconst 0, 1) := by decide +kernel
theorem d_M_kind_17 : decode b_M_kind 17 = .ok (.iconst 1, 1) := by decide +kernel
theorem d_M_kind_18 : decode b_M_kind 18 = .ok (.invokevirtual 56, 3) := by decide +kernel
theorem d_M_kind_21 : decode b_M_kind 21 = .ok (.ifCond .eq 5, 3) := by decide +kernel
theorem d_M_kind_24 : decode b_M_kind 24 = .ok (.iconst 0, 1) := by decide +kernel
theorem d_M_kind_25 : decode b_M_kind 25 = .ok (.ireturn, 1) := by decide +kernel
theorem d_M_kind_26 : decode b_M_kind 26 = .ok (.aload_n 0, 1) := by decide +kernel
theorem d_M_kind_27 : decode b_M_kind 27 = .ok (.iload_n 1, 1) := by decide +kernel
theorem d_M_kind_28 : decode b_M_kind 28 = .ok (.iconst 1, 1) := by decide +kernel
theorem d_M_kind_29 : decode b_M_kind 29 = .ok (.invokevirtual 71, 3) := by decide +kernel
theorem d_M_kind_32 : decode b_M_kind 32 = .ok (.ifCond .lt 5, 3) := by decide +kernel
theorem d_M_kind_35 : decode b_M_kind 35 = .ok (.iconst 1, 1) := by decide +kernel
theorem d_M_kind_36 : decode b_M_kind 36 = .ok (.ireturn, 1) := by decide +kernel
theorem d_M_kind_37 : decode b_M_kind 37 = .ok (.aload_n 0, 1) := by decide +kernel
theorem d_M_kind_38 : decode b_M_kind 38 = .ok (.iload_n 1, 1) := by decide +kernel
theorem d_M_kind_39 : decode b_M_kind 39 = .ok (.iconst 2, 1) := by decide +kernel
theorem d_M_kind_40 : decode b_M_kind 40 = .ok (.invokevirtual 71, 3) := by decide +kernel
theorem d_M_kind_43 : decode b_M_kind 43 = .ok (.ifCond .lt 5, 3) := by decide +kernel
theorem d_M_kind_46 : decode b_M_kind 46 = .ok (.iconst 2, 1) := by decide +kernel
theorem d_M_kind_47 : decode b_M_kind 47 = .ok (.ireturn, 1) := by decide +kernel
theorem d_M_kind_48 : decode b_M_kind 48 = .ok (.iconst 0, 1) := by decide +kernel
theorem d_M_kind_49 : decode b_M_kind 49 = .ok (.istore_n 2, 1) := by decide +kernel
theorem d_M_kind_50 : decode b_M_kind 50 = .ok (.iload_n 2, 1) := by decide +kernel
theorem d_M_kind_51 : decode b_M_kind 51 = .ok (.aload_n 0, 1) := by decide +kernel
theorem d_M_kind_52 : decode b_M_kind 52 = .ok (.getfield 40, 3) := by decide +kernel
theorem d_M_kind_55 : decode b_M_kind 55 = .ok (.if_icmp .ge 47, 3) := by decide +kernel
theorem d_M_kind_58 : decode b_M_kind 58 = .ok (.iload_n 1, 1) := by decide +kernel
theorem d_M_kind_59 : decode b_M_kind 59 = .ok (.aload_n 0, 1) := by decide +kernel
theorem d_M_kind_60 : decode b_M_kind 60 = .ok (.getfield 13, 3) := by decide +kernel
theorem d_M_kind_63 : decode b_M_kind 63 = .ok (.iload_n 2, 1) := by decide +kernel
theorem d_M_kind_64 : decode b_M_kind 64 = .ok (.iaload, 1) := by decide +kernel
theorem d_M_kind_65 : decode b_M_kind 65 = .ok (.bipush 16, 2) := by decide +kernel
theorem d_M_kind_67 : decode b_M_kind 67 = .ok (.isub, 1) := by decide +kernel
theorem d_M_kind_68 : decode b_M_kind 68 = .ok (.if_icmp .lt 28, 3) := by decide +kernel
theorem d_M_kind_71 : decode b_M_kind 71 = .ok (.iload_n 1, 1) := by decide +kernel
theorem d_M_kind_72 : decode b_M_kind 72 = .ok (.aload_n 0, 1) := by decide +kernel
theorem d_M_kind_73 : decode b_M_kind 73 = .ok (.getfield 13, 3) := by decide +kernel
theorem d_M_kind_76 : decode b_M_kind 76 = .ok (.iload_n 2, 1) := by decide +kernel
theorem d_M_kind_77 : decode b_M_kind 77 = .ok (.iaload, 1) := by decide +kernel
theorem d_M_kind_78 : decode b_M_kind 78 = .ok (.aload_n 0, 1) := by decide +kernel
theorem d_M_kind_79 : decode b_M_kind 79 = .ok (.getfield 16, 3) := by decide +kernel
theorem d_M_kind_82 : decode b_M_kind 82 = .ok (.iload_n 2, 1) := by decide +kernel
theorem d_M_kind_83 : decode b_M_kind 83 = .ok (.iaload, 1) := by decide +kernel
theorem d_M_kind_84 : decode b_M_kind 84 = .ok (.invokestatic 36, 3) := by decide +kernel
theorem d_M_kind_87 : decode b_M_kind 87 = .ok (.iadd, 1) := by decide +kernel
theorem d_M_kind_88 : decode b_M_kind 88 = .ok (.bipush 16, 2) := by decide +kernel
theorem d_M_kind_90 : decode b_M_kind 90 = .ok (.iadd, 1) := by decide +kernel
theorem d_M_kind_91 : decode b_M_kind 91 = .ok (.if_icmp .ge 5, 3) := by decide +kernel
theorem d_M_kind_94 : decode b_M_kind 94 = .ok (.iconst 3, 1) := by decide +kernel
theorem d_M_kind_95 : decode b_M_kind 95 = .ok (.ireturn, 1) := by decide +kernel
theorem d_M_kind_96 : decode b_M_kind 96 = .ok (.iinc 2 1, 3) := by decide +kernel
theorem d_M_kind_99 : decode b_M_kind 99 = .ok (.goto (-49), 3) := by decide +kernel
theorem d_M_kind_102 : decode b_M_kind 102 = .ok (.iconst 0, 1) := by decide +kernel
theorem d_M_kind_103 : decode b_M_kind 103 = .ok (.ireturn, 1) := by decide +kernel
theorem d_M_block_0 : decode b_M_block 0 = .ok (.aload_n 0, 1) := by decide +kernel
theorem d_M_block_1 : decode b_M_block 1 = .ok (.iload_n 1, 1) := by decide +kernel
theorem d_M_block_2 : decode b_M_block 2 = .ok (.ifCond .lt 10, 3) := by decide +kernel
theorem d_M_block_5 : decode b_M_block 5 = .ok (.iload_n 1, 1) := by decide +kernel
theorem d_M_block_6 : decode b_M_block 6 = .ok (.sipush 8192, 3) := by decide +kernel
theorem d_M_block_9 : decode b_M_block 9 = .ok (.if_icmp .lt 7, 3) := by decide +kernel
theorem d_M_block_12 : decode b_M_block 12 = .ok (.iconst 1, 1) := by decide +kernel
theorem d_M_block_13 : decode b_M_block 13 = .ok (.goto 4, 3) := by decide +kernel
theorem d_M_block_16 : decode b_M_block 16 = .ok (.iconst 0, 1) := by decide +kernel
theorem d_M_block_17 : decode b_M_block 17 = .ok (.iconst 1, 1) := by decide +kernel
theorem d_M_block_18 : decode b_M_block 18 = .ok (.invokevirtual 56, 3) := by decide +kernel
theorem d_M_block_21 : decode b_M_block 21 = .ok (.ifCond .eq 5, 3) := by decide +kernel
theorem d_M_block_24 : decode b_M_block 24 = .ok (.iconst 0, 1) := by decide +kernel
theorem d_M_block_25 : decode b_M_block 25 = .ok (.ireturn, 1) := by decide +kernel
theorem d_M_block_26 : decode b_M_block 26 = .ok (.aload_n 0, 1) := by decide +kernel
theorem d_M_block_27 : decode b_M_block 27 = .ok (.iload_n 1, 1) := by decide +kernel
theorem d_M_block_28 : decode b_M_block 28 = .ok (.iconst 1, 1) := by decide +kernel
theorem d_M_block_29 : decode b_M_block 29 = .ok (.invokevirtual 71, 3) := by decide +kernel
theorem d_M_block_32 : decode b_M_block 32 = .ok (.istore_n 2, 1) := by decide +kernel
theorem d_M_block_33 : decode b_M_block 33 = .ok (.iload_n 2, 1) := by decide +kernel
theorem d_M_block_34 : decode b_M_block 34 = .ok (.ifCond .ge 7, 3) := by decide +kernel
theorem d_M_block_37 : decode b_M_block 37 = .ok (.iconst (-1), 1) := by decide +kernel
theorem d_M_block_38 : decode b_M_block 38 = .ok (.goto 9, 3) := by decide +kernel
theorem d_M_block_41 : decode b_M_block 41 = .ok (.aload_n 0, 1) := by decide +kernel
theorem d_M_block_42 : decode b_M_block 42 = .ok (.getfield 13, 3) := by decide +kernel
theorem d_M_block_45 : decode b_M_block 45 = .ok (.iload_n 2, 1) := by decide +kernel
theorem d_M_block_46 : decode b_M_block 46 = .ok (.iaload, 1) := by decide +kernel
theorem d_M_block_47 : decode b_M_block 47 = .ok (.ireturn, 1) := by decide +kernel
theorem d_M_bad_0 : decode b_M_bad 0 = .ok (.aload_n 0, 1) := by decide +kernel
theorem d_M_bad_1 : decode b_M_bad 1 = .ok (.iload_n 1, 1) := by decide +kernel
theorem d_M_bad_2 : decode b_M_bad 2 = .ok (.ifCond .lt 10, 3) := by decide +kernel
theorem d_M_bad_5 : decode b_M_bad 5 = .ok (.iload_n 1, 1) := by decide +kernel
theorem d_M_bad_6 : decode b_M_bad 6 = .ok (.sipush 8188, 3) := by decide +kernel
theorem d_M_bad_9 : decode b_M_bad 9 = .ok (.if_icmp .le 7, 3) := by decide +kernel
theorem d_M_bad_12 : decode b_M_bad 12 = .ok (.iconst 1, 1) := by decide +kernel
theorem d_M_bad_13 : decode b_M_bad 13 = .ok (.goto 4, 3) := by decide +kernel
theorem d_M_bad_16 : decode b_M_bad 16 = .ok (.iconst 0, 1) := by decide +kernel
theorem d_M_bad_17 : decode b_M_bad 17 = .ok (.iconst 1, 1) := by decide +kernel
theorem d_M_bad_18 : decode b_M_bad 18 = .ok (.invokevirtual 56, 3) := by decide +kernel
theorem d_M_bad_21 : decode b_M_bad 21 = .ok (.ifCond .eq 5, 3) := by decide +kernel
theorem d_M_bad_24 : decode b_M_bad 24 = .ok (.iconst 1, 1) := by decide +kernel
theorem d_M_bad_25 : decode b_M_bad 25 = .ok (.ireturn, 1) := by decide +kernel
theorem d_M_bad_26 : decode b_M_bad 26 = .ok (.iconst 0, 1) := by decide +kernel
theorem d_M_bad_27 : decode b_M_bad 27 = .ok (.istore_n 2, 1) := by decide +kernel
theorem d_M_bad_28 : decode b_M_bad 28 = .ok (.iload_n 2, 1) := by decide +kernel
theorem d_M_bad_29 : decode b_M_bad 29 = .ok (.iconst 4, 1) := by decide +kernel
theorem d_M_bad_30 : decode b_M_bad 30 = .ok (.if_icmp .ge 35, 3) := by decide +kernel
theorem d_M_bad_33 : decode b_M_bad 33 = .ok (.aload_n 0, 1) := by decide +kernel
theorem d_M_bad_34 : decode b_M_bad 34 = .ok (.aload_n 0, 1) := by decide +kernel
theorem d_M_bad_35 : decode b_M_bad 35 = .ok (.iload_n 1, 1) := by decide +kernel
theorem d_M_bad_36 : decode b_M_bad 36 = .ok (.iload_n 2, 1) := by decide +kernel
theorem d_M_bad_37 : decode b_M_bad 37 = .ok (.iadd, 1) := by decide +kernel
theorem d_M_bad_38 : decode b_M_bad 38 = .ok (.iconst 1, 1) := by decide +kernel
theorem d_M_bad_39 : decode b_M_bad 39 = .ok (.invokevirtual 71, 3) := by decide +kernel
theorem d_M_bad_42 : decode b_M_bad 42 = .ok (.ifCond .ge 7, 3) := by decide +kernel
theorem d_M_bad_45 : decode b_M_bad 45 = .ok (.iconst 1, 1) := by decide +kernel
theorem d_M_bad_46 : decode b_M_bad 46 = .ok (.goto 4, 3) := by decide +kernel
theorem d_M_bad_49 : decode b_M_bad 49 = .ok (.iconst 0, 1) := by decide +kernel
theorem d_M_bad_50 : decode b_M_bad 50 = .ok (.iconst 2, 1) := by decide +kernel
theorem d_M_bad_51 : decode b_M_bad 51 = .ok (.invokevirtual 56, 3) := by decide +kernel
theorem d_M_bad_54 : decode b_M_bad 54 = .ok (.ifCond .eq 5, 3) := by decide +kernel
theorem d_M_bad_57 : decode b_M_bad 57 = .ok (.iconst 1, 1) := by decide +kernel
theorem d_M_bad_58 : decode b_M_bad 58 = .ok (.ireturn, 1) := by decide +kernel
theorem d_M_bad_59 : decode b_M_bad 59 = .ok (.iinc 2 1, 3) := by decide +kernel
theorem d_M_bad_62 : decode b_M_bad 62 = .ok (.goto (-34), 3) := by decide +kernel
theorem d_M_bad_65 : decode b_M_bad 65 = .ok (.iconst 0, 1) := by decide +kernel
theorem d_M_bad_66 : decode b_M_bad 66 = .ok (.ireturn, 1) := by decide +kernel
theorem d_M_word_0 : decode b_M_word 0 = .ok (.aload_n 0, 1) := by decide +kernel
theorem d_M_word_1 : decode b_M_word 1 = .ok (.getfield 7, 3) := by decide +kernel
theorem d_M_word_4 : decode b_M_word 4 = .ok (.iload_n 1, 1) := by decide +kernel
theorem d_M_word_5 : decode b_M_word 5 = .ok (.iaload, 1) := by decide +kernel
theorem d_M_word_6 : decode b_M_word 6 = .ok (.aload_n 0, 1) := by decide +kernel
theorem d_M_word_7 : decode b_M_word 7 = .ok (.getfield 7, 3) := by decide +kernel
theorem d_M_word_10 : decode b_M_word 10 = .ok (.iload_n 1, 1) := by decide +kernel
theorem d_M_word_11 : decode b_M_word 11 = .ok (.iconst 1, 1) := by decide +kernel
theorem d_M_word_12 : decode b_M_word 12 = .ok (.iadd, 1) := by decide +kernel
theorem d_M_word_13 : decode b_M_word 13 = .ok (.iaload, 1) := by decide +kernel
theorem d_M_word_14 : decode b_M_word 14 = .ok (.bipush 8, 2) := by decide +kernel
theorem d_M_word_16 : decode b_M_word 16 = .ok (.ishl, 1) := by decide +kernel
theorem d_M_word_17 : decode b_M_word 17 = .ok (.ior, 1) := by decide +kernel
theorem d_M_word_18 : decode b_M_word 18 = .ok (.aload_n 0, 1) := by decide +kernel
theorem d_M_word_19 : decode b_M_word 19 = .ok (.getfield 7, 3) := by decide +kernel
theorem d_M_word_22 : decode b_M_word 22 = .ok (.iload_n 1, 1) := by decide +kernel
theorem d_M_word_23 : decode b_M_word 23 = .ok (.iconst 2, 1) := by decide +kernel
theorem d_M_word_24 : decode b_M_word 24 = .ok (.iadd, 1) := by decide +kernel
theorem d_M_word_25 : decode b_M_word 25 = .ok (.iaload, 1) := by decide +kernel
theorem d_M_word_26 : decode b_M_word 26 = .ok (.bipush 16, 2) := by decide +kernel
theorem d_M_word_28 : decode b_M_word 28 = .ok (.ishl, 1) := by decide +kernel
theorem d_M_word_29 : decode b_M_word 29 = .ok (.ior, 1) := by decide +kernel
theorem d_M_word_30 : decode b_M_word 30 = .ok (.aload_n 0, 1) := by decide +kernel
theorem d_M_word_31 : decode b_M_word 31 = .ok (.getfield 7, 3) := by decide +kernel
theorem d_M_word_34 : decode b_M_word 34 = .ok (.iload_n 1, 1) := by decide +kernel
theorem d_M_word_35 : decode b_M_word 35 = .ok (.iconst 3, 1) := by decide +kernel
theorem d_M_word_36 : decode b_M_word 36 = .ok (.iadd, 1) := by decide +kernel
theorem d_M_word_37 : decode b_M_word 37 = .ok (.iaload, 1) := by decide +kernel
theorem d_M_word_38 : decode b_M_word 38 = .ok (.bipush 24, 2) := by decide +kernel
theorem d_M_word_40 : decode b_M_word 40 = .ok (.ishl, 1) := by decide +kernel
theorem d_M_word_41 : decode b_M_word 41 = .ok (.ior, 1) := by decide +kernel
theorem d_M_word_42 : decode b_M_word 42 = .ok (.ireturn, 1) := by decide +kernel
theorem d_M_write_0 : decode b_M_write 0 = .ok (.aload_n 0, 1) := by decide +kernel
theorem d_M_write_1 : decode b_M_write 1 = .ok (.iload_n 1, 1) := by decide +kernel
theorem d_M_write_2 : decode b_M_write 2 = .ok (.invokevirtual 74, 3) := by decide +kernel
theorem d_M_write_5 : decode b_M_write 5 = .ok (.ifCond .eq 4, 3) := by decide +kernel
theorem d_M_write_8 : decode b_M_write 8 = .ok (.return_, 1) := by decide +kernel
theorem d_M_write_9 : decode b_M_write 9 = .ok (.iconst 0, 1) := by decide +kernel
theorem d_M_write_10 : decode b_M_write 10 = .ok (.istore_n 3, 1) := by decide +kernel
theorem d_M_write_11 : decode b_M_write 11 = .ok (.iload_n 3, 1) := by decide +kernel
theorem d_M_write_12 : decode b_M_write 12 = .ok (.iconst 4, 1) := by decide +kernel
theorem d_M_write_13 : decode b_M_write 13 = .ok (.if_icmp .ge 27, 3) := by decide +kernel
theorem d_M_write_16 : decode b_M_write 16 = .ok (.aload_n 0, 1) := by decide +kernel
theorem d_M_write_17 : decode b_M_write 17 = .ok (.getfield 7, 3) := by decide +kernel
theorem d_M_write_20 : decode b_M_write 20 = .ok (.iload_n 1, 1) := by decide +kernel
theorem d_M_write_21 : decode b_M_write 21 = .ok (.iload_n 3, 1) := by decide +kernel
theorem d_M_write_22 : decode b_M_write 22 = .ok (.iadd, 1) := by decide +kernel
theorem d_M_write_23 : decode b_M_write 23 = .ok (.iload_n 2, 1) := by decide +kernel
theorem d_M_write_24 : decode b_M_write 24 = .ok (.bipush 8, 2) := by decide +kernel
theorem d_M_write_26 : decode b_M_write 26 = .ok (.iload_n 3, 1) := by decide +kernel
theorem d_M_write_27 : decode b_M_write 27 = .ok (.imul, 1) := by decide +kernel
theorem d_M_write_28 : decode b_M_write 28 = .ok (.ishr, 1) := by decide +kernel
theorem d_M_write_29 : decode b_M_write 29 = .ok (.sipush 255, 3) := by decide +kernel
theorem d_M_write_32 : decode b_M_write 32 = .ok (.iand, 1) := by decide +kernel
theorem d_M_write_33 : decode b_M_write 33 = .ok (.iastore, 1) := by decide +kernel
theorem d_M_write_34 : decode b_M_write 34 = .ok (.iinc 3 1, 3) := by decide +kernel
theorem d_M_write_37 : decode b_M_write 37 = .ok (.goto (-26), 3) := by decide +kernel
theorem d_M_write_40 : decode b_M_write 40 = .ok (.return_, 1) := by decide +kernel
theorem d_M_read_0 : decode b_M_read 0 = .ok (.aload_n 0, 1) := by decide +kernel
theorem d_M_read_1 : decode b_M_read 1 = .ok (.iload_n 1, 1) := by decide +kernel
theorem d_M_read_2 : decode b_M_read 2 = .ok (.invokevirtual 74, 3) := by decide +kernel
theorem d_M_read_5 : decode b_M_read 5 = .ok (.ifCond .eq 7, 3) := by decide +kernel
theorem d_M_read_8 : decode b_M_read 8 = .ok (.iconst 0, 1) := by decide +kernel
theorem d_M_read_9 : decode b_M_read 9 = .ok (.goto 8, 3) := by decide +kernel
theorem d_M_read_12 : decode b_M_read 12 = .ok (.aload_n 0, 1) := by decide +kernel
theorem d_M_read_13 : decode b_M_read 13 = .ok (.iload_n 1, 1) := by decide +kernel
theorem d_M_read_14 : decode b_M_read 14 = .ok (.invokevirtual 78, 3) := by decide +kernel
theorem d_M_read_17 : decode b_M_read 17 = .ok (.ireturn, 1) := by decide +kernel
theorem d_M_leads_0 : decode b_M_leads 0 = .ok (.iconst 0, 1) := by decide +kernel
theorem d_M_leads_1 : decode b_M_leads 1 = .ok (.istore_n 2, 1) := by decide +kernel
theorem d_M_leads_2 : decode b_M_leads 2 = .ok (.iload_n 2, 1) := by decide +kernel
theorem d_M_leads_3 : decode b_M_leads 3 = .ok (.aload_n 0, 1) := by decide +kernel
theorem d_M_leads_4 : decode b_M_leads 4 = .ok (.getfield 40, 3) := by decide +kernel
theorem d_M_leads_7 : decode b_M_leads 7 = .ok (.if_icmp .ge 58, 3) := by decide +kernel
theorem d_M_leads_10 : decode b_M_leads 10 = .ok (.aload_n 0, 1) := by decide +kernel
theorem d_M_leads_11 : decode b_M_leads 11 = .ok (.getfield 19, 3) := by decide +kernel
theorem d_M_leads_14 : decode b_M_leads 14 = .ok (.iload_n 2, 1) := by decide +kernel
theorem d_M_leads_15 : decode b_M_leads 15 = .ok (.iaload, 1) := by decide +kernel
theorem d_M_leads_16 : decode b_M_leads 16 = .ok (.iconst 1, 1) := by decide +kernel
theorem d_M_leads_17 : decode b_M_leads 17 = .ok (.if_icmp .ne 42, 3) := by decide +kernel
theorem d_M_leads_20 : decode b_M_leads 20 = .ok (.iload_n 1, 1) := by decide +kernel
theorem d_M_leads_21 : decode b_M_leads 21 = .ok (.aload_n 0, 1) := by decide +kernel
theorem d_M_leads_22 : decode b_M_leads 22 = .ok (.getfield 13, 3) := by decide +kernel
theorem d_M_leads_25 : decode b_M_leads 25 = .ok (.iload_n 2, 1) := by decide +kernel
theorem d_M_leads_26 : decode b_M_leads 26 = .ok (.iaload, 1) := by decide +kernel
theorem d_M_leads_27 : decode b_M_leads 27 = .ok (.if_icmp .eq 30, 3) := by decide +kernel
theorem d_M_leads_30 : decode b_M_leads 30 = .ok (.iload_n 1, 1) := by decide +kernel
theorem d_M_leads_31 : decode b_M_leads 31 = .ok (.aload_n 0, 1) := by decide +kernel
theorem d_M_leads_32 : decode b_M_leads 32 = .ok (.getfield 13, 3) := by decide +kernel
theorem d_M_leads_35 : decode b_M_leads 35 = .ok (.iload_n 2, 1) := by decide +kernel
theorem d_M_leads_36 : decode b_M_leads 36 = .ok (.iaload, 1) := by decide +kernel
theorem d_M_leads_37 : decode b_M_leads 37 = .ok (.if_icmp .lt 22, 3) := by decide +kernel
theorem d_M_leads_40 : decode b_M_leads 40 = .ok (.iload_n 1, 1) := by decide +kernel
theorem d_M_leads_41 : decode b_M_leads 41 = .ok (.aload_n 0, 1) := by decide +kernel
theorem d_M_leads_42 : decode b_M_leads 42 = .ok (.getfield 13, 3) := by decide +kernel
theorem d_M_leads_45 : decode b_M_leads 45 = .ok (.iload_n 2, 1) := by decide +kernel
theorem d_M_leads_46 : decode b_M_leads 46 = .ok (.iaload, 1) := by decide +kernel
theorem d_M_leads_47 : decode b_M_leads 47 = .ok (.aload_n 0, 1) := by decide +kernel
theorem d_M_leads_48 : decode b_M_leads 48 = .ok (.getfield 16, 3) := by decide +kernel
theorem d_M_leads_51 : decode b_M_leads 51 = .ok (.iload_n 2, 1) := by decide +kernel
theorem d_M_leads_52 : decode b_M_leads 52 = .ok (.iaload, 1) := by decide +kernel
theorem d_M_leads_53 : decode b_M_leads 53 = .ok (.iadd, 1) := by decide +kernel
theorem d_M_leads_54 : decode b_M_leads 54 = .ok (.if_icmp .ge 5, 3) := by decide +kernel
theorem d_M_leads_57 : decode b_M_leads 57 = .ok (.iload_n 2, 1) := by decide +kernel
theorem d_M_leads_58 : decode b_M_leads 58 = .ok (.ireturn, 1) := by decide +kernel
theorem d_M_leads_59 : decode b_M_leads 59 = .ok (.iinc 2 1, 3) := by decide +kernel
theorem d_M_leads_62 : decode b_M_leads 62 = .ok (.goto (-60), 3) := by decide +kernel
theorem d_M_leads_65 : decode b_M_leads 65 = .ok (.iconst (-1), 1) := by decide +kernel
theorem d_M_leads_66 : decode b_M_leads 66 = .ok (.ireturn, 1) := by decide +kernel
theorem d_M_touch_0 : decode b_M_touch 0 = .ok (.aload_n 0, 1) := by decide +kernel
theorem d_M_touch_1 : decode b_M_touch 1 = .ok (.iload_n 1, 1) := by decide +kernel
theorem d_M_touch_2 : decode b_M_touch 2 = .ok (.invokevirtual 81, 3) := by decide +kernel
theorem d_M_touch_5 : decode b_M_touch 5 = .ok (.istore_n 2, 1) := by decide +kernel
theorem d_M_touch_6 : decode b_M_touch 6 = .ok (.iload_n 2, 1) := by decide +kernel
theorem d_M_touch_7 : decode b_M_touch 7 = .ok (.ifCond .lt 12, 3) := by decide +kernel
theorem d_M_touch_10 : decode b_M_touch 10 = .ok (.aload_n 0, 1) := by decide +kernel
theorem d_M_touch_11 : decode b_M_touch 11 = .ok (.getfield 25, 3) := by decide +kernel
theorem d_M_touch_14 : decode b_M_touch 14 = .ok (.iload_n 2, 1) := by decide +kernel
theorem d_M_touch_15 : decode b_M_touch 15 = .ok (.baload, 1) := by decide +kernel
theorem d_M_touch_16 : decode b_M_touch 16 = .ok (.ifCond .eq 5, 3) := by decide +kernel
theorem d_M_touch_19 : decode b_M_touch 19 = .ok (.iconst 0, 1) := by decide +kernel
theorem d_M_touch_20 : decode b_M_touch 20 = .ok (.ireturn, 1) := by decide +kernel
theorem d_M_touch_21 : decode b_M_touch 21 = .ok (.aload_n 0, 1) := by decide +kernel
theorem d_M_touch_22 : decode b_M_touch 22 = .ok (.getfield 25, 3) := by decide +kernel
theorem d_M_touch_25 : decode b_M_touch 25 = .ok (.iload_n 2, 1) := by decide +kernel
theorem d_M_touch_26 : decode b_M_touch 26 = .ok (.iconst 1, 1) := by decide +kernel
theorem d_M_touch_27 : decode b_M_touch 27 = .ok (.bastore, 1) := by decide +kernel
theorem d_M_touch_28 : decode b_M_touch 28 = .ok (.iconst 1, 1) := by decide +kernel
theorem d_M_touch_29 : decode b_M_touch 29 = .ok (.ireturn, 1) := by decide +kernel
theorem d_M_lost_0 : decode b_M_lost 0 = .ok (.aload_n 0, 1) := by decide +kernel
theorem d_M_lost_1 : decode b_M_lost 1 = .ok (.iconst 0, 1) := by decide +kernel
theorem d_M_lost_2 : decode b_M_lost 2 = .ok (.putfield 32, 3) := by decide +kernel
theorem d_M_lost_5 : decode b_M_lost 5 = .ok (.iconst 0, 1) := by decide +kernel
theorem d_M_lost_6 : decode b_M_lost 6 = .ok (.istore_n 3, 1) := by decide +kernel
theorem d_M_lost_7 : decode b_M_lost 7 = .ok (.iload_n 3, 1) := by decide +kernel
theorem d_M_lost_8 : decode b_M_lost 8 = .ok (.aload_n 0, 1) := by decide +kernel
theorem d_M_lost_9 : decode b_M_lost 9 = .ok (.getfield 40, 3) := by decide +kernel
theorem d_M_lost_12 : decode b_M_lost 12 = .ok (.if_icmp .ge 16, 3) := by decide +kernel
theorem d_M_lost_15 : decode b_M_lost 15 = .ok (.aload_n 0, 1) := by decide +kernel
theorem d_M_lost_16 : decode b_M_lost 16 = .ok (.getfield 25, 3) := by decide +kernel
theorem d_M_lost_19 : decode b_M_lost 19 = .ok (.iload_n 3, 1) := by decide +kernel
theorem d_M_lost_20 : decode b_M_lost 20 = .ok (.iconst 0, 1) := by decide +kernel
theorem d_M_lost_21 : decode b_M_lost 21 = .ok (.bastore, 1) := by decide +kernel
theorem d_M_lost_22 : decode b_M_lost 22 = .ok (.iinc 3 1, 3) := by decide +kernel
theorem d_M_lost_25 : decode b_M_lost 25 = .ok (.goto (-18), 3) := by decide +kernel
theorem d_M_lost_28 : decode b_M_lost 28 = .ok (.aload_n 0, 1) := by decide +kernel
theorem d_M_lost_29 : decode b_M_lost 29 = .ok (.iload_n 1, 1) := by decide +kernel
theorem d_M_lost_30 : decode b_M_lost 30 = .ok (.invokevirtual 84, 3) := by decide +kernel
theorem d_M_lost_33 : decode b_M_lost 33 = .ok (.aload_n 0, 1) := by decide +kernel
theorem d_M_lost_34 : decode b_M_lost 34 = .ok (.iload_n 2, 1) := by decide +kernel
theorem d_M_lost_35 : decode b_M_lost 35 = .ok (.invokevirtual 84, 3) := by decide +kernel
theorem d_M_lost_38 : decode b_M_lost 38 = .ok (.ior, 1) := by decide +kernel
theorem d_M_lost_39 : decode b_M_lost 39 = .ok (.istore_n 3, 1) := by decide +kernel
theorem d_M_lost_40 : decode b_M_lost 40 = .ok (.iload_n 3, 1) := by decide +kernel
theorem d_M_lost_41 : decode b_M_lost 41 = .ok (.ifCond .eq 80, 3) := by decide +kernel
theorem d_M_lost_44 : decode b_M_lost 44 = .ok (.iconst 0, 1) := by decide +kernel
theorem d_M_lost_45 : decode b_M_lost 45 = .ok (.istore_n 3, 1) := by decide +kernel
theorem d_M_lost_46 : decode b_M_lost 46 = .ok (.iconst 0, 1) := by decide +kernel
theorem d_M_lost_47 : decode b_M_lost 47 = .ok (.istore 4, 2) := by decide +kernel
theorem d_M_lost_49 : decode b_M_lost 49 = .ok (.iload 4, 2) := by decide +kernel
theorem d_M_lost_51 : decode b_M_lost 51 = .ok (.aload_n 0, 1) := by decide +kernel
theorem d_M_lost_52 : decode b_M_lost 52 = .ok (.getfield 40, 3) := by decide +kernel
theorem d_M_lost_55 : decode b_M_lost 55 = .ok (.if_icmp .ge 63, 3) := by decide +kernel
theorem d_M_lost_58 : decode b_M_lost 58 = .ok (.aload_n 0, 1) := by decide +kernel
theorem d_M_lost_59 : decode b_M_lost 59 = .ok (.getfield 25, 3) := by decide +kernel
theorem d_M_lost_62 : decode b_M_lost 62 = .ok (.iload 4, 2) := by decide +kernel
theorem d_M_lost_64 : decode b_M_lost 64 = .ok (.baload, 1) := by decide +kernel
theorem d_M_lost_65 : decode b_M_lost 65 = .ok (.ifCond .eq 47, 3) := by decide +kernel
theorem d_M_lost_68 : decode b_M_lost 68 = .ok (.iconst 0, 1) := by decide +kernel
theorem d_M_lost_69 : decode b_M_lost 69 = .ok (.istore 5, 2) := by decide +kernel
theorem d_M_lost_71 : decode b_M_lost 71 = .ok (.iload 5, 2) := by decide +kernel
theorem d_M_lost_73 : decode b_M_lost 73 = .ok (.iconst 4, 1) := by decide +kernel
theorem d_M_lost_74 : decode b_M_lost 74 = .ok (.iadd, 1) := by decide +kernel
theorem d_M_lost_75 : decode b_M_lost 75 = .ok (.aload_n 0, 1) := by decide +kernel
theorem d_M_lost_76 : decode b_M_lost 76 = .ok (.getfield 16, 3) := by decide +kernel
theorem d_M_lost_79 : decode b_M_lost 79 = .ok (.iload 4, 2) := by decide +kernel
theorem d_M_lost_81 : decode b_M_lost 81 = .ok (.iaload, 1) := by decide +kernel
theorem d_M_lost_82 : decode b_M_lost 82 = .ok (.if_icmp .gt 30, 3) := by decide +kernel
theorem d_M_lost_85 : decode b_M_lost 85 = .ok (.iload_n 3, 1) := by decide +kernel
theorem d_M_lost_86 : decode b_M_lost 86 = .ok (.aload_n 0, 1) := by decide +kernel
theorem d_M_lost_87 : decode b_M_lost 87 = .ok (.aload_n 0, 1) := by decide +kernel
theorem d_M_lost_88 : decode b_M_lost 88 = .ok (.aload_n 0, 1) := by decide +kernel
theorem d_M_lost_89 : decode b_M_lost 89 = .ok (.getfield 13, 3) := by decide +kernel
theorem d_M_lost_92 : decode b_M_lost 92 = .ok (.iload 4, 2) := by decide +kernel
theorem d_M_lost_94 : decode b_M_lost 94 = .ok (.iaload, 1) := by decide +kernel
theorem d_M_lost_95 : decode b_M_lost 95 = .ok (.iload 5, 2) := by decide +kernel
theorem d_M_lost_97 : decode b_M_lost 97 = .ok (.iadd, 1) := by decide +kernel
theorem d_M_lost_98 : decode b_M_lost 98 = .ok (.invokevirtual 78, 3) := by decide +kernel
theorem d_M_lost_101 : decode b_M_lost 101 = .ok (.invokevirtual 84, 3) := by decide +kernel
theorem d_M_lost_104 : decode b_M_lost 104 = .ok (.ior, 1) := by decide +kernel
theorem d_M_lost_105 : decode b_M_lost 105 = .ok (.istore_n 3, 1) := by decide +kernel
theorem d_M_lost_106 : decode b_M_lost 106 = .ok (.iinc 5 4, 3) := by decide +kernel
theorem d_M_lost_109 : decode b_M_lost 109 = .ok (.goto (-38), 3) := by decide +kernel
theorem d_M_lost_112 : decode b_M_lost 112 = .ok (.iinc 4 1, 3) := by decide +kernel
theorem d_M_lost_115 : decode b_M_lost 115 = .ok (.goto (-66), 3) := by decide +kernel
theorem d_M_lost_118 : decode b_M_lost 118 = .ok (.goto (-78), 3) := by decide +kernel
theorem d_M_lost_121 : decode b_M_lost 121 = .ok (.aload_n 0, 1) := by decide +kernel
theorem d_M_lost_122 : decode b_M_lost 122 = .ok (.iconst 0, 1) := by decide +kernel
theorem d_M_lost_123 : decode b_M_lost 123 = .ok (.putfield 87, 3) := by decide +kernel
theorem d_M_lost_126 : decode b_M_lost 126 = .ok (.iconst 0, 1) := by decide +kernel
theorem d_M_lost_127 : decode b_M_lost 127 = .ok (.istore 4, 2) := by decide +kernel
theorem d_M_lost_129 : decode b_M_lost 129 = .ok (.iload 4, 2) := by decide +kernel
theorem d_M_lost_131 : decode b_M_lost 131 = .ok (.sipush 8192, 3) := by decide +kernel
theorem d_M_lost_134 : decode b_M_lost 134 = .ok (.if_icmp .ge 51, 3) := by decide +kernel
theorem d_M_lost_137 : decode b_M_lost 137 = .ok (.aload_n 0, 1) := by decide +kernel
theorem d_M_lost_138 : decode b_M_lost 138 = .ok (.iload 4, 2) := by decide +kernel
theorem d_M_lost_140 : decode b_M_lost 140 = .ok (.iconst 1, 1) := by decide +kernel
theorem d_M_lost_141 : decode b_M_lost 141 = .ok (.invokevirtual 63, 3) := by decide +kernel
theorem d_M_lost_144 : decode b_M_lost 144 = .ok (.istore 5, 2) := by decide +kernel
theorem d_M_lost_146 : decode b_M_lost 146 = .ok (.iload 5, 2) := by decide +kernel
theorem d_M_lost_148 : decode b_M_lost 148 = .ok (.ifCond .lt 31, 3) := by decide +kernel
theorem d_M_lost_151 : decode b_M_lost 151 = .ok (.aload_n 0, 1) := by decide +kernel
theorem d_M_lost_152 : decode b_M_lost 152 = .ok (.getfield 25, 3) := by decide +kernel
theorem d_M_lost_155 : decode b_M_lost 155 = .ok (.iload 5, 2) := by decide +kernel
theorem d_M_lost_157 : decode b_M_lost 157 = .ok (.baload, 1) := by decide +kernel
theorem d_M_lost_158 : decode b_M_lost 158 = .ok (.ifCond .ne 21, 3) := by decide +kernel
theorem d_M_lost_161 : decode b_M_lost 161 = .ok (.aload_n 0, 1) := by decide +kernel
theorem d_M_lost_162 : decode b_M_lost 162 = .ok (.getfield 29, 3) := by decide +kernel
theorem d_M_lost_165 : decode b_M_lost 165 = .ok (.aload_n 0, 1) := by decide +kernel
theorem d_M_lost_166 : decode b_M_lost 166 = .ok (.dup, 1) := by decide +kernel
theorem d_M_lost_167 : decode b_M_lost 167 = .ok (.getfield 87, 3) := by decide +kernel
theorem d_M_lost_170 : decode b_M_lost 170 = .ok (.dup_x1, 1) := by decide +kernel
theorem d_M_lost_171 : decode b_M_lost 171 = .ok (.iconst 1, 1) := by decide +kernel
theorem d_M_lost_172 : decode b_M_lost 172 = .ok (.iadd, 1) := by decide +kernel
theorem d_M_lost_173 : decode b_M_lost 173 = .ok (.putfield 87, 3) := by decide +kernel
theorem d_M_lost_176 : decode b_M_lost 176 = .ok (.iload 4, 2) := by decide +kernel
theorem d_M_lost_178 : decode b_M_lost 178 = .ok (.iastore, 1) := by decide +kernel
theorem d_M_lost_179 : decode b_M_lost 179 = .ok (.iinc 4 16, 3) := by decide +kernel
theorem d_M_lost_182 : decode b_M_lost 182 = .ok (.goto (-53), 3) := by decide +kernel
theorem d_M_lost_185 : decode b_M_lost 185 = .ok (.aload_n 0, 1) := by decide +kernel
theorem d_M_lost_186 : decode b_M_lost 186 = .ok (.getfield 87, 3) := by decide +kernel
theorem d_M_lost_189 : decode b_M_lost 189 = .ok (.ireturn, 1) := by decide +kernel
theorem d_M_lostAt_0 : decode b_M_lostAt 0 = .ok (.aload_n 0, 1) := by decide +kernel
theorem d_M_lostAt_1 : decode b_M_lostAt 1 = .ok (.iload_n 1, 1) := by decide +kernel
theorem d_M_lostAt_2 : decode b_M_lostAt 2 = .ok (.ifCond .lt 11, 3) := by decide +kernel
theorem d_M_lostAt_5 : decode b_M_lostAt 5 = .ok (.iload_n 1, 1) := by decide +kernel
theorem d_M_lostAt_6 : decode b_M_lostAt 6 = .ok (.aload_n 0, 1) := by decide +kernel
theorem d_M_lostAt_7 : decode b_M_lostAt 7 = .ok (.getfield 87, 3) := by decide +kernel
theorem d_M_lostAt_10 : decode b_M_lostAt 10 = .ok (.if_icmp .lt 7, 3) := by decide +kernel
theorem d_M_lostAt_13 : decode b_M_lostAt 13 = .ok (.iconst 1, 1) := by decide +kernel
theorem d_M_lostAt_14 : decode b_M_lostAt 14 = .ok (.goto 4, 3) := by decide +kernel
theorem d_M_lostAt_17 : decode b_M_lostAt 17 = .ok (.iconst 0, 1) := by decide +kernel
theorem d_M_lostAt_18 : decode b_M_lostAt 18 = .ok (.iconst 1, 1) := by decide +kernel
theorem d_M_lostAt_19 : decode b_M_lostAt 19 = .ok (.invokevirtual 56, 3) := by decide +kernel
theorem d_M_lostAt_22 : decode b_M_lostAt 22 = .ok (.ifCond .eq 5, 3) := by decide +kernel
theorem d_M_lostAt_25 : decode b_M_lostAt 25 = .ok (.iconst 0, 1) := by decide +kernel
theorem d_M_lostAt_26 : decode b_M_lostAt 26 = .ok (.ireturn, 1) := by decide +kernel
theorem d_M_lostAt_27 : decode b_M_lostAt 27 = .ok (.aload_n 0, 1) := by decide +kernel
theorem d_M_lostAt_28 : decode b_M_lostAt 28 = .ok (.getfield 29, 3) := by decide +kernel
theorem d_M_lostAt_31 : decode b_M_lostAt 31 = .ok (.iload_n 1, 1) := by decide +kernel
theorem d_M_lostAt_32 : decode b_M_lostAt 32 = .ok (.iaload, 1) := by decide +kernel
theorem d_M_lostAt_33 : decode b_M_lostAt 33 = .ok (.ireturn, 1) := by decide +kernel
theorem d_M_count_0 : decode b_M_count 0 = .ok (.aload_n 0, 1) := by decide +kernel
theorem d_M_count_1 : decode b_M_count 1 = .ok (.iload_n 1, 1) := by decide +kernel
theorem d_M_count_2 : decode b_M_count 2 = .ok (.ifCond .lt 8, 3) := by decide +kernel
theorem d_M_count_5 : decode b_M_count 5 = .ok (.iload_n 1, 1) := by decide +kernel
theorem d_M_count_6 : decode b_M_count 6 = .ok (.iconst 4, 1) := by decide +kernel
theorem d_M_count_7 : decode b_M_count 7 = .ok (.if_icmp .le 7, 3) := by decide +kernel
theorem d_M_count_10 : decode b_M_count 10 = .ok (.iconst 1, 1) := by decide +kernel
theorem d_M_count_11 : decode b_M_count 11 = .ok (.goto 4, 3) := by decide +kernel
theorem d_M_count_14 : decode b_M_count 14 = .ok (.iconst 0, 1) := by decide +kernel
theorem d_M_count_15 : decode b_M_count 15 = .ok (.iconst 1, 1) := by decide +kernel
theorem d_M_count_16 : decode b_M_count 16 = .ok (.invokevirtual 56, 3) := by decide +kernel
theorem d_M_count_19 : decode b_M_count 19 = .ok (.ifCond .eq 5, 3) := by decide +kernel
theorem d_M_count_22 : decode b_M_count 22 = .ok (.iconst 0, 1) := by decide +kernel
theorem d_M_count_23 : decode b_M_count 23 = .ok (.ireturn, 1) := by decide +kernel
theorem d_M_count_24 : decode b_M_count 24 = .ok (.iconst 0, 1) := by decide +kernel
theorem d_M_count_25 : decode b_M_count 25 = .ok (.istore_n 2, 1) := by decide +kernel
theorem d_M_count_26 : decode b_M_count 26 = .ok (.iconst 0, 1) := by decide +kernel
theorem d_M_count_27 : decode b_M_count 27 = .ok (.istore_n 3, 1) := by decide +kernel
theorem d_M_count_28 : decode b_M_count 28 = .ok (.iconst 0, 1) := by decide +kernel
theorem d_M_count_29 : decode b_M_count 29 = .ok (.istore 4, 2) := by decide +kernel
theorem d_M_count_31 : decode b_M_count 31 = .ok (.iload 4, 2) := by decide +kernel
theorem d_M_count_33 : decode b_M_count 33 = .ok (.aload_n 0, 1) := by decide +kernel
theorem d_M_count_34 : decode b_M_count 34 = .ok (.getfield 40, 3) := by decide +kernel
theorem d_M_count_37 : decode b_M_count 37 = .ok (.if_icmp .ge 33, 3) := by decide +kernel
theorem d_M_count_40 : decode b_M_count 40 = .ok (.aload_n 0, 1) := by decide +kernel
theorem d_M_count_41 : decode b_M_count 41 = .ok (.getfield 19, 3) := by decide +kernel
theorem d_M_count_44 : decode b_M_count 44 = .ok (.iload 4, 2) := by decide +kernel
theorem d_M_count_46 : decode b_M_count 46 = .ok (.iaload, 1) := by decide +kernel
theorem d_M_count_47 : decode b_M_count 47 = .ok (.iconst 1, 1) := by decide +kernel
theorem d_M_count_48 : decode b_M_count 48 = .ok (.if_icmp .ne 16, 3) := by decide +kernel
theorem d_M_count_51 : decode b_M_count 51 = .ok (.iinc 2 1, 3) := by decide +kernel
theorem d_M_count_54 : decode b_M_count 54 = .ok (.iload_n 3, 1) := by decide +kernel
theorem d_M_count_55 : decode b_M_count 55 = .ok (.aload_n 0, 1) := by decide +kernel
theorem d_M_count_56 : decode b_M_count 56 = .ok (.getfield 16, 3) := by decide +kernel
theorem d_M_count_59 : decode b_M_count 59 = .ok (.iload 4, 2) := by decide +kernel
theorem d_M_count_61 : decode b_M_count 61 = .ok (.iaload, 1) := by decide +kernel
theorem d_M_count_62 : decode b_M_count 62 = .ok (.iadd, 1) := by decide +kernel
theorem d_M_count_63 : decode b_M_count 63 = .ok (.istore_n 3, 1) := by decide +kernel
theorem d_M_count_64 : decode b_M_count 64 = .ok (.iinc 4 1, 3) := by decide +kernel
theorem d_M_count_67 : decode b_M_count 67 = .ok (.goto (-36), 3) := by decide +kernel
theorem d_M_count_70 : decode b_M_count 70 = .ok (.iload_n 1, 1) := by decide +kernel
theorem d_M_count_71 : decode b_M_count 71 = .ok (.tableswitch 45 0 3 #[29, 31, 33, 40], 29) := by decide +kernel
theorem d_M_count_100 : decode b_M_count 100 = .ok (.iload_n 2, 1) := by decide +kernel
theorem d_M_count_101 : decode b_M_count 101 = .ok (.ireturn, 1) := by decide +kernel
theorem d_M_count_102 : decode b_M_count 102 = .ok (.iload_n 3, 1) := by decide +kernel
theorem d_M_count_103 : decode b_M_count 103 = .ok (.ireturn, 1) := by decide +kernel
theorem d_M_count_104 : decode b_M_count 104 = .ok (.aload_n 0, 1) := by decide +kernel
theorem d_M_count_105 : decode b_M_count 105 = .ok (.getfield 40, 3) := by decide +kernel
theorem d_M_count_108 : decode b_M_count 108 = .ok (.iload_n 2, 1) := by decide +kernel
theorem d_M_count_109 : decode b_M_count 109 = .ok (.isub, 1) := by decide +kernel
theorem d_M_count_110 : decode b_M_count 110 = .ok (.ireturn, 1) := by decide +kernel
theorem d_M_count_111 : decode b_M_count 111 = .ok (.aload_n 0, 1) := by decide +kernel
theorem d_M_count_112 : decode b_M_count 112 = .ok (.invokevirtual 52, 3) := by decide +kernel
theorem d_M_count_115 : decode b_M_count 115 = .ok (.ireturn, 1) := by decide +kernel
theorem d_M_count_116 : decode b_M_count 116 = .ok (.aload_n 0, 1) := by decide +kernel
theorem d_M_count_117 : decode b_M_count 117 = .ok (.getfield 46, 3) := by decide +kernel
theorem d_M_count_120 : decode b_M_count 120 = .ok (.ireturn, 1) := by decide +kernel
end
section
/-! the instructions (printed by program) -/
theorem d_L_get_0 : decode b_L_get 0 = .ok (.aload_n 2, 1) := by decide +kernel
theorem d_L_get_1 : decode b_L_get 1 = .ok (.iconst 0, 1) := by decide +kernel
theorem d_L_get_2 : decode b_L_get 2 = .ok (.aload_n 0, 1) := by decide +kernel
theorem d_L_get_3 : decode b_L_get 3 = .ok (.iload_n 1, 1) := by decide +kernel
theorem d_L_get_4 : decode b_L_get 4 = .ok (.invokevirtual 7, 3) := by decide +kernel
theorem d_L_get_7 : decode b_L_get 7 = .ok (.i2l, 1) := by decide +kernel
theorem d_L_get_8 : decode b_L_get 8 = .ok (.lastore, 1) := by decide +kernel
theorem d_L_get_9 : decode b_L_get 9 = .ok (.goto 6, 3) := by decide +kernel
theorem d_L_get_12 : decode b_L_get 12 = .ok (.astore_n 3, 1) := by decide +kernel
theorem d_L_get_13 : decode b_L_get 13 = .ok (.iconst 1, 1) := by decide +kernel
theorem d_L_get_14 : decode b_L_get 14 = .ok (.ireturn, 1) := by decide +kernel
theorem d_L_get_15 : decode b_L_get 15 = .ok (.iconst 0, 1) := by decide +kernel
theorem d_L_get_16 : decode b_L_get 16 = .ok (.ireturn, 1) := by decide +kernel
theorem d_L_back_0 : decode b_L_back 0 = .ok (.aload_n 2, 1) := by decide +kernel
theorem d_L_back_1 : decode b_L_back 1 = .ok (.iconst 0, 1) := by decide +kernel
theorem d_L_back_2 : decode b_L_back 2 = .ok (.aload_n 0, 1) := by decide +kernel
theorem d_L_back_3 : decode b_L_back 3 = .ok (.iload_n 1, 1) := by decide +kernel
theorem d_L_back_4 : decode b_L_back 4 = .ok (.invokevirtual 15, 3) := by decide +kernel
theorem d_L_back_7 : decode b_L_back 7 = .ok (.i2l, 1) := by decide +kernel
theorem d_L_back_8 : decode b_L_back 8 = .ok (.lastore, 1) := by decide +kernel
theorem d_L_back_9 : decode b_L_back 9 = .ok (.goto 9, 3) := by decide +kernel
theorem d_L_back_12 : decode b_L_back 12 = .ok (.astore_n 3, 1) := by decide +kernel
theorem d_L_back_13 : decode b_L_back 13 = .ok (.iconst 1, 1) := by decide +kernel
theorem d_L_back_14 : decode b_L_back 14 = .ok (.ireturn, 1) := by decide +kernel
theorem d_L_back_15 : decode b_L_back 15 = .ok (.astore_n 3, 1) := by decide +kernel
theorem d_L_back_16 : decode b_L_back 16 = .ok (.iconst 2, 1) := by decide +kernel
theorem d_L_back_17 : decode b_L_back 17 = .ok (.ireturn, 1) := by decide +kernel
theorem d_L_back_18 : decode b_L_back 18 = .ok (.iconst 0, 1) := by decide +kernel
theorem d_L_back_19 : decode b_L_back 19 = .ok (.ireturn, 1) := by decide +kernel
theorem d_L_again_0 : decode b_L_again 0 = .ok (.aload_n 3, 1) := by decide +kernel
theorem d_L_again_1 : decode b_L_again 1 = .ok (.iconst 0, 1) := by decide +kernel
theorem d_L_again_2 : decode b_L_again 2 = .ok (.aload_n 0, 1) := by decide +kernel
theorem d_L_again_3 : decode b_L_again 3 = .ok (.iload_n 1, 1) := by decide +kernel
theorem d_L_again_4 : decode b_L_again 4 = .ok (.iload_n 2, 1) := by decide +kernel
theorem d_L_again_5 : decode b_L_again 5 = .ok (.invokevirtual 20, 3) := by decide +kernel
theorem d_L_again_8 : decode b_L_again 8 = .ok (.i2l, 1) := by decide +kernel
theorem d_L_again_9 : decode b_L_again 9 = .ok (.lastore, 1) := by decide +kernel
theorem d_L_again_10 : decode b_L_again 10 = .ok (.goto 11, 3) := by decide +kernel
theorem d_L_again_13 : decode b_L_again 13 = .ok (.astore 4, 2) := by decide +kernel
theorem d_L_again_15 : decode b_L_again 15 = .ok (.iconst 1, 1) := by decide +kernel
theorem d_L_again_16 : decode b_L_again 16 = .ok (.ireturn, 1) := by decide +kernel
theorem d_L_again_17 : decode b_L_again 17 = .ok (.astore 4, 2) := by decide +kernel
theorem d_L_again_19 : decode b_L_again 19 = .ok (.iconst 2, 1) := by decide +kernel
theorem d_L_again_20 : decode b_L_again 20 = .ok (.ireturn, 1) := by decide +kernel
theorem d_L_again_21 : decode b_L_again 21 = .ok (.iconst 0, 1) := by decide +kernel
theorem d_L_again_22 : decode b_L_again 22 = .ok (.ireturn, 1) := by decide +kernel
theorem d_L_kind_0 : decode b_L_kind 0 = .ok (.aload_n 2, 1) := by decide +kernel
theorem d_L_kind_1 : decode b_L_kind 1 = .ok (.iconst 0, 1) := by decide +kernel
theorem d_L_kind_2 : decode b_L_kind 2 = .ok (.aload_n 0, 1) := by decide +kernel
theorem d_L_kind_3 : decode b_L_kind 3 = .ok (.iload_n 1, 1) := by decide +kernel
theorem d_L_kind_4 : decode b_L_kind 4 = .ok (.invokevirtual 24, 3) := by decide +kernel
theorem d_L_kind_7 : decode b_L_kind 7 = .ok (.i2l, 1) := by decide +kernel
theorem d_L_kind_8 : decode b_L_kind 8 = .ok (.lastore, 1) := by decide +kernel
theorem d_L_kind_9 : decode b_L_kind 9 = .ok (.goto 6, 3) := by decide +kernel
theorem d_L_kind_12 : decode b_L_kind 12 = .ok (.astore_n 3, 1) := by decide +kernel
theorem d_L_kind_13 : decode b_L_kind 13 = .ok (.iconst 1, 1) := by decide +kernel
theorem d_L_kind_14 : decode b_L_kind 14 = .ok (.ireturn, 1) := by decide +kernel
theorem d_L_kind_15 : decode b_L_kind 15 = .ok (.iconst 0, 1) := by decide +kernel
theorem d_L_kind_16 : decode b_L_kind 16 = .ok (.ireturn, 1) := by decide +kernel
theorem d_L_block_0 : decode b_L_block 0 = .ok (.aload_n 2, 1) := by decide +kernel
theorem d_L_block_1 : decode b_L_block 1 = .ok (.iconst 0, 1) := by decide +kernel
theorem d_L_block_2 : decode b_L_block 2 = .ok (.aload_n 0, 1) := by decide +kernel
theorem d_L_block_3 : decode b_L_block 3 = .ok (.iload_n 1, 1) := by decide +kernel
theorem d_L_block_4 : decode b_L_block 4 = .ok (.invokevirtual 29, 3) := by decide +kernel
theorem d_L_block_7 : decode b_L_block 7 = .ok (.i2l, 1) := by decide +kernel
theorem d_L_block_8 : decode b_L_block 8 = .ok (.lastore, 1) := by decide +kernel
theorem d_L_block_9 : decode b_L_block 9 = .ok (.goto 6, 3) := by decide +kernel
theorem d_L_block_12 : decode b_L_block 12 = .ok (.astore_n 3, 1) := by decide +kernel
theorem d_L_block_13 : decode b_L_block 13 = .ok (.iconst 1, 1) := by decide +kernel
theorem d_L_block_14 : decode b_L_block 14 = .ok (.ireturn, 1) := by decide +kernel
theorem d_L_block_15 : decode b_L_block 15 = .ok (.iconst 0, 1) := by decide +kernel
theorem d_L_block_16 : decode b_L_block 16 = .ok (.ireturn, 1) := by decide +kernel
theorem d_L_write_0 : decode b_L_write 0 = .ok (.aload_n 0, 1) := by decide +kernel
theorem d_L_write_1 : decode b_L_write 1 = .ok (.iload_n 1, 1) := by decide +kernel
theorem d_L_write_2 : decode b_L_write 2 = .ok (.iload_n 2, 1) := by decide +kernel
theorem d_L_write_3 : decode b_L_write 3 = .ok (.invokevirtual 32, 3) := by decide +kernel
theorem d_L_write_6 : decode b_L_write 6 = .ok (.goto 9, 3) := by decide +kernel
theorem d_L_write_9 : decode b_L_write 9 = .ok (.astore_n 3, 1) := by decide +kernel
theorem d_L_write_10 : decode b_L_write 10 = .ok (.iconst 1, 1) := by decide +kernel
theorem d_L_write_11 : decode b_L_write 11 = .ok (.ireturn, 1) := by decide +kernel
theorem d_L_write_12 : decode b_L_write 12 = .ok (.astore_n 3, 1) := by decide +kernel
theorem d_L_write_13 : decode b_L_write 13 = .ok (.iconst 2, 1) := by decide +kernel
theorem d_L_write_14 : decode b_L_write 14 = .ok (.ireturn, 1) := by decide +kernel
theorem d_L_write_15 : decode b_L_write 15 = .ok (.iconst 0, 1) := by decide +kernel
theorem d_L_write_16 : decode b_L_write 16 = .ok (.ireturn, 1) := by decide +kernel
theorem d_L_read_0 : decode b_L_read 0 = .ok (.aload_n 2, 1) := by decide +kernel
theorem d_L_read_1 : decode b_L_read 1 = .ok (.iconst 0, 1) := by decide +kernel
theorem d_L_read_2 : decode b_L_read 2 = .ok (.aload_n 0, 1) := by decide +kernel
theorem d_L_read_3 : decode b_L_read 3 = .ok (.iload_n 1, 1) := by decide +kernel
theorem d_L_read_4 : decode b_L_read 4 = .ok (.invokevirtual 36, 3) := by decide +kernel
theorem d_L_read_7 : decode b_L_read 7 = .ok (.i2l, 1) := by decide +kernel
theorem d_L_read_8 : decode b_L_read 8 = .ok (.lastore, 1) := by decide +kernel
theorem d_L_read_9 : decode b_L_read 9 = .ok (.goto 9, 3) := by decide +kernel
theorem d_L_read_12 : decode b_L_read 12 = .ok (.astore_n 3, 1) := by decide +kernel
theorem d_L_read_13 : decode b_L_read 13 = .ok (.iconst 1, 1) := by decide +kernel
theorem d_L_read_14 : decode b_L_read 14 = .ok (.ireturn, 1) := by decide +kernel
theorem d_L_read_15 : decode b_L_read 15 = .ok (.astore_n 3, 1) := by decide +kernel
theorem d_L_read_16 : decode b_L_read 16 = .ok (.iconst 2, 1) := by decide +kernel
theorem d_L_read_17 : decode b_L_read 17 = .ok (.ireturn, 1) := by decide +kernel
theorem d_L_read_18 : decode b_L_read 18 = .ok (.iconst 0, 1) := by decide +kernel
theorem d_L_read_19 : decode b_L_read 19 = .ok (.ireturn, 1) := by decide +kernel
theorem d_L_lostAt_0 : decode b_L_lostAt 0 = .ok (.aload_n 2, 1) := by decide +kernel
theorem d_L_lostAt_1 : decode b_L_lostAt 1 = .ok (.iconst 0, 1) := by decide +kernel
theorem d_L_lostAt_2 : decode b_L_lostAt 2 = .ok (.aload_n 0, 1) := by decide +kernel
theorem d_L_lostAt_3 : decode b_L_lostAt 3 = .ok (.iload_n 1, 1) := by decide +kernel
theorem d_L_lostAt_4 : decode b_L_lostAt 4 = .ok (.invokevirtual 39, 3) := by decide +kernel
theorem d_L_lostAt_7 : decode b_L_lostAt 7 = .ok (.i2l, 1) := by decide +kernel
theorem d_L_lostAt_8 : decode b_L_lostAt 8 = .ok (.lastore, 1) := by decide +kernel
theorem d_L_lostAt_9 : decode b_L_lostAt 9 = .ok (.goto 6, 3) := by decide +kernel
theorem d_L_lostAt_12 : decode b_L_lostAt 12 = .ok (.astore_n 3, 1) := by decide +kernel
theorem d_L_lostAt_13 : decode b_L_lostAt 13 = .ok (.iconst 1, 1) := by decide +kernel
theorem d_L_lostAt_14 : decode b_L_lostAt 14 = .ok (.ireturn, 1) := by decide +kernel
theorem d_L_lostAt_15 : decode b_L_lostAt 15 = .ok (.iconst 0, 1) := by decide +kernel
theorem d_L_lostAt_16 : decode b_L_lostAt 16 = .ok (.ireturn, 1) := by decide +kernel
theorem d_L_count_0 : decode b_L_count 0 = .ok (.aload_n 2, 1) := by decide +kernel
theorem d_L_count_1 : decode b_L_count 1 = .ok (.iconst 0, 1) := by decide +kernel
theorem d_L_count_2 : decode b_L_count 2 = .ok (.aload_n 0, 1) := by decide +kernel
theorem d_L_count_3 : decode b_L_count 3 = .ok (.iload_n 1, 1) := by decide +kernel
theorem d_L_count_4 : decode b_L_count 4 = .ok (.invokevirtual 42, 3) := by decide +kernel
theorem d_L_count_7 : decode b_L_count 7 = .ok (.i2l, 1) := by decide +kernel
theorem d_L_count_8 : decode b_L_count 8 = .ok (.lastore, 1) := by decide +kernel
theorem d_L_count_9 : decode b_L_count 9 = .ok (.goto 6, 3) := by decide +kernel
theorem d_L_count_12 : decode b_L_count 12 = .ok (.astore_n 3, 1) := by decide +kernel
theorem d_L_count_13 : decode b_L_count 13 = .ok (.iconst 1, 1) := by decide +kernel
theorem d_L_count_14 : decode b_L_count 14 = .ok (.ireturn, 1) := by decide +kernel
theorem d_L_count_15 : decode b_L_count 15 = .ok (.iconst 0, 1) := by decide +kernel
theorem d_L_count_16 : decode b_L_count 16 = .ok (.ireturn, 1) := by decide +kernel
theorem d_L_law_0 : decode code 0 = .ok (.new 8, 3) := by decide +kernel
theorem d_L_law_3 : decode code 3 = .ok (.dup, 1) := by decide +kernel
theorem d_L_law_4 : decode code 4 = .ok (.invokespecial 45, 3) := by decide +kernel
theorem d_L_law_7 : decode code 7 = .ok (.astore_n 1, 1) := by decide +kernel
theorem d_L_law_8 : decode code 8 = .ok (.new 46, 3) := by decide +kernel
theorem d_L_law_11 : decode code 11 = .ok (.dup, 1) := by decide +kernel
theorem d_L_law_12 : decode code 12 = .ok (.invokespecial 48, 3) := by decide +kernel
theorem d_L_law_15 : decode code 15 = .ok (.astore_n 2, 1) := by decide +kernel
theorem d_L_law_16 : decode code 16 = .ok (.iconst 1, 1) := by decide +kernel
theorem d_L_law_17 : decode code 17 = .ok (.newarray .long, 2) := by decide +kernel
theorem d_L_law_19 : decode code 19 = .ok (.astore_n 3, 1) := by decide +kernel
theorem d_L_law_20 : decode code 20 = .ok (.iconst 0, 1) := by decide +kernel
theorem d_L_law_21 : decode code 21 = .ok (.istore 4, 2) := by decide +kernel
theorem d_L_law_23 : decode code 23 = .ok (.iload 4, 2) := by decide +kernel
theorem d_L_law_25 : decode code 25 = .ok (.aload_n 0, 1) := by decide +kernel
theorem d_L_law_26 : decode code 26 = .ok (.arraylength, 1) := by decide +kernel
theorem d_L_law_27 : decode code 27 = .ok (.iconst 3, 1) := by decide +kernel
theorem d_L_law_28 : decode code 28 = .ok (.isub, 1) := by decide +kernel
theorem d_L_law_29 : decode code 29 = .ok (.if_icmp .gt 614, 3) := by decide +kernel
theorem d_L_law_32 : decode code 32 = .ok (.aload_n 0, 1) := by decide +kernel
theorem d_L_law_33 : decode code 33 = .ok (.iload 4, 2) := by decide +kernel
theorem d_L_law_35 : decode code 35 = .ok (.iaload, 1) := by decide +kernel
theorem d_L_law_36 : decode code 36 = .ok (.bipush 15, 2) := by decide +kernel
theorem d_L_law_38 : decode code 38 = .ok (.iand, 1) := by decide +kernel
theorem d_L_law_39 : decode code 39 = .ok (.tableswitch 598 0 9 #[53, 109, 165, 233, 289, 345, 393, 449, 486, 542], 53) := by decide +kernel
theorem d_L_law_92 : decode code 92 = .ok (.aload_n 1, 1) := by decide +kernel
theorem d_L_law_93 : decode code 93 = .ok (.aload_n 0, 1) := by decide +kernel
theorem d_L_law_94 : decode code 94 = .ok (.iload 4, 2) := by decide +kernel
theorem d_L_law_96 : decode code 96 = .ok (.iconst 1, 1) := by decide +kernel
theorem d_L_law_97 : decode code 97 = .ok (.iadd, 1) := by decide +kernel
theorem d_L_law_98 : decode code 98 = .ok (.iaload, 1) := by decide +kernel
theorem d_L_law_99 : decode code 99 = .ok (.aload_n 3, 1) := by decide +kernel
theorem d_L_law_100 : decode code 100 = .ok (.invokestatic 49, 3) := by decide +kernel
theorem d_L_law_103 : decode code 103 = .ok (.istore 5, 2) := by decide +kernel
theorem d_L_law_105 : decode code 105 = .ok (.aload_n 2, 1) := by decide +kernel
theorem d_L_law_106 : decode code 106 = .ok (.aload_n 0, 1) := by decide +kernel
theorem d_L_law_107 : decode code 107 = .ok (.iload 4, 2) := by decide +kernel
theorem d_L_law_109 : decode code 109 = .ok (.iconst 1, 1) := by decide +kernel
theorem d_L_law_110 : decode code 110 = .ok (.iadd, 1) := by decide +kernel
theorem d_L_law_111 : decode code 111 = .ok (.iaload, 1) := by decide +kernel
theorem d_L_law_112 : decode code 112 = .ok (.invokevirtual 54, 3) := by decide +kernel
theorem d_L_law_115 : decode code 115 = .ok (.istore 6, 2) := by decide +kernel
theorem d_L_law_117 : decode code 117 = .ok (.aload_n 2, 1) := by decide +kernel
theorem d_L_law_118 : decode code 118 = .ok (.invokevirtual 55, 3) := by decide +kernel
theorem d_L_law_121 : decode code 121 = .ok (.iload 5, 2) := by decide +kernel
theorem d_L_law_123 : decode code 123 = .ok (.if_icmp .eq 5, 3) := by decide +kernel
theorem d_L_law_126 : decode code 126 = .ok (.iconst 0, 1) := by decide +kernel
theorem d_L_law_127 : decode code 127 = .ok (.ireturn, 1) := by decide +kernel
theorem d_L_law_128 : decode code 128 = .ok (.iload 5, 2) := by decide +kernel
theorem d_L_law_130 : decode code 130 = .ok (.ifCond .ne 15, 3) := by decide +kernel
theorem d_L_law_133 : decode code 133 = .ok (.aload_n 3, 1) := by decide +kernel
theorem d_L_law_134 : decode code 134 = .ok (.iconst 0, 1) := by decide +kernel
theorem d_L_law_135 : decode code 135 = .ok (.laload, 1) := by decide +kernel
theorem d_L_law_136 : decode code 136 = .ok (.iload 6, 2) := by decide +kernel
theorem d_L_law_138 : decode code 138 = .ok (.i2l, 1) := by decide +kernel
theorem d_L_law_139 : decode code 139 = .ok (.lcmp, 1) := by decide +kernel
theorem d_L_law_140 : decode code 140 = .ok (.ifCond .eq 5, 3) := by decide +kernel
theorem d_L_law_143 : decode code 143 = .ok (.iconst 0, 1) := by decide +kernel
theorem d_L_law_144 : decode code 144 = .ok (.ireturn, 1) := by decide +kernel
theorem d_L_law_145 : decode code 145 = .ok (.goto 492, 3) := by decide +kernel
theorem d_L_law_148 : decode code 148 = .ok (.aload_n 1, 1) := by decide +kernel
theorem d_L_law_149 : decode code 149 = .ok (.aload_n 0, 1) := by decide +kernel
theorem d_L_law_150 : decode code 150 = .ok (.iload 4, 2) := by decide +kernel
theorem d_L_law_152 : decode code 152 = .ok (.iconst 1, 1) := by decide +kernel
theorem d_L_law_153 : decode code 153 = .ok (.iadd, 1) := by decide +kernel
theorem d_L_law_154 : decode code 154 = .ok (.iaload, 1) := by decide +kernel
theorem d_L_law_155 : decode code 155 = .ok (.aload_n 3, 1) := by decide +kernel
theorem d_L_law_156 : decode code 156 = .ok (.invokestatic 59, 3) := by decide +kernel
theorem d_L_law_159 : decode code 159 = .ok (.istore 5, 2) := by decide +kernel
theorem d_L_law_161 : decode code 161 = .ok (.aload_n 2, 1) := by decide +kernel
theorem d_L_law_162 : decode code 162 = .ok (.aload_n 0, 1) := by decide +kernel
theorem d_L_law_163 : decode code 163 = .ok (.iload 4, 2) := by decide +kernel
theorem d_L_law_165 : decode code 165 = .ok (.iconst 1, 1) := by decide +kernel
theorem d_L_law_166 : decode code 166 = .ok (.iadd, 1) := by decide +kernel
theorem d_L_law_167 : decode code 167 = .ok (.iaload, 1) := by decide +kernel
theorem d_L_law_168 : decode code 168 = .ok (.invokevirtual 61, 3) := by decide +kernel
theorem d_L_law_171 : decode code 171 = .ok (.istore 6, 2) := by decide +kernel
theorem d_L_law_173 : decode code 173 = .ok (.aload_n 2, 1) := by decide +kernel
theorem d_L_law_174 : decode code 174 = .ok (.invokevirtual 55, 3) := by decide +kernel
theorem d_L_law_177 : decode code 177 = .ok (.iload 5, 2) := by decide +kernel
theorem d_L_law_179 : decode code 179 = .ok (.if_icmp .eq 5, 3) := by decide +kernel
theorem d_L_law_182 : decode code 182 = .ok (.iconst 0, 1) := by decide +kernel
theorem d_L_law_183 : decode code 183 = .ok (.ireturn, 1) := by decide +kernel
theorem d_L_law_184 : decode code 184 = .ok (.iload 5, 2) := by decide +kernel
theorem d_L_law_186 : decode code 186 = .ok (.ifCond .ne 15, 3) := by decide +kernel
theorem d_L_law_189 : decode code 189 = .ok (.aload_n 3, 1) := by decide +kernel
theorem d_L_law_190 : decode code 190 = .ok (.iconst 0, 1) := by decide +kernel
theorem d_L_law_191 : decode code 191 = .ok (.laload, 1) := by decide +kernel
theorem d_L_law_192 : decode code 192 = .ok (.iload 6, 2) := by decide +kernel
theorem d_L_law_194 : decode code 194 = .ok (.i2l, 1) := by decide +kernel
theorem d_L_law_195 : decode code 195 = .ok (.lcmp, 1) := by decide +kernel
theorem d_L_law_196 : decode code 196 = .ok (.ifCond .eq 5, 3) := by decide +kernel
theorem d_L_law_199 : decode code 199 = .ok (.iconst 0, 1) := by decide +kernel
theorem d_L_law_200 : decode code 200 = .ok (.ireturn, 1) := by decide +kernel
theorem d_L_law_201 : decode code 201 = .ok (.goto 436, 3) := by decide +kernel
theorem d_L_law_204 : decode code 204 = .ok (.aload_n 1, 1) := by decide +kernel
theorem d_L_law_205 : decode code 205 = .ok (.aload_n 0, 1) := by decide +kernel
theorem d_L_law_206 : decode code 206 = .ok (.iload 4, 2) := by decide +kernel
theorem d_L_law_208 : decode code 208 = .ok (.iconst 1, 1) := by decide +kernel
theorem d_L_law_209 : decode code 209 = .ok (.iadd, 1) := by decide +kernel
theorem d_L_law_210 : decode code 210 = .ok (.iaload, 1) := by decide +kernel
theorem d_L_law_211 : decode code 211 = .ok (.aload_n 0, 1) := by decide +kernel
theorem d_L_law_212 : decode code 212 = .ok (.iload 4, 2) := by decide +kernel
theorem d_L_law_214 : decode code 214 = .ok (.iconst 2, 1) := by decide +kernel
theorem d_L_law_215 : decode code 215 = .ok (.iadd, 1) := by decide +kernel
theorem d_L_law_216 : decode code 216 = .ok (.iaload, 1) := by decide +kernel
theorem d_L_law_217 : decode code 217 = .ok (.aload_n 3, 1) := by decide +kernel
theorem d_L_law_218 : decode code 218 = .ok (.invokestatic 62, 3) := by decide +kernel
theorem d_L_law_221 : decode code 221 = .ok (.istore 5, 2) := by decide +kernel
theorem d_L_law_223 : decode code 223 = .ok (.aload_n 2, 1) := by decide +kernel
theorem d_L_law_224 : decode code 224 = .ok (.aload_n 0, 1) := by decide +kernel
theorem d_L_law_225 : decode code 225 = .ok (.iload 4, 2) := by decide +kernel
theorem d_L_law_227 : decode code 227 = .ok (.iconst 1, 1) := by decide +kernel
theorem d_L_law_228 : decode code 228 = .ok (.iadd, 1) := by decide +kernel
theorem d_L_law_229 : decode code 229 = .ok (.iaload, 1) := by decide +kernel
theorem d_L_law_230 : decode code 230 = .ok (.aload_n 0, 1) := by decide +kernel
theorem d_L_law_231 : decode code 231 = .ok (.iload 4, 2) := by decide +kernel
theorem d_L_law_233 : decode code 233 = .ok (.iconst 2, 1) := by decide +kernel
theorem d_L_law_234 : decode code 234 = .ok (.iadd, 1) := by decide +kernel
theorem d_L_law_235 : decode code 235 = .ok (.iaload, 1) := by decide +kernel
theorem d_L_law_236 : decode code 236 = .ok (.invokevirtual 65, 3) := by decide +kernel
theorem d_L_law_239 : decode code 239 = .ok (.istore 6, 2) := by decide +kernel
theorem d_L_law_241 : decode code 241 = .ok (.aload_n 2, 1) := by decide +kernel
theorem d_L_law_242 : decode code 242 = .ok (.invokevirtual 55, 3) := by decide +kernel
theorem d_L_law_245 : decode code 245 = .ok (.iload 5, 2) := by decide +kernel
theorem d_L_law_247 : decode code 247 = .ok (.if_icmp .eq 5, 3) := by decide +kernel
theorem d_L_law_250 : decode code 250 = .ok (.iconst 0, 1) := by decide +kernel
theorem d_L_law_251 : decode code 251 = .ok (.ireturn, 1) := by decide +kernel
theorem d_L_law_252 : decode code 252 = .ok (.iload 5, 2) := by decide +kernel
theorem d_L_law_254 : decode code 254 = .ok (.ifCond .ne 15, 3) := by decide +kernel
theorem d_L_law_257 : decode code 257 = .ok (.aload_n 3, 1) := by decide +kernel
theorem d_L_law_258 : decode code 258 = .ok (.iconst 0, 1) := by decide +kernel
theorem d_L_law_259 : decode code 259 = .ok (.laload, 1) := by decide +kernel
theorem d_L_law_260 : decode code 260 = .ok (.iload 6, 2) := by decide +kernel
theorem d_L_law_262 : decode code 262 = .ok (.i2l, 1) := by decide +kernel
theorem d_L_law_263 : decode code 263 = .ok (.lcmp, 1) := by decide +kernel
theorem d_L_law_264 : decode code 264 = .ok (.ifCond .eq 5, 3) := by decide +kernel
theorem d_L_law_267 : decode code 267 = .ok (.iconst 0, 1) := by decide +kernel
theorem d_L_law_268 : decode code 268 = .ok (.ireturn, 1) := by decide +kernel
theorem d_L_law_269 : decode code 269 = .ok (.goto 368, 3) := by decide +kernel
theorem d_L_law_272 : decode code 272 = .ok (.aload_n 1, 1) := by decide +kernel
theorem d_L_law_273 : decode code 273 = .ok (.aload_n 0, 1) := by decide +kernel
theorem d_L_law_274 : decode code 274 = .ok (.iload 4, 2) := by decide +kernel
theorem d_L_law_276 : decode code 276 = .ok (.iconst 1, 1) := by decide +kernel
theorem d_L_law_277 : decode code 277 = .ok (.iadd, 1) := by decide +kernel
theorem d_L_law_278 : decode code 278 = .ok (.iaload, 1) := by decide +kernel
theorem d_L_law_279 : decode code 279 = .ok (.aload_n 3, 1) := by decide +kernel
theorem d_L_law_280 : decode code 280 = .ok (.invokestatic 66, 3) := by decide +kernel
theorem d_L_law_283 : decode code 283 = .ok (.istore 5, 2) := by decide +kernel
theorem d_L_law_285 : decode code 285 = .ok (.aload_n 2, 1) := by decide +kernel
theorem d_L_law_286 : decode code 286 = .ok (.aload_n 0, 1) := by decide +kernel
theorem d_L_law_287 : decode code 287 = .ok (.iload 4, 2) := by decide +kernel
theorem d_L_law_289 : decode code 289 = .ok (.iconst 1, 1) := by decide +kernel
theorem d_L_law_290 : decode code 290 = .ok (.iadd, 1) := by decide +kernel
theorem d_L_law_291 : decode code 291 = .ok (.iaload, 1) := by decide +kernel
theorem d_L_law_292 : decode code 292 = .ok (.invokevirtual 68, 3) := by decide +kernel
theorem d_L_law_295 : decode code 295 = .ok (.istore 6, 2) := by decide +kernel
theorem d_L_law_297 : decode code 297 = .ok (.aload_n 2, 1) := by decide +kernel
theorem d_L_law_298 : decode code 298 = .ok (.invokevirtual 55, 3) := by decide +kernel
theorem d_L_law_301 : decode code 301 = .ok (.iload 5, 2) := by decide +kernel
theorem d_L_law_303 : decode code 303 = .ok (.if_icmp .eq 5, 3) := by decide +kernel
theorem d_L_law_306 : decode code 306 = .ok (.iconst 0, 1) := by decide +kernel
theorem d_L_law_307 : decode code 307 = .ok (.ireturn, 1) := by decide +kernel
theorem d_L_law_308 : decode code 308 = .ok (.iload 5, 2) := by decide +kernel
theorem d_L_law_310 : decode code 310 = .ok (.ifCond .ne 15, 3) := by decide +kernel
theorem d_L_law_313 : decode code 313 = .ok (.aload_n 3, 1) := by decide +kernel
theorem d_L_law_314 : decode code 314 = .ok (.iconst 0, 1) := by decide +kernel
theorem d_L_law_315 : decode code 315 = .ok (.laload, 1) := by decide +kernel
theorem d_L_law_316 : decode code 316 = .ok (.iload 6, 2) := by decide +kernel
theorem d_L_law_318 : decode code 318 = .ok (.i2l, 1) := by decide +kernel
theorem d_L_law_319 : decode code 319 = .ok (.lcmp, 1) := by decide +kernel
theorem d_L_law_320 : decode code 320 = .ok (.ifCond .eq 5, 3) := by decide +kernel
theorem d_L_law_323 : decode code 323 = .ok (.iconst 0, 1) := by decide +kernel
theorem d_L_law_324 : decode code 324 = .ok (.ireturn, 1) := by decide +kernel
theorem d_L_law_325 : decode code 325 = .ok (.goto 312, 3) := by decide +kernel
theorem d_L_law_328 : decode code 328 = .ok (.aload_n 1, 1) := by decide +kernel
theorem d_L_law_329 : decode code 329 = .ok (.aload_n 0, 1) := by decide +kernel
theorem d_L_law_330 : decode code 330 = .ok (.iload 4, 2) := by decide +kernel
theorem d_L_law_332 : decode code 332 = .ok (.iconst 1, 1) := by decide +kernel
theorem d_L_law_333 : decode code 333 = .ok (.iadd, 1) := by decide +kernel
theorem d_L_law_334 : decode code 334 = .ok (.iaload, 1) := by decide +kernel
theorem d_L_law_335 : decode code 335 = .ok (.aload_n 3, 1) := by decide +kernel
theorem d_L_law_336 : decode code 336 = .ok (.invokestatic 69, 3) := by decide +kernel
theorem d_L_law_339 : decode code 339 = .ok (.istore 5, 2) := by decide +kernel
theorem d_L_law_341 : decode code 341 = .ok (.aload_n 2, 1) := by decide +kernel
theorem d_L_law_342 : decode code 342 = .ok (.aload_n 0, 1) := by decide +kernel
theorem d_L_law_343 : decode code 343 = .ok (.iload 4, 2) := by decide +kernel
theorem d_L_law_345 : decode code 345 = .ok (.iconst 1, 1) := by decide +kernel
theorem d_L_law_346 : decode code 346 = .ok (.iadd, 1) := by decide +kernel
theorem d_L_law_347 : decode code 347 = .ok (.iaload, 1) := by decide +kernel
theorem d_L_law_348 : decode code 348 = .ok (.invokevirtual 71, 3) := by decide +kernel
theorem d_L_law_351 : decode code 351 = .ok (.istore 6, 2) := by decide +kernel
theorem d_L_law_353 : decode code 353 = .ok (.aload_n 2, 1) := by decide +kernel
theorem d_L_law_354 : decode code 354 = .ok (.invokevirtual 55, 3) := by decide +kernel
theorem d_L_law_357 : decode code 357 = .ok (.iload 5, 2) := by decide +kernel
theorem d_L_law_359 : decode code 359 = .ok (.if_icmp .eq 5, 3) := by decide +kernel
theorem d_L_law_362 : decode code 362 = .ok (.iconst 0, 1) := by decide +kernel
theorem d_L_law_363 : decode code 363 = .ok (.ireturn, 1) := by decide +kernel
theorem d_L_law_364 : decode code 364 = .ok (.iload 5, 2) := by decide +kernel
theorem d_L_law_366 : decode code 366 = .ok (.ifCond .ne 15, 3) := by decide +kernel
theorem d_L_law_369 : decode code 369 = .ok (.aload_n 3, 1) := by decide +kernel
theorem d_L_law_370 : decode code 370 = .ok (.iconst 0, 1) := by decide +kernel
theorem d_L_law_371 : decode code 371 = .ok (.laload, 1) := by decide +kernel
theorem d_L_law_372 : decode code 372 = .ok (.iload 6, 2) := by decide +kernel
theorem d_L_law_374 : decode code 374 = .ok (.i2l, 1) := by decide +kernel
theorem d_L_law_375 : decode code 375 = .ok (.lcmp, 1) := by decide +kernel
theorem d_L_law_376 : decode code 376 = .ok (.ifCond .eq 5, 3) := by decide +kernel
theorem d_L_law_379 : decode code 379 = .ok (.iconst 0, 1) := by decide +kernel
theorem d_L_law_380 : decode code 380 = .ok (.ireturn, 1) := by decide +kernel
theorem d_L_law_381 : decode code 381 = .ok (.goto 256, 3) := by decide +kernel
theorem d_L_law_384 : decode code 384 = .ok (.aload_n 1, 1) := by decide +kernel
theorem d_L_law_385 : decode code 385 = .ok (.aload_n 0, 1) := by decide +kernel
theorem d_L_law_386 : decode code 386 = .ok (.iload 4, 2) := by decide +kernel
theorem d_L_law_388 : decode code 388 = .ok (.iconst 1, 1) := by decide +kernel
theorem d_L_law_389 : decode code 389 = .ok (.iadd, 1) := by decide +kernel
theorem d_L_law_390 : decode code 390 = .ok (.iaload, 1) := by decide +kernel
theorem d_L_law_391 : decode code 391 = .ok (.aload_n 0, 1) := by decide +kernel
theorem d_L_law_392 : decode code 392 = .ok (.iload 4, 2) := by decide +kernel
theorem d_L_law_394 : decode code 394 = .ok (.iconst 2, 1) := by decide +kernel
theorem d_L_law_395 : decode code 395 = .ok (.iadd, 1) := by decide +kernel
theorem d_L_law_396 : decode code 396 = .ok (.iaload, 1) := by decide +kernel
theorem d_L_law_397 : decode code 397 = .ok (.invokestatic 72, 3) := by decide +kernel
theorem d_L_law_400 : decode code 400 = .ok (.istore 5, 2) := by decide +kernel
theorem d_L_law_402 : decode code 402 = .ok (.aload_n 2, 1) := by decide +kernel
theorem d_L_law_403 : decode code 403 = .ok (.aload_n 0, 1) := by decide +kernel
theorem d_L_law_404 : decode code 404 = .ok (.iload 4, 2) := by decide +kernel
theorem d_L_law_406 : decode code 406 = .ok (.iconst 1, 1) := by decide +kernel
theorem d_L_law_407 : decode code 407 = .ok (.iadd, 1) := by decide +kernel
theorem d_L_law_408 : decode code 408 = .ok (.iaload, 1) := by decide +kernel
theorem d_L_law_409 : decode code 409 = .ok (.aload_n 0, 1) := by decide +kernel
theorem d_L_law_410 : decode code 410 = .ok (.iload 4, 2) := by decide +kernel
theorem d_L_law_412 : decode code 412 = .ok (.iconst 2, 1) := by decide +kernel
theorem d_L_law_413 : decode code 413 = .ok (.iadd, 1) := by decide +kernel
theorem d_L_law_414 : decode code 414 = .ok (.iaload, 1) := by decide +kernel
theorem d_L_law_415 : decode code 415 = .ok (.invokevirtual 75, 3) := by decide +kernel
theorem d_L_law_418 : decode code 418 = .ok (.aload_n 2, 1) := by decide +kernel
theorem d_L_law_419 : decode code 419 = .ok (.invokevirtual 55, 3) := by decide +kernel
theorem d_L_law_422 : decode code 422 = .ok (.iload 5, 2) := by decide +kernel
theorem d_L_law_424 : decode code 424 = .ok (.if_icmp .eq 5, 3) := by decide +kernel
theorem d_L_law_427 : decode code 427 = .ok (.iconst 0, 1) := by decide +kernel
theorem d_L_law_428 : decode code 428 = .ok (.ireturn, 1) := by decide +kernel
theorem d_L_law_429 : decode code 429 = .ok (.goto 208, 3) := by decide +kernel
theorem d_L_law_432 : decode code 432 = .ok (.aload_n 1, 1) := by decide +kernel
theorem d_L_law_433 : decode code 433 = .ok (.aload_n 0, 1) := by decide +kernel
theorem d_L_law_434 : decode code 434 = .ok (.iload 4, 2) := by decide +kernel
theorem d_L_law_436 : decode code 436 = .ok (.iconst 1, 1) := by decide +kernel
theorem d_L_law_437 : decode code 437 = .ok (.iadd, 1) := by decide +kernel
theorem d_L_law_438 : decode code 438 = .ok (.iaload, 1) := by decide +kernel
theorem d_L_law_439 : decode code 439 = .ok (.aload_n 3, 1) := by decide +kernel
theorem d_L_law_440 : decode code 440 = .ok (.invokestatic 76, 3) := by decide +kernel
theorem d_L_law_443 : decode code 443 = .ok (.istore 5, 2) := by decide +kernel
theorem d_L_law_445 : decode code 445 = .ok (.aload_n 2, 1) := by decide +kernel
theorem d_L_law_446 : decode code 446 = .ok (.aload_n 0, 1) := by decide +kernel
theorem d_L_law_447 : decode code 447 = .ok (.iload 4, 2) := by decide +kernel
theorem d_L_law_449 : decode code 449 = .ok (.iconst 1, 1) := by decide +kernel
theorem d_L_law_450 : decode code 450 = .ok (.iadd, 1) := by decide +kernel
theorem d_L_law_451 : decode code 451 = .ok (.iaload, 1) := by decide +kernel
theorem d_L_law_452 : decode code 452 = .ok (.invokevirtual 78, 3) := by decide +kernel
theorem d_L_law_455 : decode code 455 = .ok (.istore 6, 2) := by decide +kernel
theorem d_L_law_457 : decode code 457 = .ok (.aload_n 2, 1) := by decide +kernel
theorem d_L_law_458 : decode code 458 = .ok (.invokevirtual 55, 3) := by decide +kernel
theorem d_L_law_461 : decode code 461 = .ok (.iload 5, 2) := by decide +kernel
theorem d_L_law_463 : decode code 463 = .ok (.if_icmp .eq 5, 3) := by decide +kernel
theorem d_L_law_466 : decode code 466 = .ok (.iconst 0, 1) := by decide +kernel
theorem d_L_law_467 : decode code 467 = .ok (.ireturn, 1) := by decide +kernel
theorem d_L_law_468 : decode code 468 = .ok (.iload 5, 2) := by decide +kernel
theorem d_L_law_470 : decode code 470 = .ok (.ifCond .ne 15, 3) := by decide +kernel
theorem d_L_law_473 : decode code 473 = .ok (.aload_n 3, 1) := by decide +kernel
theorem d_L_law_474 : decode code 474 = .ok (.iconst 0, 1) := by decide +kernel
theorem d_L_law_475 : decode code 475 = .ok (.laload, 1) := by decide +kernel
theorem d_L_law_476 : decode code 476 = .ok (.iload 6, 2) := by decide +kernel
theorem d_L_law_478 : decode code 478 = .ok (.i2l, 1) := by decide +kernel
theorem d_L_law_479 : decode code 479 = .ok (.lcmp, 1) := by decide +kernel
theorem d_L_law_480 : decode code 480 = .ok (.ifCond .eq 5, 3) := by decide +kernel
theorem d_L_law_483 : decode code 483 = .ok (.iconst 0, 1) := by decide +kernel
theorem d_L_law_484 : decode code 484 = .ok (.ireturn, 1) := by decide +kernel
theorem d_L_law_485 : decode code 485 = .ok (.goto 152, 3) := by decide +kernel
theorem d_L_law_488 : decode code 488 = .ok (.aload_n 1, 1) := by decide +kernel
theorem d_L_law_489 : decode code 489 = .ok (.aload_n 0, 1) := by decide +kernel
theorem d_L_law_490 : decode code 490 = .ok (.iload 4, 2) := by decide +kernel
theorem d_L_law_492 : decode code 492 = .ok (.iconst 1, 1) := by decide +kernel
theorem d_L_law_493 : decode code 493 = .ok (.iadd, 1) := by decide +kernel
theorem d_L_law_494 : decode code 494 = .ok (.iaload, 1) := by decide +kernel
theorem d_L_law_495 : decode code 495 = .ok (.aload_n 0, 1) := by decide +kernel
theorem d_L_law_496 : decode code 496 = .ok (.iload 4, 2) := by decide +kernel
theorem d_L_law_498 : decode code 498 = .ok (.iconst 2, 1) := by decide +kernel
theorem d_L_law_499 : decode code 499 = .ok (.iadd, 1) := by decide +kernel
theorem d_L_law_500 : decode code 500 = .ok (.iaload, 1) := by decide +kernel
theorem d_L_law_501 : decode code 501 = .ok (.invokevirtual 79, 3) := by decide +kernel
theorem d_L_law_504 : decode code 504 = .ok (.aload_n 2, 1) := by decide +kernel
theorem d_L_law_505 : decode code 505 = .ok (.aload_n 0, 1) := by decide +kernel
theorem d_L_law_506 : decode code 506 = .ok (.iload 4, 2) := by decide +kernel
theorem d_L_law_508 : decode code 508 = .ok (.iconst 1, 1) := by decide +kernel
theorem d_L_law_509 : decode code 509 = .ok (.iadd, 1) := by decide +kernel
theorem d_L_law_510 : decode code 510 = .ok (.iaload, 1) := by decide +kernel
theorem d_L_law_511 : decode code 511 = .ok (.aload_n 0, 1) := by decide +kernel
theorem d_L_law_512 : decode code 512 = .ok (.iload 4, 2) := by decide +kernel
theorem d_L_law_514 : decode code 514 = .ok (.iconst 2, 1) := by decide +kernel
theorem d_L_law_515 : decode code 515 = .ok (.iadd, 1) := by decide +kernel
theorem d_L_law_516 : decode code 516 = .ok (.iaload, 1) := by decide +kernel
theorem d_L_law_517 : decode code 517 = .ok (.invokevirtual 82, 3) := by decide +kernel
theorem d_L_law_520 : decode code 520 = .ok (.if_icmp .eq 117, 3) := by decide +kernel
theorem d_L_law_523 : decode code 523 = .ok (.iconst 0, 1) := by decide +kernel
theorem d_L_law_524 : decode code 524 = .ok (.ireturn, 1) := by decide +kernel
theorem d_L_law_525 : decode code 525 = .ok (.aload_n 1, 1) := by decide +kernel
theorem d_L_law_526 : decode code 526 = .ok (.aload_n 0, 1) := by decide +kernel
theorem d_L_law_527 : decode code 527 = .ok (.iload 4, 2) := by decide +kernel
theorem d_L_law_529 : decode code 529 = .ok (.iconst 1, 1) := by decide +kernel
theorem d_L_law_530 : decode code 530 = .ok (.iadd, 1) := by decide +kernel
theorem d_L_law_531 : decode code 531 = .ok (.iaload, 1) := by decide +kernel
theorem d_L_law_532 : decode code 532 = .ok (.aload_n 3, 1) := by decide +kernel
theorem d_L_law_533 : decode code 533 = .ok (.invokestatic 83, 3) := by decide +kernel
theorem d_L_law_536 : decode code 536 = .ok (.istore 5, 2) := by decide +kernel
theorem d_L_law_538 : decode code 538 = .ok (.aload_n 2, 1) := by decide +kernel
theorem d_L_law_539 : decode code 539 = .ok (.aload_n 0, 1) := by decide +kernel
theorem d_L_law_540 : decode code 540 = .ok (.iload 4, 2) := by decide +kernel
theorem d_L_law_542 : decode code 542 = .ok (.iconst 1, 1) := by decide +kernel
theorem d_L_law_543 : decode code 543 = .ok (.iadd, 1) := by decide +kernel
theorem d_L_law_544 : decode code 544 = .ok (.iaload, 1) := by decide +kernel
theorem d_L_law_545 : decode code 545 = .ok (.invokevirtual 85, 3) := by decide +kernel
theorem d_L_law_548 : decode code 548 = .ok (.istore 6, 2) := by decide +kernel
theorem d_L_law_550 : decode code 550 = .ok (.aload_n 2, 1) := by decide +kernel
theorem d_L_law_551 : decode code 551 = .ok (.invokevirtual 55, 3) := by decide +kernel
theorem d_L_law_554 : decode code 554 = .ok (.iload 5, 2) := by decide +kernel
theorem d_L_law_556 : decode code 556 = .ok (.if_icmp .eq 5, 3) := by decide +kernel
theorem d_L_law_559 : decode code 559 = .ok (.iconst 0, 1) := by decide +kernel
theorem d_L_law_560 : decode code 560 = .ok (.ireturn, 1) := by decide +kernel
theorem d_L_law_561 : decode code 561 = .ok (.iload 5, 2) := by decide +kernel
theorem d_L_law_563 : decode code 563 = .ok (.ifCond .ne 15, 3) := by decide +kernel
theorem d_L_law_566 : decode code 566 = .ok (.aload_n 3, 1) := by decide +kernel
theorem d_L_law_567 : decode code 567 = .ok (.iconst 0, 1) := by decide +kernel
theorem d_L_law_568 : decode code 568 = .ok (.laload, 1) := by decide +kernel
theorem d_L_law_569 : decode code 569 = .ok (.iload 6, 2) := by decide +kernel
theorem d_L_law_571 : decode code 571 = .ok (.i2l, 1) := by decide +kernel
theorem d_L_law_572 : decode code 572 = .ok (.lcmp, 1) := by decide +kernel
theorem d_L_law_573 : decode code 573 = .ok (.ifCond .eq 5, 3) := by decide +kernel
theorem d_L_law_576 : decode code 576 = .ok (.iconst 0, 1) := by decide +kernel
theorem d_L_law_577 : decode code 577 = .ok (.ireturn, 1) := by decide +kernel
theorem d_L_law_578 : decode code 578 = .ok (.goto 59, 3) := by decide +kernel
theorem d_L_law_581 : decode code 581 = .ok (.aload_n 1, 1) := by decide +kernel
theorem d_L_law_582 : decode code 582 = .ok (.aload_n 0, 1) := by decide +kernel
theorem d_L_law_583 : decode code 583 = .ok (.iload 4, 2) := by decide +kernel
theorem d_L_law_585 : decode code 585 = .ok (.iconst 1, 1) := by decide +kernel
theorem d_L_law_586 : decode code 586 = .ok (.iadd, 1) := by decide +kernel
theorem d_L_law_587 : decode code 587 = .ok (.iaload, 1) := by decide +kernel
theorem d_L_law_588 : decode code 588 = .ok (.aload_n 3, 1) := by decide +kernel
theorem d_L_law_589 : decode code 589 = .ok (.invokestatic 86, 3) := by decide +kernel
theorem d_L_law_592 : decode code 592 = .ok (.istore 5, 2) := by decide +kernel
theorem d_L_law_594 : decode code 594 = .ok (.aload_n 2, 1) := by decide +kernel
theorem d_L_law_595 : decode code 595 = .ok (.aload_n 0, 1) := by decide +kernel
theorem d_L_law_596 : decode code 596 = .ok (.iload 4, 2) := by decide +kernel
theorem d_L_law_598 : decode code 598 = .ok (.iconst 1, 1) := by decide +kernel
theorem d_L_law_599 : decode code 599 = .ok (.iadd, 1) := by decide +kernel
theorem d_L_law_600 : decode code 600 = .ok (.iaload, 1) := by decide +kernel
theorem d_L_law_601 : decode code 601 = .ok (.invokevirtual 88, 3) := by decide +kernel
theorem d_L_law_604 : decode code 604 = .ok (.istore 6, 2) := by decide +kernel
theorem d_L_law_606 : decode code 606 = .ok (.aload_n 2, 1) := by decide +kernel
theorem d_L_law_607 : decode code 607 = .ok (.invokevirtual 55, 3) := by decide +kernel
theorem d_L_law_610 : decode code 610 = .ok (.iload 5, 2) := by decide +kernel
theorem d_L_law_612 : decode code 612 = .ok (.if_icmp .eq 5, 3) := by decide +kernel
theorem d_L_law_615 : decode code 615 = .ok (.iconst 0, 1) := by decide +kernel
theorem d_L_law_616 : decode code 616 = .ok (.ireturn, 1) := by decide +kernel
theorem d_L_law_617 : decode code 617 = .ok (.iload 5, 2) := by decide +kernel
theorem d_L_law_619 : decode code 619 = .ok (.ifCond .ne 15, 3) := by decide +kernel
theorem d_L_law_622 : decode code 622 = .ok (.aload_n 3, 1) := by decide +kernel
theorem d_L_law_623 : decode code 623 = .ok (.iconst 0, 1) := by decide +kernel
theorem d_L_law_624 : decode code 624 = .ok (.laload, 1) := by decide +kernel
theorem d_L_law_625 : decode code 625 = .ok (.iload 6, 2) := by decide +kernel
theorem d_L_law_627 : decode code 627 = .ok (.i2l, 1) := by decide +kernel
theorem d_L_law_628 : decode code 628 = .ok (.lcmp, 1) := by decide +kernel
theorem d_L_law_629 : decode code 629 = .ok (.ifCond .eq 5, 3) := by decide +kernel
theorem d_L_law_632 : decode code 632 = .ok (.iconst 0, 1) := by decide +kernel
theorem d_L_law_633 : decode code 633 = .ok (.ireturn, 1) := by decide +kernel
theorem d_L_law_634 : decode code 634 = .ok (.goto 3, 3) := by decide +kernel
theorem d_L_law_637 : decode code 637 = .ok (.iinc 4 3, 3) := by decide +kernel
theorem d_L_law_640 : decode code 640 = .ok (.goto (-617), 3) := by decide +kernel
theorem d_L_law_643 : decode code 643 = .ok (.iconst 1, 1) := by decide +kernel
theorem d_L_law_644 : decode code 644 = .ok (.ireturn, 1) := by decide +kernel
end
section
/-! pictures of the two objects: a memory M of int functions; rows by natural indices; calls on 'this' -/
abbrev zmem : Type := Nat → Nat → Int32
def zu (M : zmem) (k j : Nat) (v : Int32) : zmem := fun k' => if k' = k then upd (M k) j v else M k'
theorem zu_same {M : zmem} {k j : Nat} {v : Int32} : zu M k j v k = upd (M k) j v := if_pos rfl
theorem zu_ne {M : zmem} {k j k' : Nat} {v : Int32} (h : k' ≠ k) : zu M k j v k' = M k' := if_neg h
theorem upd_same {f : Nat → Int32} {k : Nat} {x : Int32} : upd f k x k = x := if_pos rfl
theorem upd_ne {f : Nat → Int32} {k j : Nat} {x : Int32} (h : j ≠ k) : upd f k x j = f j := if_neg h
def zfs (a : Nat → Nat) (M : zmem) : List Value := [.ref (a 1), .ref (a 2), .ref (a 3), .ref (a 4), .ref (a 5), .ref (a 6), .ref (a 7), .ref (a 8), .int (M 8 0), .int (M 8 1), .int (M 8 2), .int (M 8 3), .int (M 8 4), .int (M 8 5), .int (M 8 6)]
def zw (a : Nat → Nat) (cA : Nat → ClassId) (M : zmem) : va_W := [(a 0, .inr (0, zfs a M)), (a 1, .inl (cA 0, 8192, .inl (M 0))), (a 2, .inl (cA 1, 256, .inl (M 1))), (a 3, .inl (cA 1, 256, .inl (M 2))), (a 4, .inl (cA 1, 256, .inl (M 3))), (a 5, .inl (cA 2, 256, .inl (M 4))), (a 6, .inl (cA 2, 256, .inl (M 5))), (a 7, .inl (cA 1, 256, .inl (M 6))), (a 8, .inl (cA 1, 256, .inl (M 7)))]
def mfs (a : Nat → Nat) (M : zmem) : List Value := [.int (M 7 0), .ref (a 1), .ref (a 2), .ref (a 3), .ref (a 4), .ref (a 5), .ref (a 6), .ref (a 7), .int (M 7 1), .int (M 7 2), .int (M 7 3), .int (M 7 4)]
def mw (a : Nat → Nat) (cA : Nat → ClassId) (M : zmem) : va_W := [(a 0, .inr (1, mfs a M)), (a 1, .inl (cA 1, 8192, .inl (M 0))), (a 2, .inl (cA 1, 300, .inl (M 1))), (a 3, .inl (cA 1, 300, .inl (M 2))), (a 4, .inl (cA 1, 300, .inl (M 3))), (a 5, .inl (cA 1, 300, .inl (M 4))), (a 6, .inl (cA 2, 300, .inl (M 5))), (a 7, .inl (cA 1, 300, .inl (M 6)))]
def rmk (d : Nat) : Room := { frames := d, cells := 0, slots := 0, locals := 40 * d }
def rmt (d : Nat) : Room := { frames := d, cells := 1, slots := 6, locals := 40 * d }
section ZN
variable {p : Program} {l : Launch} {e : Env} {R : Room} {s : State} {m : MethodId} {args : Array Value} {below : List Frame} {meth : Method} {c : Code} {cells slots : Nat} {Q : State → Prop}
variable {cc : ByteArray} {nL : Nat} {own : String} {D : va_G} {cl : List vw_C} {tys : List (ClassId × FieldType)} {A : Nat → Prop} {σ : Type} {w : σ → va_W} {pc : Nat} {L : List (Option Value)} {st : List Value} {M : σ}
theorem z_top {x y : Int32} (h : x = y) (k : ZW p l e R s m args below meth c nL D cl A w cells slots Q pc L (.int y :: st) M) : ZW p l e R s m args below meth c nL D cl A w cells slots Q pc L (.int x :: st) M := h ▸ k
theorem zn_iald (E : zE p s m args meth c cc nL own D cl tys A) (q0 t0 : Nat) {a : Nat} {cA : ClassId} {n : Nat} {f : Nat → Int32} (ha : (w M)[q0]? = some (a, .inl (cA, n, .inl f))) (ht : tys[t0]? = some (cA, .int)) {i : Int32} (j : Nat) (hi : i = nI j) (hj : j < n) (hn : n ≤ 8192) (hd : decode cc pc = .ok (.iaload, 1)) (kk : ZW p l e R s m args below meth c nL D cl A w cells slots Q (pc + 1) L (.int (f j) :: st) M) : ZW p l e R s m args below meth c nL D cl A w cells slots Q pc L (.int i :: .ref a :: st) M := by
  subst hi
  refine z_iald E q0 t0 ha ht (vp_in_nI hj (by omega)) hd ?_
  rw [nI_clamp (by omega)]; exact kk
theorem zn_bald (E : zE p s m args meth c cc nL own D cl tys A) (q0 t0 : Nat) {a : Nat} {cA : ClassId} {n : Nat} {f : Nat → Int32} (ha : (w M)[q0]? = some (a, .inl (cA, n, .inl f))) (ht : tys[t0]? = some (cA, .byte)) {i : Int32} (j : Nat) (hi : i = nI j) (hj : j < n) (hn : n ≤ 8192) (hd : decode cc pc = .ok (.baload, 1)) (kk : ZW p l e R s m args below meth c nL D cl A w cells slots Q (pc + 1) L (.int (f j) :: st) M) : ZW p l e R s m args below meth c nL D cl A w cells slots Q pc L (.int i :: .ref a :: st) M := by
  subst hi
  refine z_bald E q0 t0 ha ht (vp_in_nI hj (by omega)) hd ?_
  rw [nI_clamp (by omega)]; exact kk
theorem zn_zald (E : zE p s m args meth c cc nL own D cl tys A) (q0 t0 : Nat) {a : Nat} {cA : ClassId} {n : Nat} {f : Nat → Int32} (ha : (w M)[q0]? = some (a, .inl (cA, n, .inl f))) (ht : tys[t0]? = some (cA, .boolean)) {i : Int32} (j : Nat) (hi : i = nI j) (hj : j < n) (hn : n ≤ 8192) (hd : decode cc pc = .ok (.baload, 1)) (kk : ZW p l e R s m args below meth c nL D cl A w cells slots Q (pc + 1) L (.int (f j) :: st) M) : ZW p l e R s m args below meth c nL D cl A w cells slots Q pc L (.int i :: .ref a :: st) M := by
  subst hi
  refine z_zald E q0 t0 ha ht (vp_in_nI hj (by omega)) hd ?_
  rw [nI_clamp (by omega)]; exact kk
theorem zn_iast (E : zE p s m args meth c cc nL own D cl tys A) (q0 t0 : Nat) {a : Nat} {cA : ClassId} {n : Nat} {f : Nat → Int32} (ha : (w M)[q0]? = some (a, .inl (cA, n, .inl f))) (ht : tys[t0]? = some (cA, .int)) {i x : Int32} (j : Nat) (hi : i = nI j) (hj : j < n) (hn : n ≤ 8192) (M' : σ) (hM : (w M).set q0 (a, .inl (cA, n, .inl (upd f j x))) = w M') (hd : decode cc pc = .ok (.iastore, 1)) (kk : ZW p l e R s m args below meth c nL D cl A w cells slots Q (pc + 1) L st M') : ZW p l e R s m args below meth c nL D cl A w cells slots Q pc L (.int x :: .int i :: .ref a :: st) M := by
  subst hi
  exact z_iast E q0 t0 ha ht (vp_in_nI hj (by omega)) M' (by rw [nI_clamp (by omega)]; exact hM) hd kk
theorem zn_bast (E : zE p s m args meth c cc nL own D cl tys A) (q0 t0 : Nat) {a : Nat} {cA : ClassId} {n : Nat} {f : Nat → Int32} (ha : (w M)[q0]? = some (a, .inl (cA, n, .inl f))) (ht : tys[t0]? = some (cA, .byte)) {i x v : Int32} (hx : vp_nar .byte x = v) (j : Nat) (hi : i = nI j) (hj : j < n) (hn : n ≤ 8192) (M' : σ) (hM : (w M).set q0 (a, .inl (cA, n, .inl (upd f j v))) = w M') (hd : decode cc pc = .ok (.bastore, 1)) (kk : ZW p l e R s m args below meth c nL D cl A w cells slots Q (pc + 1) L st M') : ZW p l e R s m args below meth c nL D cl A w cells slots Q pc L (.int x :: .int i :: .ref a :: st) M := by
  subst hi; subst hx
  exact z_bast E q0 t0 ha ht (vp_in_nI hj (by omega)) M' (by rw [nI_clamp (by omega)]; exact hM) hd kk
theorem zn_zast (E : zE p s m args meth c cc nL own D cl tys A) (q0 t0 : Nat) {a : Nat} {cA : ClassId} {n : Nat} {f : Nat → Int32} (ha : (w M)[q0]? = some (a, .inl (cA, n, .inl f))) (ht : tys[t0]? = some (cA, .boolean)) {i x v : Int32} (hx : vp_nar .boolean x = v) (j : Nat) (hi : i = nI j) (hj : j < n) (hn : n ≤ 8192) (M' : σ) (hM : (w M).set q0 (a, .inl (cA, n, .inl (upd f j v))) = w M') (hd : decode cc pc = .ok (.bastore, 1)) (kk : ZW p l e R s m args below meth c nL D cl A w cells slots Q (pc + 1) L st M') : ZW p l e R s m args below meth c nL D cl A w cells slots Q pc L (.int x :: .int i :: .ref a :: st) M := by
  subst hi; subst hx
  exact z_zast E q0 t0 ha ht (vp_in_nI hj (by omega)) M' (by rw [nI_clamp (by omega)]; exact hM) hd kk
variable {cA : Nat → ClassId} {a : Nat → Nat} {Mz : zmem}
theorem zz_get (E : zE p s m args meth c cc nL "ZoneHeap" D zcl (ztys cA) A) (k : Nat) {index : Nat} (hk : k < 15) (hl : Cond.fieldLink "ZoneHeap" index "ZoneHeap" (F_Z k).2.1 (F_Z k).2.2.1 ∈ zT) (hsame : (F_Z k).1 = "ZoneHeap") {v : Value} (hv : (zfs a Mz)[k]? = some v) (hd : decode cc pc = .ok (.getfield index, 3)) (kk : ZW p l e R s m args below meth c nL D zcl A (zw a cA) cells slots Q (pc + 3) L (v :: st) Mz) : ZW p l e R s m args below meth c nL D zcl A (zw a cA) cells slots Q pc L (.ref (a 0) :: st) Mz :=
  z_get E in_Z 0 rfl rfl k hk hl hsame hv hd kk
theorem zz_put (E : zE p s m args meth c cc nL "ZoneHeap" D zcl (ztys cA) A) (j : Nat) {index : Nat} {x : Int32} (hk : 8 + j < 15) (hl : Cond.fieldLink "ZoneHeap" index "ZoneHeap" (F_Z (8 + j)).2.1 (F_Z (8 + j)).2.2.1 ∈ zT) (hsame : (F_Z (8 + j)).1 = "ZoneHeap") (hfin : (F_Z (8 + j)).2.2.2 = false) (hdd : parseFieldDescriptor (F_Z (8 + j)).2.2.1 = some .int) (hM : (zw a cA Mz).set 0 (a 0, .inr (0, (zfs a Mz).set (8 + j) (.int x))) = zw a cA (zu Mz 8 j x)) (hd : decode cc pc = .ok (.putfield index, 3)) (kk : ZW p l e R s m args below meth c nL D zcl A (zw a cA) cells slots Q (pc + 3) L st (zu Mz 8 j x)) : ZW p l e R s m args below meth c nL D zcl A (zw a cA) cells slots Q pc L (.int x :: .ref (a 0) :: st) Mz :=
  z_put (fs := zfs a Mz) E in_Z t_Z t_Z_ok n_Z 0 rfl rfl (8 + j) hk hl hsame hfin hdd rfl rfl hk (zu Mz 8 j x) hM hd kk
theorem mm_get (E : zE p s m args meth c cc nL "ZoneHeapModel" D zcl (ztys cA) A) (k : Nat) {index : Nat} (hk : k < 12) (hl : Cond.fieldLink "ZoneHeapModel" index "ZoneHeapModel" (F_M k).2.1 (F_M k).2.2.1 ∈ zT) (hsame : (F_M k).1 = "ZoneHeapModel") {v : Value} (hv : (mfs a Mz)[k]? = some v) (hd : decode cc pc = .ok (.getfield index, 3)) (kk : ZW p l e R s m args below meth c nL D zcl A (mw a cA) cells slots Q (pc + 3) L (v :: st) Mz) : ZW p l e R s m args below meth c nL D zcl A (mw a cA) cells slots Q pc L (.ref (a 0) :: st) Mz :=
  z_get E in_M 0 rfl rfl k hk hl hsame hv hd kk
theorem mm_put (E : zE p s m args meth c cc nL "ZoneHeapModel" D zcl (ztys cA) A) (k j : Nat) {index : Nat} {x : Int32} (hk : k < 12) (hl : Cond.fieldLink "ZoneHeapModel" index "ZoneHeapModel" (F_M k).2.1 (F_M k).2.2.1 ∈ zT) (hsame : (F_M k).1 = "ZoneHeapModel") (hfin : (F_M k).2.2.2 = false) (hdd : parseFieldDescriptor (F_M k).2.2.1 = some .int) (hM : (mw a cA Mz).set 0 (a 0, .inr (1, (mfs a Mz).set k (.int x))) = mw a cA (zu Mz 7 j x)) (hd : decode cc pc = .ok (.putfield index, 3)) (kk : ZW p l e R s m args below meth c nL D zcl A (mw a cA) cells slots Q (pc + 3) L st (zu Mz 7 j x)) : ZW p l e R s m args below meth c nL D zcl A (mw a cA) cells slots Q pc L (.int x :: .ref (a 0) :: st) Mz :=
  z_put (fs := mfs a Mz) E in_M t_M t_M_ok n_M 0 rfl rfl k hk hl hsame hfin hdd rfl rfl hk (zu Mz 7 j x) hM hd kk
theorem zz_calli (E : zE p s m args meth c cc nL "ZoneHeap" D zcl (ztys cA) A) {y : MethodName} {b : ByteArray} {n1 index n d : Nat} {rt : FieldType} {post : Int32 → zmem → Prop} (As : List Value) {stk : List Value} (hM : zMi l y b n1 rt (rmk d) D zcl (ztys cA) (zw a cA) (.ref (a 0) :: As) Mz post) (hY : zYv "ZoneHeap" "ZoneHeap" index y b n1 (some rt) n) (hs : stk = As.reverse ++ .ref (a 0) :: st) (hn : As.length = n) (hR : d + 1 ≤ R.frames ∧ 8 + (n1 + 11) + 40 * d ≤ R.locals) (hw : (st.map fun v => v.category).sum ≤ 8) (hf : cells ≤ R.cells ∧ slots ≤ R.slots) (hd : decode cc pc = .ok (.invokevirtual index, 3))
    (kk : ∀ (r : Int32) (M' : zmem), post r M' → ZW p l e R s m args below meth c nL D zcl A (zw a cA) cells slots Q (pc + 3) L (.int r :: st) M') : ZW p l e R s m args below meth c nL D zcl A (zw a cA) cells slots Q pc L stk Mz :=
  z_calli E hM hY 0 rfl rfl hs hn hR hw hf hd kk
theorem zz_callv (E : zE p s m args meth c cc nL "ZoneHeap" D zcl (ztys cA) A) {y : MethodName} {b : ByteArray} {n1 index n d : Nat} {post : zmem → Prop} (As : List Value) {stk : List Value} (hM : zMv l y b n1 (rmk d) D zcl (ztys cA) (zw a cA) (.ref (a 0) :: As) Mz post) (hY : zYv "ZoneHeap" "ZoneHeap" index y b n1 none n) (hs : stk = As.reverse ++ .ref (a 0) :: st) (hn : As.length = n) (hR : d + 1 ≤ R.frames ∧ 8 + (n1 + 11) + 40 * d ≤ R.locals) (hw : (st.map fun v => v.category).sum ≤ 8) (hf : cells ≤ R.cells ∧ slots ≤ R.slots) (hd : decode cc pc = .ok (.invokevirtual index, 3))
    (kk : ∀ (M' : zmem), post M' → ZW p l e R s m args below meth c nL D zcl A (zw a cA) cells slots Q (pc + 3) L st M') : ZW p l e R s m args below meth c nL D zcl A (zw a cA) cells slots Q pc L stk Mz :=
  z_callv E hM hY 0 rfl rfl hs hn hR hw hf hd kk
theorem mm_calli (E : zE p s m args meth c cc nL "ZoneHeapModel" D zcl (ztys cA) A) {y : MethodName} {b : ByteArray} {n1 index n d : Nat} {rt : FieldType} {post : Int32 → zmem → Prop} (As : List Value) {stk : List Value} (hM : zMi l y b n1 rt (rmk d) D zcl (ztys cA) (mw a cA) (.ref (a 0) :: As) Mz post) (hY : zYv "ZoneHeapModel" "ZoneHeapModel" index y b n1 (some rt) n) (hs : stk = As.reverse ++ .ref (a 0) :: st) (hn : As.length = n) (hR : d + 1 ≤ R.frames ∧ 8 + (n1 + 11) + 40 * d ≤ R.locals) (hw : (st.map fun v => v.category).sum ≤ 8) (hf : cells ≤ R.cells ∧ slots ≤ R.slots) (hd : decode cc pc = .ok (.invokevirtual index, 3))
    (kk : ∀ (r : Int32) (M' : zmem), post r M' → ZW p l e R s m args below meth c nL D zcl A (mw a cA) cells slots Q (pc + 3) L (.int r :: st) M') : ZW p l e R s m args below meth c nL D zcl A (mw a cA) cells slots Q pc L stk Mz :=
  z_calli E hM hY 0 rfl rfl hs hn hR hw hf hd kk
theorem mm_callv (E : zE p s m args meth c cc nL "ZoneHeapModel" D zcl (ztys cA) A) {y : MethodName} {b : ByteArray} {n1 index n d : Nat} {post : zmem → Prop} (As : List Value) {stk : List Value} (hM : zMv l y b n1 (rmk d) D zcl (ztys cA) (mw a cA) (.ref (a 0) :: As) Mz post) (hY : zYv "ZoneHeapModel" "ZoneHeapModel" index y b n1 none n) (hs : stk = As.reverse ++ .ref (a 0) :: st) (hn : As.length = n) (hR : d + 1 ≤ R.frames ∧ 8 + (n1 + 11) + 40 * d ≤ R.locals) (hw : (st.map fun v => v.category).sum ≤ 8) (hf : cells ≤ R.cells ∧ slots ≤ R.slots) (hd : decode cc pc = .ok (.invokevirtual index, 3))
    (kk : ∀ (M' : zmem), post M' → ZW p l e R s m args below meth c nL D zcl A (mw a cA) cells slots Q (pc + 3) L st M') : ZW p l e R s m args below meth c nL D zcl A (mw a cA) cells slots Q pc L stk Mz :=
  z_callv E hM hY 0 rfl rfl hs hn hR hw hf hd kk
theorem zk_callsi (E : zE p s m args meth c cc nL own D cl tys A) {y : MethodName} {b : ByteArray} {n1 index n d : Nat} {rt : FieldType} {post : Int32 → σ → Prop} (As : List Value) {stk : List Value} (hM : zMi l y b n1 rt (rmk d) D cl tys w As M post) (hY : zYs own index y b n1 (some rt) n) (hs : stk = As.reverse ++ st) (hn : As.length = n) (hR : d + 1 ≤ R.frames ∧ 8 + (n1 + 11) + 40 * d ≤ R.locals) (hw : (st.map fun v => v.category).sum ≤ 8) (hf : cells ≤ R.cells ∧ slots ≤ R.slots) (hd : decode cc pc = .ok (.invokestatic index, 3))
    (kk : ∀ (r : Int32) (M' : σ), post r M' → ZW p l e R s m args below meth c nL D cl A w cells slots Q (pc + 3) L (.int r :: st) M') : ZW p l e R s m args below meth c nL D cl A w cells slots Q pc L stk M :=
  z_callsi E hM hY hs hn hR hw hf hd kk
theorem zk_callsv (E : zE p s m args meth c cc nL own D cl tys A) {y : MethodName} {b : ByteArray} {n1 index n d : Nat} {post : σ → Prop} (As : List Value) {stk : List Value} (hM : zMv l y b n1 (rmk d) D cl tys w As M post) (hY : zYs own index y b n1 none n) (hs : stk = As.reverse ++ st) (hn : As.length = n) (hR : d + 1 ≤ R.frames ∧ 8 + (n1 + 11) + 40 * d ≤ R.locals) (hw : (st.map fun v => v.category).sum ≤ 8) (hf : cells ≤ R.cells ∧ slots ≤ R.slots) (hd : decode cc pc = .ok (.invokestatic index, 3))
    (kk : ∀ (M' : σ), post M' → ZW p l e R s m args below meth c nL D cl A w cells slots Q (pc + 3) L st M') : ZW p l e R s m args below meth c nL D cl A w cells slots Q pc L stk M :=
  z_callsv E hM hY hs hn hR hw hf hd kk
theorem zz_iast (E : zE p s m args meth c cc nL "ZoneHeap" D zcl (ztys cA) A) (k : Nat) {n : Nat} (ha : (zw a cA Mz)[k + 1]? = some (a (k + 1), .inl (cA 1, n, .inl (Mz k)))) {i x : Int32} (j : Nat) (hi : i = nI j) (hj : j < n) (hM : (zw a cA Mz).set (k + 1) (a (k + 1), .inl (cA 1, n, .inl (upd (Mz k) j x))) = zw a cA (zu Mz k j x)) (hd : decode cc pc = .ok (.iastore, 1)) (kk : ZW p l e R s m args below meth c nL D zcl A (zw a cA) cells slots Q (pc + 1) L st (zu Mz k j x)) (hn : n ≤ 8192 := by decide) : ZW p l e R s m args below meth c nL D zcl A (zw a cA) cells slots Q pc L (.int x :: .int i :: .ref (a (k + 1)) :: st) Mz :=
  zn_iast E (k + 1) 1 ha rfl j hi hj hn (zu Mz k j x) hM hd kk
theorem zz_zast (E : zE p s m args meth c cc nL "ZoneHeap" D zcl (ztys cA) A) (k : Nat) {n : Nat} (ha : (zw a cA Mz)[k + 1]? = some (a (k + 1), .inl (cA 2, n, .inl (Mz k)))) {i x v : Int32} (hx : vp_nar .boolean x = v) (j : Nat) (hi : i = nI j) (hj : j < n) (hM : (zw a cA Mz).set (k + 1) (a (k + 1), .inl (cA 2, n, .inl (upd (Mz k) j v))) = zw a cA (zu Mz k j v)) (hd : decode cc pc = .ok (.bastore, 1)) (kk : ZW p l e R s m args below meth c nL D zcl A (zw a cA) cells slots Q (pc + 1) L st (zu Mz k j v)) (hn : n ≤ 8192 := by decide) : ZW p l e R s m args below meth c nL D zcl A (zw a cA) cells slots Q pc L (.int x :: .int i :: .ref (a (k + 1)) :: st) Mz :=
  zn_zast E (k + 1) 2 ha rfl hx j hi hj hn (zu Mz k j v) hM hd kk
theorem zz_bast (E : zE p s m args meth c cc nL "ZoneHeap" D zcl (ztys cA) A) (k : Nat) {n : Nat} (ha : (zw a cA Mz)[k + 1]? = some (a (k + 1), .inl (cA 0, n, .inl (Mz k)))) {i x v : Int32} (hx : vp_nar .byte x = v) (j : Nat) (hi : i = nI j) (hj : j < n) (hM : (zw a cA Mz).set (k + 1) (a (k + 1), .inl (cA 0, n, .inl (upd (Mz k) j v))) = zw a cA (zu Mz k j v)) (hd : decode cc pc = .ok (.bastore, 1)) (kk : ZW p l e R s m args below meth c nL D zcl A (zw a cA) cells slots Q (pc + 1) L st (zu Mz k j v)) (hn : n ≤ 8192 := by decide) : ZW p l e R s m args below meth c nL D zcl A (zw a cA) cells slots Q pc L (.int x :: .int i :: .ref (a (k + 1)) :: st) Mz :=
  zn_bast E (k + 1) 0 ha rfl hx j hi hj hn (zu Mz k j v) hM hd kk
theorem mm_iast (E : zE p s m args meth c cc nL "ZoneHeapModel" D zcl (ztys cA) A) (k : Nat) {n : Nat} (ha : (mw a cA Mz)[k + 1]? = some (a (k + 1), .inl (cA 1, n, .inl (Mz k)))) {i x : Int32} (j : Nat) (hi : i = nI j) (hj : j < n) (hM : (mw a cA Mz).set (k + 1) (a (k + 1), .inl (cA 1, n, .inl (upd (Mz k) j x))) = mw a cA (zu Mz k j x)) (hd : decode cc pc = .ok (.iastore, 1)) (kk : ZW p l e R s m args below meth c nL D zcl A (mw a cA) cells slots Q (pc + 1) L st (zu Mz k j x)) (hn : n ≤ 8192 := by decide) : ZW p l e R s m args below meth c nL D zcl A (mw a cA) cells slots Q pc L (.int x :: .int i :: .ref (a (k + 1)) :: st) Mz :=
  zn_iast E (k + 1) 1 ha rfl j hi hj hn (zu Mz k j x) hM hd kk
theorem mm_zast (E : zE p s m args meth c cc nL "ZoneHeapModel" D zcl (ztys cA) A) (k : Nat) {n : Nat} (ha : (mw a cA Mz)[k + 1]? = some (a (k + 1), .inl (cA 2, n, .inl (Mz k)))) {i x v : Int32} (hx : vp_nar .boolean x = v) (j : Nat) (hi : i = nI j) (hj : j < n) (hM : (mw a cA Mz).set (k + 1) (a (k + 1), .inl (cA 2, n, .inl (upd (Mz k) j v))) = mw a cA (zu Mz k j v)) (hd : decode cc pc = .ok (.bastore, 1)) (kk : ZW p l e R s m args below meth c nL D zcl A (mw a cA) cells slots Q (pc + 1) L st (zu Mz k j v)) (hn : n ≤ 8192 := by decide) : ZW p l e R s m args below meth c nL D zcl A (mw a cA) cells slots Q pc L (.int x :: .int i :: .ref (a (k + 1)) :: st) Mz :=
  zn_zast E (k + 1) 2 ha rfl hx j hi hj hn (zu Mz k j v) hM hd kk
theorem z_loop {ι : Type} (μ : ι → Nat) (I : ι → Prop) (Lf : ι → List (Option Value)) (Mf : ι → σ) (step : ∀ i, I i → (∀ i', I i' → μ i' < μ i → ZW p l e R s m args below meth c nL D cl A w cells slots Q pc (Lf i') st (Mf i')) → ZW p l e R s m args below meth c nL D cl A w cells slots Q pc (Lf i) st (Mf i)) : ∀ i, I i → ZW p l e R s m args below meth c nL D cl A w cells slots Q pc (Lf i) st (Mf i) := by
  have key : ∀ (n : Nat) (i : ι), μ i < n → I i → ZW p l e R s m args below meth c nL D cl A w cells slots Q pc (Lf i) st (Mf i) := by
    intro n
    induction n with
    | zero => intro i h; exact absurd h (Nat.not_lt_zero _)
    | succ n ih => intro i hi hI; exact step i hI (fun i' hI' hlt => ih i' (by omega) hI')
  exact fun i hI => key (μ i + 1) i (Nat.lt_succ_self _) hI
end ZN
end
section
/-! ZoneHeap: the leaves -/
def tk (n : Nat) : Nat := if n = 0 then 16 else (n + 15) / 16 * 16
theorem tk_lo (n : Nat) : 16 ≤ tk n := by unfold tk; split <;> omega
theorem tk_ge (n : Nat) : n ≤ tk n := by unfold tk; split <;> omega
theorem tk_le (n : Nat) : tk n ≤ n + 16 := by unfold tk; split <;> omega
theorem tk_mod (n : Nat) : tk n % 16 = 0 := by unfold tk; split <;> omega
theorem tk_calc : ∀ k, k < 2049 → (if nI 16 < (nI k + nI 16 - nI 1) &&& (-16) then (nI k + nI 16 - nI 1) &&& (-16) else nI 16) = nI (tk k) := by decide +kernel
/-- the picture of the blocks: how many, where, how many octets, since when given back (none: live) -/
def zR (M : zmem) (n : Nat) (ad sz : Nat → Nat) (st : Nat → Option Nat) : Prop :=
  M 8 0 = nI n ∧ n ≤ 255 ∧ ∀ i, i < n → M 1 i = nI (ad i) ∧ M 2 i = nI (sz i) ∧ M 4 i = (if (st i).isSome then 0 else 1) ∧ (∀ w, st i = some w → M 3 i = nI w) ∧ ad i < 8192 ∧ sz i ≤ 2048
section ZX
variable {p : Program} {l : Launch} {e : Env} {R : Room} {s : State} {m : MethodId} {args : Array Value} {below : List Frame} {meth : Method} {c : Code} {cells slots : Nat} {Q : State → Prop}
variable {cc : ByteArray} {nL : Nat} {D : va_G} {cl : List vw_C} {tys : List (ClassId × FieldType)} {A : Nat → Prop} {σ : Type} {w : σ → va_W} {pc : Nat} {L : List (Option Value)} {st : List Value} {M : σ}
theorem z_max (E : zE p s m args meth c cc nL "ZoneHeap" D cl tys A) (hf : 1 ≤ R.frames ∧ (st.map fun v => v.category).sum + 13 ≤ R.locals ∧ cells ≤ R.cells ∧ slots ≤ R.slots) {x y : Int32} (hd : decode cc pc = .ok (.invokestatic 45, 3)) (k : ZW p l e R s m args below meth c nL D cl A w cells slots Q (pc + 3) L (.int (if x < y then y else x) :: st) M) : ZW p l e R s m args below meth c nL D cl A w cells slots Q pc L (.int y :: .int x :: st) M := by
  intro H locs ls a1 a2 a3 a4
  obtain ⟨h1, h2, h3, h4, h6⟩ := ks_Z_45
  exact va_mmax E.1 E.2.1 (E.2.2.1.trans a4.1.symm) E.2.2.2.1 (E.2.2.2.2.1 _ h3) (E.2.2.2.2.1 _ h4) (E.2.2.2.2.1 _ h2) (E.2.2.2.2.1 _ h1) hf.1 hf.2.1 hf.2.2.1 hf.2.2.2 hd (k H locs ls a1 a2 a3 a4)
end ZX
theorem c_room (l : Launch) (D : va_G) (cl : List vw_C) (tys : List (ClassId × FieldType)) {σ : Type} (w : σ → va_W) (M : σ) (k : Nat) (hk : k ≤ 2048) : zMi l y_Z_room b_Z_room 1 .int (rmk 1) D cl tys w [.int (nI k)] M (fun r M' => M' = M ∧ r = nI (tk k)) := by
  refine zMi.of (own := "ZoneHeap") (by decide) rfl (Nat.le_of_ble_eq_true rfl) (by simp [Value.category]) ?_
  intro p e s m args below meth c A E hr hex
  refine z_bipush E (v := nI 16) d_Z_room_0 (by decide) ?_
  refine z_iload_n E 0 d_Z_room_2 rfl rfl ?_
  refine z_bipush E (v := nI 16) d_Z_room_3 (by decide) ?_
  refine z_iadd E d_Z_room_5 ?_
  refine z_iconst E (v := nI 1) d_Z_room_6 (by decide) ?_
  refine z_isub E d_Z_room_7 ?_
  refine z_bipush E (v := (-16 : Int32)) d_Z_room_8 (by decide) ?_
  refine z_iand E d_Z_room_10 ?_
  refine z_max E (by decide) d_Z_room_11 ?_
  refine z_top (tk_calc k (by omega)) ?_
  refine z_iret E hr ?_ (by decide) (by decide) d_Z_room_14
  exact ⟨rfl, rfl⟩
theorem c_end (l : Launch) (D : va_G) (cA : Nat → ClassId) (a : Nat → Nat) (M : zmem) (k x q : Nat) (hk : k < 256) (h1 : M 1 k = nI x) (h2 : M 2 k = nI q) (hq : q ≤ 2048) : zMi l y_Z_end b_Z_end 2 .int (rmk 2) D zcl (ztys cA) (zw a cA) [.ref (a 0), .int (nI k)] M (fun r M' => M' = M ∧ r = nI (x + tk q)) := by
  refine zMi.of (own := "ZoneHeap") (by decide) rfl (Nat.le_of_ble_eq_true rfl) (by simp [Value.category]) ?_
  intro p e s m args below meth c A E hr hex
  refine z_aload_n E 0 d_Z_end_0 rfl rfl ?_
  refine zz_get E 1 (by decide) fl_Z_13 rfl rfl d_Z_end_1 ?_
  refine z_iload_n E 1 d_Z_end_4 rfl rfl ?_
  refine zn_iald E 2 1 rfl rfl (_) (rfl) (by omega) (by decide) d_Z_end_5 ?_
  refine z_top h1 ?_
  refine z_aload_n E 0 d_Z_end_6 rfl rfl ?_
  refine zz_get E 2 (by decide) fl_Z_17 rfl rfl d_Z_end_7 ?_
  refine z_iload_n E 1 d_Z_end_10 rfl rfl ?_
  refine zn_iald E 3 1 rfl rfl (_) (rfl) (by omega) (by decide) d_Z_end_11 ?_
  refine z_top h2 ?_
  refine zk_callsi E [.int (nI q)] (c_room l D _ _ _ _ q hq) ks_Z_51 rfl rfl (by decide) (Nat.le_of_ble_eq_true rfl) (by decide) d_Z_end_12 (fun r M1 hp => ?_)
  obtain ⟨rfl, rfl⟩ := hp
  refine z_iadd E d_Z_end_15 ?_
  refine z_top (nI_add _ _) ?_
  refine z_iret E hr ?_ (by decide) (by decide) d_Z_end_16
  exact ⟨rfl, rfl⟩
def zmv (M : zmem) (f t : Nat) : zmem := zu (zu (zu (zu M 1 t (M 1 f)) 2 t (M 2 f)) 3 t (M 3 f)) 4 t (M 4 f)
theorem c_move (l : Launch) (D : va_G) (cA : Nat → ClassId) (a : Nat → Nat) (M : zmem) (f t : Nat) (hf : f < 256) (ht : t < 256) (hb : M 4 f = 0 ∨ M 4 f = 1) : zMv l y_Z_move b_Z_move 3 (rmk 0) D zcl (ztys cA) (zw a cA) [.ref (a 0), .int (nI f), .int (nI t)] M (fun M' => M' = zmv M f t) := by
  refine zMv.of (own := "ZoneHeap") (by decide) rfl (Nat.le_of_ble_eq_true rfl) (by simp [Value.category]) ?_
  intro p e s m args below meth c A E hr hex
  refine z_aload_n E 0 d_Z_move_0 rfl rfl ?_
  refine zz_get E 1 (by decide) fl_Z_13 rfl rfl d_Z_move_1 ?_
  refine z_iload_n E 2 d_Z_move_4 rfl rfl ?_
  refine z_aload_n E 0 d_Z_move_5 rfl rfl ?_
  refine zz_get E 1 (by decide) fl_Z_13 rfl rfl d_Z_move_6 ?_
  refine z_iload_n E 1 d_Z_move_9 rfl rfl ?_
  refine zn_iald E 2 1 rfl rfl (_) (rfl) (by omega) (by decide) d_Z_move_10 ?_
  refine zz_iast E 1 rfl (_) (rfl) (by omega) rfl d_Z_move_11 ?_
  refine z_aload_n E 0 d_Z_move_12 rfl rfl ?_
  refine zz_get E 2 (by decide) fl_Z_17 rfl rfl d_Z_move_13 ?_
  refine z_iload_n E 2 d_Z_move_16 rfl rfl ?_
  refine z_aload_n E 0 d_Z_move_17 rfl rfl ?_
  refine zz_get E 2 (by decide) fl_Z_17 rfl rfl d_Z_move_18 ?_
  refine z_iload_n E 1 d_Z_move_21 rfl rfl ?_
  refine zn_iald E 3 1 rfl rfl (_) (rfl) (by omega) (by decide) d_Z_move_22 ?_
  refine zz_iast E 2 rfl (_) (rfl) (by omega) rfl d_Z_move_23 ?_
  refine z_aload_n E 0 d_Z_move_24 rfl rfl ?_
  refine zz_get E 3 (by decide) fl_Z_20 rfl rfl d_Z_move_25 ?_
  refine z_iload_n E 2 d_Z_move_28 rfl rfl ?_
  refine z_aload_n E 0 d_Z_move_29 rfl rfl ?_
  refine zz_get E 3 (by decide) fl_Z_20 rfl rfl d_Z_move_30 ?_
  refine z_iload_n E 1 d_Z_move_33 rfl rfl ?_
  refine zn_iald E 4 1 rfl rfl (_) (rfl) (by omega) (by decide) d_Z_move_34 ?_
  refine zz_iast E 3 rfl (_) (rfl) (by omega) rfl d_Z_move_35 ?_
  refine z_aload_n E 0 d_Z_move_36 rfl rfl ?_
  refine zz_get E 4 (by decide) fl_Z_23 rfl rfl d_Z_move_37 ?_
  refine z_iload_n E 2 d_Z_move_40 rfl rfl ?_
  refine z_aload_n E 0 d_Z_move_41 rfl rfl ?_
  refine zz_get E 4 (by decide) fl_Z_23 rfl rfl d_Z_move_42 ?_
  refine z_iload_n E 1 d_Z_move_45 rfl rfl ?_
  refine zn_zald E 5 2 rfl rfl (_) (rfl) (by omega) (by decide) d_Z_move_46 ?_
  refine zz_zast E 4 rfl (v := M 4 f) (by show vp_nar .boolean (M 4 f) = M 4 f; rcases hb with h | h <;> rw [h] <;> rfl) (_) (rfl) (by omega) rfl d_Z_move_47 ?_
  refine z_vret E hr ?_ (by decide) (by decide) d_Z_move_48
  rfl
end
section
/-! ZoneHeap: under, gap -/
theorem i_lt {x : Int32} {q : Nat} (h : q < 2 ^ 31) : x < nI q ↔ x.toInt < (q : Int) := by rw [Int32.lt_iff_toInt_lt, nI_toInt h]
theorem lt_i {x : Int32} {q : Nat} (h : q < 2 ^ 31) : nI q < x ↔ (q : Int) < x.toInt := by rw [Int32.lt_iff_toInt_lt, nI_toInt h]
theorem i_le {x : Int32} {q : Nat} (h : q < 2 ^ 31) : x ≤ nI q ↔ x.toInt ≤ (q : Int) := by rw [Int32.le_iff_toInt_le, nI_toInt h]
theorem le_i {x : Int32} {q : Nat} (h : q < 2 ^ 31) : nI q ≤ x ↔ (q : Int) ≤ x.toInt := by rw [Int32.le_iff_toInt_le, nI_toInt h]
theorem i_eq {x : Int32} {q : Nat} (h : q < 2 ^ 31) : x = nI q ↔ x.toInt = (q : Int) := by rw [← nI_toInt h, Int32.toInt_inj]
theorem m1_toInt : (-1 : Int32).toInt = -1 := by decide
theorem nI_sub1 {k : Nat} (h : 0 < k) : nI k - nI 1 = nI (k - 1) := pk_sub h
/-- what is known of fewer locals -/
def zle : List (Option Value) → List (Option Value) → Prop
  | [], _ => True
  | none :: t, _ :: u => zle t u
  | none :: t, [] => zle t []
  | some v :: t, some w :: u => v = w ∧ zle t u
  | some _ :: _, _ => False
theorem zle_at : ∀ (L L' : List (Option Value)), zle L L' → ∀ (i : Nat) (v : Value), L[i]? = some (some v) → L'[i]? = some (some v) := by
  intro L
  induction L with
  | nil => intro L' _ i v h; simp at h
  | cons x t ih =>
    intro L' h i v hi
    cases x with
    | none =>
      cases L' with
      | nil =>
        cases i with
        | zero => simp at hi
        | succ i => have := ih [] h i v (by simpa using hi); simp at this
      | cons y u =>
        cases i with
        | zero => simp at hi
        | succ i => have := ih u h i v (by simpa using hi); simpa using this
    | some z =>
      cases L' with
      | nil => exact h.elim
      | cons y u =>
        cases y with
        | none => exact h.elim
        | some y =>
          cases i with
          | zero => simp at hi; subst hi; rw [← h.1]; rfl
          | succ i => have := ih u h.2 i v (by simpa using hi); simpa using this
section ZP
variable {p : Program} {l : Launch} {e : Env} {R : Room} {s : State} {m : MethodId} {args : Array Value} {below : List Frame} {meth : Method} {c : Code} {cells slots : Nat} {Q : State → Prop}
variable {nL : Nat} {D : va_G} {cl : List vw_C} {A : Nat → Prop} {σ : Type} {w : σ → va_W} {pc : Nat} {L : List (Option Value)} {st : List Value} {M : σ}
theorem z_weak {L' : List (Option Value)} (h : zle L L') (k : ZW p l e R s m args below meth c nL D cl A w cells slots Q pc L st M) : ZW p l e R s m args below meth c nL D cl A w cells slots Q pc L' st M :=
  fun H locs ls a1 a2 a3 a4 => k H locs ls a1 a2 a3 ⟨a4.1, a4.2.1, fun i v hi => a4.2.2 i v (zle_at L L' h i v hi)⟩
/-- a loop: its states i, what holds of them, the locals and the memory by them -/
theorem z_lp {ι : Type} (μ : ι → Nat) (I : ι → Prop) (Lf : ι → List (Option Value)) (Mf : ι → σ) (step : ∀ i, I i → (∀ i' L', I i' → μ i' < μ i → zle (Lf i') L' → ZW p l e R s m args below meth c nL D cl A w cells slots Q pc L' st (Mf i')) → ZW p l e R s m args below meth c nL D cl A w cells slots Q pc (Lf i) st (Mf i)) (i : ι) (hi : I i) {L' : List (Option Value)} (hL : zle (Lf i) L') : ZW p l e R s m args below meth c nL D cl A w cells slots Q pc L' st (Mf i) :=
  z_weak hL (z_loop μ I Lf Mf (fun i hI ih => step i hI (fun i' L' hI' hlt hL' => z_weak hL' (ih i' hI' hlt))) i hi)
end ZP
/-- the blocks stand in order, with zones between -/
def zO (n : Nat) (ad sz : Nat → Nat) : Prop := (∀ i, i < n → 16 ≤ ad i ∧ ad i % 16 = 0 ∧ ad i + tk (sz i) + 16 ≤ 8192) ∧ ∀ i, i + 1 < n → ad i + tk (sz i) + 16 ≤ ad (i + 1)
theorem zO.lt {n : Nat} {ad sz : Nat → Nat} (h : zO n ad sz) : ∀ j i, i < j → j < n → ad i + tk (sz i) + 16 ≤ ad j := by
  intro j
  induction j with
  | zero => intro i hi; omega
  | succ j ih =>
    intro i hi hj
    have h1 := h.2 j hj
    by_cases hij : i = j
    · subst hij; exact h1
    · have h2 := ih i (by omega) (by omega)
      have := tk_lo (sz j)
      omega
theorem zO.low {n : Nat} {ad sz : Nat → Nat} (h : zO n ad sz) : ∀ i, i < n → 16 + 32 * i ≤ ad i := by
  intro i
  induction i with
  | zero => intro hi; exact (h.1 0 hi).1
  | succ i ih =>
    intro hi
    have h1 := h.2 i hi
    have h2 := ih (by omega)
    have := tk_lo (sz i)
    omega
theorem zO.few {n : Nat} {ad sz : Nat → Nat} (h : zO n ad sz) : n ≤ 255 := by
  rcases Nat.eq_zero_or_pos n with h0 | h0
  · omega
  · have h1 := h.low (n - 1) (by omega)
    have h2 := (h.1 (n - 1) (by omega)).2.2
    have := tk_lo (sz (n - 1))
    omega

theorem c_under (l : Launch) (D : va_G) (cA : Nat → ClassId) (a : Nat → Nat) (M : zmem) (n : Nat) (ad sz : Nat → Nat) (st : Nat → Option Nat) (hR : zR M n ad sz st) (hO : zO n ad sz) (x : Int32) : zMi l y_Z_under b_Z_under 5 .int (rmk 0) D zcl (ztys cA) (zw a cA) [.ref (a 0), .int x] M (fun r M' => M' = M ∧ ∃ k, k ≤ n ∧ r = nI k - nI 1 ∧ (∀ i, i < k → (ad i : Int) ≤ x.toInt) ∧ ∀ i, k ≤ i → i < n → x.toInt < (ad i : Int)) := by
  refine zMi.of (own := "ZoneHeap") (by decide) rfl (Nat.le_of_ble_eq_true rfl) (by simp [Value.category]) ?_
  intro p e s m args below meth c A E hr hex
  obtain ⟨hn, hn255, hat⟩ := hR
  have hlt := hO.lt
  refine z_iconst E (v := nI 0) d_Z_under_0 (by decide) ?_
  refine z_istore_n E 2 d_Z_under_1 rfl (by decide) ?_
  refine z_aload_n E 0 d_Z_under_2 rfl rfl ?_
  refine zz_get E 8 (by decide) fl_Z_55 rfl rfl d_Z_under_3 ?_
  refine z_top hn ?_
  refine z_istore_n E 3 d_Z_under_6 rfl (by decide) ?_
  refine z_lp (ι := Nat × Nat) (fun x => x.2 - x.1) (fun y => y.1 ≤ y.2 ∧ y.2 ≤ n ∧ (∀ i, i < y.1 → (ad i : Int) ≤ x.toInt) ∧ ∀ i, y.2 ≤ i → i < n → x.toInt < (ad i : Int)) (fun y => [some (.ref (a 0)), some (.int x), some (.int (nI y.1)), some (.int (nI y.2)), none]) (fun _ => M) ?_ (0, n) ⟨by omega, by omega, fun i h => by omega, fun i h h2 => by omega⟩ (by repeat' first | exact trivial | refine ⟨rfl, ?_⟩)
  rintro ⟨lo, hi⟩ ⟨h1, h2, h3, h4⟩ ih
  dsimp only at h1 h2 h3 h4 ih ⊢
  refine z_iload_n E 2 d_Z_under_7 rfl rfl ?_
  refine z_iload_n E 3 d_Z_under_8 rfl rfl ?_
  refine z_icmp_ge E 44 d_Z_under_9 (by decide) (fun h9 => ?_) (fun h9 => ?_)
  · have h9 := (nI_leI (by omega) (by omega)).mp h9
    have : lo = hi := by omega
    subst this
    refine z_iload_n E 2 d_Z_under_44 rfl rfl ?_
    refine z_iconst E (v := nI 1) d_Z_under_45 (by decide) ?_
    refine z_isub E d_Z_under_46 ?_
    refine z_iret E hr ?_ (by decide) (by decide) d_Z_under_47
    exact ⟨rfl, lo, h2, rfl, h3, h4⟩
  · have h9 : lo < hi := by have := mt (nI_leI (by omega) (by omega)).mpr h9; omega
    refine z_iload_n E 2 d_Z_under_12 rfl rfl ?_
    refine z_iload_n E 3 d_Z_under_13 rfl rfl ?_
    refine z_iadd E d_Z_under_14 ?_
    refine z_top (nI_add _ _) ?_
    refine z_iconst E (v := nI 1) d_Z_under_15 (by decide) ?_
    refine z_ishr E d_Z_under_16 ?_
    refine z_top (pk_shrN (by omega) (nI 1 &&& 31) 1 (by decide)) ?_
    refine z_istore E d_Z_under_17 (by decide) ?_
    refine z_aload_n E 0 d_Z_under_19 rfl rfl ?_
    refine zz_get E 1 (by decide) fl_Z_13 rfl rfl d_Z_under_20 ?_
    refine z_iload E d_Z_under_23 rfl ?_
    refine zn_iald E 2 1 rfl rfl (_) (rfl) (by omega) (by decide) d_Z_under_25 ?_
    refine z_top (hat ((lo + hi) / 2 ^ 1) (by omega)).1 ?_
    refine z_iload_n E 1 d_Z_under_26 rfl rfl ?_
    refine z_icmp_gt E 38 d_Z_under_27 (by decide) (fun h27 => ?_) (fun h27 => ?_)
    · have hm := (hat ((lo + hi) / 2 ^ 1) (by omega)).2.2.2.2.1
      have h27 := (i_lt (by omega)).mp h27
      refine z_iload E d_Z_under_38 rfl ?_
      refine z_istore_n E 3 d_Z_under_40 rfl (by decide) ?_
      refine z_goto E 7 d_Z_under_41 (by decide) ?_
      refine ih (lo, (lo + hi) / 2 ^ 1) _ ⟨by dsimp only; omega, by dsimp only; omega, h3, fun i hi' hin => ?_⟩ (by dsimp only; omega) (by repeat' first | exact trivial | refine ⟨rfl, ?_⟩)
      by_cases hij : i = (lo + hi) / 2 ^ 1
      · subst hij; exact h27
      · have := hlt i ((lo + hi) / 2 ^ 1) (by dsimp only at hi'; omega) hin; omega
    · have hm := (hat ((lo + hi) / 2 ^ 1) (by omega)).2.2.2.2.1
      have h27 := mt (i_lt (by omega)).mpr h27
      refine z_iload E d_Z_under_30 rfl ?_
      refine z_iconst E (v := nI 1) d_Z_under_32 (by decide) ?_
      refine z_iadd E d_Z_under_33 ?_
      refine z_top (nI_add _ _) ?_
      refine z_istore_n E 2 d_Z_under_34 rfl (by decide) ?_
      refine z_goto E 41 d_Z_under_35 (by decide) ?_
      refine z_goto E 7 d_Z_under_41 (by decide) ?_
      refine ih ((lo + hi) / 2 ^ 1 + 1, hi) _ ⟨by dsimp only; omega, h2, fun i hi' => ?_, h4⟩ (by dsimp only; omega) (by repeat' first | exact trivial | refine ⟨rfl, ?_⟩)
      by_cases hij : i = (lo + hi) / 2 ^ 1
      · subst hij; omega
      · have := hlt ((lo + hi) / 2 ^ 1) i (by dsimp only at hi'; omega) (by omega); omega
end
section
/-! ZoneHeap: gap, made, gone -/
def frm (ad sz : Nat → Nat) (i : Nat) : Nat := if i = 0 then 0 else ad (i - 1) + tk (sz (i - 1))
def tof (n : Nat) (ad : Nat → Nat) (i : Nat) : Nat := if i < n then ad i else 8192
def fitg (n : Nat) (ad sz : Nat → Nat) (q i : Nat) : Prop := frm ad sz i + tk q + 32 ≤ tof n ad i
def ins {α : Type} (f : Nat → α) (g : Nat) (v : α) (i : Nat) : α := if i < g then f i else if i = g then v else f (i - 1)
def del {α : Type} (f : Nat → α) (k : Nat) (i : Nat) : α := if i < k then f i else f (i + 1)
theorem frm_to {n : Nat} {ad sz : Nat → Nat} (hO : zO n ad sz) {i : Nat} (hi : i ≤ n) : frm ad sz i + 16 ≤ tof n ad i ∧ tof n ad i ≤ 8192 ∧ 32 * i ≤ frm ad sz i := by
  unfold frm tof
  by_cases h0 : i = 0
  · subst h0
    rw [if_pos rfl]
    split
    · have := hO.1 0 ‹_›; omega
    · omega
  · rw [if_neg h0]
    have h1 := hO.low (i - 1) (by omega)
    have h2 := tk_lo (sz (i - 1))
    split
    · have h3 := hO.2 (i - 1) (by omega)
      rw [show i - 1 + 1 = i by omega] at h3
      have := hO.1 i ‹_›
      omega
    · have := hO.1 (i - 1) (by omega)
      omega
theorem zmv_at (M : zmem) (f t q i : Nat) : zmv M f t q i = if 1 ≤ q ∧ q ≤ 4 ∧ i = t then M q f else M q i := by
  unfold zmv zu upd
  by_cases h4 : q = 4
  · subst h4; by_cases hi : i = t <;> simp [hi]
  by_cases h3 : q = 3
  · subst h3; by_cases hi : i = t <;> simp [hi]
  by_cases h2 : q = 2
  · subst h2; by_cases hi : i = t <;> simp [hi]
  by_cases h1 : q = 1
  · subst h1; by_cases hi : i = t <;> simp [hi]
  rw [if_neg h4, if_neg h3, if_neg h2, if_neg h1, if_neg (by omega)]
theorem zR.b {M : zmem} {n : Nat} {ad sz : Nat → Nat} {st : Nat → Option Nat} (h : zR M n ad sz st) {i : Nat} (hi : i < n) : M 4 i = 0 ∨ M 4 i = 1 := by
  rw [(h.2.2 i hi).2.2.1]; split
  · exact Or.inl rfl
  · exact Or.inr rfl
theorem c_gap (l : Launch) (D : va_G) (cA : Nat → ClassId) (a : Nat → Nat) (M : zmem) (n : Nat) (ad sz : Nat → Nat) (st : Nat → Option Nat) (hR : zR M n ad sz st) (hO : zO n ad sz) (q : Nat) (hq : q ≤ 2048) : zMi l y_Z_gap b_Z_gap 6 .int (rmk 3) D zcl (ztys cA) (zw a cA) [.ref (a 0), .int (nI q)] M (fun r M' => M' = M ∧ ((∃ g, g ≤ n ∧ r = nI g ∧ fitg n ad sz q g ∧ ∀ i, i < g → ¬ fitg n ad sz q i) ∨ (r = -1 ∧ ∀ i, i ≤ n → ¬ fitg n ad sz q i))) := by
  refine zMi.of (own := "ZoneHeap") (by decide) rfl (Nat.le_of_ble_eq_true rfl) (by simp [Value.category]) ?_
  intro p e s m args below meth c A E hr hex
  have hfr := fun i (hi : i ≤ n) => frm_to hO hi
  obtain ⟨hn, hn255, hat⟩ := hR
  have htk := tk_le q
  refine z_iconst E (v := nI 0) d_Z_gap_0 (by decide) ?_
  refine z_istore_n E 2 d_Z_gap_1 rfl (by decide) ?_
  refine z_iload_n E 1 d_Z_gap_2 rfl rfl ?_
  refine zk_callsi E [.int (nI q)] (c_room l D _ _ _ _ q hq) ks_Z_51 rfl rfl (by decide) (Nat.le_of_ble_eq_true rfl) (by decide) d_Z_gap_3 (fun r M1 hp => ?_)
  obtain ⟨rfl, rfl⟩ := hp
  refine z_bipush E (v := nI 32) d_Z_gap_6 (by decide) ?_
  refine z_iadd E d_Z_gap_8 ?_
  refine z_top (nI_add _ _) ?_
  refine z_istore_n E 3 d_Z_gap_9 rfl (by decide) ?_
  refine z_iconst E (v := nI 0) d_Z_gap_10 (by decide) ?_
  refine z_istore E d_Z_gap_11 (by decide) ?_
  refine z_lp (ι := Nat) (fun k => n + 1 - k) (fun k => k ≤ n + 1 ∧ ∀ i, i < k → ¬ fitg n ad sz q i) (fun k => [some (.ref (a 0)), some (.int (nI q)), some (.int (nI (frm ad sz (min k n)))), some (.int (nI (tk q + 32))), some (.int (nI k)), none]) (fun _ => M1) ?_ 0 ⟨by omega, fun i h => by omega⟩ (by repeat' first | exact trivial | refine ⟨rfl, ?_⟩)
  rintro k ⟨h1, h2⟩ ih
  refine z_iload E d_Z_gap_13 rfl ?_
  refine z_aload_n E 0 d_Z_gap_15 rfl rfl ?_
  refine zz_get E 8 (by decide) fl_Z_55 rfl rfl d_Z_gap_16 ?_
  refine z_top hn ?_
  refine z_icmp_gt E 79 d_Z_gap_19 (by decide) (fun h19 => ?_) (fun h19 => ?_)
  · have h19 := (nI_ltI (by omega) (by omega)).mp h19
    refine z_iconst E (v := (-1 : Int32)) d_Z_gap_79 (by decide) ?_
    refine z_iret E hr ?_ (by decide) (by decide) d_Z_gap_80
    exact ⟨rfl, Or.inr ⟨rfl, fun i hi => h2 i (by omega)⟩⟩
  · have h19 : k ≤ n := by have := mt (nI_ltI (by omega) (by omega)).mpr h19; omega
    have hk := hfr k h19
    rw [show min k n = k by omega]
    refine z_iload E d_Z_gap_22 rfl ?_
    refine z_aload_n E 0 d_Z_gap_24 rfl rfl ?_
    refine zz_get E 8 (by decide) fl_Z_55 rfl rfl d_Z_gap_25 ?_
    refine z_top hn ?_
    refine z_icmp_ge E 41 d_Z_gap_28 (by decide) (fun h28 => ?_) (fun h28 => ?_)
    · have h28 := (nI_leI (by omega) (by omega)).mp h28
      have hto : tof n ad k = 8192 := if_neg (by omega)
      refine z_sipush E (v := nI 8192) d_Z_gap_41 (by decide) ?_
      refine z_istore E d_Z_gap_44 (by decide) ?_
      refine z_iload E d_Z_gap_46 rfl ?_
      refine z_iload_n E 2 d_Z_gap_48 rfl rfl ?_
      refine z_isub E d_Z_gap_49 ?_
      refine z_top (pk_sub (by omega)) ?_
      refine z_iload_n E 3 d_Z_gap_50 rfl rfl ?_
      refine z_icmp_lt E 57 d_Z_gap_51 (by decide) (fun h51 => ?_) (fun h51 => ?_)
      · have h51 := (nI_ltI (by omega) (by omega)).mp h51
        have hno : ¬ fitg n ad sz q k := by unfold fitg; omega
        have h2' : ∀ i, i < k + 1 → ¬ fitg n ad sz q i := fun i hi => by
          by_cases he : i = k
          · subst he; exact hno
          · exact h2 i (by omega)
        refine z_iload E d_Z_gap_57 rfl ?_
        refine z_aload_n E 0 d_Z_gap_59 rfl rfl ?_
        refine zz_get E 8 (by decide) fl_Z_55 rfl rfl d_Z_gap_60 ?_
        refine z_top hn ?_
        refine z_icmp_ge E 73 d_Z_gap_63 (by decide) (fun h63 => ?_) (fun h63 => ?_)
        · refine z_iinc E (v := nI (k + 1)) d_Z_gap_73 rfl (nI_1 k) (by decide) ?_
          refine z_goto E 13 d_Z_gap_76 (by decide) ?_
          refine ih (k + 1) _ ⟨by omega, h2'⟩ (by omega) ?_
          rw [show min (k + 1) n = k by omega]
          exact (by repeat' first | exact trivial | refine ⟨rfl, ?_⟩)
        · exact absurd ((nI_leI (by omega) (by omega)).mpr h28) h63
      · have h51 := mt (nI_ltI (by omega) (by omega)).mpr h51
        refine z_iload E d_Z_gap_54 rfl ?_
        refine z_iret E hr ?_ (by decide) (by decide) d_Z_gap_56
        exact ⟨rfl, Or.inl ⟨k, h19, rfl, by unfold fitg; omega, h2⟩⟩
    · have h28 : k < n := by have := mt (nI_leI (by omega) (by omega)).mpr h28; omega
      have hto : tof n ad k = ad k := if_pos h28
      refine z_aload_n E 0 d_Z_gap_31 rfl rfl ?_
      refine zz_get E 1 (by decide) fl_Z_13 rfl rfl d_Z_gap_32 ?_
      refine z_iload E d_Z_gap_35 rfl ?_
      refine zn_iald E 2 1 rfl rfl (_) (rfl) (by omega) (by decide) d_Z_gap_37 ?_
      refine z_top (hat k h28).1 ?_
      refine z_goto E 44 d_Z_gap_38 (by decide) ?_
      refine z_istore E d_Z_gap_44 (by decide) ?_
      refine z_iload E d_Z_gap_46 rfl ?_
      refine z_iload_n E 2 d_Z_gap_48 rfl rfl ?_
      refine z_isub E d_Z_gap_49 ?_
      refine z_top (pk_sub (by omega)) ?_
      refine z_iload_n E 3 d_Z_gap_50 rfl rfl ?_
      refine z_icmp_lt E 57 d_Z_gap_51 (by decide) (fun h51 => ?_) (fun h51 => ?_)
      · have h51 := (nI_ltI (by omega) (by omega)).mp h51
        have hno : ¬ fitg n ad sz q k := by unfold fitg; omega
        have h2' : ∀ i, i < k + 1 → ¬ fitg n ad sz q i := fun i hi => by
          by_cases he : i = k
          · subst he; exact hno
          · exact h2 i (by omega)
        refine z_iload E d_Z_gap_57 rfl ?_
        refine z_aload_n E 0 d_Z_gap_59 rfl rfl ?_
        refine zz_get E 8 (by decide) fl_Z_55 rfl rfl d_Z_gap_60 ?_
        refine z_top hn ?_
        refine z_icmp_ge E 73 d_Z_gap_63 (by decide) (fun h63 => ?_) (fun h63 => ?_)
        · exact absurd ((nI_leI (by omega) (by omega)).mp h63) (by omega)
        · refine z_aload_n E 0 d_Z_gap_66 rfl rfl ?_
          refine z_iload E d_Z_gap_67 rfl ?_
          refine zz_calli E [.int (nI k)] (c_end l D cA a _ k (ad k) (sz k) (by omega) (hat k h28).1 (hat k h28).2.1 (hat k h28).2.2.2.2.2) kv_Z_59 rfl rfl (by decide) (Nat.le_of_ble_eq_true rfl) (by decide) d_Z_gap_69 (fun r M1 hp => ?_)
          obtain ⟨rfl, rfl⟩ := hp
          refine z_istore_n E 2 d_Z_gap_72 rfl (by decide) ?_
          refine z_iinc E (v := nI (k + 1)) d_Z_gap_73 rfl (nI_1 k) (by decide) ?_
          refine z_goto E 13 d_Z_gap_76 (by decide) ?_
          refine ih (k + 1) _ ⟨by omega, h2'⟩ (by omega) ?_
          rw [show min (k + 1) n = k + 1 by omega, show frm ad sz (k + 1) = ad k + tk (sz k) from if_neg (by omega)]
          exact (by repeat' first | exact trivial | refine ⟨rfl, ?_⟩)
      · have h51 := mt (nI_ltI (by omega) (by omega)).mpr h51
        refine z_iload E d_Z_gap_54 rfl ?_
        refine z_iret E hr ?_ (by decide) (by decide) d_Z_gap_56
        exact ⟨rfl, Or.inl ⟨k, h19, rfl, by unfold fitg; omega, h2⟩⟩
end
section
/-! ZoneHeap: made, gone -/
theorem nI_m1 {j : Nat} (h : 0 < j) : nI j + Int32.ofInt (-1) = nI (j - 1) := sb_m1 h
/-- rows 0, 5, 6, 7 stay -/
def zsm (M M' : zmem) : Prop := M' 0 = M 0 ∧ M' 5 = M 5 ∧ M' 6 = M 6 ∧ M' 7 = M 7
theorem made_few {n g q : Nat} {ad sz : Nat → Nat} (hO : zO n ad sz) (hg : g ≤ n) (hf : fitg n ad sz q g) : n ≤ 254 := by
  obtain ⟨h1, h2, h3⟩ := frm_to hO hg
  unfold fitg at hf
  have hq := tk_lo q
  by_cases he : g = n
  · subst he; omega
  · have hlast := (hO.1 (n - 1) (by omega)).2.2
    have hl := tk_lo (sz (n - 1))
    have ht : tof n ad g = ad g := if_pos (by omega)
    have key : ∀ j, g ≤ j → j < n → ad g + 32 * (j - g) ≤ ad j := by
      intro j
      induction j with
      | zero => intro a b; have : g = 0 := by omega
                subst this; omega
      | succ j ih =>
        intro ha hb
        by_cases hj : g = j + 1
        · subst hj; omega
        · have h4 := ih (by omega) (by omega)
          have h5 := hO.2 j hb
          have := tk_lo (sz j)
          omega
    have := key (n - 1) (by omega) (by omega)
    omega
theorem made_ord {n g q : Nat} {ad sz : Nat → Nat} (hO : zO n ad sz) (hg : g ≤ n) (hf : fitg n ad sz q g) : zO (n + 1) (ins ad g (frm ad sz g + 16)) (ins sz g q) := by
  obtain ⟨h1, h2, h3⟩ := frm_to hO hg
  unfold fitg at hf
  have hfm : frm ad sz g % 16 = 0 := by
    unfold frm; split
    · rfl
    · have := (hO.1 (g - 1) (by omega)).2.1
      have := tk_mod (sz (g - 1))
      omega
  constructor
  · intro i hi
    unfold ins
    by_cases h : i < g
    · simp only [if_pos h]; exact hO.1 i (by omega)
    · by_cases h' : i = g
      · subst h'
        simp only [if_neg h, if_true]
        refine ⟨by omega, by omega, by omega⟩
      · simp only [if_neg h, if_neg h']; exact hO.1 (i - 1) (by omega)
  · intro i hi
    unfold ins
    by_cases h : i + 1 < g
    · simp only [if_pos h, if_pos (show i < g by omega)]; exact hO.2 i (by omega)
    · by_cases h' : i + 1 = g
      · subst h'
        simp only [if_neg h, if_pos (show i < i + 1 by omega), if_true]
        unfold frm
        rw [if_neg (by omega)]
        simp only [Nat.add_sub_cancel]
        omega
      · simp only [if_neg h, if_neg h']
        by_cases h6 : i = g
        · subst h6
          simp only [Nat.lt_irrefl, if_false, if_true, Nat.add_sub_cancel]
          have ht : tof n ad i = ad i := if_pos (by omega)
          omega
        · simp only [if_neg (show ¬ i < g by omega), if_neg h6]
          have := hO.2 (i - 1) (by omega)
          rw [show i - 1 + 1 = i by omega] at this
          simpa using this
theorem made_pic {M Mj : zmem} {n g q x : Nat} {ad sz : Nat → Nat} {st : Nat → Option Nat} {v : Int32} (hR : zR M n ad sz st) (hn : n ≤ 254) (hg : g ≤ n) (hx : x < 8192) (hq : q ≤ 2048) (hI : ∀ q i, Mj q i = if 1 ≤ q ∧ q ≤ 4 ∧ g < i ∧ i ≤ n then M q (i - 1) else M q i) :
    zR (zu (zu (zu (zu (zu Mj 1 g (nI x)) 2 g (nI q)) 4 g 1) 8 0 (nI (n + 1))) 8 1 v) (n + 1) (ins ad g x) (ins sz g q) (ins st g none) := by
  refine ⟨by simp [zu, upd], by omega, fun i hi => ?_⟩
  unfold ins
  by_cases h : i < g
  · have hc := hR.2.2 i (by omega)
    have hne : i ≠ g := by omega
    have hng : ¬ g < i := by omega
    simp only [if_pos h]
    simpa [zu, upd, hI, hne, hng] using hc
  · by_cases h' : i = g
    · subst h'
      simp [zu, upd, hx, hq]
    · have hc := hR.2.2 (i - 1) (by omega)
      have hgi : g < i ∧ i ≤ n := by omega
      simp only [if_neg h, if_neg h']
      simpa [zu, upd, hI, h', hgi] using hc
theorem made_same {M Mj : zmem} {n g : Nat} {v1 v2 v3 v4 v5 : Int32} (hI : ∀ q i, Mj q i = if 1 ≤ q ∧ q ≤ 4 ∧ g < i ∧ i ≤ n then M q (i - 1) else M q i) : zsm M (zu (zu (zu (zu (zu Mj 1 g v1) 2 g v2) 4 g v3) 8 0 v4) 8 1 v5) ∧ ∀ j, 2 ≤ j → (zu (zu (zu (zu (zu Mj 1 g v1) 2 g v2) 4 g v3) 8 0 v4) 8 1 v5) 8 j = M 8 j := by
  refine ⟨⟨?_, ?_, ?_, ?_⟩, fun j hj => ?_⟩
  · funext i; simp [zu, hI]
  · funext i; simp [zu, hI]
  · funext i; simp [zu, hI]
  · funext i; simp [zu, hI]
  · have h0 : j ≠ 0 := by omega
    have h1 : j ≠ 1 := by omega
    simp [zu, upd, hI, h0, h1]
theorem c_made (l : Launch) (D : va_G) (cA : Nat → ClassId) (a : Nat → Nat) (M : zmem) (n : Nat) (ad sz : Nat → Nat) (st : Nat → Option Nat) (hR : zR M n ad sz st) (hO : zO n ad sz) (q : Nat) (hq : q ≤ 2048) : zMi l y_Z_made b_Z_made 4 .int (rmk 4) D zcl (ztys cA) (zw a cA) [.ref (a 0), .int (nI q)] M (fun r M' => (r = -1 ∧ M' = M ∧ ∀ i, i ≤ n → ¬ fitg n ad sz q i) ∨ ∃ g, g ≤ n ∧ r = nI g ∧ fitg n ad sz q g ∧ (∀ i, i < g → ¬ fitg n ad sz q i) ∧ zR M' (n + 1) (ins ad g (frm ad sz g + 16)) (ins sz g q) (ins st g none) ∧ zO (n + 1) (ins ad g (frm ad sz g + 16)) (ins sz g q) ∧ zsm M M' ∧ M' 8 1 = M 8 1 + 1 ∧ ∀ j, 2 ≤ j → M' 8 j = M 8 j) := by
  refine zMi.of (own := "ZoneHeap") (by decide) rfl (Nat.le_of_ble_eq_true rfl) (by simp [Value.category]) ?_
  intro p e s m args below meth c A E hr hex
  refine z_aload_n E 0 d_Z_made_0 rfl rfl ?_
  refine z_iload_n E 1 d_Z_made_1 rfl rfl ?_
  refine zz_calli E [.int (nI q)] (c_gap l D cA a M n ad sz st hR hO q hq) kv_Z_62 rfl rfl (by decide) (Nat.le_of_ble_eq_true rfl) (by decide) d_Z_made_2 (fun r M1 hp => ?_)
  obtain ⟨hM1, ⟨g, hg, rfl, hf, hmin⟩ | ⟨rfl, hno⟩⟩ := hp <;> subst M1
  · have hfew := made_few hO hg hf
    have hfrm := frm_to hO hg
    have hftq := tk_lo q
    have hff : frm ad sz g + tk q + 32 ≤ tof n ad g := hf
    refine z_istore_n E 2 d_Z_made_5 rfl (by decide) ?_
    refine z_iload_n E 2 d_Z_made_6 rfl rfl ?_
    refine z_if_ge E 12 d_Z_made_7 (by decide) (fun h7 => ?_) (fun h7 => ?_)
    · refine z_aload_n E 0 d_Z_made_12 rfl rfl ?_
      refine zz_get E 8 (by decide) fl_Z_55 rfl rfl d_Z_made_13 ?_
      refine z_top hR.1 ?_
      refine z_istore_n E 3 d_Z_made_16 rfl (by decide) ?_
      refine z_lp (ι := Nat × zmem) (fun y => y.1) (fun y => y.1 ≤ n ∧ g ≤ y.1 ∧ ∀ q i, y.2 q i = if 1 ≤ q ∧ q ≤ 4 ∧ y.1 < i ∧ i ≤ n then M q (i - 1) else M q i) (fun y => [some (.ref (a 0)), some (.int (nI q)), some (.int (nI g)), some (.int (nI y.1))]) (fun y => y.2) ?_ (n, M) ⟨by omega, hg, fun q i => by rw [if_neg (by omega)]⟩ (by repeat' first | exact trivial | refine ⟨rfl, ?_⟩)
      rintro ⟨j, Mj⟩ ⟨h1, h2, hI⟩ ih
      dsimp only at h1 h2 hI ih ⊢
      refine z_iload_n E 3 d_Z_made_17 rfl rfl ?_
      refine z_iload_n E 2 d_Z_made_18 rfl rfl ?_
      refine z_icmp_le E 36 d_Z_made_19 (by decide) (fun h19 => ?_) (fun h19 => ?_)
      · have h19 := (nI_leI (by omega) (by omega)).mp h19
        have : j = g := by omega
        subst this
        refine z_aload_n E 0 d_Z_made_36 rfl rfl ?_
        refine zz_get E 1 (by decide) fl_Z_13 rfl rfl d_Z_made_37 ?_
        refine z_iload_n E 2 d_Z_made_40 rfl rfl ?_
        refine z_iload_n E 2 d_Z_made_41 rfl rfl ?_
        refine z_if_ne E 49 d_Z_made_42 (by decide) (fun h42 => ?_) (fun h42 => ?_)
        · have hj0 : j ≠ 0 := fun h0 => h42 (by rw [h0]; rfl)
          have hjn := hO.1 (j - 1) (by omega)
          refine z_aload_n E 0 d_Z_made_49 rfl rfl ?_
          refine z_iload_n E 2 d_Z_made_50 rfl rfl ?_
          refine z_iconst E (v := nI 1) d_Z_made_51 (by decide) ?_
          refine z_isub E d_Z_made_52 ?_
          refine z_top (nI_sub1 (by omega)) ?_
          refine zz_calli E [.int (nI (j - 1))] (c_end l D cA a Mj (j - 1) (ad (j - 1)) (sz (j - 1)) (by omega) (by rw [hI, if_neg (by omega)]; exact (hR.2.2 (j - 1) (by omega)).1) (by rw [hI, if_neg (by omega)]; exact (hR.2.2 (j - 1) (by omega)).2.1) (hR.2.2 (j - 1) (by omega)).2.2.2.2.2) kv_Z_59 rfl rfl (by decide) (Nat.le_of_ble_eq_true rfl) (by decide) d_Z_made_53 (fun r M1 hp => ?_)
          obtain ⟨hM1, rfl⟩ := hp
          subst M1
          refine z_top (show nI (ad (j - 1) + tk (sz (j - 1))) = nI (frm ad sz j) by unfold frm; rw [if_neg hj0]) ?_
          refine z_bipush E (v := nI 16) d_Z_made_56 (by decide) ?_
          refine z_iadd E d_Z_made_58 ?_
          refine z_top (nI_add _ _) ?_
          refine zz_iast E 1 rfl (_) (rfl) (by omega) rfl d_Z_made_59 ?_
          refine z_aload_n E 0 d_Z_made_60 rfl rfl ?_
          refine zz_get E 2 (by decide) fl_Z_17 rfl rfl d_Z_made_61 ?_
          refine z_iload_n E 2 d_Z_made_64 rfl rfl ?_
          refine z_iload_n E 1 d_Z_made_65 rfl rfl ?_
          refine zz_iast E 2 rfl (_) (rfl) (by omega) rfl d_Z_made_66 ?_
          refine z_aload_n E 0 d_Z_made_67 rfl rfl ?_
          refine zz_get E 4 (by decide) fl_Z_23 rfl rfl d_Z_made_68 ?_
          refine z_iload_n E 2 d_Z_made_71 rfl rfl ?_
          refine z_iconst E (v := nI 1) d_Z_made_72 (by decide) ?_
          refine zz_zast E 4 rfl (v := 1) (by decide) (_) (rfl) (by omega) rfl d_Z_made_73 ?_
          refine z_aload_n E 0 d_Z_made_74 rfl rfl ?_
          refine z_dup E d_Z_made_75 rfl ?_
          refine zz_get E 8 (by decide) fl_Z_55 rfl rfl d_Z_made_76 ?_
          refine z_top (by show Mj 8 0 = nI n; rw [hI]; simp; exact hR.1) ?_
          refine z_iconst E (v := nI 1) d_Z_made_79 (by decide) ?_
          refine z_iadd E d_Z_made_80 ?_
          refine z_top (nI_1 n) ?_
          refine zz_put E 0 (by decide) fl_Z_55 rfl rfl rfl rfl d_Z_made_81 ?_
          refine z_aload_n E 0 d_Z_made_84 rfl rfl ?_
          refine z_dup E d_Z_made_85 rfl ?_
          refine zz_get E 9 (by decide) fl_Z_69 rfl rfl d_Z_made_86 ?_
          refine z_iconst E (v := nI 1) d_Z_made_89 (by decide) ?_
          refine z_iadd E d_Z_made_90 ?_
          refine zz_put E 1 (by decide) fl_Z_69 rfl rfl rfl rfl d_Z_made_91 ?_
          refine z_iload_n E 2 d_Z_made_94 rfl rfl ?_
          refine z_iret E hr ?_ (by decide) (by decide) d_Z_made_95
          refine Or.inr ⟨j, hg, rfl, hf, hmin, ?_, made_ord hO hg hf, (made_same hI).1, ?_, (made_same hI).2⟩
          · exact made_pic hR hfew hg (by omega) hq hI
          · first | (simp [zu, upd, hI]; done) | (simp [zu, upd, hI]; rfl)
        · have hj0 : j = 0 := by
            by_cases h0 : j = 0
            · exact h0
            · exact absurd h42 (nI_ne0 (by omega) (by omega))
          refine z_iconst E (v := nI 0) d_Z_made_45 (by decide) ?_
          refine z_top (show nI 0 = nI (frm ad sz j) by unfold frm; rw [if_pos hj0]) ?_
          refine z_goto E 56 d_Z_made_46 (by decide) ?_
          refine z_bipush E (v := nI 16) d_Z_made_56 (by decide) ?_
          refine z_iadd E d_Z_made_58 ?_
          refine z_top (nI_add _ _) ?_
          refine zz_iast E 1 rfl (_) (rfl) (by omega) rfl d_Z_made_59 ?_
          refine z_aload_n E 0 d_Z_made_60 rfl rfl ?_
          refine zz_get E 2 (by decide) fl_Z_17 rfl rfl d_Z_made_61 ?_
          refine z_iload_n E 2 d_Z_made_64 rfl rfl ?_
          refine z_iload_n E 1 d_Z_made_65 rfl rfl ?_
          refine zz_iast E 2 rfl (_) (rfl) (by omega) rfl d_Z_made_66 ?_
          refine z_aload_n E 0 d_Z_made_67 rfl rfl ?_
          refine zz_get E 4 (by decide) fl_Z_23 rfl rfl d_Z_made_68 ?_
          refine z_iload_n E 2 d_Z_made_71 rfl rfl ?_
          refine z_iconst E (v := nI 1) d_Z_made_72 (by decide) ?_
          refine zz_zast E 4 rfl (v := 1) (by decide) (_) (rfl) (by omega) rfl d_Z_made_73 ?_
          refine z_aload_n E 0 d_Z_made_74 rfl rfl ?_
          refine z_dup E d_Z_made_75 rfl ?_
          refine zz_get E 8 (by decide) fl_Z_55 rfl rfl d_Z_made_76 ?_
          refine z_top (by show Mj 8 0 = nI n; rw [hI]; simp; exact hR.1) ?_
          refine z_iconst E (v := nI 1) d_Z_made_79 (by decide) ?_
          refine z_iadd E d_Z_made_80 ?_
          refine z_top (nI_1 n) ?_
          refine zz_put E 0 (by decide) fl_Z_55 rfl rfl rfl rfl d_Z_made_81 ?_
          refine z_aload_n E 0 d_Z_made_84 rfl rfl ?_
          refine z_dup E d_Z_made_85 rfl ?_
          refine zz_get E 9 (by decide) fl_Z_69 rfl rfl d_Z_made_86 ?_
          refine z_iconst E (v := nI 1) d_Z_made_89 (by decide) ?_
          refine z_iadd E d_Z_made_90 ?_
          refine zz_put E 1 (by decide) fl_Z_69 rfl rfl rfl rfl d_Z_made_91 ?_
          refine z_iload_n E 2 d_Z_made_94 rfl rfl ?_
          refine z_iret E hr ?_ (by decide) (by decide) d_Z_made_95
          refine Or.inr ⟨j, hg, rfl, hf, hmin, ?_, made_ord hO hg hf, (made_same hI).1, ?_, (made_same hI).2⟩
          · exact made_pic hR hfew hg (by omega) hq hI
          · first | (simp [zu, upd, hI]; done) | (simp [zu, upd, hI]; rfl)
      · have h19 : g < j := by have := mt (nI_leI (by omega) (by omega)).mpr h19; omega
        refine z_aload_n E 0 d_Z_made_22 rfl rfl ?_
        refine z_iload_n E 3 d_Z_made_23 rfl rfl ?_
        refine z_iconst E (v := nI 1) d_Z_made_24 (by decide) ?_
        refine z_isub E d_Z_made_25 ?_
        refine z_top (nI_sub1 (by omega)) ?_
        refine z_iload_n E 3 d_Z_made_26 rfl rfl ?_
        refine zz_callv E [.int (nI (j - 1)), .int (nI j)] (c_move l D cA a Mj (j - 1) j (by omega) (by omega) (by rw [hI, if_neg (by omega)]; exact hR.b (by omega))) kv_Z_65 rfl rfl (by decide) (Nat.le_of_ble_eq_true rfl) (by decide) d_Z_made_27 (fun M2 hp => ?_)
        subst hp
        refine z_iinc E (v := nI (j - 1)) d_Z_made_30 rfl (nI_m1 (by omega)) (by decide) ?_
        refine z_goto E 17 d_Z_made_33 (by decide) ?_
        refine ih (j - 1, zmv Mj (j - 1) j) _ ⟨by dsimp only; omega, by dsimp only; omega, fun q i => ?_⟩ (by dsimp only; omega) (by repeat' first | exact trivial | refine ⟨rfl, ?_⟩)
        dsimp only
        rw [zmv_at]
        by_cases hq4 : 1 ≤ q ∧ q ≤ 4
        · by_cases hij : i = j
          · subst hij
            rw [if_pos ⟨hq4.1, hq4.2, rfl⟩, if_pos ⟨hq4.1, hq4.2, by omega, by omega⟩, hI, if_neg (by omega)]
          · rw [if_neg (by omega), hI]
            by_cases hji : j < i ∧ i ≤ n
            · rw [if_pos ⟨hq4.1, hq4.2, hji⟩, if_pos ⟨hq4.1, hq4.2, by omega, hji.2⟩]
            · rw [if_neg (by omega), if_neg (by omega)]
        · rw [if_neg (by omega), hI, if_neg (by omega), if_neg (by omega)]
    · exact absurd (nI_pos' (by omega)) h7
  · refine z_istore_n E 2 d_Z_made_5 rfl (by decide) ?_
    refine z_iload_n E 2 d_Z_made_6 rfl rfl ?_
    refine z_if_ge E 12 d_Z_made_7 (by decide) (fun h7 => ?_) (fun h7 => ?_)
    · exact absurd h7 (by decide)
    · refine z_iconst E (v := (-1 : Int32)) d_Z_made_10 (by decide) ?_
      refine z_iret E hr ?_ (by decide) (by decide) d_Z_made_11
      exact Or.inl ⟨rfl, rfl, hno⟩
theorem gone_ord {n k : Nat} {ad sz : Nat → Nat} (hO : zO n ad sz) (hk : k < n) : zO (n - 1) (del ad k) (del sz k) := by
  constructor
  · intro i hi
    unfold del
    by_cases h : i < k
    · simp only [if_pos h]; exact hO.1 i (by omega)
    · simp only [if_neg h]; exact hO.1 (i + 1) (by omega)
  · intro i hi
    unfold del
    by_cases h : i + 1 < k
    · simp only [if_pos h, if_pos (show i < k by omega)]; exact hO.2 i (by omega)
    · by_cases h' : i < k
      · simp only [if_neg h, if_pos h']
        have := hO.lt (i + 1 + 1) i (by omega) (by omega)
        exact this
      · simp only [if_neg h, if_neg h']; exact hO.2 (i + 1) (by omega)
theorem gone_pic {M Mj : zmem} {n k : Nat} {ad sz : Nat → Nat} {st : Nat → Option Nat} (hR : zR M n ad sz st) (hk : k < n) (h0 : Mj 8 0 = nI (n - 1)) (hI : ∀ q i, q ≠ 8 → Mj q i = if 1 ≤ q ∧ q ≤ 4 ∧ k ≤ i ∧ i < n - 1 then M q (i + 1) else M q i) : zR Mj (n - 1) (del ad k) (del sz k) (del st k) := by
  have h255 := hR.2.1
  refine ⟨h0, by omega, fun i hi => ?_⟩
  unfold del
  by_cases h : i < k
  · have hc := hR.2.2 i (by omega)
    have hng : ¬ k ≤ i := by omega
    simp only [if_pos h]
    simpa [hI, hng] using hc
  · have hc := hR.2.2 (i + 1) (by omega)
    have hng : k ≤ i := by omega
    simp only [if_neg h]
    simpa [hI, hng, hi] using hc
theorem c_gone (l : Launch) (D : va_G) (cA : Nat → ClassId) (a : Nat → Nat) (M : zmem) (n : Nat) (ad sz : Nat → Nat) (st : Nat → Option Nat) (hR : zR M n ad sz st) (hO : zO n ad sz) (k : Nat) (hk : k < n) : zMv l y_Z_gone b_Z_gone 3 (rmk 1) D zcl (ztys cA) (zw a cA) [.ref (a 0), .int (nI k)] M (fun M' => zR M' (n - 1) (del ad k) (del sz k) (del st k) ∧ zO (n - 1) (del ad k) (del sz k) ∧ zsm M M' ∧ ∀ j, 1 ≤ j → M' 8 j = M 8 j) := by
  refine zMv.of (own := "ZoneHeap") (by decide) rfl (Nat.le_of_ble_eq_true rfl) (by simp [Value.category]) ?_
  intro p e s m args below meth c A E hr hex
  have h255 := hR.2.1
  refine z_aload_n E 0 d_Z_gone_0 rfl rfl ?_
  refine z_dup E d_Z_gone_1 rfl ?_
  refine zz_get E 8 (by decide) fl_Z_55 rfl rfl d_Z_gone_2 ?_
  refine z_top hR.1 ?_
  refine z_iconst E (v := nI 1) d_Z_gone_5 (by decide) ?_
  refine z_isub E d_Z_gone_6 ?_
  refine z_top (nI_sub1 (by omega)) ?_
  refine zz_put E 0 (by decide) fl_Z_55 rfl rfl rfl rfl d_Z_gone_7 ?_
  refine z_iload_n E 1 d_Z_gone_10 rfl rfl ?_
  refine z_istore_n E 2 d_Z_gone_11 rfl (by decide) ?_
  refine z_lp (ι := Nat × zmem) (fun y => n - y.1) (fun y => y.1 ≤ n - 1 ∧ k ≤ y.1 ∧ (∀ j, y.2 8 j = if j = 0 then nI (n - 1) else M 8 j) ∧ ∀ q i, q ≠ 8 → y.2 q i = if 1 ≤ q ∧ q ≤ 4 ∧ k ≤ i ∧ i < y.1 then M q (i + 1) else M q i) (fun y => [some (.ref (a 0)), some (.int (nI k)), some (.int (nI y.1))]) (fun y => y.2) ?_ (k, zu M 8 0 (nI (n - 1))) ⟨by dsimp only; omega, by dsimp only; omega, fun j => by simp [zu, upd], fun q i hq => by simp only [zu, if_neg hq]; rw [if_neg (by omega)]⟩ (by repeat' first | exact trivial | refine ⟨rfl, ?_⟩)
  rintro ⟨j, Mj⟩ ⟨h1, h2, h8, hI⟩ ih
  dsimp only at h1 h2 h8 hI ih ⊢
  refine z_iload_n E 2 d_Z_gone_12 rfl rfl ?_
  refine z_aload_n E 0 d_Z_gone_13 rfl rfl ?_
  refine zz_get E 8 (by decide) fl_Z_55 rfl rfl d_Z_gone_14 ?_
  refine z_top (by rw [h8]; rfl : Mj 8 0 = nI (n - 1)) ?_
  refine z_icmp_ge E 34 d_Z_gone_17 (by decide) (fun h17 => ?_) (fun h17 => ?_)
  · have h17 := (nI_leI (by omega) (by omega)).mp h17
    have : j = n - 1 := by omega
    subst this
    refine z_vret E hr ?_ (by decide) (by decide) d_Z_gone_34
    refine ⟨gone_pic hR hk (by rw [h8]; rfl) hI, gone_ord hO hk, ⟨?_, ?_, ?_, ?_⟩, fun j hj => by rw [h8, if_neg (by omega)]⟩
    · funext i; simp [hI]
    · funext i; simp [hI]
    · funext i; simp [hI]
    · funext i; simp [hI]
  · have h17 : j < n - 1 := by have := mt (nI_leI (by omega) (by omega)).mpr h17; omega
    refine z_aload_n E 0 d_Z_gone_20 rfl rfl ?_
    refine z_iload_n E 2 d_Z_gone_21 rfl rfl ?_
    refine z_iconst E (v := nI 1) d_Z_gone_22 (by decide) ?_
    refine z_iadd E d_Z_gone_23 ?_
    refine z_top (nI_1 j) ?_
    refine z_iload_n E 2 d_Z_gone_24 rfl rfl ?_
    refine zz_callv E [.int (nI (j + 1)), .int (nI j)] (c_move l D cA a Mj (j + 1) j (by omega) (by omega) (by rw [hI 4 _ (by decide), if_neg (by omega)]; exact hR.b (by omega))) kv_Z_65 rfl rfl (by decide) (Nat.le_of_ble_eq_true rfl) (by decide) d_Z_gone_25 (fun M2 hp => ?_)
    subst hp
    refine z_iinc E (v := nI (j + 1)) d_Z_gone_28 rfl (nI_1 j) (by decide) ?_
    refine z_goto E 12 d_Z_gone_31 (by decide) ?_
    refine ih (j + 1, zmv Mj (j + 1) j) _ ⟨by dsimp only; omega, by dsimp only; omega, fun i => ?_, fun q i hq => ?_⟩ (by dsimp only; omega) (by repeat' first | exact trivial | refine ⟨rfl, ?_⟩)
    · dsimp only; rw [zmv_at, if_neg (by omega)]; exact h8 i
    · dsimp only
      rw [zmv_at]
      by_cases hq4 : 1 ≤ q ∧ q ≤ 4
      · by_cases hij : i = j
        · subst hij
          rw [if_pos ⟨hq4.1, hq4.2, rfl⟩, if_pos ⟨hq4.1, hq4.2, by omega, by omega⟩, hI q _ hq, if_neg (by omega)]
        · rw [if_neg (by omega), hI q _ hq]
          by_cases hji : k ≤ i ∧ i < j
          · rw [if_pos ⟨hq4.1, hq4.2, hji⟩, if_pos ⟨hq4.1, hq4.2, hji.1, by omega⟩]
          · rw [if_neg (by omega), if_neg (by omega)]
      · rw [if_neg (by omega), hI q _ hq, if_neg (by omega), if_neg (by omega)]
end
section
/-! The value both sides are tied to: a map h from addresses to (size, none = live | some w = kept since w); sums over it; the evictions -/
abbrev zmap : Type := Nat → Option (Nat × Option Nat)
def sumN (f : Nat → Nat) : Nat → Nat
  | 0 => 0
  | n + 1 => sumN f n + f n
theorem sumN_le {f : Nat → Nat} {B : Nat} : ∀ {N : Nat}, (∀ x, x < N → f x ≤ B) → sumN f N ≤ N * B := by
  intro N
  induction N with
  | zero => intro _; simp [sumN]
  | succ n ih =>
    intro h
    have h1 := ih (fun x hx => h x (by omega))
    have h2 := h n (by omega)
    simp only [sumN]
    rw [Nat.succ_mul]
    omega
theorem sumN_congr {f g : Nat → Nat} : ∀ {N : Nat}, (∀ x, x < N → f x = g x) → sumN f N = sumN g N := by
  intro N
  induction N with
  | zero => intro _; rfl
  | succ n ih =>
    intro h
    simp only [sumN]
    rw [ih (fun x hx => h x (by omega)), h n (by omega)]
theorem sumN_zero {f : Nat → Nat} {N : Nat} (h : ∀ x, x < N → f x = 0) : sumN f N = 0 := by
  have := sumN_le (B := 0) (fun x hx => Nat.le_of_eq (h x hx))
  omega
theorem sumN_upd {f g : Nat → Nat} {x : Nat} : ∀ {N : Nat}, x < N → (∀ y, y < N → y ≠ x → g y = f y) → sumN g N + f x = sumN f N + g x := by
  intro N
  induction N with
  | zero => intro h; omega
  | succ n ih =>
    intro hx h
    simp only [sumN]
    by_cases hn : x = n
    · subst hn
      rw [sumN_congr (f := g) (g := f) (fun y hy => h y (by omega) (by omega))]
      omega
    · have h1 := ih (by omega) (fun y hy hne => h y (by omega) hne)
      have h2 := h n (by omega) (by omega)
      omega
theorem sumN_pos {f : Nat → Nat} : ∀ {N : Nat}, 0 < sumN f N → ∃ x, x < N ∧ 0 < f x := by
  intro N
  induction N with
  | zero => intro h; simp [sumN] at h
  | succ n ih =>
    intro h
    simp only [sumN] at h
    by_cases h0 : 0 < f n
    · exact ⟨n, by omega, h0⟩
    · obtain ⟨x, hx, hf⟩ := ih (by omega)
      exact ⟨x, by omega, hf⟩
/-- a sum over a map's places is the sum over any enumeration of them -/
theorem sumN_enum : ∀ (n : Nat) (N : Nat) (pl : Nat → Nat) (F : Nat → Nat), (∀ i, i < n → pl i < N) → (∀ i j, i < n → j < n → pl i = pl j → i = j) → (∀ x, x < N → F x ≠ 0 → ∃ i, i < n ∧ pl i = x) → sumN F N = sumN (fun i => F (pl i)) n := by
  intro n
  induction n with
  | zero =>
    intro N pl F _ _ h3
    refine (sumN_zero fun x hx => ?_).trans rfl
    by_cases h : F x = 0
    · exact h
    · obtain ⟨i, hi, -⟩ := h3 x hx h; omega
  | succ n ih =>
    intro N pl F h1 h2 h3
    have key := ih N pl (fun x => if x = pl n then 0 else F x) (fun i hi => h1 i (by omega)) (fun i j hi hj => h2 i j (by omega) (by omega)) (fun x hx hF => by
      by_cases hp : x = pl n
      · simp [hp] at hF
      · simp only [if_neg hp] at hF
        obtain ⟨i, hi, hpi⟩ := h3 x hx hF
        refine ⟨i, ?_, hpi⟩
        have : i ≠ n := fun he => hp (by rw [← hpi, he])
        omega)
    have h4 := sumN_upd (f := F) (g := fun x => if x = pl n then 0 else F x) (x := pl n) (N := N) (h1 n (by omega)) (fun y _ hne => if_neg hne)
    have h5 : sumN (fun i => if pl i = pl n then 0 else F (pl i)) n = sumN (fun i => F (pl i)) n := sumN_congr (fun i hi => if_neg (fun he => by have := h2 i n (by omega) (by omega) he; omega))
    simp only [sumN]
    simp only [if_true] at h4
    rw [key, h5] at h4
    omega
def rep (n : Nat) (ad sz : Nat → Nat) (st : Nat → Option Nat) (h : zmap) : Prop := (∀ i, i < n → h (ad i) = some (sz i, st i)) ∧ ∀ x b, h x = some b → ∃ i, i < n ∧ ad i = x
/-- how the blocks stand -/
def hO (h : zmap) : Prop := (∀ x b, h x = some b → 16 ≤ x ∧ x % 16 = 0 ∧ x + tk b.1 + 16 ≤ 8192 ∧ b.1 ≤ 2048) ∧ ∀ x y b b', h x = some b → h y = some b' → x < y → x + tk b.1 + 16 ≤ y
/-- those given back: before g, no two at a time -/
def hW (h : zmap) (g : Nat) : Prop := (∀ x q w, h x = some (q, some w) → w < g) ∧ ∀ x y q q' w, h x = some (q, some w) → h y = some (q', some w) → x = y
def ksz (h : zmap) (x : Nat) : Nat := match h x with
  | some (q, some _) => q
  | _ => 0
def k1 (h : zmap) (x : Nat) : Nat := match h x with
  | some (_, some _) => 1
  | _ => 0
def l1 (h : zmap) (x : Nat) : Nat := match h x with
  | some (_, none) => 1
  | _ => 0
def lsz (h : zmap) (x : Nat) : Nat := match h x with
  | some (q, none) => q
  | _ => 0
def ksum (h : zmap) : Nat := sumN (ksz h) 8192
def kcnt (h : zmap) : Nat := sumN (k1 h) 8192
def lcnt (h : zmap) : Nat := sumN (l1 h) 8192
def lsum (h : zmap) : Nat := sumN (lsz h) 8192
def old (h : zmap) (x : Nat) : Prop := ∃ q w, h x = some (q, some w) ∧ ∀ y q' w', h y = some (q', some w') → w ≤ w'
def hrm (h : zmap) (x : Nat) : zmap := fun y => if y = x then none else h y
def hst (h : zmap) (x : Nat) (b : Nat × Option Nat) : zmap := fun y => if y = x then some b else h y
def chain (h : zmap) (k : Nat) (h' : zmap) : Prop := ∃ c : Nat → zmap, c 0 = h ∧ c k = h' ∧ ∀ i, i < k → 512 < ksum (c i) ∧ ∃ x, old (c i) x ∧ c (i + 1) = hrm (c i) x
/-- the oldest go until at most 512 octets are kept -/
def evs (h h' : zmap) : Prop := ∃ k, chain h k h' ∧ ksum h' ≤ 512
theorem chain_0 (h : zmap) : chain h 0 h := ⟨fun _ => h, rfl, rfl, fun i hi => absurd hi (Nat.not_lt_zero i)⟩
theorem chain_s {h h' : zmap} {k x : Nat} (hc : chain h k h') (hs : 512 < ksum h') (hx : old h' x) : chain h (k + 1) (hrm h' x) := by
  obtain ⟨c, c0, ck, cs⟩ := hc
  refine ⟨fun i => if i ≤ k then c i else hrm h' x, by simp [c0], if_neg (by omega), fun i hi => ?_⟩
  by_cases hik : i = k
  · subst hik
    simp only [Nat.le_refl, if_true, show ¬ i + 1 ≤ i by omega, if_false]
    rw [ck]
    exact ⟨hs, x, hx, rfl⟩
  · simp only [show i ≤ k by omega, show i + 1 ≤ k by omega, if_true]
    exact cs i (by omega)
theorem hW.rm {h : zmap} {g x : Nat} (hw : hW h g) : hW (hrm h x) g := by
  constructor
  · intro y q w hy
    unfold hrm at hy
    split at hy
    · cases hy
    · exact hw.1 y q w hy
  · intro y z q q' w hy hz
    unfold hrm at hy hz
    split at hy
    · cases hy
    · split at hz
      · cases hz
      · exact hw.2 y z q q' w hy hz
theorem hO.rm {h : zmap} {x : Nat} (ho : hO h) : hO (hrm h x) := by
  constructor
  · intro y b hy
    unfold hrm at hy
    split at hy
    · cases hy
    · exact ho.1 y b hy
  · intro y z b b' hy hz
    unfold hrm at hy hz
    split at hy
    · cases hy
    · split at hz
      · cases hz
      · exact ho.2 y z b b' hy hz
theorem old_one {h : zmap} {g x y : Nat} (hw : hW h g) (hx : old h x) (hy : old h y) : x = y := by
  obtain ⟨q, w, h1, h2⟩ := hx
  obtain ⟨q', w', h3, h4⟩ := hy
  have : w = w' := Nat.le_antisymm (h2 y q' w' h3) (h4 x q w h1)
  subst this
  exact hw.2 x y q q' w h1 h3
theorem evs_one {h h1 h2 : zmap} {g : Nat} (hw : hW h g) (e1 : evs h h1) (e2 : evs h h2) : h1 = h2 := by
  obtain ⟨k, ⟨c, c0, ck, cs⟩, s1⟩ := e1
  obtain ⟨k', ⟨d, d0, dk, ds⟩, s2⟩ := e2
  have key : ∀ i, i ≤ k → i ≤ k' → c i = d i ∧ hW (c i) g := by
    intro i
    induction i with
    | zero => intro _ _; rw [c0, d0]; exact ⟨rfl, hw⟩
    | succ i ih =>
      intro h1 h2
      obtain ⟨e, w⟩ := ih (by omega) (by omega)
      obtain ⟨-, x, ox, cx⟩ := cs i (by omega)
      obtain ⟨-, y, oy, dy⟩ := ds i (by omega)
      rw [← e] at oy dy
      have := old_one w ox oy
      subst this
      rw [cx, dy]
      exact ⟨rfl, w.rm⟩
  by_cases hk : k = k'
  · subst hk
    rw [← ck, ← dk]
    exact (key k (Nat.le_refl _) (Nat.le_refl _)).1
  · rcases Nat.lt_or_gt_of_ne hk with hlt | hgt
    · have e := (key k (Nat.le_refl _) (by omega)).1
      have := (ds k hlt).1
      rw [← e, ck] at this
      omega
    · have e := (key k' (by omega) (Nat.le_refl _)).1
      have := (cs k' hgt).1
      rw [e, dk] at this
      omega
theorem chain_keep {h h' : zmap} {k g : Nat} (hc : chain h k h') (hw : hW h g) (ho : hO h) : hW h' g ∧ hO h' ∧ ∀ x b, h' x = some b → h x = some b := by
  obtain ⟨c, c0, ck, cs⟩ := hc
  have key : ∀ i, i ≤ k → hW (c i) g ∧ hO (c i) ∧ ∀ x b, c i x = some b → h x = some b := by
    intro i
    induction i with
    | zero => intro _; rw [c0]; exact ⟨hw, ho, fun x b e => e⟩
    | succ i ih =>
      intro hi
      obtain ⟨w, o, e⟩ := ih (by omega)
      obtain ⟨-, x, -, cx⟩ := cs i (by omega)
      rw [cx]
      refine ⟨w.rm, o.rm, fun y b hy => ?_⟩
      unfold hrm at hy
      split at hy
      · cases hy
      · exact e y b hy
  rw [← ck]
  exact key k (Nat.le_refl _)
theorem rep_lt {n : Nat} {ad sz : Nat → Nat} {st : Nat → Option Nat} {h : zmap} (hr : rep n ad sz st h) (ho : hO h) {i : Nat} (hi : i < n) : ad i < 8192 := by
  have := ho.1 _ _ (hr.1 i hi)
  omega
/-- sums over a map by an enumeration of its places -/
theorem rep_sum {n : Nat} {ad sz : Nat → Nat} {st : Nat → Option Nat} {h : zmap} (hr : rep n ad sz st h) (ho : hO h) (hd : ∀ i j, i < n → j < n → ad i = ad j → i = j) (G : Option (Nat × Option Nat) → Nat) (hG : G none = 0) :
    sumN (fun x => G (h x)) 8192 = sumN (fun i => G (some (sz i, st i))) n := by
  rw [sumN_enum n 8192 ad (fun x => G (h x)) (fun i hi => rep_lt hr ho hi) hd (fun x hx hF => by
    cases hb : h x with
    | none => rw [hb] at hF; exact absurd hG hF
    | some b => exact hr.2 x b hb)]
  exact sumN_congr (fun i hi => by rw [hr.1 i hi])
theorem ksz_eq (h : zmap) (x : Nat) : ksz h x = (fun b : Option (Nat × Option Nat) => match b with | some (q, some _) => q | _ => 0) (h x) := rfl
theorem k1_eq (h : zmap) (x : Nat) : k1 h x = (fun b : Option (Nat × Option Nat) => match b with | some (_, some _) => 1 | _ => 0) (h x) := rfl
theorem ksum_rep {n : Nat} {ad sz : Nat → Nat} {st : Nat → Option Nat} {h : zmap} (hr : rep n ad sz st h) (ho : hO h) (hd : ∀ i j, i < n → j < n → ad i = ad j → i = j) : ksum h = sumN (fun i => if (st i).isSome then sz i else 0) n := by
  refine (rep_sum hr ho hd (fun b => match b with | some (q, some _) => q | _ => 0) rfl).trans (sumN_congr fun i _ => ?_)
  cases st i <;> rfl
theorem kcnt_rep {n : Nat} {ad sz : Nat → Nat} {st : Nat → Option Nat} {h : zmap} (hr : rep n ad sz st h) (ho : hO h) (hd : ∀ i j, i < n → j < n → ad i = ad j → i = j) : kcnt h = sumN (fun i => if (st i).isSome then 1 else 0) n := by
  refine (rep_sum hr ho hd (fun b => match b with | some (_, some _) => 1 | _ => 0) rfl).trans (sumN_congr fun i _ => ?_)
  cases st i <;> rfl
theorem lcnt_rep {n : Nat} {ad sz : Nat → Nat} {st : Nat → Option Nat} {h : zmap} (hr : rep n ad sz st h) (ho : hO h) (hd : ∀ i j, i < n → j < n → ad i = ad j → i = j) : lcnt h = sumN (fun i => if (st i).isSome then 0 else 1) n := by
  refine (rep_sum hr ho hd (fun b => match b with | some (_, none) => 1 | _ => 0) rfl).trans (sumN_congr fun i _ => ?_)
  cases st i <;> rfl
theorem lsum_rep {n : Nat} {ad sz : Nat → Nat} {st : Nat → Option Nat} {h : zmap} (hr : rep n ad sz st h) (ho : hO h) (hd : ∀ i j, i < n → j < n → ad i = ad j → i = j) : lsum h = sumN (fun i => if (st i).isSome then 0 else sz i) n := by
  refine (rep_sum hr ho hd (fun b => match b with | some (q, none) => q | _ => 0) rfl).trans (sumN_congr fun i _ => ?_)
  cases st i <;> rfl
theorem sumN_one {n : Nat} : sumN (fun _ => 1) n = n := by
  induction n with
  | zero => rfl
  | succ n ih => simp only [sumN, ih]
theorem sumN_add {f g k : Nat → Nat} {N : Nat} (h : ∀ x, x < N → f x + g x = k x) : sumN f N + sumN g N = sumN k N := by
  induction N with
  | zero => rfl
  | succ n ih =>
    have h1 := ih (fun x hx => h x (by omega))
    have h2 := h n (by omega)
    simp only [sumN]
    omega
theorem cnt_all {n : Nat} {ad sz : Nat → Nat} {st : Nat → Option Nat} {h : zmap} (hr : rep n ad sz st h) (ho : hO h) (hd : ∀ i j, i < n → j < n → ad i = ad j → i = j) : kcnt h + lcnt h = n := by
  rw [kcnt_rep hr ho hd, lcnt_rep hr ho hd, sumN_add (k := fun _ => 1) (fun x _ => by cases st x <;> rfl), sumN_one]
def kb (b : Nat × Option Nat) : Nat := match b with
  | (q, some _) => q
  | _ => 0
def kb1 (b : Nat × Option Nat) : Nat := match b with
  | (_, some _) => 1
  | _ => 0
theorem ksum_st {h : zmap} {x : Nat} {b : Nat × Option Nat} (hx : x < 8192) : ksum (hst h x b) + ksz h x = ksum h + kb b := by
  have := sumN_upd (f := ksz h) (g := ksz (hst h x b)) (x := x) (N := 8192) hx (fun y _ hne => by simp [ksz, hst, hne])
  have e : ksz (hst h x b) x = kb b := by
    simp only [ksz, hst, if_true]
    obtain ⟨q, w⟩ := b
    cases w <;> rfl
  unfold ksum
  omega
theorem kcnt_st {h : zmap} {x : Nat} {b : Nat × Option Nat} (hx : x < 8192) : kcnt (hst h x b) + k1 h x = kcnt h + kb1 b := by
  have := sumN_upd (f := k1 h) (g := k1 (hst h x b)) (x := x) (N := 8192) hx (fun y _ hne => by simp [k1, hst, hne])
  have e : k1 (hst h x b) x = kb1 b := by
    simp only [k1, hst, if_true]
    obtain ⟨q, w⟩ := b
    cases w <;> rfl
  unfold kcnt
  omega
theorem ksum_rm {h : zmap} {x : Nat} (hx : x < 8192) : ksum (hrm h x) + ksz h x = ksum h := by
  have := sumN_upd (f := ksz h) (g := ksz (hrm h x)) (x := x) (N := 8192) hx (fun y _ hne => by simp [ksz, hrm, hne])
  have e : ksz (hrm h x) x = 0 := by simp [ksz, hrm]
  unfold ksum
  omega
theorem kcnt_rm {h : zmap} {x : Nat} (hx : x < 8192) : kcnt (hrm h x) + k1 h x = kcnt h := by
  have := sumN_upd (f := k1 h) (g := k1 (hrm h x)) (x := x) (N := 8192) hx (fun y _ hne => by simp [k1, hrm, hne])
  have e : k1 (hrm h x) x = 0 := by simp [k1, hrm]
  unfold kcnt
  omega
theorem kcnt_le (h : zmap) : kcnt h ≤ 8192 := by
  have := sumN_le (f := k1 h) (B := 1) (N := 8192) (fun x _ => by unfold k1; split <;> omega)
  unfold kcnt
  omega
end
section
/-! ZoneHeap: give -/
def zPic (M : zmem) (n : Nat) (ad sz : Nat → Nat) (st : Nat → Option Nat) (h : zmap) (g : Nat) : Prop := zR M n ad sz st ∧ zO n ad sz ∧ rep n ad sz st h ∧ hO h ∧ hW h g ∧ M 8 2 = nI g ∧ M 8 3 = nI (ksum h) ∧ M 8 4 = nI (kcnt h)
theorem zO.inj {n : Nat} {ad sz : Nat → Nat} (h : zO n ad sz) : ∀ i j, i < n → j < n → ad i = ad j → i = j := by
  intro i j hi hj he
  rcases Nat.lt_trichotomy i j with h1 | h1 | h1
  · have := h.lt j i h1 hj; omega
  · exact h1
  · have := h.lt i j h1 hi; omega
theorem rep_del {n b : Nat} {ad sz : Nat → Nat} {st : Nat → Option Nat} {h : zmap} (hr : rep n ad sz st h) (hd : ∀ i j, i < n → j < n → ad i = ad j → i = j) (hb : b < n) : rep (n - 1) (del ad b) (del sz b) (del st b) (hrm h (ad b)) := by
  constructor
  · intro i hi
    unfold del hrm
    by_cases h1 : i < b
    · simp only [if_pos h1]
      rw [if_neg (fun he => by have := hd i b (by omega) hb he; omega)]
      exact hr.1 i (by omega)
    · simp only [if_neg h1]
      rw [if_neg (fun he => by have := hd (i + 1) b (by omega) hb he; omega)]
      exact hr.1 (i + 1) (by omega)
  · intro x c hx
    unfold hrm at hx
    split at hx
    · cases hx
    · obtain ⟨i, hi, he⟩ := hr.2 x c hx
      have hne : i ≠ b := fun hh => by subst hh; exact absurd he.symm ‹_›
      by_cases h1 : i < b
      · exact ⟨i, by omega, by unfold del; rw [if_pos h1]; exact he⟩
      · refine ⟨i - 1, by omega, ?_⟩
        unfold del
        rw [if_neg (by omega), show i - 1 + 1 = i by omega]
        exact he
theorem rep_set {n k : Nat} {ad sz : Nat → Nat} {st : Nat → Option Nat} {h : zmap} (hr : rep n ad sz st h) (hd : ∀ i j, i < n → j < n → ad i = ad j → i = j) (hk : k < n) (v : Option Nat) : rep n ad sz (fun i => if i = k then v else st i) (hst h (ad k) (sz k, v)) := by
  constructor
  · intro i hi
    unfold hst
    by_cases he : i = k
    · subst he; simp
    · rw [if_neg (fun hh => he (hd i k hi hk hh))]
      simp only [if_neg he]
      exact hr.1 i hi
  · intro x b hx
    unfold hst at hx
    split at hx
    · exact ⟨k, hk, by rw [‹x = _›]⟩
    · exact hr.2 x b hx
theorem give_start {M : zmem} {n k g : Nat} {ad sz : Nat → Nat} {st : Nat → Option Nat} {h : zmap} (hp : zPic M n ad sz st h g) (hk : k < n) (hl : st k = none) :
    zPic (zu (zu (zu (zu (zu M 4 k 0) 8 2 (nI (g + 1))) 3 k (nI g)) 8 4 (nI (kcnt h + 1))) 8 3 (nI (ksum h + sz k))) n ad sz (fun i => if i = k then some g else st i) (hst h (ad k) (sz k, some g)) (g + 1) := by
  obtain ⟨hR, hOz, hrp, hOh, hWh, h2, h3, h4⟩ := hp
  have hx := hrp.1 k hk
  have hk1 : k1 h (ad k) = 0 := by simp [k1, hx, hl]
  have hks : ksz h (ad k) = 0 := by simp [ksz, hx, hl]
  have hlt := rep_lt hrp hOh hk
  refine ⟨⟨?_, hR.2.1, fun i hi => ?_⟩, hOz, rep_set hrp hOz.inj hk _, ⟨fun x b hb => ?_, fun x y b b' hb hb' hxy => ?_⟩, ⟨fun x q w hb => ?_, fun x y q q' w hb hb' => ?_⟩, ?_, ?_, ?_⟩
  · simp [zu, upd, hR.1]
  · have hc := hR.2.2 i hi
    by_cases he : i = k
    · subst he
      simp [zu, upd]
      exact ⟨hc.1, hc.2.1, hc.2.2.2.2.1, hc.2.2.2.2.2⟩
    · simpa [zu, upd, he] using hc
  · unfold hst at hb
    split at hb
    · cases hb; rw [‹x = _›]; have := hOh.1 _ _ hx; exact this
    · exact hOh.1 x b hb
  · have e1 : ∃ v, h x = some (b.1, v) := by
      unfold hst at hb
      split at hb
      · cases hb; rw [‹x = _›]; exact ⟨_, hx⟩
      · exact ⟨b.2, hb⟩
    have e2 : ∃ v, h y = some (b'.1, v) := by
      unfold hst at hb'
      split at hb'
      · cases hb'; rw [‹y = _›]; exact ⟨_, hx⟩
      · exact ⟨b'.2, hb'⟩
    obtain ⟨v, e1⟩ := e1
    obtain ⟨v', e2⟩ := e2
    have := hOh.2 x y _ _ e1 e2 hxy
    exact this
  · unfold hst at hb
    split at hb
    · cases hb; omega
    · have := hWh.1 x q w hb; omega
  · unfold hst at hb hb'
    split at hb
    · split at hb'
      · rw [‹x = _›, ‹y = _›]
      · cases hb; have := hWh.1 y q' _ hb'; omega
    · split at hb'
      · cases hb'; have := hWh.1 x q _ hb; omega
      · exact hWh.2 x y q q' w hb hb'
  · simp [zu, upd]
  · have := ksum_st (h := h) (x := ad k) (b := (sz k, some g)) hlt
    have e : kb (sz k, some g) = sz k := rfl
    show nI (ksum h + sz k) = nI (ksum (hst h (ad k) (sz k, some g)))
    exact congrArg nI (by omega)
  · have := kcnt_st (h := h) (x := ad k) (b := (sz k, some g)) hlt
    have e : kb1 (sz k, some g) = 1 := rfl
    show nI (kcnt h + 1) = nI (kcnt (hst h (ad k) (sz k, some g)))
    exact congrArg nI (by omega)
theorem give_some {M : zmem} {n g : Nat} {ad sz : Nat → Nat} {st : Nat → Option Nat} {h : zmap} (hp : zPic M n ad sz st h g) (hs : 512 < ksum h) (hno : ∀ i, i < n → st i = none) : False := by
  obtain ⟨hR, hOz, hrp, hOh, hWh, h2, h3, h4⟩ := hp
  have := ksum_rep hrp hOh hOz.inj
  rw [sumN_zero (fun i hi => by simp [hno i hi])] at this
  omega
theorem give_step {M M3 : zmem} {n b g w : Nat} {ad sz : Nat → Nat} {st : Nat → Option Nat} {h : zmap} (hp : zPic M n ad sz st h g) (hb : b < n) (hw : st b = some w) (hmin : ∀ i, i < n → ∀ w', st i = some w' → w ≤ w') (hR3 : zR M3 (n - 1) (del ad b) (del sz b) (del st b)) (hO3 : zO (n - 1) (del ad b) (del sz b)) (h2' : M3 8 2 = M 8 2) (h3' : M3 8 3 = nI (ksum h - sz b)) (h4' : M3 8 4 = nI (kcnt h - 1)) :
    zPic M3 (n - 1) (del ad b) (del sz b) (del st b) (hrm h (ad b)) g ∧ old h (ad b) ∧ sz b ≤ ksum h ∧ 1 ≤ kcnt h := by
  obtain ⟨hR, hOz, hrp, hOh, hWh, h2, h3, h4⟩ := hp
  have hx := hrp.1 b hb
  have hlt := rep_lt hrp hOh hb
  have e1 := ksum_rm (h := h) hlt
  have e2 := kcnt_rm (h := h) hlt
  have e3 : ksz h (ad b) = sz b := by simp [ksz, hx, hw]
  have e4 : k1 h (ad b) = 1 := by simp [k1, hx, hw]
  refine ⟨⟨hR3, hO3, rep_del hrp hOz.inj hb, hOh.rm, hWh.rm, h2'.trans h2, ?_, ?_⟩, ⟨sz b, w, by rw [hx, hw], fun y q' w' hy => ?_⟩, by omega, by omega⟩
  · rw [h3']; exact congrArg nI (by omega)
  · rw [h4']; exact congrArg nI (by omega)
  · obtain ⟨i, hi, rfl⟩ := hrp.2 y _ hy
    have e5 := hrp.1 i hi
    rw [hy] at e5
    exact hmin i hi w' (Prod.mk.inj (Option.some.inj e5)).2.symm
def ov : Option Nat → Int32
  | none => -1
  | some i => nI i
theorem give_step2 {M : zmem} {n b g w : Nat} {ad sz : Nat → Nat} {st : Nat → Option Nat} {h : zmap} (hp : zPic M n ad sz st h g) (hb : b < n) (hw : st b = some w) : sz b ≤ ksum h ∧ 0 < kcnt h := by
  obtain ⟨hR, hOz, hrp, hOh, hWh, h2, h3, h4⟩ := hp
  have hx := hrp.1 b hb
  have hlt := rep_lt hrp hOh hb
  have e1 := ksum_rm (h := h) hlt
  have e2 := kcnt_rm (h := h) hlt
  have e3 : ksz h (ad b) = sz b := by simp [ksz, hx, hw]
  have e4 : k1 h (ad b) = 1 := by simp [k1, hx, hw]
  omega
theorem give_zR {M : zmem} {n : Nat} {ad sz : Nat → Nat} {st : Nat → Option Nat} {v v' : Int32} (hR : zR M n ad sz st) : zR (zu (zu M 8 4 v) 8 3 v') n ad sz st := by
  refine ⟨?_, hR.2.1, fun i hi => ?_⟩
  · simpa [zu, upd] using hR.1
  · simpa [zu, upd] using hR.2.2 i hi
theorem c_give (l : Launch) (D : va_G) (cA : Nat → ClassId) (a : Nat → Nat) (M : zmem) (n : Nat) (ad sz : Nat → Nat) (st : Nat → Option Nat) (h : zmap) (g : Nat) (hpic0 : zPic M n ad sz st h g) (hg : g < 2 ^ 30) (hks : ksum h ≤ 512) (k : Nat) (hk : k < n) (hl : st k = none) : zMv l y_Z_give b_Z_give 4 (rmk 2) D zcl (ztys cA) (zw a cA) [.ref (a 0), .int (nI k)] M (fun M' => ∃ (n' : Nat) (ad' sz' : Nat → Nat) (st' : Nat → Option Nat) (h' : zmap), zPic M' n' ad' sz' st' h' (g + 1) ∧ evs (hst h (ad k) (sz k, some g)) h' ∧ zsm M M' ∧ M' 8 1 = M 8 1 ∧ M' 8 5 = M 8 5 ∧ M' 8 6 = M 8 6) := by
  refine zMv.of (own := "ZoneHeap") (by decide) rfl (Nat.le_of_ble_eq_true rfl) (by simp [Value.category]) ?_
  intro p e s m args below meth c A E hr hex
  have h255 := hpic0.1.2.1
  have hkc := kcnt_le h
  have hg2 := hpic0.2.2.2.2.2.1
  have hg3 := hpic0.2.2.2.2.2.2.1
  have hg4 := hpic0.2.2.2.2.2.2.2
  refine z_aload_n E 0 d_Z_give_0 rfl rfl ?_
  refine zz_get E 4 (by decide) fl_Z_23 rfl rfl d_Z_give_1 ?_
  refine z_iload_n E 1 d_Z_give_4 rfl rfl ?_
  refine z_iconst E (v := nI 0) d_Z_give_5 (by decide) ?_
  refine zz_zast E 4 rfl (v := 0) (by decide) (_) (rfl) (by omega) rfl d_Z_give_6 ?_
  refine z_aload_n E 0 d_Z_give_7 rfl rfl ?_
  refine zz_get E 3 (by decide) fl_Z_20 rfl rfl d_Z_give_8 ?_
  refine z_iload_n E 1 d_Z_give_11 rfl rfl ?_
  refine z_aload_n E 0 d_Z_give_12 rfl rfl ?_
  refine z_dup E d_Z_give_13 rfl ?_
  refine zz_get E 10 (by decide) fl_Z_84 rfl rfl d_Z_give_14 ?_
  refine z_top hg2 ?_
  refine z_dup_x1 E d_Z_give_17 rfl rfl ?_
  refine z_iconst E (v := nI 1) d_Z_give_18 (by decide) ?_
  refine z_iadd E d_Z_give_19 ?_
  refine z_top (nI_1 g) ?_
  refine zz_put E 2 (by decide) fl_Z_84 rfl rfl rfl rfl d_Z_give_20 ?_
  refine zz_iast E 3 rfl (_) (rfl) (by omega) rfl d_Z_give_23 ?_
  refine z_aload_n E 0 d_Z_give_24 rfl rfl ?_
  refine z_dup E d_Z_give_25 rfl ?_
  refine zz_get E 12 (by decide) fl_Z_87 rfl rfl d_Z_give_26 ?_
  refine z_top hg4 ?_
  refine z_iconst E (v := nI 1) d_Z_give_29 (by decide) ?_
  refine z_iadd E d_Z_give_30 ?_
  refine z_top (nI_1 _) ?_
  refine zz_put E 4 (by decide) fl_Z_87 rfl rfl rfl rfl d_Z_give_31 ?_
  refine z_aload_n E 0 d_Z_give_34 rfl rfl ?_
  refine z_dup E d_Z_give_35 rfl ?_
  refine zz_get E 11 (by decide) fl_Z_90 rfl rfl d_Z_give_36 ?_
  refine z_top hg3 ?_
  refine z_aload_n E 0 d_Z_give_39 rfl rfl ?_
  refine zz_get E 2 (by decide) fl_Z_17 rfl rfl d_Z_give_40 ?_
  refine z_iload_n E 1 d_Z_give_43 rfl rfl ?_
  refine zn_iald E 3 1 rfl rfl (_) (rfl) (by omega) (by decide) d_Z_give_44 ?_
  refine z_top (hpic0.1.2.2 k hk).2.1 ?_
  refine z_iadd E d_Z_give_45 ?_
  refine z_top (nI_add _ _) ?_
  refine zz_put E 3 (by decide) fl_Z_90 rfl rfl rfl rfl d_Z_give_46 ?_
  refine z_lp (ι := Nat × zmem) (fun y => y.1) (fun y => ∃ (ad' sz' : Nat → Nat) (st' : Nat → Option Nat) (h' : zmap) (kk : Nat), zPic y.2 y.1 ad' sz' st' h' (g + 1) ∧ chain (hst h (ad k) (sz k, some g)) kk h' ∧ ksum h' ≤ 2560 ∧ zsm M y.2 ∧ y.2 8 1 = M 8 1 ∧ y.2 8 5 = M 8 5 ∧ y.2 8 6 = M 8 6) (fun y => [some (.ref (a 0)), none, none, none]) (fun y => y.2) ?_ (n, zu (zu (zu (zu (zu M 4 k 0) 8 2 (nI (g + 1))) 3 k (nI g)) 8 4 (nI (kcnt h + 1))) 8 3 (nI (ksum h + sz k))) ⟨ad, sz, _, _, 0, give_start hpic0 hk hl, chain_0 _, ?_, ⟨rfl, rfl, rfl, rfl⟩, rfl, rfl, rfl⟩ (by repeat' first | exact trivial | refine ⟨rfl, ?_⟩)
  rotate_left
  · have := ksum_st (h := h) (x := ad k) (b := (sz k, some g)) (rep_lt hpic0.2.2.1 hpic0.2.2.2.1 hk)
    have e : kb (sz k, some g) = sz k := rfl
    have := (hpic0.1.2.2 k hk).2.2.2.2.2
    omega
  rintro ⟨n', M'⟩ ⟨ad', sz', st', h', kk, hpic, hch, hk2560, hsm, e1, e5, e6⟩ ih
  dsimp only at hpic hch hk2560 hsm e1 e5 e6 ih ⊢
  obtain ⟨hR, hOz, hrp, hOh, hWh, h2', h3', h4'⟩ := id hpic
  have hn := hR.1
  have hn255 := hR.2.1
  have hat := hR.2.2
  refine z_aload_n E 0 d_Z_give_49 rfl rfl ?_
  refine zz_get E 11 (by decide) fl_Z_90 rfl rfl d_Z_give_50 ?_
  refine z_top h3' ?_
  refine z_sipush E (v := nI 512) d_Z_give_53 (by decide) ?_
  refine z_icmp_le E 140 d_Z_give_56 (by decide) (fun h56 => ?_) (fun h56 => ?_)
  · have h56 := (nI_leI (by omega) (by omega)).mp h56
    refine z_vret E hr ?_ (by decide) (by decide) d_Z_give_140
    exact ⟨n', ad', sz', st', h', hpic, ⟨kk, hch, h56⟩, hsm, e1, e5, e6⟩
  · have hk512 : 512 < ksum h' := by have := mt (nI_leI (by omega) (by omega)).mpr h56; omega
    refine z_iconst E (v := (-1 : Int32)) d_Z_give_59 (by decide) ?_
    refine z_istore_n E 2 d_Z_give_60 rfl (by decide) ?_
    refine z_iconst E (v := nI 0) d_Z_give_61 (by decide) ?_
    refine z_istore_n E 3 d_Z_give_62 rfl (by decide) ?_
    refine z_lp (ι := Nat × Option Nat) (fun y => n' - y.1) (fun y => y.1 ≤ n' ∧ (y.2 = none → ∀ i, i < y.1 → st' i = none) ∧ ∀ b, y.2 = some b → b < y.1 ∧ ∃ w, st' b = some w ∧ ∀ i, i < y.1 → ∀ w', st' i = some w' → w ≤ w') (fun y => [some (.ref (a 0)), none, some (.int (ov y.2)), some (.int (nI y.1))]) (fun _ => M') ?_ (0, none) ⟨by dsimp only; omega, fun _ i hi => absurd hi (Nat.not_lt_zero i), fun b hb => by cases hb⟩ (by repeat' first | exact trivial | refine ⟨rfl, ?_⟩)
    rintro ⟨j, o⟩ ⟨i1, i2, i3⟩ ih2
    dsimp only at i1 i2 i3 ih2 ⊢
    cases o with
    | none =>
      dsimp only [ov]
      refine z_iload_n E 3 d_Z_give_63 rfl rfl ?_
      refine z_aload_n E 0 d_Z_give_64 rfl rfl ?_
      refine zz_get E 8 (by decide) fl_Z_55 rfl rfl d_Z_give_65 ?_
      refine z_top hn ?_
      refine z_icmp_ge E 107 d_Z_give_68 (by decide) (fun h68 => ?_) (fun h68 => ?_)
      · have h68 := (nI_leI (by omega) (by omega)).mp h68
        have : j = n' := by omega
        subst this
        exact (give_some hpic hk512 (fun i hi => i2 rfl i hi)).elim
      · have h68 : j < n' := by have := mt (nI_leI (by omega) (by omega)).mpr h68; omega
        have hj := hat j h68
        refine z_aload_n E 0 d_Z_give_71 rfl rfl ?_
        refine zz_get E 4 (by decide) fl_Z_23 rfl rfl d_Z_give_72 ?_
        refine z_iload_n E 3 d_Z_give_75 rfl rfl ?_
        refine zn_zald E 5 2 rfl rfl (_) (rfl) (by omega) (by decide) d_Z_give_76 ?_
        refine z_top hj.2.2.1 ?_
        refine z_if_ne E 101 d_Z_give_77 (by decide) (fun h77 => ?_) (fun h77 => ?_)
        · have hs : st' j = none := by
            cases hs : st' j with
            | none => rfl
            | some w => rw [hs] at h77; exact absurd rfl h77
          refine z_iinc E (v := nI (j + 1)) d_Z_give_101 rfl (nI_1 j) (by decide) ?_
          refine z_goto E 63 d_Z_give_104 (by decide) ?_
          refine ih2 (j + 1, none) _ ⟨by dsimp only; omega, fun _ i hi => ?_, fun b hb => by cases hb⟩ (by dsimp only; omega) (by repeat' first | exact trivial | refine ⟨rfl, ?_⟩)
          by_cases he : i = j
          · rw [he]; exact hs
          · exact i2 rfl i (by dsimp only at hi; omega)
        · obtain ⟨w, hs⟩ : ∃ w, st' j = some w := by
            cases hs : st' j with
            | none => rw [hs] at h77; exact absurd h77 (by decide)
            | some w => exact ⟨w, rfl⟩
          refine z_iload_n E 2 d_Z_give_80 rfl rfl ?_
          refine z_if_lt E 99 d_Z_give_81 (by decide) (fun h81 => ?_) (fun h81 => ?_)
          · refine z_iload_n E 3 d_Z_give_99 rfl rfl ?_
            refine z_istore_n E 2 d_Z_give_100 rfl (by decide) ?_
            refine z_iinc E (v := nI (j + 1)) d_Z_give_101 rfl (nI_1 j) (by decide) ?_
            refine z_goto E 63 d_Z_give_104 (by decide) ?_
            refine ih2 (j + 1, some j) _ ⟨by dsimp only; omega, (fun hh => by cases hh), fun b hb => ?_⟩ (by dsimp only; omega) (by repeat' first | exact trivial | refine ⟨rfl, ?_⟩)
            cases hb
            refine ⟨by dsimp only; omega, w, hs, fun i hi w' hw' => ?_⟩
            by_cases he : i = j
            · rw [he, hs] at hw'; cases hw'; omega
            · rw [i2 rfl i (by dsimp only at hi; omega)] at hw'; cases hw'
          · exact absurd (by decide) h81
    | some b =>
      obtain ⟨hbj, w0, hw0, hmin⟩ := i3 b rfl
      have hb1 : b < n' := by omega
      dsimp only [ov]
      refine z_iload_n E 3 d_Z_give_63 rfl rfl ?_
      refine z_aload_n E 0 d_Z_give_64 rfl rfl ?_
      refine zz_get E 8 (by decide) fl_Z_55 rfl rfl d_Z_give_65 ?_
      refine z_top hn ?_
      refine z_icmp_ge E 107 d_Z_give_68 (by decide) (fun h68 => ?_) (fun h68 => ?_)
      · have h68 := (nI_leI (by omega) (by omega)).mp h68
        have : j = n' := by omega
        subst this
        refine z_aload_n E 0 d_Z_give_107 rfl rfl ?_
        refine z_dup E d_Z_give_108 rfl ?_
        refine zz_get E 12 (by decide) fl_Z_87 rfl rfl d_Z_give_109 ?_
        refine z_top h4' ?_
        refine z_iconst E (v := nI 1) d_Z_give_112 (by decide) ?_
        refine z_isub E d_Z_give_113 ?_
        refine z_top (nI_sub1 (give_step2 hpic hb1 hw0).2) ?_
        refine zz_put E 4 (by decide) fl_Z_87 rfl rfl rfl rfl d_Z_give_114 ?_
        refine z_aload_n E 0 d_Z_give_117 rfl rfl ?_
        refine z_dup E d_Z_give_118 rfl ?_
        refine zz_get E 11 (by decide) fl_Z_90 rfl rfl d_Z_give_119 ?_
        refine z_top h3' ?_
        refine z_aload_n E 0 d_Z_give_122 rfl rfl ?_
        refine zz_get E 2 (by decide) fl_Z_17 rfl rfl d_Z_give_123 ?_
        refine z_iload_n E 2 d_Z_give_126 rfl rfl ?_
        refine zn_iald E 3 1 rfl rfl (_) (rfl) (by omega) (by decide) d_Z_give_127 ?_
        refine z_top (hat b hb1).2.1 ?_
        refine z_isub E d_Z_give_128 ?_
        refine z_top (pk_sub (give_step2 hpic hb1 hw0).1) ?_
        refine zz_put E 3 (by decide) fl_Z_90 rfl rfl rfl rfl d_Z_give_129 ?_
        refine z_aload_n E 0 d_Z_give_132 rfl rfl ?_
        refine z_iload_n E 2 d_Z_give_133 rfl rfl ?_
        refine zz_callv E [.int (nI b)] (c_gone l D cA a _ j ad' sz' st' (give_zR hR) hOz b hb1) kv_Z_93 rfl rfl (by decide) (Nat.le_of_ble_eq_true rfl) (by decide) d_Z_give_134 (fun M3 hp3 => ?_)
        obtain ⟨g1, g2, g3, g4⟩ := hp3
        refine z_goto E 49 d_Z_give_137 (by decide) ?_
        obtain ⟨p1, p2, -, -⟩ := give_step hpic hb1 hw0 hmin g1 g2 (g4 2 (by omega)) (g4 3 (by omega)) (g4 4 (by omega))
        refine ih (j - 1, M3) _ ⟨_, _, _, _, kk + 1, p1, chain_s hch hk512 p2, ?_, ⟨g3.1.trans hsm.1, g3.2.1.trans hsm.2.1, g3.2.2.1.trans hsm.2.2.1, g3.2.2.2.trans hsm.2.2.2⟩, (g4 1 (by omega)).trans e1, (g4 5 (by omega)).trans e5, (g4 6 (by omega)).trans e6⟩ (by dsimp only; omega) (by repeat' first | exact trivial | refine ⟨rfl, ?_⟩)
        have := ksum_rm (h := h') (x := ad' b) (rep_lt hpic.2.2.1 hpic.2.2.2.1 hb1)
        omega
      · have h68 : j < n' := by have := mt (nI_leI (by omega) (by omega)).mpr h68; omega
        have hj := hat j h68
        refine z_aload_n E 0 d_Z_give_71 rfl rfl ?_
        refine zz_get E 4 (by decide) fl_Z_23 rfl rfl d_Z_give_72 ?_
        refine z_iload_n E 3 d_Z_give_75 rfl rfl ?_
        refine zn_zald E 5 2 rfl rfl (_) (rfl) (by omega) (by decide) d_Z_give_76 ?_
        refine z_top hj.2.2.1 ?_
        refine z_if_ne E 101 d_Z_give_77 (by decide) (fun h77 => ?_) (fun h77 => ?_)
        · have hs : st' j = none := by
            cases hs : st' j with
            | none => rfl
            | some w => rw [hs] at h77; exact absurd rfl h77
          refine z_iinc E (v := nI (j + 1)) d_Z_give_101 rfl (nI_1 j) (by decide) ?_
          refine z_goto E 63 d_Z_give_104 (by decide) ?_
          refine ih2 (j + 1, some b) _ ⟨by dsimp only; omega, (fun hh => by cases hh), fun b' hb' => ?_⟩ (by dsimp only; omega) (by repeat' first | exact trivial | refine ⟨rfl, ?_⟩)
          cases hb'
          refine ⟨by dsimp only; omega, w0, hw0, fun i hi w' hw' => ?_⟩
          by_cases he : i = j
          · rw [he, hs] at hw'; cases hw'
          · exact hmin i (by dsimp only at hi; omega) w' hw'
        · obtain ⟨w, hs⟩ : ∃ w, st' j = some w := by
            cases hs : st' j with
            | none => rw [hs] at h77; exact absurd h77 (by decide)
            | some w => exact ⟨w, rfl⟩
          refine z_iload_n E 2 d_Z_give_80 rfl rfl ?_
          refine z_if_lt E 99 d_Z_give_81 (by decide) (fun h81 => ?_) (fun h81 => ?_)
          · exact absurd h81 (nI_pos (by omega))
          · have hwj : w < g + 1 := hpic.2.2.2.2.1.1 _ _ _ ((hpic.2.2.1.1 j h68).trans (by rw [hs]))
            have hwb : w0 < g + 1 := hpic.2.2.2.2.1.1 _ _ _ ((hpic.2.2.1.1 b (by omega)).trans (by rw [hw0]))
            refine z_aload_n E 0 d_Z_give_84 rfl rfl ?_
            refine zz_get E 3 (by decide) fl_Z_20 rfl rfl d_Z_give_85 ?_
            refine z_iload_n E 3 d_Z_give_88 rfl rfl ?_
            refine zn_iald E 4 1 rfl rfl (_) (rfl) (by omega) (by decide) d_Z_give_89 ?_
            refine z_top (hj.2.2.2.1 w hs) ?_
            refine z_aload_n E 0 d_Z_give_90 rfl rfl ?_
            refine zz_get E 3 (by decide) fl_Z_20 rfl rfl d_Z_give_91 ?_
            refine z_iload_n E 2 d_Z_give_94 rfl rfl ?_
            refine zn_iald E 4 1 rfl rfl (_) (rfl) (by omega) (by decide) d_Z_give_95 ?_
            refine z_top ((hat b (by omega)).2.2.2.1 w0 hw0) ?_
            refine z_icmp_ge E 101 d_Z_give_96 (by decide) (fun h96 => ?_) (fun h96 => ?_)
            · have h96 := (nI_leI (by omega) (by omega)).mp h96
              refine z_iinc E (v := nI (j + 1)) d_Z_give_101 rfl (nI_1 j) (by decide) ?_
              refine z_goto E 63 d_Z_give_104 (by decide) ?_
              refine ih2 (j + 1, some b) _ ⟨by dsimp only; omega, (fun hh => by cases hh), fun b' hb' => ?_⟩ (by dsimp only; omega) (by repeat' first | exact trivial | refine ⟨rfl, ?_⟩)
              cases hb'
              refine ⟨by dsimp only; omega, w0, hw0, fun i hi w' hw' => ?_⟩
              by_cases he : i = j
              · rw [he, hs] at hw'; cases hw'; omega
              · exact hmin i (by dsimp only at hi; omega) w' hw'
            · have h96 := mt (nI_leI (by omega) (by omega)).mpr h96
              refine z_iload_n E 3 d_Z_give_99 rfl rfl ?_
              refine z_istore_n E 2 d_Z_give_100 rfl (by decide) ?_
              refine z_iinc E (v := nI (j + 1)) d_Z_give_101 rfl (nI_1 j) (by decide) ?_
              refine z_goto E 63 d_Z_give_104 (by decide) ?_
              refine ih2 (j + 1, some j) _ ⟨by dsimp only; omega, (fun hh => by cases hh), fun b' hb' => ?_⟩ (by dsimp only; omega) (by repeat' first | exact trivial | refine ⟨rfl, ?_⟩)
              cases hb'
              refine ⟨by dsimp only; omega, w, hs, fun i hi w' hw' => ?_⟩
              by_cases he : i = j
              · rw [he, hs] at hw'; cases hw'; omega
              · have := hmin i (by dsimp only at hi; omega) w' hw'; omega
end
section
/-! ZoneHeap: legal, within, state; standing -/
theorem c_legal (l : Launch) (D : va_G) (cl : List vw_C) (tys : List (ClassId × FieldType)) {σ : Type} (w : σ → va_W) (M : σ) : zMv l y_Z_legal b_Z_legal 1 (rmk 0) D cl tys w [.int (nI 1)] M (fun M' => M' = M) := by
  refine zMv.of (own := "ZoneHeap") (by decide) rfl (Nat.le_of_ble_eq_true rfl) (by simp [Value.category]) ?_
  intro p e s m args below meth c A E hr hex
  refine z_iload_n E 0 d_Z_legal_0 rfl rfl ?_
  refine z_if_ne E 12 d_Z_legal_1 (by decide) (fun _ => ?_) (fun h => absurd h (by decide))
  exact z_vret E hr rfl (by decide) (by decide) d_Z_legal_12
theorem c_legal_t (l : Launch) (hfl : l.flags = flags0) (D : va_G) (cl : List vw_C) (tys : List (ClassId × FieldType)) {σ : Type} (w : σ → va_W) (M : σ) : zMt l y_Z_legal b_Z_legal 1 none (rmt 6) D cl tys w [.int (nI 0)] M "java/lang/IllegalArgumentException" := by
  refine zMt.of0 (own := "ZoneHeap") (by decide) rfl (Nat.le_of_ble_eq_true rfl) (by simp [Value.category]) ?_
  intro p e s m args below meth c A ls ha E hex hP hD hl
  refine lv_iload_n E.1 E.2.1 d_Z_legal_0 rfl (hl.2.2 0 _ rfl).1 ?_
  refine lv_if_ne (tgt := 12) E.1 E.2.1 d_Z_legal_1 (by decide) (fun h => absurd rfl h) (fun _ => ?_)
  exact zt_new E hex (Launch.traces_off hfl ha) th_iae (by decide) (by decide) (by decide) d_Z_legal_4 d_Z_legal_7 d_Z_legal_8 d_Z_legal_11 hP hD hl.1
theorem c_within (l : Launch) (D : va_G) (cl : List vw_C) (tys : List (ClassId × FieldType)) {σ : Type} (w : σ → va_W) (M : σ) : zMv l y_Z_within b_Z_within 1 (rmk 0) D cl tys w [.int (nI 1)] M (fun M' => M' = M) := by
  refine zMv.of (own := "ZoneHeap") (by decide) rfl (Nat.le_of_ble_eq_true rfl) (by simp [Value.category]) ?_
  intro p e s m args below meth c A E hr hex
  refine z_iload_n E 0 d_Z_within_0 rfl rfl ?_
  refine z_if_ne E 12 d_Z_within_1 (by decide) (fun _ => ?_) (fun h => absurd h (by decide))
  exact z_vret E hr rfl (by decide) (by decide) d_Z_within_12
theorem c_within_t (l : Launch) (hfl : l.flags = flags0) (D : va_G) (cl : List vw_C) (tys : List (ClassId × FieldType)) {σ : Type} (w : σ → va_W) (M : σ) : zMt l y_Z_within b_Z_within 1 none (rmt 6) D cl tys w [.int (nI 0)] M "java/lang/IndexOutOfBoundsException" := by
  refine zMt.of0 (own := "ZoneHeap") (by decide) rfl (Nat.le_of_ble_eq_true rfl) (by simp [Value.category]) ?_
  intro p e s m args below meth c A ls ha E hex hP hD hl
  refine lv_iload_n E.1 E.2.1 d_Z_within_0 rfl (hl.2.2 0 _ rfl).1 ?_
  refine lv_if_ne (tgt := 12) E.1 E.2.1 d_Z_within_1 (by decide) (fun h => absurd rfl h) (fun _ => ?_)
  exact zt_new E hex (Launch.traces_off hfl ha) th_ioo (by decide) (by decide) (by decide) d_Z_within_4 d_Z_within_7 d_Z_within_8 d_Z_within_11 hP hD hl.1
theorem c_state (l : Launch) (D : va_G) (cl : List vw_C) (tys : List (ClassId × FieldType)) {σ : Type} (w : σ → va_W) (M : σ) : zMv l y_Z_state b_Z_state 1 (rmk 0) D cl tys w [.int (nI 1)] M (fun M' => M' = M) := by
  refine zMv.of (own := "ZoneHeap") (by decide) rfl (Nat.le_of_ble_eq_true rfl) (by simp [Value.category]) ?_
  intro p e s m args below meth c A E hr hex
  refine z_iload_n E 0 d_Z_state_0 rfl rfl ?_
  refine z_if_ne E 12 d_Z_state_1 (by decide) (fun _ => ?_) (fun h => absurd h (by decide))
  exact z_vret E hr rfl (by decide) (by decide) d_Z_state_12
theorem c_state_t (l : Launch) (hfl : l.flags = flags0) (D : va_G) (cl : List vw_C) (tys : List (ClassId × FieldType)) {σ : Type} (w : σ → va_W) (M : σ) : zMt l y_Z_state b_Z_state 1 none (rmt 6) D cl tys w [.int (nI 0)] M "java/lang/IllegalStateException" := by
  refine zMt.of0 (own := "ZoneHeap") (by decide) rfl (Nat.le_of_ble_eq_true rfl) (by simp [Value.category]) ?_
  intro p e s m args below meth c A ls ha E hex hP hD hl
  refine lv_iload_n E.1 E.2.1 d_Z_state_0 rfl (hl.2.2 0 _ rfl).1 ?_
  refine lv_if_ne (tgt := 12) E.1 E.2.1 d_Z_state_1 (by decide) (fun h => absurd rfl h) (fun _ => ?_)
  exact zt_new E hex (Launch.traces_off hfl ha) th_ise (by decide) (by decide) (by decide) d_Z_state_4 d_Z_state_7 d_Z_state_8 d_Z_state_11 hP hD hl.1
theorem und_0 : nI 0 - nI 1 = (-1 : Int32) := by decide
/-- where 'under' comes to at a block's own address -/
theorem und_at {n k j : Nat} {ad sz : Nat → Nat} {x : Int32} (hO : zO n ad sz) (hk : k < n) (hx : x.toInt = (ad k : Int)) (hj : j ≤ n) (hlo : ∀ i, i < j → (ad i : Int) ≤ x.toInt) (hhi : ∀ i, j ≤ i → i < n → x.toInt < (ad i : Int)) : j = k + 1 := by
  have h1 : k < j := by
    rcases Nat.lt_or_ge k j with h | h
    · exact h
    · have := hhi k h hk; omega
  rcases Nat.lt_or_ge (k + 1) j with h | h
  · have h2 := hlo (k + 1) h
    have := hO.lt (k + 1) k (by omega) (by omega)
    omega
  · omega
theorem c_standing (l : Launch) (D : va_G) (cA : Nat → ClassId) (a : Nat → Nat) (M : zmem) (n : Nat) (ad sz : Nat → Nat) (st : Nat → Option Nat) (h : zmap) (g : Nat) (hp0 : zPic M n ad sz st h g) (k : Nat) (hk : k < n) (hl : st k = none) : zMi l y_Z_standing b_Z_standing 3 .int (rmk 1) D zcl (ztys cA) (zw a cA) [.ref (a 0), .int (nI (ad k))] M (fun r M' => M' = M ∧ r = nI k) := by
  refine zMi.of (own := "ZoneHeap") (by decide) rfl (Nat.le_of_ble_eq_true rfl) (by simp [Value.category]) ?_
  intro p e s m args below meth c A E hr hex
  have hc := hp0.1.2.2 k hk
  have h255 := hp0.1.2.1
  refine z_aload_n E 0 d_Z_standing_0 rfl rfl ?_
  refine z_iload_n E 1 d_Z_standing_1 rfl rfl ?_
  refine zz_calli E [.int (nI (ad k))] (c_under l D cA a M n ad sz st hp0.1 hp0.2.1 (nI (ad k))) kv_Z_78 rfl rfl (by decide) (Nat.le_of_ble_eq_true rfl) (by decide) d_Z_standing_2 (fun r M1 hp => ?_)
  obtain ⟨hM1, j, hj, rfl, hlo, hhi⟩ := hp
  subst M1
  have hjk := und_at hp0.2.1 hk (nI_toInt (by omega)) hj hlo hhi
  subst hjk
  refine z_top (nI_sub1 (by omega)) ?_
  simp only [Nat.add_sub_cancel]
  refine z_istore_n E 2 d_Z_standing_5 rfl (by decide) ?_
  refine z_iload_n E 2 d_Z_standing_6 rfl rfl ?_
  refine z_if_lt E 24 d_Z_standing_7 (by decide) (fun h7 => ?_) (fun h7 => ?_)
  · exact absurd h7 (nI_pos (by omega))
  · refine z_aload_n E 0 d_Z_standing_10 rfl rfl ?_
    refine zz_get E 1 (by decide) fl_Z_13 rfl rfl d_Z_standing_11 ?_
    refine z_iload_n E 2 d_Z_standing_14 rfl rfl ?_
    refine zn_iald E 2 1 rfl rfl (_) (rfl) (by omega) (by decide) d_Z_standing_15 ?_
    refine z_top hc.1 ?_
    refine z_iload_n E 1 d_Z_standing_16 rfl rfl ?_
    refine z_icmp_ne E 24 d_Z_standing_17 (by decide) (fun h17 => ?_) (fun h17 => ?_)
    · exact absurd rfl h17
    · refine z_iconst E (v := nI 1) d_Z_standing_20 (by decide) ?_
      refine z_goto E 25 d_Z_standing_21 (by decide) ?_
      refine zk_callsv E [.int (nI 1)] (c_legal l D _ _ _ _) ks_Z_72 rfl rfl (by decide) (Nat.le_of_ble_eq_true rfl) (by decide) d_Z_standing_25 (fun M1 hp => ?_)
      subst M1
      refine z_aload_n E 0 d_Z_standing_28 rfl rfl ?_
      refine zz_get E 4 (by decide) fl_Z_23 rfl rfl d_Z_standing_29 ?_
      refine z_iload_n E 2 d_Z_standing_32 rfl rfl ?_
      refine zn_zald E 5 2 rfl rfl (_) (rfl) (by omega) (by decide) d_Z_standing_33 ?_
      refine z_top (hc.2.2.1.trans (by rw [hl]; rfl) : M 4 k = nI 1) ?_
      refine zk_callsv E [.int (nI 1)] (c_state l D _ _ _ _) ks_Z_81 rfl rfl (by decide) (Nat.le_of_ble_eq_true rfl) (by decide) d_Z_standing_34 (fun M1 hp => ?_)
      subst M1
      refine z_iload_n E 2 d_Z_standing_37 rfl rfl ?_
      refine z_iret E hr ?_ (by decide) (by decide) d_Z_standing_38
      exact ⟨rfl, rfl⟩
theorem c_standing_s (l : Launch) (D : va_G) (cA : Nat → ClassId) (a : Nat → Nat) (M : zmem) (hfl : l.flags = flags0) (n : Nat) (ad sz : Nat → Nat) (st : Nat → Option Nat) (h : zmap) (g : Nat) (hp0 : zPic M n ad sz st h g) (k : Nat) (hk : k < n) (hl : (st k).isSome = true) : zMt l y_Z_standing b_Z_standing 3 (some .int) (rmt 7) D zcl (ztys cA) (zw a cA) [.ref (a 0), .int (nI (ad k))] M "java/lang/IllegalStateException" := by
  refine zMt.of (own := "ZoneHeap") (by decide) rfl (Nat.le_of_ble_eq_true rfl) (by simp [Value.category]) ?_
  intro p e s m args below meth c A hadm E hex
  have hc := hp0.1.2.2 k hk
  have h255 := hp0.1.2.1
  refine z_aload_n E 0 d_Z_standing_0 rfl rfl ?_
  refine z_iload_n E 1 d_Z_standing_1 rfl rfl ?_
  refine zz_calli E [.int (nI (ad k))] (c_under l D cA a M n ad sz st hp0.1 hp0.2.1 (nI (ad k))) kv_Z_78 rfl rfl (by decide) (Nat.le_of_ble_eq_true rfl) (by decide) d_Z_standing_2 (fun r M1 hp => ?_)
  obtain ⟨hM1, j, hj, rfl, hlo, hhi⟩ := hp
  subst M1
  have hjk := und_at hp0.2.1 hk (nI_toInt (by omega)) hj hlo hhi
  subst hjk
  refine z_top (nI_sub1 (by omega)) ?_
  simp only [Nat.add_sub_cancel]
  refine z_istore_n E 2 d_Z_standing_5 rfl (by decide) ?_
  refine z_iload_n E 2 d_Z_standing_6 rfl rfl ?_
  refine z_if_lt E 24 d_Z_standing_7 (by decide) (fun h7 => ?_) (fun h7 => ?_)
  · exact absurd h7 (nI_pos (by omega))
  · refine z_aload_n E 0 d_Z_standing_10 rfl rfl ?_
    refine zz_get E 1 (by decide) fl_Z_13 rfl rfl d_Z_standing_11 ?_
    refine z_iload_n E 2 d_Z_standing_14 rfl rfl ?_
    refine zn_iald E 2 1 rfl rfl (_) (rfl) (by omega) (by decide) d_Z_standing_15 ?_
    refine z_top hc.1 ?_
    refine z_iload_n E 1 d_Z_standing_16 rfl rfl ?_
    refine z_icmp_ne E 24 d_Z_standing_17 (by decide) (fun h17 => ?_) (fun h17 => ?_)
    · exact absurd rfl h17
    · refine z_iconst E (v := nI 1) d_Z_standing_20 (by decide) ?_
      refine z_goto E 25 d_Z_standing_21 (by decide) ?_
      refine zk_callsv E [.int (nI 1)] (c_legal l D _ _ _ _) ks_Z_72 rfl rfl (by decide) (Nat.le_of_ble_eq_true rfl) (by decide) d_Z_standing_25 (fun M1 hp => ?_)
      subst M1
      refine z_aload_n E 0 d_Z_standing_28 rfl rfl ?_
      refine zz_get E 4 (by decide) fl_Z_23 rfl rfl d_Z_standing_29 ?_
      refine z_iload_n E 2 d_Z_standing_32 rfl rfl ?_
      refine zn_zald E 5 2 rfl rfl (_) (rfl) (by omega) (by decide) d_Z_standing_33 ?_
      refine z_top (hc.2.2.1.trans (by rw [hl]; rfl) : M 4 k = nI 0) ?_
      exact zt_calls E hex (As := [.int (nI 0)]) (c_state_t l hfl D _ _ _ _) ks_Z_81 rfl rfl (by decide) (Nat.le_of_ble_eq_true rfl) (by decide) (by decide) d_Z_standing_34
theorem c_standing_a (l : Launch) (D : va_G) (cA : Nat → ClassId) (a : Nat → Nat) (M : zmem) (hfl : l.flags = flags0) (n : Nat) (ad sz : Nat → Nat) (st : Nat → Option Nat) (h : zmap) (g : Nat) (hp0 : zPic M n ad sz st h g) (x : Int32) (hx : ∀ k, k < n → x ≠ nI (ad k)) : zMt l y_Z_standing b_Z_standing 3 (some .int) (rmt 7) D zcl (ztys cA) (zw a cA) [.ref (a 0), .int x] M "java/lang/IllegalArgumentException" := by
  refine zMt.of (own := "ZoneHeap") (by decide) rfl (Nat.le_of_ble_eq_true rfl) (by simp [Value.category]) ?_
  intro p e s m args below meth c A hadm E hex
  have h255 := hp0.1.2.1
  refine z_aload_n E 0 d_Z_standing_0 rfl rfl ?_
  refine z_iload_n E 1 d_Z_standing_1 rfl rfl ?_
  refine zz_calli E [.int x] (c_under l D cA a M n ad sz st hp0.1 hp0.2.1 x) kv_Z_78 rfl rfl (by decide) (Nat.le_of_ble_eq_true rfl) (by decide) d_Z_standing_2 (fun r M1 hp => ?_)
  obtain ⟨hM1, j, hj, rfl, hlo, hhi⟩ := hp
  subst M1
  rcases Nat.eq_zero_or_pos j with h0 | h0
  · subst h0
    refine z_top und_0 ?_
    refine z_istore_n E 2 d_Z_standing_5 rfl (by decide) ?_
    refine z_iload_n E 2 d_Z_standing_6 rfl rfl ?_
    refine z_if_lt E 24 d_Z_standing_7 (by decide) (fun h7 => ?_) (fun h7 => ?_)
    · refine z_iconst E (v := nI 0) d_Z_standing_24 (by decide) ?_
      exact zt_calls E hex (As := [.int (nI 0)]) (c_legal_t l hfl D _ _ _ _) ks_Z_72 rfl rfl (by decide) (Nat.le_of_ble_eq_true rfl) (by decide) (by decide) d_Z_standing_25
    · exact absurd (by decide) h7
  · have hc := hp0.1.2.2 (j - 1) (by omega)
    refine z_top (nI_sub1 h0) ?_
    refine z_istore_n E 2 d_Z_standing_5 rfl (by decide) ?_
    refine z_iload_n E 2 d_Z_standing_6 rfl rfl ?_
    refine z_if_lt E 24 d_Z_standing_7 (by decide) (fun h7 => ?_) (fun h7 => ?_)
    · exact absurd h7 (nI_pos (by omega))
    · refine z_aload_n E 0 d_Z_standing_10 rfl rfl ?_
      refine zz_get E 1 (by decide) fl_Z_13 rfl rfl d_Z_standing_11 ?_
      refine z_iload_n E 2 d_Z_standing_14 rfl rfl ?_
      refine zn_iald E 2 1 rfl rfl (_) (rfl) (by omega) (by decide) d_Z_standing_15 ?_
      refine z_top hc.1 ?_
      refine z_iload_n E 1 d_Z_standing_16 rfl rfl ?_
      refine z_icmp_ne E 24 d_Z_standing_17 (by decide) (fun h17 => ?_) (fun h17 => ?_)
      · refine z_iconst E (v := nI 0) d_Z_standing_24 (by decide) ?_
        exact zt_calls E hex (As := [.int (nI 0)]) (c_legal_t l hfl D _ _ _ _) ks_Z_72 rfl rfl (by decide) (Nat.le_of_ble_eq_true rfl) (by decide) (by decide) d_Z_standing_25
      · exact absurd h17.symm (hx (j - 1) (by omega))
end
section
/-! ZoneHeap: get, back; the first fit by the map -/
def hfit (h : zmap) (q x : Nat) : Prop := x % 16 = 0 ∧ 16 ≤ x ∧ x + tk q + 16 ≤ 8192 ∧ ∀ y b, h y = some b → y + tk b.1 + 16 ≤ x ∨ x + tk q + 16 ≤ y
def hff (h : zmap) (q x : Nat) : Prop := hfit h q x ∧ ∀ y, y < x → ¬ hfit h q y
theorem hff_one {h : zmap} {q x y : Nat} (hx : hff h q x) (hy : hff h q y) : x = y := by
  rcases Nat.lt_trichotomy x y with h1 | h1 | h1
  · exact absurd hx.1 (hy.2 x h1)
  · exact h1
  · exact absurd hy.1 (hx.2 y h1)
theorem hff_not {h : zmap} {q x : Nat} (hx : hff h q x) (hn : ∀ y, ¬ hfit h q y) : False := hn x hx.1
theorem hff_free {h : zmap} {q x : Nat} (hx : hfit h q x) : h x = none := by
  cases hb : h x with
  | none => rfl
  | some b =>
    have := hx.2.2.2 x b hb
    have := tk_lo b.1
    have := tk_lo q
    omega
theorem hO_of {M : zmem} {n : Nat} {ad sz : Nat → Nat} {st : Nat → Option Nat} {h : zmap} (hR : zR M n ad sz st) (hz : zO n ad sz) (hr : rep n ad sz st h) : hO h := by
  constructor
  · intro x b hx
    obtain ⟨i, hi, rfl⟩ := hr.2 x b hx
    have e := hr.1 i hi
    rw [hx] at e
    cases e
    have h1 := hz.1 i hi
    exact ⟨h1.1, h1.2.1, h1.2.2, (hR.2.2 i hi).2.2.2.2.2⟩
  · intro x y b b' hx hy hxy
    obtain ⟨i, hi, rfl⟩ := hr.2 x b hx
    obtain ⟨j, hj, rfl⟩ := hr.2 y b' hy
    have e := hr.1 i hi
    rw [hx] at e
    cases e
    have : i < j := by
      rcases Nat.lt_trichotomy i j with h1 | h1 | h1
      · exact h1
      · subst h1; omega
      · have := hz.lt i j h1 hi; omega
    exact hz.lt j i this hj
/-- a place by the map lies in a gap by the rows -/
theorem fit_gap {n q y : Nat} {ad sz : Nat → Nat} {st : Nat → Option Nat} {h : zmap} (hz : zO n ad sz) (hr : rep n ad sz st h) (hy : hfit h q y) : ∃ j, j ≤ n ∧ fitg n ad sz q j ∧ frm ad sz j + 16 ≤ y := by
  obtain ⟨y1, y2, y3, y4⟩ := hy
  have key : ∀ m, m ≤ n → (∀ i, i < m → ad i + tk (sz i) + 16 ≤ y) ∨ ∃ j, j < m ∧ (∀ i, i < j → ad i + tk (sz i) + 16 ≤ y) ∧ y + tk q + 16 ≤ ad j := by
    intro m
    induction m with
    | zero => intro _; exact Or.inl (fun i hi => absurd hi (Nat.not_lt_zero i))
    | succ m ih =>
      intro hm
      rcases ih (by omega) with h1 | ⟨j, h1, h2, h3⟩
      · rcases y4 (ad m) _ (hr.1 m (by omega)) with h5 | h5
        · refine Or.inl (fun i hi => ?_)
          by_cases he : i = m
          · subst he; exact h5
          · exact h1 i (by omega)
        · exact Or.inr ⟨m, by omega, h1, h5⟩
      · exact Or.inr ⟨j, by omega, h2, h3⟩
  have fr : ∀ j, (∀ i, i < j → ad i + tk (sz i) + 16 ≤ y) → frm ad sz j + 16 ≤ y := by
    intro j hj
    unfold frm
    split
    · omega
    · have := hj (j - 1) (by omega); omega
  rcases key n (Nat.le_refl _) with h1 | ⟨j, h1, h2, h3⟩
  · refine ⟨n, Nat.le_refl _, ?_, fr n h1⟩
    have := fr n h1
    unfold fitg tof
    rw [if_neg (Nat.lt_irrefl n)]
    omega
  · refine ⟨j, by omega, ?_, fr j h2⟩
    have := fr j h2
    unfold fitg tof
    rw [if_pos h1]
    omega
theorem gap_none {n q : Nat} {ad sz : Nat → Nat} {st : Nat → Option Nat} {h : zmap} (hz : zO n ad sz) (hr : rep n ad sz st h) (hno : ∀ i, i ≤ n → ¬ fitg n ad sz q i) : ∀ y, ¬ hfit h q y := by
  intro y hy
  obtain ⟨j, h1, h2, -⟩ := fit_gap hz hr hy
  exact hno j h1 h2
theorem frm_mono {n i j : Nat} {ad sz : Nat → Nat} (hz : zO n ad sz) (hij : i ≤ j) (hj : j ≤ n) : frm ad sz i ≤ frm ad sz j := by
  unfold frm
  by_cases h0 : i = 0
  · rw [if_pos h0]; omega
  · rw [if_neg h0, if_neg (by omega)]
    by_cases he : i = j
    · subst he; omega
    · have := hz.lt (j - 1) (i - 1) (by omega) (by omega)
      omega
theorem gap_some {n q k : Nat} {ad sz : Nat → Nat} {st : Nat → Option Nat} {h : zmap} (hz : zO n ad sz) (hr : rep n ad sz st h) (hk : k ≤ n) (hf : fitg n ad sz q k) (hmin : ∀ i, i < k → ¬ fitg n ad sz q i) : hff h q (frm ad sz k + 16) := by
  have hb := frm_to hz hk
  have ho := made_ord hz hk hf
  have hk0 := (ho.1 k (by omega))
  unfold ins at hk0
  simp only [Nat.lt_irrefl, if_false, if_true] at hk0
  constructor
  · refine ⟨hk0.2.1, hk0.1, hk0.2.2, fun y b hy => ?_⟩
    obtain ⟨i, hi, rfl⟩ := hr.2 y b hy
    have e := hr.1 i hi
    rw [hy] at e
    cases e
    by_cases hik : i < k
    · left
      have : ad i + tk (sz i) ≤ frm ad sz k := by
        have e1 : frm ad sz (i + 1) = ad i + tk (sz i) := if_neg (by omega)
        have := frm_mono hz (show i + 1 ≤ k by omega) hk
        omega
      show ad i + tk (sz i) + 16 ≤ _
      omega
    · right
      unfold fitg tof at hf
      rw [if_pos (show k < n by omega)] at hf
      by_cases he : i = k
      · subst he; omega
      · have := hz.lt i k (by omega) hi
        omega
  · intro y hy hfy
    obtain ⟨j, h1, h2, h3⟩ := fit_gap hz hr hfy
    rcases Nat.lt_or_ge j k with h4 | h4
    · exact hmin j h4 h2
    · have := frm_mono hz h4 h1; omega
theorem rep_ins {n k x q : Nat} {ad sz : Nat → Nat} {st : Nat → Option Nat} {h : zmap} (hr : rep n ad sz st h) (hk : k ≤ n) (hx : h x = none) (v : Option Nat) : rep (n + 1) (ins ad k x) (ins sz k q) (ins st k v) (hst h x (q, v)) := by
  have hne : ∀ i, i < n → ad i ≠ x := fun i hi he => by have := hr.1 i hi; rw [he, hx] at this; cases this
  constructor
  · intro i hi
    unfold ins hst
    by_cases h1 : i < k
    · simp only [if_pos h1]
      rw [if_neg (hne i (by omega))]
      exact hr.1 i (by omega)
    · by_cases h2 : i = k
      · subst h2; simp
      · simp only [if_neg h1, if_neg h2]
        rw [if_neg (hne (i - 1) (by omega))]
        exact hr.1 (i - 1) (by omega)
  · intro y b hy
    unfold hst at hy
    split at hy
    · exact ⟨k, by omega, by unfold ins; rw [if_neg (Nat.lt_irrefl k), if_pos rfl, ‹y = _›]⟩
    · obtain ⟨i, hi, he⟩ := hr.2 y b hy
      by_cases h1 : i < k
      · exact ⟨i, by omega, by unfold ins; rw [if_pos h1]; exact he⟩
      · exact ⟨i + 1, by omega, by unfold ins; rw [if_neg (by omega), if_neg (by omega), Nat.add_sub_cancel]; exact he⟩
theorem hW_new {h : zmap} {g x q : Nat} (hw : hW h g) : hW (hst h x (q, none)) g := by
  constructor
  · intro y q' w hy
    unfold hst at hy
    split at hy
    · cases hy
    · exact hw.1 y q' w hy
  · intro y z q1 q2 w hy hz
    unfold hst at hy hz
    split at hy
    · cases hy
    · split at hz
      · cases hz
      · exact hw.2 y z q1 q2 w hy hz
theorem ks_new {h : zmap} {x q : Nat} (hx : x < 8192) (hf : h x = none) : ksum (hst h x (q, none)) = ksum h ∧ kcnt (hst h x (q, none)) = kcnt h := by
  have h1 := ksum_st (h := h) (x := x) (b := (q, none)) hx
  have h2 := kcnt_st (h := h) (x := x) (b := (q, none)) hx
  have e1 : kb (q, none) = 0 := rfl
  have e2 : kb1 (q, none) = 0 := rfl
  have e3 : ksz h x = 0 := by simp [ksz, hf]
  have e4 : k1 h x = 0 := by simp [k1, hf]
  omega
/-- behind 'made': the picture with the new block -/
theorem made_zPic {M M' : zmem} {n k q g : Nat} {ad sz : Nat → Nat} {st : Nat → Option Nat} {h : zmap} (hp : zPic M n ad sz st h g) (hk : k ≤ n) (hf : fitg n ad sz q k) (hmin : ∀ i, i < k → ¬ fitg n ad sz q i) (hR' : zR M' (n + 1) (ins ad k (frm ad sz k + 16)) (ins sz k q) (ins st k none)) (hO' : zO (n + 1) (ins ad k (frm ad sz k + 16)) (ins sz k q)) (h8 : ∀ j, 2 ≤ j → M' 8 j = M 8 j) :
    zPic M' (n + 1) (ins ad k (frm ad sz k + 16)) (ins sz k q) (ins st k none) (hst h (frm ad sz k + 16) (q, none)) g ∧ hff h q (frm ad sz k + 16) := by
  obtain ⟨hR, hOz, hrp, hOh, hWh, h2, h3, h4⟩ := hp
  have hff' := gap_some hOz hrp hk hf hmin
  have hfree := hff_free hff'.1
  have hlt : frm ad sz k + 16 < 8192 := by have := hff'.1.2.2.1; omega
  have hrep := rep_ins (q := q) hrp hk hfree none
  obtain ⟨e1, e2⟩ := ks_new (q := q) hlt hfree
  exact ⟨⟨hR', hO', hrep, hO_of hR' hO' hrep, hW_new hWh, (h8 2 (by omega)).trans h2, by rw [h8 3 (by omega), h3, e1], by rw [h8 4 (by omega), h4, e2]⟩, hff'⟩
def zInv (M : zmem) (h : zmap) (g : Nat) : Prop := ∃ (n : Nat) (ad sz : Nat → Nat) (st : Nat → Option Nat), zPic M n ad sz st h g
theorem c_get (l : Launch) (D : va_G) (cA : Nat → ClassId) (a : Nat → Nat) (M : zmem) (h : zmap) (g : Nat) (hi : zInv M h g) (q : Nat) (hq : q ≤ 2048) : zMi l y_Z_get b_Z_get 3 .int (rmk 5) D zcl (ztys cA) (zw a cA) [.ref (a 0), .int (nI q)] M (fun r M' => (r = 0 ∧ M' = M ∧ ∀ x, ¬ hfit h q x) ∨ ∃ x, x < 8192 ∧ r = nI x ∧ hff h q x ∧ zInv M' (hst h x (q, none)) g ∧ M' 8 1 = M 8 1 + 1 ∧ zsm M M' ∧ M' 8 5 = M 8 5 ∧ M' 8 6 = M 8 6) := by
  refine zMi.of (own := "ZoneHeap") (by decide) rfl (Nat.le_of_ble_eq_true rfl) (by simp [Value.category]) ?_
  intro p e s m args below meth c A E hr hex
  obtain ⟨n, ad, sz, st, hp0⟩ := hi
  refine z_iload_n E 1 d_Z_get_0 rfl rfl ?_
  refine z_if_lt E 15 d_Z_get_1 (by decide) (fun h1 => ?_) (fun h1 => ?_)
  · exact absurd h1 (nI_pos (by omega))
  · refine z_iload_n E 1 d_Z_get_4 rfl rfl ?_
    refine z_sipush E (v := nI 2048) d_Z_get_5 (by decide) ?_
    refine z_icmp_gt E 15 d_Z_get_8 (by decide) (fun h8 => ?_) (fun h8 => ?_)
    · exact absurd ((nI_ltI (by omega) (by omega)).mp h8) (by omega)
    · refine z_iconst E (v := nI 1) d_Z_get_11 (by decide) ?_
      refine z_goto E 16 d_Z_get_12 (by decide) ?_
      refine zk_callsv E [.int (nI 1)] (c_legal l D _ _ _ _) ks_Z_72 rfl rfl (by decide) (Nat.le_of_ble_eq_true rfl) (by decide) d_Z_get_16 (fun M1 hp => ?_)
      subst M1
      refine z_aload_n E 0 d_Z_get_19 rfl rfl ?_
      refine z_iload_n E 1 d_Z_get_20 rfl rfl ?_
      refine zz_calli E [.int (nI q)] (c_made l D cA a M n ad sz st hp0.1 hp0.2.1 q hq) kv_Z_76 rfl rfl (by decide) (Nat.le_of_ble_eq_true rfl) (by decide) d_Z_get_21 (fun r M1 hp => ?_)
      rcases hp with ⟨rfl, hM1, hno⟩ | ⟨k, hk, rfl, hf, hmin, hR', hO', hsm, h81, h8⟩
      · subst M1
        refine z_istore_n E 2 d_Z_get_24 rfl (by decide) ?_
        refine z_iload_n E 2 d_Z_get_25 rfl rfl ?_
        refine z_if_ge E 33 d_Z_get_26 (by decide) (fun h26 => ?_) (fun h26 => ?_)
        · exact absurd h26 (by decide)
        · refine z_iconst E (v := nI 0) d_Z_get_29 (by decide) ?_
          refine z_goto E 39 d_Z_get_30 (by decide) ?_
          refine z_iret E hr ?_ (by decide) (by decide) d_Z_get_39
          exact Or.inl ⟨rfl, rfl, gap_none hp0.2.1 hp0.2.2.1 hno⟩
      · obtain ⟨hz, hfx⟩ := made_zPic hp0 hk hf hmin hR' hO' h8
        have hk255 := hR'.2.1
        refine z_istore_n E 2 d_Z_get_24 rfl (by decide) ?_
        refine z_iload_n E 2 d_Z_get_25 rfl rfl ?_
        refine z_if_ge E 33 d_Z_get_26 (by decide) (fun h26 => ?_) (fun h26 => ?_)
        · refine z_aload_n E 0 d_Z_get_33 rfl rfl ?_
          refine zz_get E 1 (by decide) fl_Z_13 rfl rfl d_Z_get_34 ?_
          refine z_iload_n E 2 d_Z_get_37 rfl rfl ?_
          refine zn_iald E 2 1 rfl rfl (_) (rfl) (by omega) (by decide) d_Z_get_38 ?_
          refine z_top ((hR'.2.2 k (by omega)).1.trans (by unfold ins; rw [if_neg (Nat.lt_irrefl k), if_pos rfl])) ?_
          refine z_iret E hr ?_ (by decide) (by decide) d_Z_get_39
          exact Or.inr ⟨_, by have := hfx.1.2.2.1; omega, rfl, hfx, ⟨_, _, _, _, hz⟩, h81, hsm, h8 5 (by omega), h8 6 (by omega)⟩
        · exact absurd (nI_pos' (by omega)) h26
theorem c_get_t (l : Launch) (D : va_G) (cA : Nat → ClassId) (a : Nat → Nat) (M : zmem) (hfl : l.flags = flags0) (x : Int32) (hx : x.toInt < 0 ∨ 2048 < x.toInt) : zMt l y_Z_get b_Z_get 3 (some .int) (rmt 7) D zcl (ztys cA) (zw a cA) [.ref (a 0), .int x] M "java/lang/IllegalArgumentException" := by
  refine zMt.of (own := "ZoneHeap") (by decide) rfl (Nat.le_of_ble_eq_true rfl) (by simp [Value.category]) ?_
  intro p e s m args below meth c A hadm E hex
  refine z_iload_n E 1 d_Z_get_0 rfl rfl ?_
  refine z_if_lt E 15 d_Z_get_1 (by decide) (fun h1 => ?_) (fun h1 => ?_)
  · refine z_iconst E (v := nI 0) d_Z_get_15 (by decide) ?_
    exact zt_calls E hex (As := [.int (nI 0)]) (c_legal_t l hfl D _ _ _ _) ks_Z_72 rfl rfl (by decide) (Nat.le_of_ble_eq_true rfl) (by decide) (by decide) d_Z_get_16
  · refine z_iload_n E 1 d_Z_get_4 rfl rfl ?_
    refine z_sipush E (v := nI 2048) d_Z_get_5 (by decide) ?_
    refine z_icmp_gt E 15 d_Z_get_8 (by decide) (fun h8 => ?_) (fun h8 => ?_)
    · refine z_iconst E (v := nI 0) d_Z_get_15 (by decide) ?_
      exact zt_calls E hex (As := [.int (nI 0)]) (c_legal_t l hfl D _ _ _ _) ks_Z_72 rfl rfl (by decide) (Nat.le_of_ble_eq_true rfl) (by decide) (by decide) d_Z_get_16
    · rw [lt_i (by omega)] at h8
      rw [Int32.lt_iff_toInt_lt] at h1
      rcases hx with h | h
      · exact absurd h h1
      · exact absurd h h8
theorem c_back (l : Launch) (D : va_G) (cA : Nat → ClassId) (a : Nat → Nat) (M : zmem) (h : zmap) (g : Nat) (hi : zInv M h g) (hg : g < 2 ^ 30) (hks : ksum h ≤ 512) (x q : Nat) (hx : h x = some (q, none)) : zMi l y_Z_back b_Z_back 4 .int (rmk 3) D zcl (ztys cA) (zw a cA) [.ref (a 0), .int (nI x)] M (fun r M' => r = nI q ∧ ∃ h', evs (hst h x (q, some g)) h' ∧ zInv M' h' (g + 1) ∧ M' 8 1 = M 8 1 ∧ zsm M M' ∧ M' 8 5 = M 8 5 ∧ M' 8 6 = M 8 6) := by
  refine zMi.of (own := "ZoneHeap") (by decide) rfl (Nat.le_of_ble_eq_true rfl) (by simp [Value.category]) ?_
  intro p e s m args below meth c A E hr hex
  obtain ⟨n, ad, sz, st, hp0⟩ := hi
  obtain ⟨k, hk, rfl⟩ := hp0.2.2.1.2 x _ hx
  have hxk := hp0.2.2.1.1 k hk
  rw [hx] at hxk
  have hqs : q = sz k := (Prod.mk.inj (Option.some.inj hxk)).1
  have hst : st k = none := (Prod.mk.inj (Option.some.inj hxk)).2.symm
  have h255 := hp0.1.2.1
  subst hqs
  refine z_aload_n E 0 d_Z_back_0 rfl rfl ?_
  refine z_iload_n E 1 d_Z_back_1 rfl rfl ?_
  refine zz_calli E [.int (nI (ad k))] (c_standing l D cA a M n ad sz st h g hp0 k hk hst) kv_Z_97 rfl rfl (by decide) (Nat.le_of_ble_eq_true rfl) (by decide) d_Z_back_2 (fun r M1 hp => ?_)
  obtain ⟨hM1, rfl⟩ := hp
  subst M1
  refine z_istore_n E 2 d_Z_back_5 rfl (by decide) ?_
  refine z_aload_n E 0 d_Z_back_6 rfl rfl ?_
  refine zz_get E 2 (by decide) fl_Z_17 rfl rfl d_Z_back_7 ?_
  refine z_iload_n E 2 d_Z_back_10 rfl rfl ?_
  refine zn_iald E 3 1 rfl rfl (_) (rfl) (by omega) (by decide) d_Z_back_11 ?_
  refine z_top (hp0.1.2.2 k hk).2.1 ?_
  refine z_istore_n E 3 d_Z_back_12 rfl (by decide) ?_
  refine z_aload_n E 0 d_Z_back_13 rfl rfl ?_
  refine z_iload_n E 2 d_Z_back_14 rfl rfl ?_
  refine zz_callv E [.int (nI k)] (c_give l D cA a M n ad sz st h g hp0 hg hks k hk hst) kv_Z_100 rfl rfl (by decide) (Nat.le_of_ble_eq_true rfl) (by decide) d_Z_back_15 (fun M1 hp => ?_)
  obtain ⟨n', ad', sz', st', h', hz, he, hsm, e1, e5, e6⟩ := hp
  refine z_iload_n E 3 d_Z_back_18 rfl rfl ?_
  refine z_iret E hr ?_ (by decide) (by decide) d_Z_back_19
  exact ⟨rfl, h', he, ⟨_, _, _, _, hz⟩, e1, hsm, e5, e6⟩
theorem c_back_a (l : Launch) (D : va_G) (cA : Nat → ClassId) (a : Nat → Nat) (M : zmem) (hfl : l.flags = flags0) (h : zmap) (g : Nat) (hi : zInv M h g) (x : Int32) (hx : ∀ y b, h y = some b → x ≠ nI y) : zMt l y_Z_back b_Z_back 4 (some .int) (rmt 8) D zcl (ztys cA) (zw a cA) [.ref (a 0), .int x] M "java/lang/IllegalArgumentException" := by
  refine zMt.of (own := "ZoneHeap") (by decide) rfl (Nat.le_of_ble_eq_true rfl) (by simp [Value.category]) ?_
  intro p e s m args below meth c A hadm E hex
  obtain ⟨n, ad, sz, st, hp0⟩ := hi
  refine z_aload_n E 0 d_Z_back_0 rfl rfl ?_
  refine z_iload_n E 1 d_Z_back_1 rfl rfl ?_
  exact zt_callv E hex (As := [.int x]) (c_standing_a l D cA a M hfl n ad sz st h g hp0 x (fun k hk => hx _ _ (hp0.2.2.1.1 k hk))) kv_Z_97 0 rfl rfl rfl rfl (by decide) (Nat.le_of_ble_eq_true rfl) (by decide) (by decide) d_Z_back_2
theorem c_back_s (l : Launch) (D : va_G) (cA : Nat → ClassId) (a : Nat → Nat) (M : zmem) (hfl : l.flags = flags0) (h : zmap) (g : Nat) (hi : zInv M h g) (x q w : Nat) (hx : h x = some (q, some w)) : zMt l y_Z_back b_Z_back 4 (some .int) (rmt 8) D zcl (ztys cA) (zw a cA) [.ref (a 0), .int (nI x)] M "java/lang/IllegalStateException" := by
  refine zMt.of (own := "ZoneHeap") (by decide) rfl (Nat.le_of_ble_eq_true rfl) (by simp [Value.category]) ?_
  intro p e s m args below meth c A hadm E hex
  obtain ⟨n, ad, sz, st, hp0⟩ := hi
  obtain ⟨k, hk, rfl⟩ := hp0.2.2.1.2 x _ hx
  have hxk := hp0.2.2.1.1 k hk
  rw [hx] at hxk
  have hst : (st k).isSome = true := by rw [← (Prod.mk.inj (Option.some.inj hxk)).2]; rfl
  refine z_aload_n E 0 d_Z_back_0 rfl rfl ?_
  refine z_iload_n E 1 d_Z_back_1 rfl rfl ?_
  exact zt_callv E hex (As := [.int (nI (ad k))]) (c_standing_s l D cA a M hfl n ad sz st h g hp0 k hk hst) kv_Z_97 0 rfl rfl rfl rfl (by decide) (Nat.le_of_ble_eq_true rfl) (by decide) (by decide) d_Z_back_2
end
section
/-! ZoneHeap: again -/
def zByte (M : zmem) : Prop := ∀ i, i < 8192 → vp_nar .byte (M 0 i) = M 0 i
theorem zPic.congr {M M' : zmem} {n g : Nat} {ad sz : Nat → Nat} {st : Nat → Option Nat} {h : zmap} (hp : zPic M n ad sz st h g) (he : ∀ q, q ≠ 0 → M' q = M q) : zPic M' n ad sz st h g := by
  obtain ⟨hR, hOz, hrp, hOh, hWh, h2, h3, h4⟩ := hp
  refine ⟨⟨by rw [he 8 (by decide)]; exact hR.1, hR.2.1, fun i hi => ?_⟩, hOz, hrp, hOh, hWh, by rw [he 8 (by decide)]; exact h2, by rw [he 8 (by decide)]; exact h3, by rw [he 8 (by decide)]; exact h4⟩
  rw [he 1 (by decide), he 2 (by decide), he 3 (by decide), he 4 (by decide)]
  exact hR.2.2 i hi
theorem c_again (l : Launch) (D : va_G) (cA : Nat → ClassId) (a : Nat → Nat) (M : zmem) (h : zmap) (g : Nat) (hi : zInv M h g) (hg : g < 2 ^ 30) (hks : ksum h ≤ 512) (hby : zByte M) (x z : Nat) (hx : h x = some (z, none)) (q : Nat) (hq : q ≤ 2048) : zMi l y_Z_again b_Z_again 8 .int (rmk 5) D zcl (ztys cA) (zw a cA) [.ref (a 0), .int (nI x), .int (nI q)] M (fun r M' => (r = 0 ∧ M' = M ∧ ∀ X, ¬ hfit h q X) ∨ ∃ X, X < 8192 ∧ r = nI X ∧ hff h q X ∧ ∃ h', evs (hst (hst h X (q, none)) x (z, some g)) h' ∧ zInv M' h' (g + 1) ∧ M' 8 1 = M 8 1 + 1 ∧ M' 5 = M 5 ∧ M' 6 = M 6 ∧ M' 7 = M 7 ∧ M' 8 5 = M 8 5 ∧ M' 8 6 = M 8 6 ∧ ∀ i, i < 8192 → M' 0 i = if X ≤ i ∧ i < X + min q z then M 0 (x + (i - X)) else M 0 i) := by
  refine zMi.of (own := "ZoneHeap") (by decide) rfl (Nat.le_of_ble_eq_true rfl) (by simp [Value.category]) ?_
  intro p e s m args below meth c A E hr hex
  obtain ⟨n, ad, sz, st, hp0⟩ := hi
  obtain ⟨k0, hk0, hadk0⟩ := hp0.2.2.1.2 x _ hx
  have hxk := hp0.2.2.1.1 k0 hk0
  rw [hadk0, hx] at hxk
  have hz0 : z = sz k0 := (Prod.mk.inj (Option.some.inj hxk)).1
  have hst0 : st k0 = none := (Prod.mk.inj (Option.some.inj hxk)).2.symm
  have h255 := hp0.1.2.1
  have hz2048 := (hp0.1.2.2 k0 hk0).2.2.2.2.2
  rw [← hz0] at hz2048
  refine z_iload_n E 2 d_Z_again_0 rfl rfl ?_
  refine z_if_lt E 15 d_Z_again_1 (by decide) (fun h1 => ?_) (fun h1 => ?_)
  · exact absurd h1 (nI_pos (by omega))
  · refine z_iload_n E 2 d_Z_again_4 rfl rfl ?_
    refine z_sipush E (v := nI 2048) d_Z_again_5 (by decide) ?_
    refine z_icmp_gt E 15 d_Z_again_8 (by decide) (fun h8 => ?_) (fun h8 => ?_)
    · exact absurd ((nI_ltI (by omega) (by omega)).mp h8) (by omega)
    · refine z_iconst E (v := nI 1) d_Z_again_11 (by decide) ?_
      refine z_goto E 16 d_Z_again_12 (by decide) ?_
      refine zk_callsv E [.int (nI 1)] (c_legal l D _ _ _ _) ks_Z_72 rfl rfl (by decide) (Nat.le_of_ble_eq_true rfl) (by decide) d_Z_again_16 (fun M1 hp => ?_)
      subst M1
      refine z_aload_n E 0 d_Z_again_19 rfl rfl ?_
      refine z_iload_n E 1 d_Z_again_20 rfl rfl ?_
      refine zz_calli E [.int (nI x)] (hadk0 ▸ c_standing l D cA a M n ad sz st h g hp0 k0 hk0 hst0) kv_Z_97 rfl rfl (by decide) (Nat.le_of_ble_eq_true rfl) (by decide) d_Z_again_21 (fun r M1 hp => ?_)
      obtain ⟨hM1, rfl⟩ := hp
      subst M1
      refine z_istore_n E 3 d_Z_again_24 rfl (by decide) ?_
      refine z_aload_n E 0 d_Z_again_25 rfl rfl ?_
      refine zz_get E 2 (by decide) fl_Z_17 rfl rfl d_Z_again_26 ?_
      refine z_iload_n E 3 d_Z_again_29 rfl rfl ?_
      refine zn_iald E 3 1 rfl rfl (_) (rfl) (by omega) (by decide) d_Z_again_30 ?_
      refine z_top ((hp0.1.2.2 k0 hk0).2.1.trans (congrArg nI hz0.symm)) ?_
      refine z_istore E d_Z_again_31 (by decide) ?_
      refine z_aload_n E 0 d_Z_again_33 rfl rfl ?_
      refine z_iload_n E 2 d_Z_again_34 rfl rfl ?_
      refine zz_calli E [.int (nI q)] (c_made l D cA a M n ad sz st hp0.1 hp0.2.1 q hq) kv_Z_76 rfl rfl (by decide) (Nat.le_of_ble_eq_true rfl) (by decide) d_Z_again_35 (fun r M1 hp => ?_)
      rcases hp with ⟨rfl, hM1, hno⟩ | ⟨k, hk, rfl, hf, hmin, hR', hO', hsm, h81, h8⟩
      · subst M1
        refine z_istore E d_Z_again_38 (by decide) ?_
        refine z_iload E d_Z_again_40 rfl ?_
        refine z_if_ge E 47 d_Z_again_42 (by decide) (fun h42 => ?_) (fun h42 => ?_)
        · exact absurd h42 (by decide)
        · refine z_iconst E (v := nI 0) d_Z_again_45 (by decide) ?_
          refine z_iret E hr ?_ (by decide) (by decide) d_Z_again_46
          exact Or.inl ⟨rfl, rfl, gap_none hp0.2.1 hp0.2.2.1 hno⟩
      · obtain ⟨hz, hfx⟩ := made_zPic hp0 hk hf hmin hR' hO' h8
        have hk255 := hR'.2.1
        have hat : M1 1 k = nI (frm ad sz k + 16) := (hR'.2.2 k (by omega)).1.trans (by unfold ins; rw [if_neg (Nat.lt_irrefl k), if_pos rfl])
        generalize hX : frm ad sz k + 16 = X at hz hfx hat
        have hfit := hfx.1
        have hfree := hff_free hfx.1
        have hne : x ≠ X := fun he => by rw [he, hfree] at hx; cases hx
        have hx1 : hst h X (q, none) x = some (z, none) := by unfold hst; rw [if_neg hne]; exact hx
        have hks1 : ksum (hst h X (q, none)) = ksum h := (ks_new (by have := hfit.2.2.1; omega) hfree).1
        have hdis := hfit.2.2.2 x _ hx
        have hX3 := hfit.2.2.1
        have hxO := hp0.2.2.2.1.1 x _ hx
        have ht1 := tk_ge q
        have ht2 := tk_ge z
        dsimp only at hdis hxO
        refine z_istore E d_Z_again_38 (by decide) ?_
        refine z_iload E d_Z_again_40 rfl ?_
        refine z_if_ge E 47 d_Z_again_42 (by decide) (fun h42 => ?_) (fun h42 => ?_)
        · refine z_aload_n E 0 d_Z_again_47 rfl rfl ?_
          refine zz_get E 1 (by decide) fl_Z_13 rfl rfl d_Z_again_48 ?_
          refine z_iload E d_Z_again_51 rfl ?_
          refine zn_iald E 2 1 rfl rfl (_) (rfl) (by omega) (by decide) d_Z_again_53 ?_
          refine z_top hat ?_
          refine z_istore E d_Z_again_54 (by decide) ?_
          refine z_iconst E (v := nI 0) d_Z_again_56 (by decide) ?_
          refine z_istore E d_Z_again_57 (by decide) ?_
          refine z_lp (ι := Nat × zmem) (fun y => q - y.1) (fun y => y.1 ≤ q ∧ y.1 ≤ z ∧ (∀ r, r ≠ 0 → y.2 r = M1 r) ∧ ∀ i, i < 8192 → y.2 0 i = if X ≤ i ∧ i < X + y.1 then M 0 (x + (i - X)) else M 0 i) (fun y => [some (.ref (a 0)), some (.int (nI x)), some (.int (nI q)), none, some (.int (nI z)), none, some (.int (nI X)), some (.int (nI y.1))]) (fun y => y.2) ?_ (0, M1) ⟨by dsimp only; omega, by dsimp only; omega, fun _ _ => rfl, fun i hi => by dsimp only; rw [if_neg (by omega), hsm.1]⟩ (by repeat' first | exact trivial | refine ⟨rfl, ?_⟩)
          rintro ⟨j, M'⟩ ⟨hI1, hI2, hI3, hI4⟩ ih
          dsimp only at hI1 hI2 hI3 hI4 ih ⊢
          refine z_iload E d_Z_again_59 rfl ?_
          refine z_iload_n E 2 d_Z_again_61 rfl rfl ?_
          refine z_icmp_ge E 97 d_Z_again_62 (by decide) (fun h62 => ?_) (fun h62 => ?_)
          · have h62 := (nI_leI (by omega) (by omega)).mp h62
            have hz2 := hz.congr hI3
            obtain ⟨k1, hk1, hadk⟩ := hz2.2.2.1.2 x _ hx1
            have hk1e := hz2.2.2.1.1 k1 hk1
            rw [hadk, hx1] at hk1e
            have hk1s : z = ins sz k q k1 := (Prod.mk.inj (Option.some.inj hk1e)).1
            have hk1t : ins st k none k1 = none := (Prod.mk.inj (Option.some.inj hk1e)).2.symm
            refine z_aload_n E 0 d_Z_again_97 rfl rfl ?_
            refine z_aload_n E 0 d_Z_again_98 rfl rfl ?_
            refine z_iload_n E 1 d_Z_again_99 rfl rfl ?_
            refine zz_calli E [.int (nI x)] (c_under l D cA a _ _ _ _ _ hz2.1 hz2.2.1 (nI x)) kv_Z_78 rfl rfl (by decide) (Nat.le_of_ble_eq_true rfl) (by decide) d_Z_again_100 (fun r M3 hp3 => ?_)
            obtain ⟨hM3, j3, hj3, rfl, hlo, hhi⟩ := hp3
            subst M3
            have hjk := und_at hz2.2.1 hk1 ((nI_toInt (by omega)).trans (by rw [hadk])) hj3 hlo hhi
            subst hjk
            refine z_top (nI_sub1 (by omega)) ?_
            simp only [Nat.add_sub_cancel]
            refine zz_callv E [.int (nI k1)] (c_give l D cA a _ _ _ _ _ _ g hz2 hg (by rw [hks1]; exact hks) k1 hk1 hk1t) kv_Z_100 rfl rfl (by decide) (Nat.le_of_ble_eq_true rfl) (by decide) d_Z_again_103 (fun M4 hp4 => ?_)
            obtain ⟨n', ad', sz', st', h', hz4, he4, hsm4, e41, e45, e46⟩ := hp4
            refine z_iload E d_Z_again_106 rfl ?_
            refine z_iret E hr ?_ (by decide) (by decide) d_Z_again_108
            rw [hadk, ← hk1s] at he4
            refine Or.inr ⟨X, by omega, rfl, hfx, h', he4, ⟨_, _, _, _, hz4⟩, ?_, ?_, ?_, ?_, ?_, ?_, fun i hi => ?_⟩
            · rw [e41, hI3 8 (by decide), h81]
            · rw [hsm4.2.1, hI3 5 (by decide), hsm.2.1]
            · rw [hsm4.2.2.1, hI3 6 (by decide), hsm.2.2.1]
            · rw [hsm4.2.2.2, hI3 7 (by decide), hsm.2.2.2]
            · rw [e45, hI3 8 (by decide), h8 5 (by omega)]
            · rw [e46, hI3 8 (by decide), h8 6 (by omega)]
            · rw [hsm4.1, hI4 i hi, show min q z = j by omega]
          · have h62 : j < q := by have := mt (nI_leI (by omega) (by omega)).mpr h62; omega
            refine z_iload E d_Z_again_65 rfl ?_
            refine z_iload E d_Z_again_67 rfl ?_
            refine z_icmp_ge E 97 d_Z_again_69 (by decide) (fun h69 => ?_) (fun h69 => ?_)
            · have h69 := (nI_leI (by omega) (by omega)).mp h69
              have hz2 := hz.congr hI3
              obtain ⟨k1, hk1, hadk⟩ := hz2.2.2.1.2 x _ hx1
              have hk1e := hz2.2.2.1.1 k1 hk1
              rw [hadk, hx1] at hk1e
              have hk1s : z = ins sz k q k1 := (Prod.mk.inj (Option.some.inj hk1e)).1
              have hk1t : ins st k none k1 = none := (Prod.mk.inj (Option.some.inj hk1e)).2.symm
              refine z_aload_n E 0 d_Z_again_97 rfl rfl ?_
              refine z_aload_n E 0 d_Z_again_98 rfl rfl ?_
              refine z_iload_n E 1 d_Z_again_99 rfl rfl ?_
              refine zz_calli E [.int (nI x)] (c_under l D cA a _ _ _ _ _ hz2.1 hz2.2.1 (nI x)) kv_Z_78 rfl rfl (by decide) (Nat.le_of_ble_eq_true rfl) (by decide) d_Z_again_100 (fun r M3 hp3 => ?_)
              obtain ⟨hM3, j3, hj3, rfl, hlo, hhi⟩ := hp3
              subst M3
              have hjk := und_at hz2.2.1 hk1 ((nI_toInt (by omega)).trans (by rw [hadk])) hj3 hlo hhi
              subst hjk
              refine z_top (nI_sub1 (by omega)) ?_
              simp only [Nat.add_sub_cancel]
              refine zz_callv E [.int (nI k1)] (c_give l D cA a _ _ _ _ _ _ g hz2 hg (by rw [hks1]; exact hks) k1 hk1 hk1t) kv_Z_100 rfl rfl (by decide) (Nat.le_of_ble_eq_true rfl) (by decide) d_Z_again_103 (fun M4 hp4 => ?_)
              obtain ⟨n', ad', sz', st', h', hz4, he4, hsm4, e41, e45, e46⟩ := hp4
              refine z_iload E d_Z_again_106 rfl ?_
              refine z_iret E hr ?_ (by decide) (by decide) d_Z_again_108
              rw [hadk, ← hk1s] at he4
              refine Or.inr ⟨X, by omega, rfl, hfx, h', he4, ⟨_, _, _, _, hz4⟩, ?_, ?_, ?_, ?_, ?_, ?_, fun i hi => ?_⟩
              · rw [e41, hI3 8 (by decide), h81]
              · rw [hsm4.2.1, hI3 5 (by decide), hsm.2.1]
              · rw [hsm4.2.2.1, hI3 6 (by decide), hsm.2.2.1]
              · rw [hsm4.2.2.2, hI3 7 (by decide), hsm.2.2.2]
              · rw [e45, hI3 8 (by decide), h8 5 (by omega)]
              · rw [e46, hI3 8 (by decide), h8 6 (by omega)]
              · rw [hsm4.1, hI4 i hi, show min q z = j by omega]
            · have h69 : j < z := by have := mt (nI_leI (by omega) (by omega)).mpr h69; omega
              refine z_aload_n E 0 d_Z_again_72 rfl rfl ?_
              refine zz_get E 0 (by decide) fl_Z_9 rfl rfl d_Z_again_73 ?_
              refine z_iload E d_Z_again_76 rfl ?_
              refine z_iload E d_Z_again_78 rfl ?_
              refine z_iadd E d_Z_again_80 ?_
              refine z_top (nI_add _ _) ?_
              refine z_aload_n E 0 d_Z_again_81 rfl rfl ?_
              refine zz_get E 0 (by decide) fl_Z_9 rfl rfl d_Z_again_82 ?_
              refine z_iload_n E 1 d_Z_again_85 rfl rfl ?_
              refine z_iload E d_Z_again_86 rfl ?_
              refine z_iadd E d_Z_again_88 ?_
              refine z_top (nI_add _ _) ?_
              refine zn_bald E 1 0 rfl rfl (_) (rfl) (by omega) (by decide) d_Z_again_89 ?_
              refine z_top ((hI4 (x + j) (by omega)).trans (if_neg (by omega))) ?_
              refine zz_bast E 0 rfl (v := M 0 (x + j)) (hby _ (by omega)) (_) (rfl) (by omega) rfl d_Z_again_90 ?_
              refine z_iinc E (v := nI (j + 1)) d_Z_again_91 rfl (nI_1 j) (by decide) ?_
              refine z_goto E 59 d_Z_again_94 (by decide) ?_
              refine ih (j + 1, zu M' 0 (X + j) (M 0 (x + j))) _ ⟨by dsimp only; omega, by dsimp only; omega, fun r hr' => (zu_ne hr').trans (hI3 r hr'), fun i hi => ?_⟩ (by dsimp only; omega) (by repeat' first | exact trivial | refine ⟨rfl, ?_⟩)
              dsimp only
              rw [zu_same]
              by_cases hij : i = X + j
              · rw [hij, upd_same, if_pos (by omega), show X + j - X = j by omega]
              · rw [upd_ne hij, hI4 i hi]
                by_cases hc : X ≤ i ∧ i < X + j
                · rw [if_pos hc, if_pos (by omega)]
                · rw [if_neg hc, if_neg (by omega)]
        · exact absurd (nI_pos' (by omega)) h42
theorem c_again_n (l : Launch) (D : va_G) (cA : Nat → ClassId) (a : Nat → Nat) (M : zmem) (hfl : l.flags = flags0) (x y : Int32) (hy : y.toInt < 0 ∨ 2048 < y.toInt) : zMt l y_Z_again b_Z_again 8 (some .int) (rmt 7) D zcl (ztys cA) (zw a cA) [.ref (a 0), .int x, .int y] M "java/lang/IllegalArgumentException" := by
  refine zMt.of (own := "ZoneHeap") (by decide) rfl (Nat.le_of_ble_eq_true rfl) (by simp [Value.category]) ?_
  intro p e s m args below meth c A hadm E hex
  refine z_iload_n E 2 d_Z_again_0 rfl rfl ?_
  refine z_if_lt E 15 d_Z_again_1 (by decide) (fun h1 => ?_) (fun h1 => ?_)
  · refine z_iconst E (v := nI 0) d_Z_again_15 (by decide) ?_
    exact zt_calls E hex (As := [.int (nI 0)]) (c_legal_t l hfl D _ _ _ _) ks_Z_72 rfl rfl (by decide) (Nat.le_of_ble_eq_true rfl) (by decide) (by decide) d_Z_again_16
  · refine z_iload_n E 2 d_Z_again_4 rfl rfl ?_
    refine z_sipush E (v := nI 2048) d_Z_again_5 (by decide) ?_
    refine z_icmp_gt E 15 d_Z_again_8 (by decide) (fun h8 => ?_) (fun h8 => ?_)
    · refine z_iconst E (v := nI 0) d_Z_again_15 (by decide) ?_
      exact zt_calls E hex (As := [.int (nI 0)]) (c_legal_t l hfl D _ _ _ _) ks_Z_72 rfl rfl (by decide) (Nat.le_of_ble_eq_true rfl) (by decide) (by decide) d_Z_again_16
    · rw [lt_i (by omega)] at h8
      rw [Int32.lt_iff_toInt_lt] at h1
      rcases hy with h | h
      · exact absurd h h1
      · exact absurd h h8
theorem c_again_a (l : Launch) (D : va_G) (cA : Nat → ClassId) (a : Nat → Nat) (M : zmem) (hfl : l.flags = flags0) (h : zmap) (g : Nat) (hi : zInv M h g) (x : Int32) (hx : ∀ y b, h y = some b → x ≠ nI y) (q : Nat) (hq : q ≤ 2048) : zMt l y_Z_again b_Z_again 8 (some .int) (rmt 8) D zcl (ztys cA) (zw a cA) [.ref (a 0), .int x, .int (nI q)] M "java/lang/IllegalArgumentException" := by
  refine zMt.of (own := "ZoneHeap") (by decide) rfl (Nat.le_of_ble_eq_true rfl) (by simp [Value.category]) ?_
  intro p e s m args below meth c A hadm E hex
  obtain ⟨n, ad, sz, st, hp0⟩ := hi
  refine z_iload_n E 2 d_Z_again_0 rfl rfl ?_
  refine z_if_lt E 15 d_Z_again_1 (by decide) (fun h1 => ?_) (fun h1 => ?_)
  · exact absurd h1 (nI_pos (by omega))
  · refine z_iload_n E 2 d_Z_again_4 rfl rfl ?_
    refine z_sipush E (v := nI 2048) d_Z_again_5 (by decide) ?_
    refine z_icmp_gt E 15 d_Z_again_8 (by decide) (fun h8 => ?_) (fun h8 => ?_)
    · exact absurd ((nI_ltI (by omega) (by omega)).mp h8) (by omega)
    · refine z_iconst E (v := nI 1) d_Z_again_11 (by decide) ?_
      refine z_goto E 16 d_Z_again_12 (by decide) ?_
      refine zk_callsv E [.int (nI 1)] (c_legal l D _ _ _ _) ks_Z_72 rfl rfl (by decide) (Nat.le_of_ble_eq_true rfl) (by decide) d_Z_again_16 (fun M1 hp => ?_)
      subst M1
      refine z_aload_n E 0 d_Z_again_19 rfl rfl ?_
      refine z_iload_n E 1 d_Z_again_20 rfl rfl ?_
      exact zt_callv E hex (As := [.int x]) (c_standing_a l D cA a M hfl n ad sz st h g hp0 x (fun k hk => hx _ _ (hp0.2.2.1.1 k hk))) kv_Z_97 0 rfl rfl rfl rfl (by decide) (Nat.le_of_ble_eq_true rfl) (by decide) (by decide) d_Z_again_21
theorem c_again_s (l : Launch) (D : va_G) (cA : Nat → ClassId) (a : Nat → Nat) (M : zmem) (hfl : l.flags = flags0) (h : zmap) (g : Nat) (hi : zInv M h g) (x z w : Nat) (hx : h x = some (z, some w)) (q : Nat) (hq : q ≤ 2048) : zMt l y_Z_again b_Z_again 8 (some .int) (rmt 8) D zcl (ztys cA) (zw a cA) [.ref (a 0), .int (nI x), .int (nI q)] M "java/lang/IllegalStateException" := by
  refine zMt.of (own := "ZoneHeap") (by decide) rfl (Nat.le_of_ble_eq_true rfl) (by simp [Value.category]) ?_
  intro p e s m args below meth c A hadm E hex
  obtain ⟨n, ad, sz, st, hp0⟩ := hi
  obtain ⟨k, hk, rfl⟩ := hp0.2.2.1.2 x _ hx
  have hxk := hp0.2.2.1.1 k hk
  rw [hx] at hxk
  have hst : (st k).isSome = true := by rw [← (Prod.mk.inj (Option.some.inj hxk)).2]; rfl
  refine z_iload_n E 2 d_Z_again_0 rfl rfl ?_
  refine z_if_lt E 15 d_Z_again_1 (by decide) (fun h1 => ?_) (fun h1 => ?_)
  · exact absurd h1 (nI_pos (by omega))
  · refine z_iload_n E 2 d_Z_again_4 rfl rfl ?_
    refine z_sipush E (v := nI 2048) d_Z_again_5 (by decide) ?_
    refine z_icmp_gt E 15 d_Z_again_8 (by decide) (fun h8 => ?_) (fun h8 => ?_)
    · exact absurd ((nI_ltI (by omega) (by omega)).mp h8) (by omega)
    · refine z_iconst E (v := nI 1) d_Z_again_11 (by decide) ?_
      refine z_goto E 16 d_Z_again_12 (by decide) ?_
      refine zk_callsv E [.int (nI 1)] (c_legal l D _ _ _ _) ks_Z_72 rfl rfl (by decide) (Nat.le_of_ble_eq_true rfl) (by decide) d_Z_again_16 (fun M1 hp => ?_)
      subst M1
      refine z_aload_n E 0 d_Z_again_19 rfl rfl ?_
      refine z_iload_n E 1 d_Z_again_20 rfl rfl ?_
      exact zt_callv E hex (As := [.int (nI (ad k))]) (c_standing_s l D cA a M hfl n ad sz st h g hp0 k hk hst) kv_Z_97 0 rfl rfl rfl rfl (by decide) (Nat.le_of_ble_eq_true rfl) (by decide) (by decide) d_Z_again_21
end
section
/-! ZoneHeap: isLive, kind, block, four, write, word, read -/
def hlive (h : zmap) (X : Nat) : Prop := ∃ y q, h y = some (q, none) ∧ y ≤ X ∧ X < y + q
def hkept (h : zmap) (X : Nat) : Prop := ∃ y q w, h y = some (q, some w) ∧ y ≤ X ∧ X < y + q
def hzone (h : zmap) (X : Nat) : Prop := ∃ y b, h y = some b ∧ y ≤ X + 16 ∧ X < y + tk b.1 + 16
theorem und_in {n j X y : Nat} {ad sz : Nat → Nat} {st : Nat → Option Nat} {h : zmap} {b : Nat × Option Nat} (hz : zO n ad sz) (hr : rep n ad sz st h) (hj : j ≤ n) (hlo : ∀ i, i < j → ad i ≤ X) (hhi : ∀ i, j ≤ i → i < n → X < ad i) (hy : h y = some b) (h1 : y ≤ X) (h2 : X < y + tk b.1 + 16) : 0 < j ∧ y = ad (j - 1) ∧ b = (sz (j - 1), st (j - 1)) := by
  obtain ⟨i, hi, rfl⟩ := hr.2 y b hy
  have e := hr.1 i hi
  rw [hy] at e
  cases e
  have hij : i < j := by
    rcases Nat.lt_or_ge i j with h3 | h3
    · exact h3
    · have := hhi i h3 hi; omega
  have : i = j - 1 := by
    rcases Nat.lt_or_ge i (j - 1) with h3 | h3
    · have h4 := hz.lt (j - 1) i h3 (by omega)
      have h5 := hlo (j - 1) (by omega)
      dsimp only at h2
      omega
    · omega
  subst this
  exact ⟨by omega, rfl, rfl⟩
theorem und_nat {n j X : Nat} {ad : Nat → Nat} (hX : X < 2 ^ 31) (hlo : ∀ i, i < j → (ad i : Int) ≤ (nI X).toInt) (hhi : ∀ i, j ≤ i → i < n → (nI X).toInt < (ad i : Int)) : (∀ i, i < j → ad i ≤ X) ∧ ∀ i, j ≤ i → i < n → X < ad i := by
  rw [nI_toInt hX] at hlo hhi
  exact ⟨fun i hi => by have := hlo i hi; omega, fun i hi hn => by have := hhi i hi hn; omega⟩
theorem und_live {n j X : Nat} {ad sz : Nat → Nat} {st : Nat → Option Nat} {h : zmap} (hz : zO n ad sz) (hr : rep n ad sz st h) (hj : j ≤ n) (hlo : ∀ i, i < j → ad i ≤ X) (hhi : ∀ i, j ≤ i → i < n → X < ad i) : (hlive h X → 0 < j ∧ st (j - 1) = none ∧ X < ad (j - 1) + sz (j - 1)) ∧ (hkept h X → 0 < j ∧ (st (j - 1)).isSome = true ∧ X < ad (j - 1) + sz (j - 1)) := by
  constructor
  · rintro ⟨y, q, h1, h2, h3⟩
    have ht := tk_ge q
    obtain ⟨a1, a2, a3⟩ := und_in hz hr hj hlo hhi h1 h2 (by dsimp only; omega)
    have b1 := (Prod.mk.inj a3).1
    have b2 := (Prod.mk.inj a3).2
    exact ⟨a1, b2.symm, by omega⟩
  · rintro ⟨y, q, w, h1, h2, h3⟩
    have ht := tk_ge q
    obtain ⟨a1, a2, a3⟩ := und_in hz hr hj hlo hhi h1 h2 (by dsimp only; omega)
    have b1 := (Prod.mk.inj a3).1
    have b2 := (Prod.mk.inj a3).2
    exact ⟨a1, by rw [← b2]; rfl, by omega⟩
theorem und_zone {n j X : Nat} {ad sz : Nat → Nat} {st : Nat → Option Nat} {h : zmap} (hz : zO n ad sz) (hr : rep n ad sz st h) (hj : j ≤ n) (hlo : ∀ i, i < j → ad i ≤ X) (hhi : ∀ i, j ≤ i → i < n → X < ad i) : hzone h X ↔ ((0 < j ∧ X < ad (j - 1) + tk (sz (j - 1)) + 16) ∨ (j < n ∧ ad j ≤ X + 16)) := by
  constructor
  · rintro ⟨y, b, h1, h2, h3⟩
    rcases Nat.lt_or_ge X y with h4 | h4
    · right
      obtain ⟨i, hi, rfl⟩ := hr.2 y b h1
      have hji : j ≤ i := by
        rcases Nat.lt_or_ge i j with h5 | h5
        · have := hlo i h5; omega
        · exact h5
      refine ⟨by omega, ?_⟩
      by_cases he : i = j
      · subst he; exact h2
      · have h5 := hz.lt i j (by omega) hi
        have h6 := hhi j (Nat.le_refl _) (by omega)
        omega
    · left
      obtain ⟨a1, a2, a3⟩ := und_in hz hr hj hlo hhi h1 h4 h3
      subst a3
      exact ⟨a1, by rw [← a2]; exact h3⟩
  · rintro (⟨h1, h2⟩ | ⟨h1, h2⟩)
    · exact ⟨_, _, hr.1 (j - 1) (by omega), by have := hlo (j - 1) (by omega); omega, h2⟩
    · exact ⟨_, _, hr.1 j h1, h2, by have := hhi j (Nat.le_refl _) h1; omega⟩
theorem st_live {o : Option Nat} : (if o.isSome = true then (0 : Int32) else 1) = 0 ↔ o.isSome = true := by cases o <;> simp
theorem c_isLive (l : Launch) (D : va_G) (cA : Nat → ClassId) (a : Nat → Nat) (M : zmem) (n : Nat) (ad sz : Nat → Nat) (st : Nat → Option Nat) (h : zmap) (g : Nat) (hp0 : zPic M n ad sz st h g) (X : Nat) (hX : X < 8192) : zMi l y_Z_isLive b_Z_isLive 3 .boolean (rmk 1) D zcl (ztys cA) (zw a cA) [.ref (a 0), .int (nI X)] M (fun r M' => M' = M ∧ ((r = 1 ∧ hlive h X) ∨ (r = 0 ∧ ¬ hlive h X))) := by
  refine zMi.of (own := "ZoneHeap") (by decide) rfl (Nat.le_of_ble_eq_true rfl) (by simp [Value.category]) ?_
  intro p e s m args below meth c A E hr hex
  have h255 := hp0.1.2.1
  refine z_aload_n E 0 d_Z_isLive_0 rfl rfl ?_
  refine z_iload_n E 1 d_Z_isLive_1 rfl rfl ?_
  refine zz_calli E [.int (nI X)] (c_under l D cA a M n ad sz st hp0.1 hp0.2.1 (nI X)) kv_Z_78 rfl rfl (by decide) (Nat.le_of_ble_eq_true rfl) (by decide) d_Z_isLive_2 (fun r M1 hp => ?_)
  obtain ⟨hM1, j, hj, rfl, hlo, hhi⟩ := hp
  subst M1
  obtain ⟨hlo, hhi⟩ := und_nat (by omega) hlo hhi
  have huL := und_live hp0.2.1 hp0.2.2.1 hj hlo hhi
  rcases Nat.eq_zero_or_pos j with h0 | h0
  · subst h0
    refine z_top und_0 ?_
    refine z_istore_n E 2 d_Z_isLive_5 rfl (by decide) ?_
    refine z_iload_n E 2 d_Z_isLive_6 rfl rfl ?_
    refine z_if_lt E 40 d_Z_isLive_7 (by decide) (fun h7 => ?_) (fun h7 => ?_)
    · refine z_iconst E (v := nI 0) d_Z_isLive_40 (by decide) ?_
      refine z_zret E hr (Or.inl rfl) ?_ (by decide) (by decide) d_Z_isLive_41
      exact ⟨rfl, Or.inr ⟨rfl, fun hh => absurd (huL.1 hh).1 (Nat.lt_irrefl 0)⟩⟩
    · exact absurd (by decide) h7
  · have hc := hp0.1.2.2 (j - 1) (by omega)
    refine z_top (nI_sub1 h0) ?_
    refine z_istore_n E 2 d_Z_isLive_5 rfl (by decide) ?_
    refine z_iload_n E 2 d_Z_isLive_6 rfl rfl ?_
    refine z_if_lt E 40 d_Z_isLive_7 (by decide) (fun h7 => ?_) (fun h7 => ?_)
    · exact absurd h7 (nI_pos (by omega))
    · refine z_aload_n E 0 d_Z_isLive_10 rfl rfl ?_
      refine zz_get E 4 (by decide) fl_Z_23 rfl rfl d_Z_isLive_11 ?_
      refine z_iload_n E 2 d_Z_isLive_14 rfl rfl ?_
      refine zn_zald E 5 2 rfl rfl (_) (rfl) (by omega) (by decide) d_Z_isLive_15 ?_
      refine z_top hc.2.2.1 ?_
      refine z_if_eq E 40 d_Z_isLive_16 (by decide) (fun h16 => ?_) (fun h16 => ?_)
      · have h16 := st_live.mp h16
        refine z_iconst E (v := nI 0) d_Z_isLive_40 (by decide) ?_
        refine z_zret E hr (Or.inl rfl) ?_ (by decide) (by decide) d_Z_isLive_41
        refine ⟨rfl, Or.inr ⟨rfl, fun hh => ?_⟩⟩
        rw [(huL.1 hh).2.1] at h16
        cases h16
      · have h16 := mt st_live.mpr h16
        refine z_iload_n E 1 d_Z_isLive_19 rfl rfl ?_
        refine z_aload_n E 0 d_Z_isLive_20 rfl rfl ?_
        refine zz_get E 1 (by decide) fl_Z_13 rfl rfl d_Z_isLive_21 ?_
        refine z_iload_n E 2 d_Z_isLive_24 rfl rfl ?_
        refine zn_iald E 2 1 rfl rfl (_) (rfl) (by omega) (by decide) d_Z_isLive_25 ?_
        refine z_top hc.1 ?_
        refine z_aload_n E 0 d_Z_isLive_26 rfl rfl ?_
        refine zz_get E 2 (by decide) fl_Z_17 rfl rfl d_Z_isLive_27 ?_
        refine z_iload_n E 2 d_Z_isLive_30 rfl rfl ?_
        refine zn_iald E 3 1 rfl rfl (_) (rfl) (by omega) (by decide) d_Z_isLive_31 ?_
        refine z_top hc.2.1 ?_
        refine z_iadd E d_Z_isLive_32 ?_
        refine z_top (nI_add _ _) ?_
        refine z_icmp_ge E 40 d_Z_isLive_33 (by decide) (fun h33 => ?_) (fun h33 => ?_)
        · have h33 := (nI_leI (by omega) (by omega)).mp h33
          refine z_iconst E (v := nI 0) d_Z_isLive_40 (by decide) ?_
          refine z_zret E hr (Or.inl rfl) ?_ (by decide) (by decide) d_Z_isLive_41
          refine ⟨rfl, Or.inr ⟨rfl, fun hh => ?_⟩⟩
          have := (huL.1 hh).2.2
          omega
        · have h33 := mt (nI_leI (by omega) (by omega)).mpr h33
          refine z_iconst E (v := nI 1) d_Z_isLive_36 (by decide) ?_
          refine z_goto E 41 d_Z_isLive_37 (by decide) ?_
          refine z_zret E hr (Or.inr rfl) ?_ (by decide) (by decide) d_Z_isLive_41
          have hs : st (j - 1) = none := by
            cases hs : st (j - 1) with
            | none => rfl
            | some w => rw [hs] at h16; exact absurd rfl h16
          refine ⟨rfl, Or.inl ⟨rfl, ad (j - 1), sz (j - 1), ?_, hlo (j - 1) (by omega), by omega⟩⟩
          rw [← hs]
          exact hp0.2.2.1.1 (j - 1) (by omega)
theorem c_kind (l : Launch) (D : va_G) (cA : Nat → ClassId) (a : Nat → Nat) (M : zmem) (h : zmap) (g : Nat) (hi : zInv M h g) (X : Nat) (hX : X < 8192) : zMi l y_Z_kind b_Z_kind 3 .int (rmk 3) D zcl (ztys cA) (zw a cA) [.ref (a 0), .int (nI X)] M (fun r M' => M' = M ∧ ((r = 1 ∧ hlive h X) ∨ (r = 2 ∧ hkept h X ∧ ¬ hlive h X) ∨ (r = 3 ∧ ¬ hlive h X ∧ ¬ hkept h X ∧ hzone h X) ∨ (r = 0 ∧ ¬ hlive h X ∧ ¬ hkept h X ∧ ¬ hzone h X))) := by
  refine zMi.of (own := "ZoneHeap") (by decide) rfl (Nat.le_of_ble_eq_true rfl) (by simp [Value.category]) ?_
  intro p e s m args below meth c A E hr hex
  obtain ⟨n, ad, sz, st, hp0⟩ := hi
  have h255 := hp0.1.2.1
  refine z_iload_n E 1 d_Z_kind_0 rfl rfl ?_
  refine z_if_lt E 15 d_Z_kind_1 (by decide) (fun h1 => ?_) (fun h1 => ?_)
  · exact absurd h1 (nI_pos (by omega))
  · refine z_iload_n E 1 d_Z_kind_4 rfl rfl ?_
    refine z_sipush E (v := nI 8192) d_Z_kind_5 (by decide) ?_
    refine z_icmp_ge E 15 d_Z_kind_8 (by decide) (fun h8 => ?_) (fun h8 => ?_)
    · exact absurd ((nI_leI (by omega) (by omega)).mp h8) (by omega)
    · refine z_iconst E (v := nI 1) d_Z_kind_11 (by decide) ?_
      refine z_goto E 16 d_Z_kind_12 (by decide) ?_
      refine zk_callsv E [.int (nI 1)] (c_within l D _ _ _ _) ks_Z_103 rfl rfl (by decide) (Nat.le_of_ble_eq_true rfl) (by decide) d_Z_kind_16 (fun M1 hp => ?_)
      subst M1
      refine z_aload_n E 0 d_Z_kind_19 rfl rfl ?_
      refine z_iload_n E 1 d_Z_kind_20 rfl rfl ?_
      refine zz_calli E [.int (nI X)] (c_under l D cA a M n ad sz st hp0.1 hp0.2.1 (nI X)) kv_Z_78 rfl rfl (by decide) (Nat.le_of_ble_eq_true rfl) (by decide) d_Z_kind_21 (fun r M1 hp => ?_)
      obtain ⟨hM1, j, hj, rfl, hlo, hhi⟩ := hp
      subst M1
      obtain ⟨hlo, hhi⟩ := und_nat (by omega) hlo hhi
      have huL := und_live hp0.2.1 hp0.2.2.1 hj hlo hhi
      rcases Nat.eq_zero_or_pos j with h0 | h0
      · subst h0
        refine z_top und_0 ?_
        have huZ := und_zone hp0.2.1 hp0.2.2.1 hj hlo hhi
        refine z_istore_n E 2 d_Z_kind_24 rfl (by decide) ?_
        refine z_iload_n E 2 d_Z_kind_25 rfl rfl ?_
        refine z_if_lt E 61 d_Z_kind_26 (by decide) (fun h26 => ?_) (fun h26 => ?_)
        · refine z_iload_n E 2 d_Z_kind_61 rfl rfl ?_
          refine z_if_lt E 77 d_Z_kind_62 (by decide) (fun h62 => ?_) (fun h62 => ?_)
          · refine z_iload_n E 2 d_Z_kind_77 rfl rfl ?_
            refine z_iconst E (v := nI 1) d_Z_kind_78 (by decide) ?_
            refine z_iadd E d_Z_kind_79 ?_
            refine z_top (show (-1 : Int32) + nI 1 = nI 0 by decide) ?_
            refine z_aload_n E 0 d_Z_kind_80 rfl rfl ?_
            refine zz_get E 8 (by decide) fl_Z_55 rfl rfl d_Z_kind_81 ?_
            refine z_top hp0.1.1 ?_
            refine z_icmp_ge E 104 d_Z_kind_84 (by decide) (fun h84 => ?_) (fun h84 => ?_)
            · have h84 := (nI_leI (by omega) (by omega)).mp h84
              refine z_iconst E (v := nI 0) d_Z_kind_104 (by decide) ?_
              refine z_iret E hr ?_ (by decide) (by decide) d_Z_kind_105
              exact ⟨rfl, Or.inr (Or.inr (Or.inr ⟨rfl, fun hh => absurd (huL.1 hh).1 (Nat.lt_irrefl 0), fun hh => absurd (huL.2 hh).1 (Nat.lt_irrefl 0), fun hh => by rcases huZ.mp hh with ⟨q1, -⟩ | ⟨q1, -⟩ <;> omega⟩))⟩
            · have h84 := mt (nI_leI (by omega) (by omega)).mpr h84
              refine z_iload_n E 1 d_Z_kind_87 rfl rfl ?_
              refine z_aload_n E 0 d_Z_kind_88 rfl rfl ?_
              refine zz_get E 1 (by decide) fl_Z_13 rfl rfl d_Z_kind_89 ?_
              refine z_iload_n E 2 d_Z_kind_92 rfl rfl ?_
              refine z_iconst E (v := nI 1) d_Z_kind_93 (by decide) ?_
              refine z_iadd E d_Z_kind_94 ?_
              refine z_top (show (-1 : Int32) + nI 1 = nI 0 by decide) ?_
              refine zn_iald E 2 1 rfl rfl (_) (rfl) (by omega) (by decide) d_Z_kind_95 ?_
              refine z_top (hp0.1.2.2 0 (by omega)).1 ?_
              refine z_bipush E (v := nI 16) d_Z_kind_96 (by decide) ?_
              refine z_isub E d_Z_kind_98 ?_
              have hO16 := (hp0.2.1.1 0 (by omega))
              refine z_top (pk_sub hO16.1) ?_
              refine z_icmp_lt E 104 d_Z_kind_99 (by decide) (fun h99 => ?_) (fun h99 => ?_)
              · have h99 := (nI_ltI (by omega) (by omega)).mp h99
                refine z_iconst E (v := nI 0) d_Z_kind_104 (by decide) ?_
                refine z_iret E hr ?_ (by decide) (by decide) d_Z_kind_105
                exact ⟨rfl, Or.inr (Or.inr (Or.inr ⟨rfl, fun hh => absurd (huL.1 hh).1 (Nat.lt_irrefl 0), fun hh => absurd (huL.2 hh).1 (Nat.lt_irrefl 0), fun hh => by rcases huZ.mp hh with ⟨q1, -⟩ | ⟨q1, q2⟩ <;> omega⟩))⟩
              · have h99 := mt (nI_ltI (by omega) (by omega)).mpr h99
                refine z_iconst E (v := nI 3) d_Z_kind_102 (by decide) ?_
                refine z_iret E hr ?_ (by decide) (by decide) d_Z_kind_103
                exact ⟨rfl, Or.inr (Or.inr (Or.inl ⟨rfl, fun hh => absurd (huL.1 hh).1 (Nat.lt_irrefl 0), fun hh => absurd (huL.2 hh).1 (Nat.lt_irrefl 0), huZ.mpr (Or.inr ⟨by omega, by omega⟩)⟩))⟩
          · exact absurd (by decide) h62
        · exact absurd (by decide) h26
      · have hc := hp0.1.2.2 (j - 1) (by omega)
        have huZ := und_zone hp0.2.1 hp0.2.2.1 hj hlo hhi
        have hOj := hp0.2.1.1 (j - 1) (by omega)
        refine z_top (nI_sub1 h0) ?_
        refine z_istore_n E 2 d_Z_kind_24 rfl (by decide) ?_
        refine z_iload_n E 2 d_Z_kind_25 rfl rfl ?_
        refine z_if_lt E 61 d_Z_kind_26 (by decide) (fun h26 => ?_) (fun h26 => ?_)
        · exact absurd h26 (nI_pos (by omega))
        · refine z_iload_n E 1 d_Z_kind_29 rfl rfl ?_
          refine z_aload_n E 0 d_Z_kind_30 rfl rfl ?_
          refine zz_get E 1 (by decide) fl_Z_13 rfl rfl d_Z_kind_31 ?_
          refine z_iload_n E 2 d_Z_kind_34 rfl rfl ?_
          refine zn_iald E 2 1 rfl rfl (_) (rfl) (by omega) (by decide) d_Z_kind_35 ?_
          refine z_top hc.1 ?_
          refine z_aload_n E 0 d_Z_kind_36 rfl rfl ?_
          refine zz_get E 2 (by decide) fl_Z_17 rfl rfl d_Z_kind_37 ?_
          refine z_iload_n E 2 d_Z_kind_40 rfl rfl ?_
          refine zn_iald E 3 1 rfl rfl (_) (rfl) (by omega) (by decide) d_Z_kind_41 ?_
          refine z_top hc.2.1 ?_
          refine z_iadd E d_Z_kind_42 ?_
          refine z_top (nI_add _ _) ?_
          refine z_icmp_ge E 61 d_Z_kind_43 (by decide) (fun h43 => ?_) (fun h43 => ?_)
          · have h43 := (nI_leI (by omega) (by omega)).mp h43
            refine z_iload_n E 2 d_Z_kind_61 rfl rfl ?_
            refine z_if_lt E 77 d_Z_kind_62 (by decide) (fun h62 => ?_) (fun h62 => ?_)
            · exact absurd h62 (nI_pos (by omega))
            · refine z_iload_n E 1 d_Z_kind_65 rfl rfl ?_
              refine z_aload_n E 0 d_Z_kind_66 rfl rfl ?_
              refine z_iload_n E 2 d_Z_kind_67 rfl rfl ?_
              refine zz_calli E [.int (nI (j - 1))] (c_end l D cA a M (j - 1) (ad (j - 1)) (sz (j - 1)) (by omega) hc.1 hc.2.1 hc.2.2.2.2.2) kv_Z_59 rfl rfl (by decide) (Nat.le_of_ble_eq_true rfl) (by decide) d_Z_kind_68 (fun r M1 hp => ?_)
              obtain ⟨hM1, rfl⟩ := hp
              subst M1
              refine z_bipush E (v := nI 16) d_Z_kind_71 (by decide) ?_
              refine z_iadd E d_Z_kind_73 ?_
              refine z_top (nI_add _ _) ?_
              refine z_icmp_lt E 102 d_Z_kind_74 (by decide) (fun h74 => ?_) (fun h74 => ?_)
              · have h74 := (nI_ltI (by omega) (by omega)).mp h74
                refine z_iconst E (v := nI 3) d_Z_kind_102 (by decide) ?_
                refine z_iret E hr ?_ (by decide) (by decide) d_Z_kind_103
                exact ⟨rfl, Or.inr (Or.inr (Or.inl ⟨rfl, fun hh => absurd (huL.1 hh).2.2 (by omega), fun hh => absurd (huL.2 hh).2.2 (by omega), huZ.mpr (Or.inl ⟨h0, by omega⟩)⟩))⟩
              · have h74 := mt (nI_ltI (by omega) (by omega)).mpr h74
                refine z_iload_n E 2 d_Z_kind_77 rfl rfl ?_
                refine z_iconst E (v := nI 1) d_Z_kind_78 (by decide) ?_
                refine z_iadd E d_Z_kind_79 ?_
                refine z_top ((nI_1 _).trans (congrArg nI (show j - 1 + 1 = j by omega))) ?_
                refine z_aload_n E 0 d_Z_kind_80 rfl rfl ?_
                refine zz_get E 8 (by decide) fl_Z_55 rfl rfl d_Z_kind_81 ?_
                refine z_top hp0.1.1 ?_
                refine z_icmp_ge E 104 d_Z_kind_84 (by decide) (fun h84 => ?_) (fun h84 => ?_)
                · have h84 := (nI_leI (by omega) (by omega)).mp h84
                  refine z_iconst E (v := nI 0) d_Z_kind_104 (by decide) ?_
                  refine z_iret E hr ?_ (by decide) (by decide) d_Z_kind_105
                  exact ⟨rfl, Or.inr (Or.inr (Or.inr ⟨rfl, fun hh => absurd (huL.1 hh).2.2 (by omega), fun hh => absurd (huL.2 hh).2.2 (by omega), fun hh => by rcases huZ.mp hh with ⟨q1, q2⟩ | ⟨q1, q2⟩ <;> omega⟩))⟩
                · have h84 := mt (nI_leI (by omega) (by omega)).mpr h84
                  refine z_iload_n E 1 d_Z_kind_87 rfl rfl ?_
                  refine z_aload_n E 0 d_Z_kind_88 rfl rfl ?_
                  refine zz_get E 1 (by decide) fl_Z_13 rfl rfl d_Z_kind_89 ?_
                  refine z_iload_n E 2 d_Z_kind_92 rfl rfl ?_
                  refine z_iconst E (v := nI 1) d_Z_kind_93 (by decide) ?_
                  refine z_iadd E d_Z_kind_94 ?_
                  refine z_top ((nI_1 _).trans (congrArg nI (show j - 1 + 1 = j by omega))) ?_
                  refine zn_iald E 2 1 rfl rfl (_) (rfl) (by omega) (by decide) d_Z_kind_95 ?_
                  refine z_top (hp0.1.2.2 j (by omega)).1 ?_
                  refine z_bipush E (v := nI 16) d_Z_kind_96 (by decide) ?_
                  refine z_isub E d_Z_kind_98 ?_
                  have hO16 := (hp0.2.1.1 j (by omega))
                  refine z_top (pk_sub hO16.1) ?_
                  refine z_icmp_lt E 104 d_Z_kind_99 (by decide) (fun h99 => ?_) (fun h99 => ?_)
                  · have h99 := (nI_ltI (by omega) (by omega)).mp h99
                    refine z_iconst E (v := nI 0) d_Z_kind_104 (by decide) ?_
                    refine z_iret E hr ?_ (by decide) (by decide) d_Z_kind_105
                    exact ⟨rfl, Or.inr (Or.inr (Or.inr ⟨rfl, fun hh => absurd (huL.1 hh).2.2 (by omega), fun hh => absurd (huL.2 hh).2.2 (by omega), fun hh => by rcases huZ.mp hh with ⟨q1, q2⟩ | ⟨q1, q2⟩ <;> omega⟩))⟩
                  · have h99 := mt (nI_ltI (by omega) (by omega)).mpr h99
                    refine z_iconst E (v := nI 3) d_Z_kind_102 (by decide) ?_
                    refine z_iret E hr ?_ (by decide) (by decide) d_Z_kind_103
                    exact ⟨rfl, Or.inr (Or.inr (Or.inl ⟨rfl, fun hh => absurd (huL.1 hh).2.2 (by omega), fun hh => absurd (huL.2 hh).2.2 (by omega), huZ.mpr (Or.inr ⟨by omega, by omega⟩)⟩))⟩
          · have h43 := mt (nI_leI (by omega) (by omega)).mpr h43
            refine z_aload_n E 0 d_Z_kind_46 rfl rfl ?_
            refine zz_get E 4 (by decide) fl_Z_23 rfl rfl d_Z_kind_47 ?_
            refine z_iload_n E 2 d_Z_kind_50 rfl rfl ?_
            refine zn_zald E 5 2 rfl rfl (_) (rfl) (by omega) (by decide) d_Z_kind_51 ?_
            refine z_top hc.2.2.1 ?_
            refine z_if_eq E 59 d_Z_kind_52 (by decide) (fun h52 => ?_) (fun h52 => ?_)
            · have h52 := st_live.mp h52
              refine z_iconst E (v := nI 2) d_Z_kind_59 (by decide) ?_
              refine z_iret E hr ?_ (by decide) (by decide) d_Z_kind_60
              obtain ⟨w, hw⟩ := Option.isSome_iff_exists.mp h52
              refine ⟨rfl, Or.inr (Or.inl ⟨rfl, ⟨ad (j - 1), sz (j - 1), w, by rw [← hw]; exact hp0.2.2.1.1 (j - 1) (by omega), hlo (j - 1) (by omega), by omega⟩, fun hh => ?_⟩)⟩
              rw [(huL.1 hh).2.1] at hw
              cases hw
            · have h52 := mt st_live.mpr h52
              refine z_iconst E (v := nI 1) d_Z_kind_55 (by decide) ?_
              refine z_goto E 60 d_Z_kind_56 (by decide) ?_
              refine z_iret E hr ?_ (by decide) (by decide) d_Z_kind_60
              have hs : st (j - 1) = none := by
                cases hs : st (j - 1) with
                | none => rfl
                | some w => rw [hs] at h52; exact absurd rfl h52
              exact ⟨rfl, Or.inl ⟨rfl, ad (j - 1), sz (j - 1), by rw [← hs]; exact hp0.2.2.1.1 (j - 1) (by omega), hlo (j - 1) (by omega), by omega⟩⟩
theorem c_kind_t (l : Launch) (D : va_G) (cA : Nat → ClassId) (a : Nat → Nat) (M : zmem) (hfl : l.flags = flags0) (x : Int32) (hx : x.toInt < 0 ∨ 8192 ≤ x.toInt) : zMt l y_Z_kind b_Z_kind 3 (some .int) (rmt 7) D zcl (ztys cA) (zw a cA) [.ref (a 0), .int x] M "java/lang/IndexOutOfBoundsException" := by
  refine zMt.of (own := "ZoneHeap") (by decide) rfl (Nat.le_of_ble_eq_true rfl) (by simp [Value.category]) ?_
  intro p e s m args below meth c A hadm E hex
  refine z_iload_n E 1 d_Z_kind_0 rfl rfl ?_
  refine z_if_lt E 15 d_Z_kind_1 (by decide) (fun h1 => ?_) (fun h1 => ?_)
  · refine z_iconst E (v := nI 0) d_Z_kind_15 (by decide) ?_
    exact zt_calls E hex (As := [.int (nI 0)]) (c_within_t l hfl D _ _ _ _) ks_Z_103 rfl rfl (by decide) (Nat.le_of_ble_eq_true rfl) (by decide) (by decide) d_Z_kind_16
  · refine z_iload_n E 1 d_Z_kind_4 rfl rfl ?_
    refine z_sipush E (v := nI 8192) d_Z_kind_5 (by decide) ?_
    refine z_icmp_ge E 15 d_Z_kind_8 (by decide) (fun h8 => ?_) (fun h8 => ?_)
    · refine z_iconst E (v := nI 0) d_Z_kind_15 (by decide) ?_
      exact zt_calls E hex (As := [.int (nI 0)]) (c_within_t l hfl D _ _ _ _) ks_Z_103 rfl rfl (by decide) (Nat.le_of_ble_eq_true rfl) (by decide) (by decide) d_Z_kind_16
    · rw [le_i (by omega)] at h8
      rw [Int32.lt_iff_toInt_lt] at h1
      rcases hx with h | h
      · exact absurd h h1
      · exact absurd h h8
theorem c_block (l : Launch) (D : va_G) (cA : Nat → ClassId) (a : Nat → Nat) (M : zmem) (h : zmap) (g : Nat) (hi : zInv M h g) (X : Nat) (hX : X < 8192) : zMi l y_Z_block b_Z_block 2 .int (rmk 2) D zcl (ztys cA) (zw a cA) [.ref (a 0), .int (nI X)] M (fun r M' => M' = M ∧ ((∃ y q, r = nI y ∧ h y = some (q, none) ∧ y ≤ X ∧ X < y + q) ∨ (r = -1 ∧ ¬ hlive h X))) := by
  refine zMi.of (own := "ZoneHeap") (by decide) rfl (Nat.le_of_ble_eq_true rfl) (by simp [Value.category]) ?_
  intro p e s m args below meth c A E hr hex
  obtain ⟨n, ad, sz, st, hp0⟩ := hi
  have h255 := hp0.1.2.1
  refine z_iload_n E 1 d_Z_block_0 rfl rfl ?_
  refine z_if_lt E 15 d_Z_block_1 (by decide) (fun h1 => ?_) (fun h1 => ?_)
  · exact absurd h1 (nI_pos (by omega))
  · refine z_iload_n E 1 d_Z_block_4 rfl rfl ?_
    refine z_sipush E (v := nI 8192) d_Z_block_5 (by decide) ?_
    refine z_icmp_ge E 15 d_Z_block_8 (by decide) (fun h8 => ?_) (fun h8 => ?_)
    · exact absurd ((nI_leI (by omega) (by omega)).mp h8) (by omega)
    · refine z_iconst E (v := nI 1) d_Z_block_11 (by decide) ?_
      refine z_goto E 16 d_Z_block_12 (by decide) ?_
      refine zk_callsv E [.int (nI 1)] (c_within l D _ _ _ _) ks_Z_103 rfl rfl (by decide) (Nat.le_of_ble_eq_true rfl) (by decide) d_Z_block_16 (fun M1 hp => ?_)
      subst M1
      refine z_aload_n E 0 d_Z_block_19 rfl rfl ?_
      refine z_iload_n E 1 d_Z_block_20 rfl rfl ?_
      refine zz_calli E [.int (nI X)] (c_isLive l D cA a M n ad sz st h g hp0 X hX) kv_Z_106 rfl rfl (by decide) (Nat.le_of_ble_eq_true rfl) (by decide) d_Z_block_21 (fun r M1 hp => ?_)
      obtain ⟨hM1, ⟨rfl, hL⟩ | ⟨rfl, hL⟩⟩ := hp <;> subst M1
      · refine z_if_eq E 40 d_Z_block_24 (by decide) (fun h24 => ?_) (fun h24 => ?_)
        · exact absurd h24 (by decide)
        · refine z_aload_n E 0 d_Z_block_27 rfl rfl ?_
          refine zz_get E 1 (by decide) fl_Z_13 rfl rfl d_Z_block_28 ?_
          refine z_aload_n E 0 d_Z_block_31 rfl rfl ?_
          refine z_iload_n E 1 d_Z_block_32 rfl rfl ?_
          refine zz_calli E [.int (nI X)] (c_under l D cA a M n ad sz st hp0.1 hp0.2.1 (nI X)) kv_Z_78 rfl rfl (by decide) (Nat.le_of_ble_eq_true rfl) (by decide) d_Z_block_33 (fun r M1 hp => ?_)
          obtain ⟨hM1, j, hj, rfl, hlo, hhi⟩ := hp
          subst M1
          obtain ⟨hlo, hhi⟩ := und_nat (by omega) hlo hhi
          obtain ⟨h0, hs, hin⟩ := (und_live hp0.2.1 hp0.2.2.1 hj hlo hhi).1 hL
          have hc := hp0.1.2.2 (j - 1) (by omega)
          refine z_top (nI_sub1 h0) ?_
          refine zn_iald E 2 1 rfl rfl (_) (rfl) (by omega) (by decide) d_Z_block_36 ?_
          refine z_top hc.1 ?_
          refine z_goto E 41 d_Z_block_37 (by decide) ?_
          refine z_iret E hr ?_ (by decide) (by decide) d_Z_block_41
          exact ⟨rfl, Or.inl ⟨ad (j - 1), sz (j - 1), rfl, by rw [← hs]; exact hp0.2.2.1.1 (j - 1) (by omega), hlo (j - 1) (by omega), hin⟩⟩
      · refine z_if_eq E 40 d_Z_block_24 (by decide) (fun h24 => ?_) (fun h24 => ?_)
        · refine z_iconst E (v := (-1 : Int32)) d_Z_block_40 (by decide) ?_
          refine z_iret E hr ?_ (by decide) (by decide) d_Z_block_41
          exact ⟨rfl, Or.inr ⟨rfl, hL⟩⟩
        · exact absurd rfl h24
theorem c_block_t (l : Launch) (D : va_G) (cA : Nat → ClassId) (a : Nat → Nat) (M : zmem) (hfl : l.flags = flags0) (x : Int32) (hx : x.toInt < 0 ∨ 8192 ≤ x.toInt) : zMt l y_Z_block b_Z_block 2 (some .int) (rmt 7) D zcl (ztys cA) (zw a cA) [.ref (a 0), .int x] M "java/lang/IndexOutOfBoundsException" := by
  refine zMt.of (own := "ZoneHeap") (by decide) rfl (Nat.le_of_ble_eq_true rfl) (by simp [Value.category]) ?_
  intro p e s m args below meth c A hadm E hex
  refine z_iload_n E 1 d_Z_block_0 rfl rfl ?_
  refine z_if_lt E 15 d_Z_block_1 (by decide) (fun h1 => ?_) (fun h1 => ?_)
  · refine z_iconst E (v := nI 0) d_Z_block_15 (by decide) ?_
    exact zt_calls E hex (As := [.int (nI 0)]) (c_within_t l hfl D _ _ _ _) ks_Z_103 rfl rfl (by decide) (Nat.le_of_ble_eq_true rfl) (by decide) (by decide) d_Z_block_16
  · refine z_iload_n E 1 d_Z_block_4 rfl rfl ?_
    refine z_sipush E (v := nI 8192) d_Z_block_5 (by decide) ?_
    refine z_icmp_ge E 15 d_Z_block_8 (by decide) (fun h8 => ?_) (fun h8 => ?_)
    · refine z_iconst E (v := nI 0) d_Z_block_15 (by decide) ?_
      exact zt_calls E hex (As := [.int (nI 0)]) (c_within_t l hfl D _ _ _ _) ks_Z_103 rfl rfl (by decide) (Nat.le_of_ble_eq_true rfl) (by decide) (by decide) d_Z_block_16
    · rw [le_i (by omega)] at h8
      rw [Int32.lt_iff_toInt_lt] at h1
      rcases hx with h | h
      · exact absurd h h1
      · exact absurd h h8
theorem c_four (l : Launch) (D : va_G) (cA : Nat → ClassId) (a : Nat → Nat) (M : zmem) (h : zmap) (g : Nat) (hi : zInv M h g) (X : Nat) (hX : X ≤ 8188) (h1 : hlive h X) (h3 : hlive h (X + 3)) : zMv l y_Z_four b_Z_four 2 (rmk 2) D zcl (ztys cA) (zw a cA) [.ref (a 0), .int (nI X)] M (fun M' => M' = M) := by
  refine zMv.of (own := "ZoneHeap") (by decide) rfl (Nat.le_of_ble_eq_true rfl) (by simp [Value.category]) ?_
  intro p e s m args below meth c A E hr hex
  obtain ⟨n, ad, sz, st, hp0⟩ := hi
  have hL1 := h1
  refine z_iload_n E 1 d_Z_four_0 rfl rfl ?_
  refine z_if_lt E 15 d_Z_four_1 (by decide) (fun h1 => ?_) (fun h1 => ?_)
  · exact absurd h1 (nI_pos (by omega))
  · refine z_iload_n E 1 d_Z_four_4 rfl rfl ?_
    refine z_sipush E (v := nI 8188) d_Z_four_5 (by decide) ?_
    refine z_icmp_gt E 15 d_Z_four_8 (by decide) (fun h8 => ?_) (fun h8 => ?_)
    · exact absurd ((nI_ltI (by omega) (by omega)).mp h8) (by omega)
    · refine z_iconst E (v := nI 1) d_Z_four_11 (by decide) ?_
      refine z_goto E 16 d_Z_four_12 (by decide) ?_
      refine zk_callsv E [.int (nI 1)] (c_within l D _ _ _ _) ks_Z_103 rfl rfl (by decide) (Nat.le_of_ble_eq_true rfl) (by decide) d_Z_four_16 (fun M1 hp => ?_)
      subst M1
      refine z_aload_n E 0 d_Z_four_19 rfl rfl ?_
      refine z_iload_n E 1 d_Z_four_20 rfl rfl ?_
      refine zz_calli E [.int (nI X)] (c_isLive l D cA a M n ad sz st h g hp0 X (by omega)) kv_Z_106 rfl rfl (by decide) (Nat.le_of_ble_eq_true rfl) (by decide) d_Z_four_21 (fun r M1 hp => ?_)
      obtain ⟨hM1, ⟨rfl, hL⟩ | ⟨rfl, hL⟩⟩ := hp <;> subst M1
      rotate_left
      · exact absurd hL1 hL
      refine z_if_eq E 41 d_Z_four_24 (by decide) (fun h24 => ?_) (fun h24 => ?_)
      · exact absurd h24 (by decide)
      · refine z_aload_n E 0 d_Z_four_27 rfl rfl ?_
        refine z_iload_n E 1 d_Z_four_28 rfl rfl ?_
        refine z_iconst E (v := nI 3) d_Z_four_29 (by decide) ?_
        refine z_iadd E d_Z_four_30 ?_
        refine z_top (nI_add _ _) ?_
        refine zz_calli E [.int (nI (X + 3))] (c_isLive l D cA a M n ad sz st h g hp0 (X + 3) (by omega)) kv_Z_106 rfl rfl (by decide) (Nat.le_of_ble_eq_true rfl) (by decide) d_Z_four_31 (fun r M1 hp => ?_)
        obtain ⟨hM1, ⟨rfl, hL⟩ | ⟨rfl, hL⟩⟩ := hp <;> subst M1
        rotate_left
        · exact absurd h3 hL
        refine z_if_eq E 41 d_Z_four_34 (by decide) (fun h34 => ?_) (fun h34 => ?_)
        · exact absurd h34 (by decide)
        · refine z_iconst E (v := nI 1) d_Z_four_37 (by decide) ?_
          refine z_goto E 42 d_Z_four_38 (by decide) ?_
          refine zk_callsv E [.int (nI 1)] (c_state l D _ _ _ _) ks_Z_81 rfl rfl (by decide) (Nat.le_of_ble_eq_true rfl) (by decide) d_Z_four_42 (fun M1 hp => ?_)
          subst M1
          refine z_vret E hr ?_ (by decide) (by decide) d_Z_four_45
          rfl
theorem c_four_s (l : Launch) (D : va_G) (cA : Nat → ClassId) (a : Nat → Nat) (M : zmem) (hfl : l.flags = flags0) (h : zmap) (g : Nat) (hi : zInv M h g) (X : Nat) (hX : X ≤ 8188) (h1 : ¬ (hlive h X ∧ hlive h (X + 3))) : zMt l y_Z_four b_Z_four 2 none (rmt 7) D zcl (ztys cA) (zw a cA) [.ref (a 0), .int (nI X)] M "java/lang/IllegalStateException" := by
  refine zMt.of (own := "ZoneHeap") (by decide) rfl (Nat.le_of_ble_eq_true rfl) (by simp [Value.category]) ?_
  intro p e s m args below meth c A hadm E hex
  obtain ⟨n, ad, sz, st, hp0⟩ := hi
  have hL1 := h1
  refine z_iload_n E 1 d_Z_four_0 rfl rfl ?_
  refine z_if_lt E 15 d_Z_four_1 (by decide) (fun h1 => ?_) (fun h1 => ?_)
  · exact absurd h1 (nI_pos (by omega))
  · refine z_iload_n E 1 d_Z_four_4 rfl rfl ?_
    refine z_sipush E (v := nI 8188) d_Z_four_5 (by decide) ?_
    refine z_icmp_gt E 15 d_Z_four_8 (by decide) (fun h8 => ?_) (fun h8 => ?_)
    · exact absurd ((nI_ltI (by omega) (by omega)).mp h8) (by omega)
    · refine z_iconst E (v := nI 1) d_Z_four_11 (by decide) ?_
      refine z_goto E 16 d_Z_four_12 (by decide) ?_
      refine zk_callsv E [.int (nI 1)] (c_within l D _ _ _ _) ks_Z_103 rfl rfl (by decide) (Nat.le_of_ble_eq_true rfl) (by decide) d_Z_four_16 (fun M1 hp => ?_)
      subst M1
      refine z_aload_n E 0 d_Z_four_19 rfl rfl ?_
      refine z_iload_n E 1 d_Z_four_20 rfl rfl ?_
      refine zz_calli E [.int (nI X)] (c_isLive l D cA a M n ad sz st h g hp0 X (by omega)) kv_Z_106 rfl rfl (by decide) (Nat.le_of_ble_eq_true rfl) (by decide) d_Z_four_21 (fun r M1 hp => ?_)
      obtain ⟨hM1, ⟨rfl, hL⟩ | ⟨rfl, hL⟩⟩ := hp <;> subst M1
      · refine z_if_eq E 41 d_Z_four_24 (by decide) (fun h24 => ?_) (fun h24 => ?_)
        · exact absurd h24 (by decide)
        · refine z_aload_n E 0 d_Z_four_27 rfl rfl ?_
          refine z_iload_n E 1 d_Z_four_28 rfl rfl ?_
          refine z_iconst E (v := nI 3) d_Z_four_29 (by decide) ?_
          refine z_iadd E d_Z_four_30 ?_
          refine z_top (nI_add _ _) ?_
          refine zz_calli E [.int (nI (X + 3))] (c_isLive l D cA a M n ad sz st h g hp0 (X + 3) (by omega)) kv_Z_106 rfl rfl (by decide) (Nat.le_of_ble_eq_true rfl) (by decide) d_Z_four_31 (fun r M1 hp => ?_)
          obtain ⟨hM1, ⟨rfl, hL3⟩ | ⟨rfl, hL3⟩⟩ := hp <;> subst M1
          · exact absurd ⟨hL, hL3⟩ hL1
          · refine z_if_eq E 41 d_Z_four_34 (by decide) (fun h34 => ?_) (fun h34 => ?_)
            · refine z_iconst E (v := nI 0) d_Z_four_41 (by decide) ?_
              exact zt_calls E hex (As := [.int (nI 0)]) (c_state_t l hfl D _ _ _ _) ks_Z_81 rfl rfl (by decide) (Nat.le_of_ble_eq_true rfl) (by decide) (by decide) d_Z_four_42
            · exact absurd rfl h34
      · refine z_if_eq E 41 d_Z_four_24 (by decide) (fun h24 => ?_) (fun h24 => ?_)
        · refine z_iconst E (v := nI 0) d_Z_four_41 (by decide) ?_
          exact zt_calls E hex (As := [.int (nI 0)]) (c_state_t l hfl D _ _ _ _) ks_Z_81 rfl rfl (by decide) (Nat.le_of_ble_eq_true rfl) (by decide) (by decide) d_Z_four_42
        · exact absurd rfl h24
theorem c_four_t (l : Launch) (D : va_G) (cA : Nat → ClassId) (a : Nat → Nat) (M : zmem) (hfl : l.flags = flags0) (x : Int32) (hx : x.toInt < 0 ∨ 8188 < x.toInt) : zMt l y_Z_four b_Z_four 2 none (rmt 7) D zcl (ztys cA) (zw a cA) [.ref (a 0), .int x] M "java/lang/IndexOutOfBoundsException" := by
  refine zMt.of (own := "ZoneHeap") (by decide) rfl (Nat.le_of_ble_eq_true rfl) (by simp [Value.category]) ?_
  intro p e s m args below meth c A hadm E hex
  refine z_iload_n E 1 d_Z_four_0 rfl rfl ?_
  refine z_if_lt E 15 d_Z_four_1 (by decide) (fun h1 => ?_) (fun h1 => ?_)
  · refine z_iconst E (v := nI 0) d_Z_four_15 (by decide) ?_
    exact zt_calls E hex (As := [.int (nI 0)]) (c_within_t l hfl D _ _ _ _) ks_Z_103 rfl rfl (by decide) (Nat.le_of_ble_eq_true rfl) (by decide) (by decide) d_Z_four_16
  · refine z_iload_n E 1 d_Z_four_4 rfl rfl ?_
    refine z_sipush E (v := nI 8188) d_Z_four_5 (by decide) ?_
    refine z_icmp_gt E 15 d_Z_four_8 (by decide) (fun h8 => ?_) (fun h8 => ?_)
    · refine z_iconst E (v := nI 0) d_Z_four_15 (by decide) ?_
      exact zt_calls E hex (As := [.int (nI 0)]) (c_within_t l hfl D _ _ _ _) ks_Z_103 rfl rfl (by decide) (Nat.le_of_ble_eq_true rfl) (by decide) (by decide) d_Z_four_16
    · rw [lt_i (by omega)] at h8
      rw [Int32.lt_iff_toInt_lt] at h1
      rcases hx with h | h
      · exact absurd h h1
      · exact absurd h h8
end
section
/-! ZoneHeap: write, word, read, lostAt, count -/
def wC (f : Nat → Int32) (p : Nat) : Int32 := (((f p &&& nI 255) ||| ((f (p + 1) &&& nI 255) <<< (nI 8 &&& 31))) ||| ((f (p + 2) &&& nI 255) <<< (nI 16 &&& 31))) ||| (f (p + 3) <<< (nI 24 &&& 31))
def wB (v : Int32) (j : Nat) : Int32 := (v >>> (nI 8 * nI j &&& 31)).toInt8.toInt32
theorem c_word (l : Launch) (D : va_G) (cA : Nat → ClassId) (a : Nat → Nat) (M : zmem) (X : Nat) (hX : X + 3 < 8192) : zMi l y_Z_word b_Z_word 2 .int (rmk 0) D zcl (ztys cA) (zw a cA) [.ref (a 0), .int (nI X)] M (fun r M' => M' = M ∧ r = wC (M 0) X) := by
  refine zMi.of (own := "ZoneHeap") (by decide) rfl (Nat.le_of_ble_eq_true rfl) (by simp [Value.category]) ?_
  intro p e s m args below meth c A E hr hex
  refine z_aload_n E 0 d_Z_word_0 rfl rfl ?_
  refine zz_get E 0 (by decide) fl_Z_9 rfl rfl d_Z_word_1 ?_
  refine z_iload_n E 1 d_Z_word_4 rfl rfl ?_
  refine zn_bald E 1 0 rfl rfl (_) (rfl) (by omega) (by decide) d_Z_word_5 ?_
  refine z_sipush E (v := nI 255) d_Z_word_6 (by decide) ?_
  refine z_iand E d_Z_word_9 ?_
  refine z_aload_n E 0 d_Z_word_10 rfl rfl ?_
  refine zz_get E 0 (by decide) fl_Z_9 rfl rfl d_Z_word_11 ?_
  refine z_iload_n E 1 d_Z_word_14 rfl rfl ?_
  refine z_iconst E (v := nI 1) d_Z_word_15 (by decide) ?_
  refine z_iadd E d_Z_word_16 ?_
  refine z_top (nI_add _ _) ?_
  refine zn_bald E 1 0 rfl rfl (_) (rfl) (by omega) (by decide) d_Z_word_17 ?_
  refine z_sipush E (v := nI 255) d_Z_word_18 (by decide) ?_
  refine z_iand E d_Z_word_21 ?_
  refine z_bipush E (v := nI 8) d_Z_word_22 (by decide) ?_
  refine z_ishl E d_Z_word_24 ?_
  refine z_ior E d_Z_word_25 ?_
  refine z_aload_n E 0 d_Z_word_26 rfl rfl ?_
  refine zz_get E 0 (by decide) fl_Z_9 rfl rfl d_Z_word_27 ?_
  refine z_iload_n E 1 d_Z_word_30 rfl rfl ?_
  refine z_iconst E (v := nI 2) d_Z_word_31 (by decide) ?_
  refine z_iadd E d_Z_word_32 ?_
  refine z_top (nI_add _ _) ?_
  refine zn_bald E 1 0 rfl rfl (_) (rfl) (by omega) (by decide) d_Z_word_33 ?_
  refine z_sipush E (v := nI 255) d_Z_word_34 (by decide) ?_
  refine z_iand E d_Z_word_37 ?_
  refine z_bipush E (v := nI 16) d_Z_word_38 (by decide) ?_
  refine z_ishl E d_Z_word_40 ?_
  refine z_ior E d_Z_word_41 ?_
  refine z_aload_n E 0 d_Z_word_42 rfl rfl ?_
  refine zz_get E 0 (by decide) fl_Z_9 rfl rfl d_Z_word_43 ?_
  refine z_iload_n E 1 d_Z_word_46 rfl rfl ?_
  refine z_iconst E (v := nI 3) d_Z_word_47 (by decide) ?_
  refine z_iadd E d_Z_word_48 ?_
  refine z_top (nI_add _ _) ?_
  refine zn_bald E 1 0 rfl rfl (_) (rfl) (by omega) (by decide) d_Z_word_49 ?_
  refine z_bipush E (v := nI 24) d_Z_word_50 (by decide) ?_
  refine z_ishl E d_Z_word_52 ?_
  refine z_ior E d_Z_word_53 ?_
  refine z_iret E hr ?_ (by decide) (by decide) d_Z_word_54
  exact ⟨rfl, rfl⟩
theorem c_write (l : Launch) (D : va_G) (cA : Nat → ClassId) (a : Nat → Nat) (M : zmem) (h : zmap) (g : Nat) (hi : zInv M h g) (X : Nat) (hX : X ≤ 8188) (h1 : hlive h X) (h3 : hlive h (X + 3)) (v : Int32) : zMv l y_Z_write b_Z_write 4 (rmk 3) D zcl (ztys cA) (zw a cA) [.ref (a 0), .int (nI X), .int v] M (fun M' => (∀ r, r ≠ 0 → M' r = M r) ∧ ∀ i, M' 0 i = if X ≤ i ∧ i < X + 4 then wB v (i - X) else M 0 i) := by
  refine zMv.of (own := "ZoneHeap") (by decide) rfl (Nat.le_of_ble_eq_true rfl) (by simp [Value.category]) ?_
  intro p e s m args below meth c A E hr hex
  refine z_aload_n E 0 d_Z_write_0 rfl rfl ?_
  refine z_iload_n E 1 d_Z_write_1 rfl rfl ?_
  refine zz_callv E [.int (nI X)] (c_four l D cA a M h g hi X hX h1 h3) kv_Z_110 rfl rfl (by decide) (Nat.le_of_ble_eq_true rfl) (by decide) d_Z_write_2 (fun M1 hp => ?_)
  subst M1
  refine z_iconst E (v := nI 0) d_Z_write_5 (by decide) ?_
  refine z_istore_n E 3 d_Z_write_6 rfl (by decide) ?_
  refine z_lp (ι := Nat × zmem) (fun y => 4 - y.1) (fun y => y.1 ≤ 4 ∧ (∀ r, r ≠ 0 → y.2 r = M r) ∧ ∀ i, y.2 0 i = if X ≤ i ∧ i < X + y.1 then wB v (i - X) else M 0 i) (fun y => [some (.ref (a 0)), some (.int (nI X)), some (.int v), some (.int (nI y.1))]) (fun y => y.2) ?_ (0, M) ⟨Nat.zero_le _, fun _ _ => rfl, fun i => by dsimp only; rw [if_neg (by omega)]⟩ (by repeat' first | exact trivial | refine ⟨rfl, ?_⟩)
  rintro ⟨j, M'⟩ ⟨hI1, hI3, hI4⟩ ih
  dsimp only at hI1 hI3 hI4 ih ⊢
  refine z_iload_n E 3 d_Z_write_7 rfl rfl ?_
  refine z_iconst E (v := nI 4) d_Z_write_8 (by decide) ?_
  refine z_icmp_ge E 33 d_Z_write_9 (by decide) (fun h9 => ?_) (fun h9 => ?_)
  · have h9 := (nI_leI (by omega) (by omega)).mp h9
    have : j = 4 := by omega
    subst this
    refine z_vret E hr ?_ (by decide) (by decide) d_Z_write_33
    exact ⟨hI3, hI4⟩
  · have h9 : j < 4 := by have := mt (nI_leI (by omega) (by omega)).mpr h9; omega
    refine z_aload_n E 0 d_Z_write_12 rfl rfl ?_
    refine zz_get E 0 (by decide) fl_Z_9 rfl rfl d_Z_write_13 ?_
    refine z_iload_n E 1 d_Z_write_16 rfl rfl ?_
    refine z_iload_n E 3 d_Z_write_17 rfl rfl ?_
    refine z_iadd E d_Z_write_18 ?_
    refine z_top (nI_add _ _) ?_
    refine z_iload_n E 2 d_Z_write_19 rfl rfl ?_
    refine z_bipush E (v := nI 8) d_Z_write_20 (by decide) ?_
    refine z_iload_n E 3 d_Z_write_22 rfl rfl ?_
    refine z_imul E d_Z_write_23 ?_
    refine z_ishr E d_Z_write_24 ?_
    refine z_i2b E d_Z_write_25 ?_
    refine zz_bast E 0 rfl (v := wB v j) (pk_vb _) (_) (rfl) (by omega) rfl d_Z_write_26 ?_
    refine z_iinc E (v := nI (j + 1)) d_Z_write_27 rfl (nI_1 j) (by decide) ?_
    refine z_goto E 7 d_Z_write_30 (by decide) ?_
    refine ih (j + 1, zu M' 0 (X + j) (wB v j)) _ ⟨by dsimp only; omega, fun r hr' => (zu_ne hr').trans (hI3 r hr'), fun i => ?_⟩ (by dsimp only; omega) (by repeat' first | exact trivial | refine ⟨rfl, ?_⟩)
    dsimp only
    rw [zu_same]
    by_cases hij : i = X + j
    · rw [hij, upd_same, if_pos (by omega), show X + j - X = j by omega]
    · rw [upd_ne hij, hI4 i]
      by_cases hc : X ≤ i ∧ i < X + j
      · rw [if_pos hc, if_pos (by omega)]
      · rw [if_neg hc, if_neg (by omega)]
theorem c_write_s (l : Launch) (D : va_G) (cA : Nat → ClassId) (a : Nat → Nat) (M : zmem) (hfl : l.flags = flags0) (h : zmap) (g : Nat) (hi : zInv M h g) (X : Nat) (hX : X ≤ 8188) (h1 : ¬ (hlive h X ∧ hlive h (X + 3))) (v : Int32) : zMt l y_Z_write b_Z_write 4 none (rmt 8) D zcl (ztys cA) (zw a cA) [.ref (a 0), .int (nI X), .int v] M "java/lang/IllegalStateException" := by
  refine zMt.of (own := "ZoneHeap") (by decide) rfl (Nat.le_of_ble_eq_true rfl) (by simp [Value.category]) ?_
  intro p e s m args below meth c A hadm E hex
  refine z_aload_n E 0 d_Z_write_0 rfl rfl ?_
  refine z_iload_n E 1 d_Z_write_1 rfl rfl ?_
  exact zt_callv E hex (As := [.int (nI X)]) (c_four_s l D cA a M hfl h g hi X hX h1) kv_Z_110 0 rfl rfl rfl rfl (by decide) (Nat.le_of_ble_eq_true rfl) (by decide) (by decide) d_Z_write_2
theorem c_write_t (l : Launch) (D : va_G) (cA : Nat → ClassId) (a : Nat → Nat) (M : zmem) (hfl : l.flags = flags0) (x v : Int32) (hx : x.toInt < 0 ∨ 8188 < x.toInt) : zMt l y_Z_write b_Z_write 4 none (rmt 8) D zcl (ztys cA) (zw a cA) [.ref (a 0), .int x, .int v] M "java/lang/IndexOutOfBoundsException" := by
  refine zMt.of (own := "ZoneHeap") (by decide) rfl (Nat.le_of_ble_eq_true rfl) (by simp [Value.category]) ?_
  intro p e s m args below meth c A hadm E hex
  refine z_aload_n E 0 d_Z_write_0 rfl rfl ?_
  refine z_iload_n E 1 d_Z_write_1 rfl rfl ?_
  exact zt_callv E hex (As := [.int x]) (c_four_t l D cA a M hfl x hx) kv_Z_110 0 rfl rfl rfl rfl (by decide) (Nat.le_of_ble_eq_true rfl) (by decide) (by decide) d_Z_write_2
theorem c_read (l : Launch) (D : va_G) (cA : Nat → ClassId) (a : Nat → Nat) (M : zmem) (h : zmap) (g : Nat) (hi : zInv M h g) (X : Nat) (hX : X ≤ 8188) (h1 : hlive h X) (h3 : hlive h (X + 3)) : zMi l y_Z_read b_Z_read 2 .int (rmk 3) D zcl (ztys cA) (zw a cA) [.ref (a 0), .int (nI X)] M (fun r M' => M' = M ∧ r = wC (M 0) X) := by
  refine zMi.of (own := "ZoneHeap") (by decide) rfl (Nat.le_of_ble_eq_true rfl) (by simp [Value.category]) ?_
  intro p e s m args below meth c A E hr hex
  refine z_aload_n E 0 d_Z_read_0 rfl rfl ?_
  refine z_iload_n E 1 d_Z_read_1 rfl rfl ?_
  refine zz_callv E [.int (nI X)] (c_four l D cA a M h g hi X hX h1 h3) kv_Z_110 rfl rfl (by decide) (Nat.le_of_ble_eq_true rfl) (by decide) d_Z_read_2 (fun M1 hp => ?_)
  subst M1
  refine z_aload_n E 0 d_Z_read_5 rfl rfl ?_
  refine z_iload_n E 1 d_Z_read_6 rfl rfl ?_
  refine zz_calli E [.int (nI X)] (c_word l D cA a M X (by omega)) kv_Z_113 rfl rfl (by decide) (Nat.le_of_ble_eq_true rfl) (by decide) d_Z_read_7 (fun r M1 hp => ?_)
  obtain ⟨hM1, rfl⟩ := hp
  subst M1
  refine z_iret E hr ?_ (by decide) (by decide) d_Z_read_10
  exact ⟨rfl, rfl⟩
theorem c_read_s (l : Launch) (D : va_G) (cA : Nat → ClassId) (a : Nat → Nat) (M : zmem) (hfl : l.flags = flags0) (h : zmap) (g : Nat) (hi : zInv M h g) (X : Nat) (hX : X ≤ 8188) (h1 : ¬ (hlive h X ∧ hlive h (X + 3))) : zMt l y_Z_read b_Z_read 2 (some .int) (rmt 8) D zcl (ztys cA) (zw a cA) [.ref (a 0), .int (nI X)] M "java/lang/IllegalStateException" := by
  refine zMt.of (own := "ZoneHeap") (by decide) rfl (Nat.le_of_ble_eq_true rfl) (by simp [Value.category]) ?_
  intro p e s m args below meth c A hadm E hex
  refine z_aload_n E 0 d_Z_read_0 rfl rfl ?_
  refine z_iload_n E 1 d_Z_read_1 rfl rfl ?_
  exact zt_callv E hex (As := [.int (nI X)]) (c_four_s l D cA a M hfl h g hi X hX h1) kv_Z_110 0 rfl rfl rfl rfl (by decide) (Nat.le_of_ble_eq_true rfl) (by decide) (by decide) d_Z_read_2
theorem c_read_t (l : Launch) (D : va_G) (cA : Nat → ClassId) (a : Nat → Nat) (M : zmem) (hfl : l.flags = flags0) (x : Int32) (hx : x.toInt < 0 ∨ 8188 < x.toInt) : zMt l y_Z_read b_Z_read 2 (some .int) (rmt 8) D zcl (ztys cA) (zw a cA) [.ref (a 0), .int x] M "java/lang/IndexOutOfBoundsException" := by
  refine zMt.of (own := "ZoneHeap") (by decide) rfl (Nat.le_of_ble_eq_true rfl) (by simp [Value.category]) ?_
  intro p e s m args below meth c A hadm E hex
  refine z_aload_n E 0 d_Z_read_0 rfl rfl ?_
  refine z_iload_n E 1 d_Z_read_1 rfl rfl ?_
  exact zt_callv E hex (As := [.int x]) (c_four_t l D cA a M hfl x hx) kv_Z_110 0 rfl rfl rfl rfl (by decide) (Nat.le_of_ble_eq_true rfl) (by decide) (by decide) d_Z_read_2
theorem c_lostAt (l : Launch) (D : va_G) (cA : Nat → ClassId) (a : Nat → Nat) (M : zmem) (t k : Nat) (ht : M 8 5 = nI t) (ht2 : t ≤ 256) (hk : k < t) : zMi l y_Z_lostAt b_Z_lostAt 2 .int (rmk 1) D zcl (ztys cA) (zw a cA) [.ref (a 0), .int (nI k)] M (fun r M' => M' = M ∧ r = M 7 k) := by
  refine zMi.of (own := "ZoneHeap") (by decide) rfl (Nat.le_of_ble_eq_true rfl) (by simp [Value.category]) ?_
  intro p e s m args below meth c A E hr hex
  refine z_iload_n E 1 d_Z_lostAt_0 rfl rfl ?_
  refine z_if_lt E 16 d_Z_lostAt_1 (by decide) (fun h1 => ?_) (fun h1 => ?_)
  · exact absurd h1 (nI_pos (by omega))
  · refine z_iload_n E 1 d_Z_lostAt_4 rfl rfl ?_
    refine z_aload_n E 0 d_Z_lostAt_5 rfl rfl ?_
    refine zz_get E 13 (by decide) fl_Z_122 rfl rfl d_Z_lostAt_6 ?_
    refine z_top ht ?_
    refine z_icmp_ge E 16 d_Z_lostAt_9 (by decide) (fun h9 => ?_) (fun h9 => ?_)
    · exact absurd ((nI_leI (by omega) (by omega)).mp h9) (by omega)
    · refine z_iconst E (v := nI 1) d_Z_lostAt_12 (by decide) ?_
      refine z_goto E 17 d_Z_lostAt_13 (by decide) ?_
      refine zk_callsv E [.int (nI 1)] (c_within l D _ _ _ _) ks_Z_103 rfl rfl (by decide) (Nat.le_of_ble_eq_true rfl) (by decide) d_Z_lostAt_17 (fun M1 hp => ?_)
      subst M1
      refine z_aload_n E 0 d_Z_lostAt_20 rfl rfl ?_
      refine zz_get E 7 (by decide) fl_Z_33 rfl rfl d_Z_lostAt_21 ?_
      refine z_iload_n E 1 d_Z_lostAt_24 rfl rfl ?_
      refine zn_iald E 8 1 rfl rfl (_) (rfl) (by omega) (by decide) d_Z_lostAt_25 ?_
      refine z_iret E hr ?_ (by decide) (by decide) d_Z_lostAt_26
      exact ⟨rfl, rfl⟩
theorem c_lostAt_t (l : Launch) (D : va_G) (cA : Nat → ClassId) (a : Nat → Nat) (M : zmem) (hfl : l.flags = flags0) (t : Nat) (x : Int32) (ht : M 8 5 = nI t) (ht2 : t ≤ 256) (hx : x.toInt < 0 ∨ (t : Int) ≤ x.toInt) : zMt l y_Z_lostAt b_Z_lostAt 2 (some .int) (rmt 7) D zcl (ztys cA) (zw a cA) [.ref (a 0), .int x] M "java/lang/IndexOutOfBoundsException" := by
  refine zMt.of (own := "ZoneHeap") (by decide) rfl (Nat.le_of_ble_eq_true rfl) (by simp [Value.category]) ?_
  intro p e s m args below meth c A hadm E hex
  refine z_iload_n E 1 d_Z_lostAt_0 rfl rfl ?_
  refine z_if_lt E 16 d_Z_lostAt_1 (by decide) (fun h1 => ?_) (fun h1 => ?_)
  · refine z_iconst E (v := nI 0) d_Z_lostAt_16 (by decide) ?_
    exact zt_calls E hex (As := [.int (nI 0)]) (c_within_t l hfl D _ _ _ _) ks_Z_103 rfl rfl (by decide) (Nat.le_of_ble_eq_true rfl) (by decide) (by decide) d_Z_lostAt_17
  · refine z_iload_n E 1 d_Z_lostAt_4 rfl rfl ?_
    refine z_aload_n E 0 d_Z_lostAt_5 rfl rfl ?_
    refine zz_get E 13 (by decide) fl_Z_122 rfl rfl d_Z_lostAt_6 ?_
    refine z_top ht ?_
    refine z_icmp_ge E 16 d_Z_lostAt_9 (by decide) (fun h9 => ?_) (fun h9 => ?_)
    · refine z_iconst E (v := nI 0) d_Z_lostAt_16 (by decide) ?_
      exact zt_calls E hex (As := [.int (nI 0)]) (c_within_t l hfl D _ _ _ _) ks_Z_103 rfl rfl (by decide) (Nat.le_of_ble_eq_true rfl) (by decide) (by decide) d_Z_lostAt_17
    · rw [le_i (by omega)] at h9
      rw [Int32.lt_iff_toInt_lt] at h1
      rcases hx with h | h
      · exact absurd h h1
      · exact absurd h h9
theorem c_count0 (l : Launch) (D : va_G) (cA : Nat → ClassId) (a : Nat → Nat) (M : zmem) (h : zmap) (g : Nat) (hi : zInv M h g) : zMi l y_Z_count b_Z_count 4 .int (rmk 0) D zcl (ztys cA) (zw a cA) [.ref (a 0), .int (nI 0)] M (fun r M' => M' = M ∧ r = nI (lcnt h)) := by
  refine zMi.of (own := "ZoneHeap") (by decide) rfl (Nat.le_of_ble_eq_true rfl) (by simp [Value.category]) ?_
  intro p e s m args below meth c A E hr hex
  obtain ⟨n, ad, sz, st, hp0⟩ := hi
  have hcnt := cnt_all hp0.2.2.1 hp0.2.2.2.1 hp0.2.1.inj
  have hkc := kcnt_le h
  have h255 := hp0.1.2.1
  refine z_iconst E (v := nI 0) d_Z_count_0 (by decide) ?_
  refine z_istore_n E 2 d_Z_count_1 rfl (by decide) ?_
  refine z_iload_n E 1 d_Z_count_2 rfl rfl ?_
  refine z_tableIn (off := 33) E 36 d_Z_count_3 (by rw [nI_toInt (by decide)]; decide) (by rw [nI_toInt (by decide)]; decide) (by rw [nI_toInt (by decide)]; decide) (by decide) ?_
  refine z_aload_n E 0 d_Z_count_36 rfl rfl ?_
  refine zz_get E 8 (by decide) fl_Z_55 rfl rfl d_Z_count_37 ?_
  refine z_top hp0.1.1 ?_
  refine z_aload_n E 0 d_Z_count_40 rfl rfl ?_
  refine zz_get E 12 (by decide) fl_Z_87 rfl rfl d_Z_count_41 ?_
  refine z_top hp0.2.2.2.2.2.2.2 ?_
  refine z_isub E d_Z_count_44 ?_
  refine z_top (pk_sub (by omega)) ?_
  refine z_iret E hr ?_ (by decide) (by decide) d_Z_count_45
  exact ⟨rfl, congrArg nI (by omega)⟩
theorem c_count1 (l : Launch) (D : va_G) (cA : Nat → ClassId) (a : Nat → Nat) (M : zmem) (h : zmap) (g : Nat) (hi : zInv M h g) : zMi l y_Z_count b_Z_count 4 .int (rmk 0) D zcl (ztys cA) (zw a cA) [.ref (a 0), .int (nI 1)] M (fun r M' => M' = M ∧ r = nI (lsum h)) := by
  refine zMi.of (own := "ZoneHeap") (by decide) rfl (Nat.le_of_ble_eq_true rfl) (by simp [Value.category]) ?_
  intro p e s m args below meth c A E hr hex
  obtain ⟨n, ad, sz, st, hp0⟩ := hi
  have hcnt := cnt_all hp0.2.2.1 hp0.2.2.2.1 hp0.2.1.inj
  have hkc := kcnt_le h
  have h255 := hp0.1.2.1
  refine z_iconst E (v := nI 0) d_Z_count_0 (by decide) ?_
  refine z_istore_n E 2 d_Z_count_1 rfl (by decide) ?_
  refine z_iload_n E 1 d_Z_count_2 rfl rfl ?_
  refine z_tableIn (off := 43) E 46 d_Z_count_3 (by rw [nI_toInt (by decide)]; decide) (by rw [nI_toInt (by decide)]; decide) (by rw [nI_toInt (by decide)]; decide) (by decide) ?_
  refine z_iconst E (v := nI 0) d_Z_count_46 (by decide) ?_
  refine z_istore_n E 3 d_Z_count_47 rfl (by decide) ?_
  refine z_lp (ι := Nat) (fun k => n - k) (fun k => k ≤ n) (fun k => [some (.ref (a 0)), none, some (.int (nI (sumN (fun i => if (st i).isSome then 0 else sz i) k))), some (.int (nI k))]) (fun _ => M) ?_ 0 (Nat.zero_le _) (by repeat' first | exact trivial | refine ⟨rfl, ?_⟩)
  intro k hk ih
  refine z_iload_n E 3 d_Z_count_48 rfl rfl ?_
  refine z_aload_n E 0 d_Z_count_49 rfl rfl ?_
  refine zz_get E 8 (by decide) fl_Z_55 rfl rfl d_Z_count_50 ?_
  refine z_top hp0.1.1 ?_
  refine z_icmp_ge E 80 d_Z_count_53 (by decide) (fun h53 => ?_) (fun h53 => ?_)
  · have h53 := (nI_leI (by omega) (by omega)).mp h53
    have : k = n := by omega
    subst this
    refine z_iload_n E 2 d_Z_count_80 rfl rfl ?_
    refine z_iret E hr ?_ (by decide) (by decide) d_Z_count_81
    exact ⟨rfl, congrArg nI (lsum_rep hp0.2.2.1 hp0.2.2.2.1 hp0.2.1.inj).symm⟩
  · have h53 : k < n := by have := mt (nI_leI (by omega) (by omega)).mpr h53; omega
    have hc := hp0.1.2.2 k h53
    refine z_aload_n E 0 d_Z_count_56 rfl rfl ?_
    refine zz_get E 4 (by decide) fl_Z_23 rfl rfl d_Z_count_57 ?_
    refine z_iload_n E 3 d_Z_count_60 rfl rfl ?_
    refine zn_zald E 5 2 rfl rfl (_) (rfl) (by omega) (by decide) d_Z_count_61 ?_
    refine z_top hc.2.2.1 ?_
    refine z_if_eq E 74 d_Z_count_62 (by decide) (fun h62 => ?_) (fun h62 => ?_)
    · have h62 := st_live.mp h62
      refine z_iinc E (v := nI (k + 1)) d_Z_count_74 rfl (nI_1 k) (by decide) ?_
      refine z_goto E 48 d_Z_count_77 (by decide) ?_
      refine ih (k + 1) _ (by omega) (by omega) ?_
      simp only [sumN, h62, if_true, Nat.add_zero]
      exact (by repeat' first | exact trivial | refine ⟨rfl, ?_⟩)
    · have h62 := mt st_live.mpr h62
      refine z_iload_n E 2 d_Z_count_65 rfl rfl ?_
      refine z_aload_n E 0 d_Z_count_66 rfl rfl ?_
      refine zz_get E 2 (by decide) fl_Z_17 rfl rfl d_Z_count_67 ?_
      refine z_iload_n E 3 d_Z_count_70 rfl rfl ?_
      refine zn_iald E 3 1 rfl rfl (_) (rfl) (by omega) (by decide) d_Z_count_71 ?_
      refine z_top hc.2.1 ?_
      refine z_iadd E d_Z_count_72 ?_
      refine z_top (nI_add _ _) ?_
      refine z_istore_n E 2 d_Z_count_73 rfl (by decide) ?_
      refine z_iinc E (v := nI (k + 1)) d_Z_count_74 rfl (nI_1 k) (by decide) ?_
      refine z_goto E 48 d_Z_count_77 (by decide) ?_
      refine ih (k + 1) _ (by omega) (by omega) ?_
      have h62 : (st k).isSome = false := by simpa using h62
      simp only [sumN, h62, Bool.false_eq_true, if_false]
      exact (by repeat' first | exact trivial | refine ⟨rfl, ?_⟩)
theorem c_count2 (l : Launch) (D : va_G) (cA : Nat → ClassId) (a : Nat → Nat) (M : zmem) (h : zmap) (g : Nat) (hi : zInv M h g) : zMi l y_Z_count b_Z_count 4 .int (rmk 0) D zcl (ztys cA) (zw a cA) [.ref (a 0), .int (nI 2)] M (fun r M' => M' = M ∧ r = nI (kcnt h)) := by
  refine zMi.of (own := "ZoneHeap") (by decide) rfl (Nat.le_of_ble_eq_true rfl) (by simp [Value.category]) ?_
  intro p e s m args below meth c A E hr hex
  obtain ⟨n, ad, sz, st, hp0⟩ := hi
  have hcnt := cnt_all hp0.2.2.1 hp0.2.2.2.1 hp0.2.1.inj
  have hkc := kcnt_le h
  have h255 := hp0.1.2.1
  refine z_iconst E (v := nI 0) d_Z_count_0 (by decide) ?_
  refine z_istore_n E 2 d_Z_count_1 rfl (by decide) ?_
  refine z_iload_n E 1 d_Z_count_2 rfl rfl ?_
  refine z_tableIn (off := 79) E 82 d_Z_count_3 (by rw [nI_toInt (by decide)]; decide) (by rw [nI_toInt (by decide)]; decide) (by rw [nI_toInt (by decide)]; decide) (by decide) ?_
  refine z_aload_n E 0 d_Z_count_82 rfl rfl ?_
  refine zz_get E 12 (by decide) fl_Z_87 rfl rfl d_Z_count_83 ?_
  refine z_top hp0.2.2.2.2.2.2.2 ?_
  refine z_iret E hr ?_ (by decide) (by decide) d_Z_count_86
  exact ⟨rfl, rfl⟩
theorem c_count3 (l : Launch) (D : va_G) (cA : Nat → ClassId) (a : Nat → Nat) (M : zmem) (h : zmap) (g : Nat) (hi : zInv M h g) : zMi l y_Z_count b_Z_count 4 .int (rmk 0) D zcl (ztys cA) (zw a cA) [.ref (a 0), .int (nI 3)] M (fun r M' => M' = M ∧ r = nI (ksum h)) := by
  refine zMi.of (own := "ZoneHeap") (by decide) rfl (Nat.le_of_ble_eq_true rfl) (by simp [Value.category]) ?_
  intro p e s m args below meth c A E hr hex
  obtain ⟨n, ad, sz, st, hp0⟩ := hi
  have hcnt := cnt_all hp0.2.2.1 hp0.2.2.2.1 hp0.2.1.inj
  have hkc := kcnt_le h
  have h255 := hp0.1.2.1
  refine z_iconst E (v := nI 0) d_Z_count_0 (by decide) ?_
  refine z_istore_n E 2 d_Z_count_1 rfl (by decide) ?_
  refine z_iload_n E 1 d_Z_count_2 rfl rfl ?_
  refine z_tableIn (off := 84) E 87 d_Z_count_3 (by rw [nI_toInt (by decide)]; decide) (by rw [nI_toInt (by decide)]; decide) (by rw [nI_toInt (by decide)]; decide) (by decide) ?_
  refine z_aload_n E 0 d_Z_count_87 rfl rfl ?_
  refine zz_get E 11 (by decide) fl_Z_90 rfl rfl d_Z_count_88 ?_
  refine z_top hp0.2.2.2.2.2.2.1 ?_
  refine z_iret E hr ?_ (by decide) (by decide) d_Z_count_91
  exact ⟨rfl, rfl⟩
theorem c_count4 (l : Launch) (D : va_G) (cA : Nat → ClassId) (a : Nat → Nat) (M : zmem) (h : zmap) (g : Nat) (hi : zInv M h g) : zMi l y_Z_count b_Z_count 4 .int (rmk 0) D zcl (ztys cA) (zw a cA) [.ref (a 0), .int (nI 4)] M (fun r M' => M' = M ∧ r = M 8 1) := by
  refine zMi.of (own := "ZoneHeap") (by decide) rfl (Nat.le_of_ble_eq_true rfl) (by simp [Value.category]) ?_
  intro p e s m args below meth c A E hr hex
  obtain ⟨n, ad, sz, st, hp0⟩ := hi
  have hcnt := cnt_all hp0.2.2.1 hp0.2.2.2.1 hp0.2.1.inj
  have hkc := kcnt_le h
  have h255 := hp0.1.2.1
  refine z_iconst E (v := nI 0) d_Z_count_0 (by decide) ?_
  refine z_istore_n E 2 d_Z_count_1 rfl (by decide) ?_
  refine z_iload_n E 1 d_Z_count_2 rfl rfl ?_
  refine z_tableIn (off := 89) E 92 d_Z_count_3 (by rw [nI_toInt (by decide)]; decide) (by rw [nI_toInt (by decide)]; decide) (by rw [nI_toInt (by decide)]; decide) (by decide) ?_
  refine z_aload_n E 0 d_Z_count_92 rfl rfl ?_
  refine zz_get E 9 (by decide) fl_Z_69 rfl rfl d_Z_count_93 ?_
  refine z_iret E hr ?_ (by decide) (by decide) d_Z_count_96
  exact ⟨rfl, rfl⟩
theorem c_count_t (l : Launch) (D : va_G) (cA : Nat → ClassId) (a : Nat → Nat) (M : zmem) (hfl : l.flags = flags0) (x : Int32) (hx : x.toInt < 0 ∨ 4 < x.toInt) : zMt l y_Z_count b_Z_count 4 (some .int) (rmt 6) D zcl (ztys cA) (zw a cA) [.ref (a 0), .int x] M "java/lang/IllegalArgumentException" := by
  refine zMt.of0 (own := "ZoneHeap") (by decide) rfl (Nat.le_of_ble_eq_true rfl) (by simp [Value.category]) ?_
  intro p e s m args below meth c A ls ha E hex hP hD hl
  refine lv_iconst (v := 0) E.1 E.2.1 d_Z_count_0 (by decide) ?_
  refine lv_istore_n (nL := 4) E.1 E.2.1 d_Z_count_1 rfl hl.has (by decide) rfl (fun ls' hl' => ?_)
  have hl2 := zl.set hl (v := .int 0) rfl hl'
  refine lv_iload_n E.1 E.2.1 d_Z_count_2 rfl (hl2.2.2 1 _ rfl).1 ?_
  refine lv_tableOut (tgt := 97) E.1 E.2.1 d_Z_count_3 hx (by decide) ?_
  exact zt_new E hex (Launch.traces_off hfl ha) th_iae (by decide) (by decide) (by decide) d_Z_count_97 d_Z_count_100 d_Z_count_101 d_Z_count_104 hP hD hl2.1
end
section
/-! ZoneHeap: leads, lost -/
/-- the number v leads to the live block at y -/
def ldt (h : zmap) (v : Int32) (y : Nat) : Prop := ∃ q, h y = some (q, none) ∧ (v.toInt = (y : Int) ∨ ((y : Int) ≤ v.toInt ∧ v.toInt < (y : Int) + q))
/-- what can be reached from va and vb by the words Wd -/
def rch (h : zmap) (Wd : Nat → Int32) (va vb : Int32) (x : Nat) : Prop := ∀ S : Nat → Prop, (∀ y, ldt h va y → S y) → (∀ y, ldt h vb y → S y) → (∀ y q i z, S y → h y = some (q, none) → 4 * i + 4 ≤ q → ldt h (Wd (y + 4 * i)) z → S z) → S x
theorem rch_a {h : zmap} {Wd : Nat → Int32} {va vb : Int32} {x : Nat} (hx : ldt h va x) : rch h Wd va vb x := fun _ h1 _ _ => h1 x hx
theorem rch_b {h : zmap} {Wd : Nat → Int32} {va vb : Int32} {x : Nat} (hx : ldt h vb x) : rch h Wd va vb x := fun _ _ h2 _ => h2 x hx
theorem rch_s {h : zmap} {Wd : Nat → Int32} {va vb : Int32} {y q i z : Nat} (hy : rch h Wd va vb y) (hq : h y = some (q, none)) (hi : 4 * i + 4 ≤ q) (hz : ldt h (Wd (y + 4 * i)) z) : rch h Wd va vb z := fun S h1 h2 h3 => h3 y q i z (hy S h1 h2 h3) hq hi hz
def lostSet (h : zmap) (Wd : Nat → Int32) (va vb : Int32) (x : Nat) : Prop := (∃ q, h x = some (q, none)) ∧ ¬ rch h Wd va vb x
def enumS (F : Nat → Int32) (c : Nat) (en : Nat → Nat) (S : Nat → Prop) : Prop := (∀ i, i < c → F i = nI (en i) ∧ S (en i)) ∧ (∀ i j, i < j → j < c → en i < en j) ∧ ∀ x, S x → ∃ i, i < c ∧ en i = x
theorem enumS_0 {F : Nat → Int32} {en : Nat → Nat} {S : Nat → Prop} (h : ∀ x, ¬ S x) : enumS F 0 en S := ⟨fun i hi => absurd hi (Nat.not_lt_zero i), fun i j _ hj => absurd hj (Nat.not_lt_zero j), fun x hx => absurd hx (h x)⟩
theorem enumS_congr {F : Nat → Int32} {c : Nat} {en : Nat → Nat} {S S' : Nat → Prop} (h : enumS F c en S) (hS : ∀ x, S x ↔ S' x) : enumS F c en S' := ⟨fun i hi => ⟨(h.1 i hi).1, (hS _).mp (h.1 i hi).2⟩, h.2.1, fun x hx => h.2.2 x ((hS x).mpr hx)⟩
theorem enumS_push {F : Nat → Int32} {c x : Nat} {en : Nat → Nat} {S S' : Nat → Prop} (h : enumS F c en S) (hlt : ∀ y, S y → y < x) (hS : ∀ y, S' y ↔ (S y ∨ y = x)) : enumS (upd F c (nI x)) (c + 1) (fun i => if i = c then x else en i) S' := by
  refine ⟨fun i hi => ?_, fun i j hij hj => ?_, fun y hy => ?_⟩
  · by_cases he : i = c
    · subst he; simp [upd, hS]
    · simp only [upd, if_neg he]
      have := h.1 i (by omega)
      exact ⟨this.1, (hS _).mpr (Or.inl this.2)⟩
  · by_cases he : j = c
    · subst he
      simp only [if_true, if_neg (show ¬ i = j by omega)]
      exact hlt _ (h.1 i hij).2
    · simp only [if_neg he, if_neg (show ¬ i = c by omega)]
      exact h.2.1 i j hij (by omega)
  · rcases (hS y).mp hy with h1 | h1
    · obtain ⟨i, hi, he⟩ := h.2.2 y h1
      exact ⟨i, by omega, by simp only [if_neg (show ¬ i = c by omega)]; exact he⟩
    · exact ⟨c, by omega, by simp [h1]⟩
theorem enumS_one {F F' : Nat → Int32} {c c' : Nat} {en en' : Nat → Nat} {S : Nat → Prop} (h : enumS F c en S) (h' : enumS F' c' en' S) : c = c' ∧ ∀ i, i < c → F i = F' i := by
  have key : ∀ i, i < c → i < c' → en i = en' i := by
    intro i
    induction i using Nat.strongRecOn with
    | ind i ih =>
      intro h1 h2
      rcases Nat.lt_trichotomy (en i) (en' i) with h3 | h3 | h3
      · obtain ⟨j, hj, he⟩ := h'.2.2 _ (h.1 i h1).2
        have hji : j < i := by
          rcases Nat.lt_trichotomy j i with h4 | h4 | h4
          · exact h4
          · subst h4; omega
          · have := h'.2.1 i j h4 hj; omega
        have h5 := ih j hji (by omega) hj
        have h6 := h.2.1 j i hji h1
        omega
      · exact h3
      · obtain ⟨j, hj, he⟩ := h.2.2 _ (h'.1 i h2).2
        have hji : j < i := by
          rcases Nat.lt_trichotomy j i with h4 | h4 | h4
          · exact h4
          · subst h4; omega
          · have := h.2.1 i j h4 hj; omega
        have h5 := ih j hji hj (by omega)
        have h6 := h'.2.1 j i hji h2
        omega
  have hc : c = c' := by
    rcases Nat.lt_trichotomy c c' with h3 | h3 | h3
    · obtain ⟨j, hj, he⟩ := h.2.2 _ (h'.1 c h3).2
      have h5 := key j hj (by omega)
      have h6 := h'.2.1 j c hj h3
      omega
    · exact h3
    · obtain ⟨j, hj, he⟩ := h'.2.2 _ (h.1 c' h3).2
      have h5 := key j (by omega) hj
      have h6 := h.2.1 j c' hj h3
      omega
  subst hc
  exact ⟨rfl, fun i hi => by rw [(h.1 i hi).1, (h'.1 i hi).1, key i hi hi]⟩
theorem ldt_und {M : zmem} {n j k g : Nat} {ad sz : Nat → Nat} {st : Nat → Option Nat} {h : zmap} {v : Int32} (hp : zPic M n ad sz st h g) (hj : j ≤ n) (hlo : ∀ i, i < j → (ad i : Int) ≤ v.toInt) (hhi : ∀ i, j ≤ i → i < n → v.toInt < (ad i : Int)) (hk : k < n) (hl : ldt h v (ad k)) : 0 < j ∧ k = j - 1 ∧ st k = none ∧ (v.toInt = (ad k : Int) ∨ v.toInt < (ad k : Int) + sz k) := by
  obtain ⟨q, h1, h2⟩ := hl
  have e := hp.2.2.1.1 k hk
  rw [h1] at e
  have e1 := (Prod.mk.inj (Option.some.inj e)).1
  have e2 := (Prod.mk.inj (Option.some.inj e)).2
  subst e1
  have hkj : k < j := by
    rcases Nat.lt_or_ge k j with h3 | h3
    · exact h3
    · have := hhi k h3 hk; omega
  have ht := tk_ge (sz k)
  have : k = j - 1 := by
    rcases Nat.lt_or_ge k (j - 1) with h3 | h3
    · have h4 := hp.2.1.lt (j - 1) k h3 (by omega)
      have h5 := hlo (j - 1) (by omega)
      omega
    · omega
  exact ⟨by omega, this, e2.symm, by omega⟩
theorem b_live {b : Bool} : (if b = true then (1 : Int32) else 0) = 0 ↔ b = false := by cases b <;> simp
theorem c_leads (l : Launch) (D : va_G) (cA : Nat → ClassId) (a : Nat → Nat) (M : zmem) (n : Nat) (ad sz : Nat → Nat) (st : Nat → Option Nat) (h : zmap) (g : Nat) (hp0 : zPic M n ad sz st h g) (rc : Nat → Bool) (t : Nat) (hrc : ∀ i, i < n → M 5 i = if rc i = true then 1 else 0) (ht : M 8 6 = nI t) (ht2 : t ≤ 255) (v : Int32) : zMv l y_Z_leads b_Z_leads 3 (rmk 1) D zcl (ztys cA) (zw a cA) [.ref (a 0), .int v] M (fun M' => (M' = M ∧ ∀ k, k < n → ldt h v (ad k) → rc k = true) ∨ ∃ k, k < n ∧ ldt h v (ad k) ∧ rc k = false ∧ M' = zu (zu (zu M 5 k 1) 8 6 (nI (t + 1))) 6 t (nI k)) := by
  refine zMv.of (own := "ZoneHeap") (by decide) rfl (Nat.le_of_ble_eq_true rfl) (by simp [Value.category]) ?_
  intro p e s m args below meth c A E hr hex
  refine z_aload_n E 0 d_Z_leads_0 rfl rfl ?_
  refine z_iload_n E 1 d_Z_leads_1 rfl rfl ?_
  refine zz_calli E [.int v] (c_under l D cA a M n ad sz st hp0.1 hp0.2.1 v) kv_Z_78 rfl rfl (by decide) (Nat.le_of_ble_eq_true rfl) (by decide) d_Z_leads_2 (fun r M1 hp => ?_)
  obtain ⟨hM1, j, hj, rfl, hlo, hhi⟩ := hp
  subst M1
  have huL := fun k (hk : k < n) (hl : ldt h v (ad k)) => ldt_und hp0 hj hlo hhi hk hl
  rcases Nat.eq_zero_or_pos j with h0 | h0
  · subst h0
    refine z_top und_0 ?_
    refine z_istore_n E 2 d_Z_leads_5 rfl (by decide) ?_
    refine z_iload_n E 2 d_Z_leads_6 rfl rfl ?_
    refine z_if_lt E 55 d_Z_leads_7 (by decide) (fun h7 => ?_) (fun h7 => ?_)
    · refine z_vret E hr ?_ (by decide) (by decide) d_Z_leads_55
      exact Or.inl ⟨rfl, fun k hk hl => absurd (huL k hk hl).1 (Nat.lt_irrefl 0)⟩
    · exact absurd (by decide) h7
  · have hc := hp0.1.2.2 (j - 1) (by omega)
    have h255 := hp0.1.2.1
    have hOj := hp0.2.1.1 (j - 1) (by omega)
    have htk := tk_ge (sz (j - 1))
    have hlj := hlo (j - 1) (by omega)
    refine z_top (nI_sub1 h0) ?_
    refine z_istore_n E 2 d_Z_leads_5 rfl (by decide) ?_
    refine z_iload_n E 2 d_Z_leads_6 rfl rfl ?_
    refine z_if_lt E 55 d_Z_leads_7 (by decide) (fun h7 => ?_) (fun h7 => ?_)
    · exact absurd h7 (nI_pos (by omega))
    · refine z_aload_n E 0 d_Z_leads_10 rfl rfl ?_
      refine zz_get E 4 (by decide) fl_Z_23 rfl rfl d_Z_leads_11 ?_
      refine z_iload_n E 2 d_Z_leads_14 rfl rfl ?_
      refine zn_zald E 5 2 rfl rfl (_) (rfl) (by omega) (by decide) d_Z_leads_15 ?_
      refine z_top hc.2.2.1 ?_
      refine z_if_eq E 55 d_Z_leads_16 (by decide) (fun h16 => ?_) (fun h16 => ?_)
      · have h16 := st_live.mp h16
        refine z_vret E hr ?_ (by decide) (by decide) d_Z_leads_55
        refine Or.inl ⟨rfl, fun k hk hl => ?_⟩
        obtain ⟨-, rfl, b3, -⟩ := huL k hk hl
        rw [b3] at h16
        cases h16
      · have h16 := mt st_live.mpr h16
        have hs : st (j - 1) = none := by
          cases hs : st (j - 1) with
          | none => rfl
          | some w => rw [hs] at h16; exact absurd rfl h16
        refine z_aload_n E 0 d_Z_leads_19 rfl rfl ?_
        refine zz_get E 5 (by decide) fl_Z_27 rfl rfl d_Z_leads_20 ?_
        refine z_iload_n E 2 d_Z_leads_23 rfl rfl ?_
        refine zn_zald E 6 2 rfl rfl (_) (rfl) (by omega) (by decide) d_Z_leads_24 ?_
        refine z_top (hrc (j - 1) (by omega)) ?_
        refine z_if_ne E 55 d_Z_leads_25 (by decide) (fun h25 => ?_) (fun h25 => ?_)
        · have h25 : rc (j - 1) = true := by have := mt b_live.mpr h25; simpa using this
          refine z_vret E hr ?_ (by decide) (by decide) d_Z_leads_55
          refine Or.inl ⟨rfl, fun k hk hl => ?_⟩
          obtain ⟨-, rfl, b3, -⟩ := huL k hk hl
          exact h25
        · have h25 : rc (j - 1) = false := b_live.mp h25
          refine z_iload_n E 1 d_Z_leads_28 rfl rfl ?_
          refine z_aload_n E 0 d_Z_leads_29 rfl rfl ?_
          refine zz_get E 1 (by decide) fl_Z_13 rfl rfl d_Z_leads_30 ?_
          refine z_iload_n E 2 d_Z_leads_33 rfl rfl ?_
          refine zn_iald E 2 1 rfl rfl (_) (rfl) (by omega) (by decide) d_Z_leads_34 ?_
          refine z_top hc.1 ?_
          refine z_icmp_eq E 56 d_Z_leads_35 (by decide) (fun h35 => ?_) (fun h35 => ?_)
          · have h35 := (i_eq (by omega)).mp h35
            refine z_aload_n E 0 d_Z_leads_56 rfl rfl ?_
            refine zz_get E 5 (by decide) fl_Z_27 rfl rfl d_Z_leads_57 ?_
            refine z_iload_n E 2 d_Z_leads_60 rfl rfl ?_
            refine z_iconst E (v := nI 1) d_Z_leads_61 (by decide) ?_
            refine zz_zast E 5 rfl (v := 1) (by decide) (_) (rfl) (by omega) rfl d_Z_leads_62 ?_
            refine z_aload_n E 0 d_Z_leads_63 rfl rfl ?_
            refine zz_get E 6 (by decide) fl_Z_30 rfl rfl d_Z_leads_64 ?_
            refine z_aload_n E 0 d_Z_leads_67 rfl rfl ?_
            refine z_dup E d_Z_leads_68 rfl ?_
            refine zz_get E 14 (by decide) fl_Z_116 rfl rfl d_Z_leads_69 ?_
            refine z_top ht ?_
            refine z_dup_x1 E d_Z_leads_72 rfl rfl ?_
            refine z_iconst E (v := nI 1) d_Z_leads_73 (by decide) ?_
            refine z_iadd E d_Z_leads_74 ?_
            refine z_top (nI_1 t) ?_
            refine zz_put E 6 (by decide) fl_Z_116 rfl rfl rfl rfl d_Z_leads_75 ?_
            refine z_iload_n E 2 d_Z_leads_78 rfl rfl ?_
            refine zz_iast E 6 rfl (_) (rfl) (by omega) rfl d_Z_leads_79 ?_
            refine z_vret E hr ?_ (by decide) (by decide) d_Z_leads_80
            refine Or.inr ⟨j - 1, by omega, ⟨sz (j - 1), by rw [← hs]; exact hp0.2.2.1.1 (j - 1) (by omega), ?_⟩, h25, rfl⟩
            omega
          · have h35 := mt (i_eq (by omega)).mpr h35
            refine z_iload_n E 1 d_Z_leads_38 rfl rfl ?_
            refine z_aload_n E 0 d_Z_leads_39 rfl rfl ?_
            refine zz_get E 1 (by decide) fl_Z_13 rfl rfl d_Z_leads_40 ?_
            refine z_iload_n E 2 d_Z_leads_43 rfl rfl ?_
            refine zn_iald E 2 1 rfl rfl (_) (rfl) (by omega) (by decide) d_Z_leads_44 ?_
            refine z_top hc.1 ?_
            refine z_aload_n E 0 d_Z_leads_45 rfl rfl ?_
            refine zz_get E 2 (by decide) fl_Z_17 rfl rfl d_Z_leads_46 ?_
            refine z_iload_n E 2 d_Z_leads_49 rfl rfl ?_
            refine zn_iald E 3 1 rfl rfl (_) (rfl) (by omega) (by decide) d_Z_leads_50 ?_
            refine z_top hc.2.1 ?_
            refine z_iadd E d_Z_leads_51 ?_
            refine z_top (nI_add _ _) ?_
            refine z_icmp_lt E 56 d_Z_leads_52 (by decide) (fun h52 => ?_) (fun h52 => ?_)
            · have h52 := (i_lt (by omega)).mp h52
              refine z_aload_n E 0 d_Z_leads_56 rfl rfl ?_
              refine zz_get E 5 (by decide) fl_Z_27 rfl rfl d_Z_leads_57 ?_
              refine z_iload_n E 2 d_Z_leads_60 rfl rfl ?_
              refine z_iconst E (v := nI 1) d_Z_leads_61 (by decide) ?_
              refine zz_zast E 5 rfl (v := 1) (by decide) (_) (rfl) (by omega) rfl d_Z_leads_62 ?_
              refine z_aload_n E 0 d_Z_leads_63 rfl rfl ?_
              refine zz_get E 6 (by decide) fl_Z_30 rfl rfl d_Z_leads_64 ?_
              refine z_aload_n E 0 d_Z_leads_67 rfl rfl ?_
              refine z_dup E d_Z_leads_68 rfl ?_
              refine zz_get E 14 (by decide) fl_Z_116 rfl rfl d_Z_leads_69 ?_
              refine z_top ht ?_
              refine z_dup_x1 E d_Z_leads_72 rfl rfl ?_
              refine z_iconst E (v := nI 1) d_Z_leads_73 (by decide) ?_
              refine z_iadd E d_Z_leads_74 ?_
              refine z_top (nI_1 t) ?_
              refine zz_put E 6 (by decide) fl_Z_116 rfl rfl rfl rfl d_Z_leads_75 ?_
              refine z_iload_n E 2 d_Z_leads_78 rfl rfl ?_
              refine zz_iast E 6 rfl (_) (rfl) (by omega) rfl d_Z_leads_79 ?_
              refine z_vret E hr ?_ (by decide) (by decide) d_Z_leads_80
              refine Or.inr ⟨j - 1, by omega, ⟨sz (j - 1), by rw [← hs]; exact hp0.2.2.1.1 (j - 1) (by omega), ?_⟩, h25, rfl⟩
              omega
            · have h52 := mt (i_lt (by omega)).mpr h52
              refine z_vret E hr ?_ (by decide) (by decide) d_Z_leads_55
              refine Or.inl ⟨rfl, fun k hk hl => ?_⟩
              obtain ⟨-, rfl, b3, b4⟩ := huL k hk hl
              omega
end
section
/-! ZoneHeap: lost -/
theorem zPic.congr2 {M M' : zmem} {n g : Nat} {ad sz : Nat → Nat} {st : Nat → Option Nat} {h : zmap} (hp : zPic M n ad sz st h g) (h1 : M' 1 = M 1) (h2 : M' 2 = M 2) (h3 : M' 3 = M 3) (h4 : M' 4 = M 4) (h8 : ∀ j, j < 5 → M' 8 j = M 8 j) : zPic M' n ad sz st h g := by
  obtain ⟨hR, hOz, hrp, hOh, hWh, e2, e3, e4⟩ := hp
  refine ⟨⟨by rw [h8 0 (by omega)]; exact hR.1, hR.2.1, fun i hi => ?_⟩, hOz, hrp, hOh, hWh, by rw [h8 2 (by omega)]; exact e2, by rw [h8 3 (by omega)]; exact e3, by rw [h8 4 (by omega)]; exact e4⟩
  rw [h1, h2, h3, h4]
  exact hR.2.2 i hi
theorem ldt_one {h : zmap} {v : Int32} {y y' : Nat} (ho : hO h) (h1 : ldt h v y) (h2 : ldt h v y') : y = y' := by
  obtain ⟨q, a1, a2⟩ := h1
  obtain ⟨q', b1, b2⟩ := h2
  have t1 := tk_ge q
  have t2 := tk_ge q'
  rcases Nat.lt_trichotomy y y' with h3 | h3 | h3
  · have := ho.2 y y' _ _ a1 b1 h3
    dsimp only at this
    omega
  · exact h3
  · have := ho.2 y' y _ _ b1 a1 h3
    dsimp only at this
    omega
def cR (rc : Nat → Bool) (n : Nat) : Nat := sumN (fun i => if rc i = true then 1 else 0) n
theorem cR_le (rc : Nat → Bool) (n : Nat) : cR rc n ≤ n := by
  have := sumN_le (f := fun i => if rc i = true then 1 else 0) (B := 1) (N := n) (fun i _ => by split <;> omega)
  unfold cR; omega
theorem cR_set {rc : Nat → Bool} {n k : Nat} (hk : k < n) (h : rc k = false) : cR (fun i => if i = k then true else rc i) n = cR rc n + 1 := by
  show sumN (fun i => if (if i = k then true else rc i) = true then 1 else 0) n = sumN (fun i => if rc i = true then 1 else 0) n + 1
  have h1 := sumN_upd (f := fun i => if rc i = true then 1 else 0) (g := fun i => if (if i = k then true else rc i) = true then 1 else 0) (x := k) (N := n) hk (fun y _ hne => by simp [hne])
  simp only [h, Bool.false_eq_true, if_false, if_true] at h1
  omega
def zcl1 (n : Nat) (ad sz : Nat → Nat) (h : zmap) (Wd : Nat → Int32) (rc : Nat → Bool) (i : Nat) : Prop := ∀ j, 4 * j + 4 ≤ sz i → ∀ k, k < n → ldt h (Wd (ad i + 4 * j)) (ad k) → rc k = true
/-- between the calls of 'leads': what is reached, what waits, what is done -/
def zLJ (M0 M : zmem) (n : Nat) (ad sz : Nat → Nat) (st : Nat → Option Nat) (h : zmap) (Wd : Nat → Int32) (va vb : Int32) (rc : Nat → Bool) (t : Nat) (td : Nat → Nat) (op : Nat → Prop) : Prop :=
  (∀ r, r ≠ 5 → r ≠ 6 → r ≠ 8 → M r = M0 r) ∧ (∀ j, j ≠ 6 → M 8 j = M0 8 j) ∧ (∀ i, i < n → M 5 i = if rc i = true then 1 else 0) ∧ M 8 6 = nI t ∧ (∀ k, k < t → M 6 k = nI (td k) ∧ td k < n ∧ rc (td k) = true) ∧
  (∀ i, i < n → rc i = true → rch h Wd va vb (ad i) ∧ st i = none) ∧ t ≤ cR rc n ∧ ∀ i, i < n → rc i = true → (∃ k, k < t ∧ td k = i) ∨ op i ∨ zcl1 n ad sz h Wd rc i
theorem zcl1.mono {n i : Nat} {ad sz : Nat → Nat} {h : zmap} {Wd : Nat → Int32} {rc rc' : Nat → Bool} (hc : zcl1 n ad sz h Wd rc i) (hm : ∀ i, rc i = true → rc' i = true) : zcl1 n ad sz h Wd rc' i := fun j hj k hk hl => hm k (hc j hj k hk hl)
theorem zLJ.leads {M0 M M' : zmem} {n t : Nat} {ad sz : Nat → Nat} {st : Nat → Option Nat} {h : zmap} {Wd : Nat → Int32} {va vb v : Int32} {rc : Nat → Bool} {td : Nat → Nat} {op : Nat → Prop} (hz : zO n ad sz) (hOh : hO h) (hrp : rep n ad sz st h) (hJ : zLJ M0 M n ad sz st h Wd va vb rc t td op) (hv : ∀ k, k < n → ldt h v (ad k) → rch h Wd va vb (ad k))
    (hp : (M' = M ∧ ∀ k, k < n → ldt h v (ad k) → rc k = true) ∨ ∃ k, k < n ∧ ldt h v (ad k) ∧ rc k = false ∧ M' = zu (zu (zu M 5 k 1) 8 6 (nI (t + 1))) 6 t (nI k)) :
    ∃ (rc' : Nat → Bool) (t' : Nat) (td' : Nat → Nat), zLJ M0 M' n ad sz st h Wd va vb rc' t' td' op ∧ (∀ i, rc i = true → rc' i = true) ∧ (∀ k, k < n → ldt h v (ad k) → rc' k = true) ∧ 2 * (n - cR rc' n) + t' ≤ 2 * (n - cR rc n) + t := by
  rcases hp with ⟨rfl, hall⟩ | ⟨k, hk, hl, hf, rfl⟩
  · exact ⟨rc, t, td, hJ, fun _ hh => hh, hall, Nat.le_refl _⟩
  · obtain ⟨j1, j2, j3, j4, j5, j6, j7, j8⟩ := hJ
    have hc := cR_set hk hf
    have hle := cR_le (fun i => if i = k then true else rc i) n
    have hmono : ∀ i, rc i = true → (if i = k then true else rc i) = true := fun i hi => by by_cases he : i = k <;> simp [he, hi]
    have hst : st k = none := by
      obtain ⟨q, h1, -⟩ := hl
      have e := hrp.1 k hk
      rw [h1] at e
      exact (Prod.mk.inj (Option.some.inj e)).2.symm
    refine ⟨fun i => if i = k then true else rc i, t + 1, fun i => if i = t then k else td i, ⟨?_, ?_, ?_, ?_, ?_, ?_, ?_, ?_⟩, hmono, ?_, ?_⟩
    · intro r h5 h6 h8
      rw [zu_ne h6, zu_ne h8, zu_ne h5]
      exact j1 r h5 h6 h8
    · intro j hj
      rw [zu_ne (by decide), zu_same, upd_ne hj, zu_ne (by decide)]
      exact j2 j hj
    · intro i hi
      rw [zu_ne (by decide), zu_ne (by decide), zu_same]
      by_cases he : i = k
      · subst he; rw [upd_same]; simp
      · rw [upd_ne he, j3 i hi]; simp [he]
    · rw [zu_ne (by decide), zu_same, upd_same]
    · intro i hi
      rw [zu_same]
      by_cases he : i = t
      · subst he; rw [upd_same]; simp [hk]
      · rw [upd_ne he, zu_ne (by decide), zu_ne (by decide)]
        have := j5 i (by omega)
        simp only [if_neg he]
        exact ⟨this.1, this.2.1, hmono _ this.2.2⟩
    · intro i hi hr
      by_cases he : i = k
      · subst he; exact ⟨hv i hi hl, hst⟩
      · simp only [if_neg he] at hr; exact j6 i hi hr
    · omega
    · intro i hi hr
      by_cases he : i = k
      · exact Or.inl ⟨t, by omega, by simp [he]⟩
      · simp only [if_neg he] at hr
        rcases j8 i hi hr with ⟨k', h1, h2⟩ | h1 | h1
        · exact Or.inl ⟨k', by omega, by simp only [if_neg (show ¬ k' = t by omega)]; exact h2⟩
        · exact Or.inr (Or.inl h1)
        · exact Or.inr (Or.inr (h1.mono hmono))
    · intro k' hk' hl'
      by_cases he : k' = k
      · simp [he]
      · exact absurd (hz.inj k' k hk' hk (ldt_one hOh hl' hl)) he
    · omega
theorem zLJ.done {M0 M : zmem} {n : Nat} {ad sz : Nat → Nat} {st : Nat → Option Nat} {h : zmap} {Wd : Nat → Int32} {va vb : Int32} {rc : Nat → Bool} {td : Nat → Nat} (hrp : rep n ad sz st h) (hJ : zLJ M0 M n ad sz st h Wd va vb rc 0 td (fun _ => False)) (ha : ∀ k, k < n → ldt h va (ad k) → rc k = true) (hb : ∀ k, k < n → ldt h vb (ad k) → rc k = true) : ∀ i, i < n → rch h Wd va vb (ad i) → ∃ i', i' < n ∧ ad i' = ad i ∧ rc i' = true := by
  obtain ⟨j1, j2, j3, j4, j5, j6, j7, j8⟩ := hJ
  intro i hi hr
  refine hr (fun x => ∃ i', i' < n ∧ ad i' = x ∧ rc i' = true) ?_ ?_ ?_
  · rintro y ⟨q, h1, h2⟩
    obtain ⟨k, hk, rfl⟩ := hrp.2 y _ h1
    exact ⟨k, hk, rfl, ha k hk ⟨q, h1, h2⟩⟩
  · rintro y ⟨q, h1, h2⟩
    obtain ⟨k, hk, rfl⟩ := hrp.2 y _ h1
    exact ⟨k, hk, rfl, hb k hk ⟨q, h1, h2⟩⟩
  · rintro y q j z ⟨k, hk, rfl, hrc⟩ hq hj hl
    obtain ⟨k', hk', rfl⟩ := hrp.2 z _ hl.choose_spec.1
    refine ⟨k', hk', rfl, ?_⟩
    have e := hrp.1 k hk
    rw [hq] at e
    have e1 := (Prod.mk.inj (Option.some.inj e)).1
    subst e1
    rcases j8 k hk hrc with ⟨k0, h1, -⟩ | h1 | h1
    · exact absurd h1 (Nat.not_lt_zero _)
    · exact h1.elim
    · exact h1 j hj k' hk' hl
set_option maxHeartbeats 1000000 in
theorem c_lost (l : Launch) (D : va_G) (cA : Nat → ClassId) (a : Nat → Nat) (M : zmem) (h : zmap) (g : Nat) (hi : zInv M h g) (va vb : Int32) : zMi l y_Z_lost b_Z_lost 5 .int (rmk 2) D zcl (ztys cA) (zw a cA) [.ref (a 0), .int va, .int vb] M (fun r M' => ∃ (T : Nat) (en : Nat → Nat), T ≤ 256 ∧ r = nI T ∧ M' 8 5 = nI T ∧ enumS (M' 7) T en (lostSet h (wC (M 0)) va vb) ∧ zInv M' h g ∧ M' 8 1 = M 8 1 ∧ M' 0 = M 0) := by
  refine zMi.of (own := "ZoneHeap") (by decide) rfl (Nat.le_of_ble_eq_true rfl) (by simp [Value.category]) ?_
  intro p e s m args below meth c A E hr hex
  obtain ⟨n, ad, sz, st, hp0⟩ := hi
  have h255 := hp0.1.2.1
  refine z_iconst E (v := nI 0) d_Z_lost_0 (by decide) ?_
  refine z_istore_n E 3 d_Z_lost_1 rfl (by decide) ?_
  refine z_lp (ι := Nat × zmem) (fun y => n - y.1) (fun y => y.1 ≤ n ∧ (∀ r, r ≠ 5 → y.2 r = M r) ∧ ∀ i, i < y.1 → y.2 5 i = 0) (fun y => [some (.ref (a 0)), some (.int va), some (.int vb), some (.int (nI y.1)), none]) (fun y => y.2) ?_ (0, M) ⟨Nat.zero_le _, fun _ _ => rfl, fun i hi => absurd hi (Nat.not_lt_zero i)⟩ (by repeat' first | exact trivial | refine ⟨rfl, ?_⟩)
  rintro ⟨k, M'⟩ ⟨hI1, hI3, hI4⟩ ih
  dsimp only at hI1 hI3 hI4 ih ⊢
  refine z_iload_n E 3 d_Z_lost_2 rfl rfl ?_
  refine z_aload_n E 0 d_Z_lost_3 rfl rfl ?_
  refine zz_get E 8 (by decide) fl_Z_55 rfl rfl d_Z_lost_4 ?_
  refine z_top ((congrFun (hI3 8 (by decide)) 0).trans hp0.1.1) ?_
  refine z_icmp_ge E 23 d_Z_lost_7 (by decide) (fun h7 => ?_) (fun h7 => ?_)
  · have h7 := (nI_leI (by omega) (by omega)).mp h7
    have hkn : k = n := by omega
    subst k
    refine z_aload_n E 0 d_Z_lost_23 rfl rfl ?_
    refine z_iconst E (v := nI 0) d_Z_lost_24 (by decide) ?_
    refine zz_put E 6 (by decide) fl_Z_116 rfl rfl rfl rfl d_Z_lost_25 ?_
    have J0 : zLJ M (zu M' 8 6 (nI 0)) n ad sz st h (wC (M 0)) va vb (fun _ => false) 0 (fun _ => 0) (fun _ => False) := by
      refine ⟨fun r h5 h6 h8 => (zu_ne h8).trans (hI3 r h5), fun j hj => ?_, fun i hi => ?_, ?_, fun k hk => absurd hk (Nat.not_lt_zero k), (fun i hi hr' => by cases hr'), Nat.zero_le _, (fun i hi hr' => by cases hr')⟩
      · rw [zu_same, upd_ne hj, hI3 8 (by decide)]
      · rw [zu_ne (by decide), hI4 i hi]; rfl
      · rw [zu_same, upd_same]
    refine z_aload_n E 0 d_Z_lost_28 rfl rfl ?_
    refine z_iload_n E 1 d_Z_lost_29 rfl rfl ?_
    refine zz_callv E [.int va] (c_leads l D cA a (zu M' 8 6 (nI 0)) n ad sz st h g (hp0.congr2 (J0.1 1 (by decide) (by decide) (by decide)) (J0.1 2 (by decide) (by decide) (by decide)) (J0.1 3 (by decide) (by decide) (by decide)) (J0.1 4 (by decide) (by decide) (by decide)) (fun j hj => J0.2.1 j (by omega))) (fun _ => false) 0 J0.2.2.1 J0.2.2.2.1 (by have := J0.2.2.2.2.2.2.1; have := cR_le (fun _ => false) n; omega) va) kv_Z_119 rfl rfl (by decide) (Nat.le_of_ble_eq_true rfl) (by decide) d_Z_lost_30 (fun M2 hp2 => ?_)
    obtain ⟨rc1, t1, td1, J1, hm1, hl1, hmu1⟩ := zLJ.leads hp0.2.1 hp0.2.2.2.1 hp0.2.2.1 J0 (fun k hk hl => rch_a hl) hp2
    refine z_aload_n E 0 d_Z_lost_33 rfl rfl ?_
    refine z_iload_n E 2 d_Z_lost_34 rfl rfl ?_
    refine zz_callv E [.int vb] (c_leads l D cA a M2 n ad sz st h g (hp0.congr2 (J1.1 1 (by decide) (by decide) (by decide)) (J1.1 2 (by decide) (by decide) (by decide)) (J1.1 3 (by decide) (by decide) (by decide)) (J1.1 4 (by decide) (by decide) (by decide)) (fun j hj => J1.2.1 j (by omega))) rc1 t1 J1.2.2.1 J1.2.2.2.1 (by have := J1.2.2.2.2.2.2.1; have := cR_le rc1 n; omega) vb) kv_Z_119 rfl rfl (by decide) (Nat.le_of_ble_eq_true rfl) (by decide) d_Z_lost_35 (fun M3 hp3 => ?_)
    obtain ⟨rc2, t2, td2, J2, hm2, hl2, hmu2⟩ := zLJ.leads hp0.2.1 hp0.2.2.2.1 hp0.2.2.1 J1 (fun k hk hl => rch_b hl) hp3
    refine z_lp (ι := zmem × (Nat → Bool) × Nat × (Nat → Nat)) (fun y => 2 * (n - cR y.2.1 n) + y.2.2.1) (fun y => zLJ M y.1 n ad sz st h (wC (M 0)) va vb y.2.1 y.2.2.1 y.2.2.2 (fun _ => False) ∧ (∀ k, k < n → ldt h va (ad k) → y.2.1 k = true) ∧ ∀ k, k < n → ldt h vb (ad k) → y.2.1 k = true) (fun y => [some (.ref (a 0)), none, none, none, none]) (fun y => y.1) ?_ (M3, rc2, t2, td2) ⟨J2, fun k hk hl => hm2 k (hl1 k hk hl), hl2⟩ (by repeat' first | exact trivial | refine ⟨rfl, ?_⟩)
    rintro ⟨Mx, rc, t, td⟩ ⟨hJ, ha, hb⟩ ih
    dsimp only at hJ ha hb ih ⊢
    have hcR := cR_le rc n
    have htc := hJ.2.2.2.2.2.2.1
    refine z_aload_n E 0 d_Z_lost_38 rfl rfl ?_
    refine zz_get E 14 (by decide) fl_Z_116 rfl rfl d_Z_lost_39 ?_
    refine z_top hJ.2.2.2.1 ?_
    refine z_if_le E 109 d_Z_lost_42 (by decide) (fun h42 => ?_) (fun h42 => ?_)
    · have h42 : t = 0 := by
        rcases Nat.eq_zero_or_pos t with h0 | h0
        · exact h0
        · exact absurd h42 (nI_nle h0 (by omega))
      subst h42
      refine z_aload_n E 0 d_Z_lost_109 rfl rfl ?_
      refine z_iconst E (v := nI 0) d_Z_lost_110 (by decide) ?_
      refine zz_put E 5 (by decide) fl_Z_122 rfl rfl rfl rfl d_Z_lost_111 ?_
      refine z_iconst E (v := nI 0) d_Z_lost_114 (by decide) ?_
      refine z_istore_n E 3 d_Z_lost_115 rfl (by decide) ?_
      refine z_lp (ι := Nat × Nat × (Nat → Nat) × zmem) (fun y => n - y.1) (fun y => y.1 ≤ n ∧ y.2.1 ≤ y.1 ∧ (∀ r, r ≠ 7 → r ≠ 8 → y.2.2.2 r = Mx r) ∧ (∀ j, j ≠ 5 → y.2.2.2 8 j = Mx 8 j) ∧ y.2.2.2 8 5 = nI y.2.1 ∧ enumS (y.2.2.2 7) y.2.1 y.2.2.1 (fun x => ∃ i, i < y.1 ∧ ad i = x ∧ st i = none ∧ rc i = false)) (fun y => [some (.ref (a 0)), none, none, some (.int (nI y.1)), none]) (fun y => y.2.2.2) ?_ (0, 0, (fun _ => 0), zu Mx 8 5 (nI 0)) ⟨Nat.zero_le _, Nat.zero_le _, fun r h7 h8 => zu_ne h8, fun j hj => ?_, ?_, enumS_0 (fun x hx => ?_)⟩ (by repeat' first | exact trivial | refine ⟨rfl, ?_⟩)
      rotate_left
      · dsimp only; rw [zu_same, upd_ne hj]
      · dsimp only; rw [zu_same, upd_same]
      · obtain ⟨i, hi, -⟩ := hx; exact absurd hi (Nat.not_lt_zero i)
      rintro ⟨k, c, en, M'⟩ ⟨w1, w2, w3, w4, w5, w6⟩ ih
      dsimp only at w1 w2 w3 w4 w5 w6 ih ⊢
      refine z_iload_n E 3 d_Z_lost_116 rfl rfl ?_
      refine z_aload_n E 0 d_Z_lost_117 rfl rfl ?_
      refine zz_get E 8 (by decide) fl_Z_55 rfl rfl d_Z_lost_118 ?_
      refine z_top ((w4 0 (by decide)).trans ((hJ.2.1 0 (by decide)).trans hp0.1.1)) ?_
      refine z_icmp_ge E 170 d_Z_lost_121 (by decide) (fun h121 => ?_) (fun h121 => ?_)
      · have h121 := (nI_leI (by omega) (by omega)).mp h121
        have : k = n := by omega
        subst this
        refine z_aload_n E 0 d_Z_lost_170 rfl rfl ?_
        refine zz_get E 13 (by decide) fl_Z_122 rfl rfl d_Z_lost_171 ?_
        refine z_top w5 ?_
        refine z_iret E hr ?_ (by decide) (by decide) d_Z_lost_174
        refine ⟨c, en, by omega, rfl, w5, enumS_congr w6 (fun x => ?_), ⟨_, ad, sz, st, hp0.congr2 ?_ ?_ ?_ ?_ ?_⟩, ?_, ?_⟩
        · constructor
          · rintro ⟨i, h1, h2, h3, h4⟩
            refine ⟨⟨sz i, by rw [← h2, ← h3]; exact hp0.2.2.1.1 i h1⟩, fun hr => ?_⟩
            rw [← h2] at hr
            obtain ⟨i', h5, h6, h7⟩ := zLJ.done hp0.2.2.1 hJ ha hb i h1 hr
            have := hp0.2.1.inj i' i h5 h1 h6
            subst this
            rw [h4] at h7; cases h7
          · rintro ⟨⟨q, h1⟩, h2⟩
            obtain ⟨i, hi, rfl⟩ := hp0.2.2.1.2 x _ h1
            have e := hp0.2.2.1.1 i hi
            rw [h1] at e
            refine ⟨i, hi, rfl, (Prod.mk.inj (Option.some.inj e)).2.symm, ?_⟩
            cases hrci : rc i with
            | false => rfl
            | true => exact absurd (hJ.2.2.2.2.2.1 i hi hrci).1 h2
        · rw [w3 1 (by decide) (by decide)]; exact hJ.1 1 (by decide) (by decide) (by decide)
        · rw [w3 2 (by decide) (by decide)]; exact hJ.1 2 (by decide) (by decide) (by decide)
        · rw [w3 3 (by decide) (by decide)]; exact hJ.1 3 (by decide) (by decide) (by decide)
        · rw [w3 4 (by decide) (by decide)]; exact hJ.1 4 (by decide) (by decide) (by decide)
        · intro j hj; rw [w4 j (by omega)]; exact hJ.2.1 j (by omega)
        · rw [w4 1 (by decide)]; exact hJ.2.1 1 (by decide)
        · rw [w3 0 (by decide) (by decide)]; exact hJ.1 0 (by decide) (by decide) (by decide)
      · have h121 : k < n := by have := mt (nI_leI (by omega) (by omega)).mpr h121; omega
        have hc := hp0.1.2.2 k h121
        refine z_aload_n E 0 d_Z_lost_124 rfl rfl ?_
        refine zz_get E 4 (by decide) fl_Z_23 rfl rfl d_Z_lost_125 ?_
        refine z_iload_n E 3 d_Z_lost_128 rfl rfl ?_
        refine zn_zald E 5 2 rfl rfl (_) (rfl) (by omega) (by decide) d_Z_lost_129 ?_
        refine z_top ((congrFun ((w3 4 (by decide) (by decide)).trans (hJ.1 4 (by decide) (by decide) (by decide))) k).trans hc.2.2.1) ?_
        refine z_if_eq E 164 d_Z_lost_130 (by decide) (fun h130 => ?_) (fun h130 => ?_)
        · have h130 := st_live.mp h130
          refine z_iinc E (v := nI (k + 1)) d_Z_lost_164 rfl (nI_1 k) (by decide) ?_
          refine z_goto E 116 d_Z_lost_167 (by decide) ?_
          refine ih (k + 1, c, en, M') _ ⟨by dsimp only; omega, by dsimp only; omega, w3, w4, w5, enumS_congr w6 (fun x => ?_)⟩ (by dsimp only; omega) (by repeat' first | exact trivial | refine ⟨rfl, ?_⟩)
          constructor
          · rintro ⟨i, h1, h2⟩; exact ⟨i, by dsimp only; omega, h2⟩
          · rintro ⟨i, h1, h2, h3, h4⟩
            by_cases he : i = k
            · rw [he] at h3; rw [h3] at h130; cases h130
            · exact ⟨i, by dsimp only at h1; omega, h2, h3, h4⟩
        · have h130 := mt st_live.mpr h130
          refine z_aload_n E 0 d_Z_lost_133 rfl rfl ?_
          refine zz_get E 5 (by decide) fl_Z_27 rfl rfl d_Z_lost_134 ?_
          refine z_iload_n E 3 d_Z_lost_137 rfl rfl ?_
          refine zn_zald E 6 2 rfl rfl (_) (rfl) (by omega) (by decide) d_Z_lost_138 ?_
          refine z_top ((congrFun (w3 5 (by decide) (by decide)) k).trans (hJ.2.2.1 k h121)) ?_
          refine z_if_ne E 164 d_Z_lost_139 (by decide) (fun h139 => ?_) (fun h139 => ?_)
          · have h139 : rc k = true := by have := mt b_live.mpr h139; simpa using this
            refine z_iinc E (v := nI (k + 1)) d_Z_lost_164 rfl (nI_1 k) (by decide) ?_
            refine z_goto E 116 d_Z_lost_167 (by decide) ?_
            refine ih (k + 1, c, en, M') _ ⟨by dsimp only; omega, by dsimp only; omega, w3, w4, w5, enumS_congr w6 (fun x => ?_)⟩ (by dsimp only; omega) (by repeat' first | exact trivial | refine ⟨rfl, ?_⟩)
            constructor
            · rintro ⟨i, h1, h2⟩; exact ⟨i, by dsimp only; omega, h2⟩
            · rintro ⟨i, h1, h2, h3, h4⟩
              by_cases he : i = k
              · rw [he, h139] at h4; cases h4
              · exact ⟨i, by dsimp only at h1; omega, h2, h3, h4⟩
          · have h139 : rc k = false := b_live.mp h139
            refine z_aload_n E 0 d_Z_lost_142 rfl rfl ?_
            refine zz_get E 7 (by decide) fl_Z_33 rfl rfl d_Z_lost_143 ?_
            refine z_aload_n E 0 d_Z_lost_146 rfl rfl ?_
            refine z_dup E d_Z_lost_147 rfl ?_
            refine zz_get E 13 (by decide) fl_Z_122 rfl rfl d_Z_lost_148 ?_
            refine z_top w5 ?_
            refine z_dup_x1 E d_Z_lost_151 rfl rfl ?_
            refine z_iconst E (v := nI 1) d_Z_lost_152 (by decide) ?_
            refine z_iadd E d_Z_lost_153 ?_
            refine z_top (nI_1 c) ?_
            refine zz_put E 5 (by decide) fl_Z_122 rfl rfl rfl rfl d_Z_lost_154 ?_
            refine z_aload_n E 0 d_Z_lost_157 rfl rfl ?_
            refine zz_get E 1 (by decide) fl_Z_13 rfl rfl d_Z_lost_158 ?_
            refine z_iload_n E 3 d_Z_lost_161 rfl rfl ?_
            refine zn_iald E 2 1 rfl rfl (_) (rfl) (by omega) (by decide) d_Z_lost_162 ?_
            refine z_top ((congrFun ((w3 1 (by decide) (by decide)).trans (hJ.1 1 (by decide) (by decide) (by decide))) k).trans hc.1) ?_
            refine zz_iast E 7 rfl (_) (rfl) (by omega) rfl d_Z_lost_163 ?_
            refine z_iinc E (v := nI (k + 1)) d_Z_lost_164 rfl (nI_1 k) (by decide) ?_
            refine z_goto E 116 d_Z_lost_167 (by decide) ?_
            have hs : st k = none := by
              cases hs : st k with
              | none => rfl
              | some w => rw [hs] at h130; exact absurd rfl h130
            refine ih (k + 1, c + 1, (fun i => if i = c then ad k else en i), zu (zu M' 8 5 (nI (c + 1))) 7 c (nI (ad k))) _ ⟨by dsimp only; omega, by dsimp only; omega, fun r h7 h8 => ?_, fun j hj => ?_, ?_, ?_⟩ (by dsimp only; omega) (by repeat' first | exact trivial | refine ⟨rfl, ?_⟩)
            · dsimp only; rw [zu_ne h7, zu_ne h8]; exact w3 r h7 h8
            · dsimp only; rw [zu_ne (by decide), zu_same, upd_ne hj]; exact w4 j hj
            · dsimp only; rw [zu_ne (by decide), zu_same, upd_same]
            · dsimp only
              rw [zu_same, zu_ne (by decide)]
              refine enumS_push w6 (fun y hy => ?_) (fun y => ?_)
              · obtain ⟨i, h1, h2, -⟩ := hy
                have := hp0.2.1.lt k i h1 h121
                omega
              · constructor
                · rintro ⟨i, h1, h2, h3, h4⟩
                  by_cases he : i = k
                  · exact Or.inr (by rw [← h2, he])
                  · exact Or.inl ⟨i, by omega, h2, h3, h4⟩
                · rintro (⟨i, h1, h2⟩ | h1)
                  · exact ⟨i, by omega, h2⟩
                  · exact ⟨k, by omega, h1.symm, hs, h139⟩
    · have h42 : 0 < t := by
        rcases Nat.eq_zero_or_pos t with h0 | h0
        · subst h0; exact absurd (by decide) h42
        · exact h0
      have htd := hJ.2.2.2.2.1 (t - 1) (by omega)
      obtain ⟨kk, hkk⟩ : ∃ kk, kk = td (t - 1) := ⟨_, rfl⟩
      have htdk := hkk
      rw [← hkk] at htd
      have hkkn : kk < n := htd.2.1
      have hrkk : rc kk = true := htd.2.2
      have hck := hp0.1.2.2 kk hkkn
      have hOk := hp0.2.1.1 kk hkkn
      have htkk := tk_ge (sz kk)
      have hqkk : h (ad kk) = some (sz kk, none) := by rw [← (hJ.2.2.2.2.2.1 kk hkkn hrkk).2]; exact hp0.2.2.1.1 kk hkkn
      have hkk := hkkn
      refine z_aload_n E 0 d_Z_lost_45 rfl rfl ?_
      refine zz_get E 6 (by decide) fl_Z_30 rfl rfl d_Z_lost_46 ?_
      refine z_aload_n E 0 d_Z_lost_49 rfl rfl ?_
      refine z_dup E d_Z_lost_50 rfl ?_
      refine zz_get E 14 (by decide) fl_Z_116 rfl rfl d_Z_lost_51 ?_
      refine z_top hJ.2.2.2.1 ?_
      refine z_iconst E (v := nI 1) d_Z_lost_54 (by decide) ?_
      refine z_isub E d_Z_lost_55 ?_
      refine z_top (nI_sub1 h42) ?_
      refine z_dup_x1 E d_Z_lost_56 rfl rfl ?_
      refine zz_put E 6 (by decide) fl_Z_116 rfl rfl rfl rfl d_Z_lost_57 ?_
      refine zn_iald E 7 1 rfl rfl (_) (rfl) (by omega) (by decide) d_Z_lost_60 ?_
      refine z_top (by show Mx 6 (t - 1) = nI kk; exact htd.1) ?_
      refine z_istore_n E 3 d_Z_lost_61 rfl (by decide) ?_
      refine z_aload_n E 0 d_Z_lost_62 rfl rfl ?_
      refine zz_get E 1 (by decide) fl_Z_13 rfl rfl d_Z_lost_63 ?_
      refine z_iload_n E 3 d_Z_lost_66 rfl rfl ?_
      refine zn_iald E 2 1 rfl rfl (_) (rfl) (by omega) (by decide) d_Z_lost_67 ?_
      refine z_top (by show Mx 1 kk = nI (ad kk); exact (congrFun (hJ.1 1 (by decide) (by decide) (by decide)) kk).trans hck.1) ?_
      refine z_istore E d_Z_lost_68 (by decide) ?_
      refine z_lp (ι := Nat × zmem × (Nat → Bool) × Nat × (Nat → Nat)) (fun y => sz kk + 4 - 4 * y.1) (fun y => zLJ M y.2.1 n ad sz st h (wC (M 0)) va vb y.2.2.1 y.2.2.2.1 y.2.2.2.2 (fun i => i = kk) ∧ (∀ i, rc i = true → y.2.2.1 i = true) ∧ (∀ j, j < y.1 → ∀ k, k < n → ldt h ((wC (M 0)) (ad kk + 4 * j)) (ad k) → y.2.2.1 k = true) ∧ 2 * (n - cR y.2.2.1 n) + y.2.2.2.1 + 1 ≤ 2 * (n - cR rc n) + t ∧ 4 * y.1 ≤ sz kk + 4) (fun y => [some (.ref (a 0)), none, none, some (.int (nI kk)), some (.int (nI (ad kk + 4 * y.1)))]) (fun y => y.2.1) ?_ (0, zu Mx 8 6 (nI (t - 1)), rc, t - 1, td) ⟨⟨fun r h5 h6 h8 => (zu_ne h8).trans (hJ.1 r h5 h6 h8), fun j hj => ?_, fun i hi => ?_, ?_, fun k hk => ?_, hJ.2.2.2.2.2.1, ?_, fun i hi hr' => ?_⟩, fun _ hh => hh, fun j hj => absurd hj (Nat.not_lt_zero j), by dsimp only; omega, by dsimp only; omega⟩ (by repeat' first | exact trivial | refine ⟨rfl, ?_⟩)
      rotate_left
      · dsimp only; rw [zu_same, upd_ne hj]; exact hJ.2.1 j hj
      · dsimp only; rw [zu_ne (by decide)]; exact hJ.2.2.1 i hi
      · dsimp only; rw [zu_same, upd_same]
      · dsimp only; rw [zu_ne (by decide)]; exact hJ.2.2.2.2.1 k (by dsimp only at hk; omega)
      · dsimp only; have := hJ.2.2.2.2.2.2.1; omega
      · rcases hJ.2.2.2.2.2.2.2 i hi hr' with ⟨k, h1, h2⟩ | h1 | h1
        · by_cases he : k = t - 1
          · exact Or.inr (Or.inl (by rw [← h2, he]; exact (htdk).symm))
          · exact Or.inl ⟨k, by dsimp only; omega, h2⟩
        · exact h1.elim
        · exact Or.inr (Or.inr h1)
      rintro ⟨j, M', rc', t', td'⟩ ⟨J, hmo, hdn, hmu, hj4⟩ ih3
      dsimp only at J hmo hdn hmu hj4 ih3 ⊢
      refine z_iload E d_Z_lost_70 rfl ?_
      refine z_iconst E (v := nI 4) d_Z_lost_72 (by decide) ?_
      refine z_iadd E d_Z_lost_73 ?_
      refine z_top (nI_add _ _) ?_
      refine z_aload_n E 0 d_Z_lost_74 rfl rfl ?_
      refine zz_get E 1 (by decide) fl_Z_13 rfl rfl d_Z_lost_75 ?_
      refine z_iload_n E 3 d_Z_lost_78 rfl rfl ?_
      refine zn_iald E 2 1 rfl rfl (_) (rfl) (by omega) (by decide) d_Z_lost_79 ?_
      refine z_top ((congrFun (J.1 1 (by decide) (by decide) (by decide)) kk).trans hck.1) ?_
      refine z_aload_n E 0 d_Z_lost_80 rfl rfl ?_
      refine zz_get E 2 (by decide) fl_Z_17 rfl rfl d_Z_lost_81 ?_
      refine z_iload_n E 3 d_Z_lost_84 rfl rfl ?_
      refine zn_iald E 3 1 rfl rfl (_) (rfl) (by omega) (by decide) d_Z_lost_85 ?_
      refine z_top ((congrFun (J.1 2 (by decide) (by decide) (by decide)) kk).trans hck.2.1) ?_
      refine z_iadd E d_Z_lost_86 ?_
      refine z_top (nI_add _ _) ?_
      refine z_icmp_gt E 106 d_Z_lost_87 (by decide) (fun h87 => ?_) (fun h87 => ?_)
      · have h87 := (nI_ltI (by omega) (by omega)).mp h87
        refine z_goto E 38 d_Z_lost_106 (by decide) ?_
        refine ih (M', rc', t', td') _ ⟨⟨J.1, J.2.1, J.2.2.1, J.2.2.2.1, J.2.2.2.2.1, J.2.2.2.2.2.1, J.2.2.2.2.2.2.1, fun i hi hr' => ?_⟩, fun k hk hl => hmo k (ha k hk hl), fun k hk hl => hmo k (hb k hk hl)⟩ (by dsimp only; omega) (by repeat' first | exact trivial | refine ⟨rfl, ?_⟩)
        rcases J.2.2.2.2.2.2.2 i hi hr' with h1 | h1 | h1
        · exact Or.inl h1
        · refine Or.inr (Or.inr (fun j' hj' k hk hl => ?_))
          have h1 : i = kk := h1
          rw [h1] at hj' hl
          exact hdn j' (by omega) k hk hl
        · exact Or.inr (Or.inr h1)
      · have h87 := mt (nI_ltI (by omega) (by omega)).mpr h87
        refine z_aload_n E 0 d_Z_lost_90 rfl rfl ?_
        refine z_aload_n E 0 d_Z_lost_91 rfl rfl ?_
        refine z_iload E d_Z_lost_92 rfl ?_
        refine zz_calli E [.int (nI (ad kk + 4 * j))] (c_word l D cA a M' (ad kk + 4 * j) (by omega)) kv_Z_113 rfl rfl (by decide) (Nat.le_of_ble_eq_true rfl) (by decide) d_Z_lost_94 (fun r M1 hp => ?_)
        obtain ⟨hM1, rfl⟩ := hp
        subst M1
        refine z_top (congrArg (fun f => wC f (ad kk + 4 * j)) (J.1 0 (by decide) (by decide) (by decide))) ?_
        refine zz_callv E [.int (wC (M 0) (ad kk + 4 * j))] (c_leads l D cA a M' n ad sz st h g (hp0.congr2 (J.1 1 (by decide) (by decide) (by decide)) (J.1 2 (by decide) (by decide) (by decide)) (J.1 3 (by decide) (by decide) (by decide)) (J.1 4 (by decide) (by decide) (by decide)) (fun j hj => J.2.1 j (by omega))) rc' t' J.2.2.1 J.2.2.2.1 (by have := J.2.2.2.2.2.2.1; have := cR_le rc' n; omega) (wC (M 0) (ad kk + 4 * j))) kv_Z_119 rfl rfl (by decide) (Nat.le_of_ble_eq_true rfl) (by decide) d_Z_lost_97 (fun M2 hp2 => ?_)
        obtain ⟨rc2, t2, td2, J2, hm2, hl2, hmu2⟩ := zLJ.leads hp0.2.1 hp0.2.2.2.1 hp0.2.2.1 J (fun k hk hl => rch_s (hJ.2.2.2.2.2.1 kk hkk hrkk).1 hqkk (by omega) hl) hp2
        refine z_iinc E (v := nI (ad kk + 4 * (j + 1))) d_Z_lost_100 rfl (nI_add _ 4) (by decide) ?_
        refine z_goto E 70 d_Z_lost_103 (by decide) ?_
        refine ih3 (j + 1, M2, rc2, t2, td2) _ ⟨J2, fun i hi => hm2 i (hmo i hi), fun j' hj' k hk hl => ?_, by dsimp only; omega, by dsimp only; omega⟩ (by dsimp only; omega) (by repeat' first | exact trivial | refine ⟨rfl, ?_⟩)
        by_cases he : j' = j
        · rw [he] at hl; exact hl2 k hk hl
        · exact hm2 k (hdn j' (by dsimp only at hj'; omega) k hk hl)
  · have h7 : k < n := by have := mt (nI_leI (by omega) (by omega)).mpr h7; omega
    refine z_aload_n E 0 d_Z_lost_10 rfl rfl ?_
    refine zz_get E 5 (by decide) fl_Z_27 rfl rfl d_Z_lost_11 ?_
    refine z_iload_n E 3 d_Z_lost_14 rfl rfl ?_
    refine z_iconst E (v := nI 0) d_Z_lost_15 (by decide) ?_
    refine zz_zast E 5 rfl (v := 0) (by decide) (_) (rfl) (by omega) rfl d_Z_lost_16 ?_
    refine z_iinc E (v := nI (k + 1)) d_Z_lost_17 rfl (nI_1 k) (by decide) ?_
    refine z_goto E 2 d_Z_lost_20 (by decide) ?_
    refine ih (k + 1, zu M' 5 k 0) _ ⟨by dsimp only; omega, fun r h5 => (zu_ne h5).trans (hI3 r h5), fun i hi => ?_⟩ (by dsimp only; omega) (by repeat' first | exact trivial | refine ⟨rfl, ?_⟩)
    dsimp only
    rw [zu_same]
    by_cases he : i = k
    · rw [he, upd_same]
    · rw [upd_ne he]; exact hI4 i (by dsimp only at hi; omega)
end
section
/-! ZoneHeapModel: taken, thrown, fails, room, make -/
def mR (N : zmem) (n : Nat) (pl sz : Nat → Nat) (st : Nat → Option Nat) : Prop :=
  N 7 1 = nI n ∧ ∀ i, i < n → N 1 i = nI (pl i) ∧ N 2 i = nI (sz i) ∧ N 3 i = (if (st i).isSome then nI 2 else nI 1) ∧ (∀ w, st i = some w → N 4 i = nI (w + 1)) ∧ pl i < 8192 ∧ sz i ≤ 2048
def mPic (N : zmem) (n : Nat) (pl sz : Nat → Nat) (st : Nat → Option Nat) (h : zmap) (g : Nat) : Prop := mR N n pl sz st ∧ (∀ i j, i < n → j < n → pl i = pl j → i = j) ∧ rep n pl sz st h ∧ hO h ∧ hW h g ∧ N 7 3 = nI g
def mInv (N : zmem) (h : zmap) (g : Nat) : Prop := ∃ (n : Nat) (pl sz : Nat → Nat) (st : Nat → Option Nat), mPic N n pl sz st h g
def c1 (h : zmap) (x : Nat) : Nat := if (h x).isSome then 1 else 0
theorem cnt_bound {h : zmap} (ho : hO h) : ∀ m, 32 * sumN (c1 h) m ≤ m + 15 := by
  intro m
  induction m using Nat.strongRecOn with
  | ind m ih =>
    cases m with
    | zero => simp [sumN]
    | succ m =>
      simp only [sumN]
      cases hb : h m with
      | none =>
        have e : c1 h m = 0 := by simp [c1, hb]
        have := ih m (by omega)
        omega
      | some b =>
        have e : c1 h m = 1 := by simp [c1, hb]
        have hm := ho.1 m b hb
        have hz : ∀ x, m < x + 32 → x < m → c1 h x = 0 := by
          intro x h1 h2
          cases hx : h x with
          | none => simp [c1, hx]
          | some b' =>
            have h3 := ho.2 x m b' b hx hb h2
            have h4 := tk_lo b'.1
            omega
        by_cases h32 : 32 ≤ m
        · have key : ∀ d, d ≤ 31 → sumN (c1 h) (m - 31 + d) = sumN (c1 h) (m - 31) := by
            intro d
            induction d with
            | zero => intro _; rfl
            | succ d ihd =>
              intro hd
              rw [show m - 31 + (d + 1) = (m - 31 + d) + 1 by omega]
              simp only [sumN]
              rw [ihd (by omega), hz (m - 31 + d) (by omega) (by omega), Nat.add_zero]
          have h5 := key 31 (by omega)
          rw [show m - 31 + 31 = m by omega] at h5
          have h6 := ih (m - 31) (by omega)
          omega
        · have h5 : sumN (c1 h) m = 0 := sumN_zero (fun x hx => by
            cases hxx : h x with
            | none => simp [c1, hxx]
            | some b' =>
              have h3 := ho.2 x m b' b hxx hb hx
              have h4 := tk_lo b'.1
              have h6 := ho.1 x b' hxx
              omega)
          omega
theorem mPic.few {N : zmem} {n g : Nat} {pl sz : Nat → Nat} {st : Nat → Option Nat} {h : zmap} (hp : mPic N n pl sz st h g) : n ≤ 256 := by
  have h1 := cnt_all hp.2.2.1 hp.2.2.2.1 hp.2.1
  have h2 : kcnt h + lcnt h = sumN (c1 h) 8192 := sumN_add (f := k1 h) (g := l1 h) (k := c1 h) (fun x _ => by
    unfold k1 l1 c1
    cases h x with
    | none => rfl
    | some b => obtain ⟨q, w⟩ := b; cases w <;> rfl)
  have h3 := cnt_bound hp.2.2.2.1 8192
  omega
theorem mPic.congr {N N' : zmem} {n g : Nat} {pl sz : Nat → Nat} {st : Nat → Option Nat} {h : zmap} (hp : mPic N n pl sz st h g) (h1 : N' 1 = N 1) (h2 : N' 2 = N 2) (h3 : N' 3 = N 3) (h4 : N' 4 = N 4) (h71 : N' 7 1 = N 7 1) (h73 : N' 7 3 = N 7 3) : mPic N' n pl sz st h g := by
  obtain ⟨⟨e1, e2⟩, b1, b2, b3, b4, b5⟩ := hp
  exact ⟨⟨h71.trans e1, fun i hi => by rw [h1, h2, h3, h4]; exact e2 i hi⟩, b1, b2, b3, b4, h73.trans b5⟩
theorem c_taken (l : Launch) (D : va_G) (cl : List vw_C) (tys : List (ClassId × FieldType)) {σ : Type} (w : σ → va_W) (M : σ) (k : Nat) (hk : k ≤ 2048) : zMi l y_M_taken b_M_taken 1 .int (rmk 0) D cl tys w [.int (nI k)] M (fun r M' => M' = M ∧ r = nI (tk k)) := by
  refine zMi.of (own := "ZoneHeapModel") (by decide) rfl (Nat.le_of_ble_eq_true rfl) (by simp [Value.category]) ?_
  intro p e s m args below meth c A E hr hex
  refine z_iload_n E 0 d_M_taken_0 rfl rfl ?_
  refine z_if_ne E 9 d_M_taken_1 (by decide) (fun h1 => ?_) (fun h1 => ?_)
  · have h1 : k ≠ 0 := fun h0 => h1 (by rw [h0]; rfl)
    refine z_iload_n E 0 d_M_taken_9 rfl rfl ?_
    refine z_bipush E (v := nI 16) d_M_taken_10 (by decide) ?_
    refine z_iadd E d_M_taken_12 ?_
    refine z_top (nI_add _ _) ?_
    refine z_iconst E (v := nI 1) d_M_taken_13 (by decide) ?_
    refine z_isub E d_M_taken_14 ?_
    refine z_top (pk_sub (by omega)) ?_
    refine z_bipush E (v := nI 16) d_M_taken_15 (by decide) ?_
    refine z_idiv E d_M_taken_17 (by decide) ?_
    refine z_top (pk_div (by omega) (by decide) (by decide)) ?_
    refine z_bipush E (v := nI 16) d_M_taken_18 (by decide) ?_
    refine z_imul E d_M_taken_20 ?_
    refine z_top (pk_mul _ _) ?_
    refine z_iret E hr ?_ (by decide) (by decide) d_M_taken_21
    exact ⟨rfl, congrArg nI (by unfold tk; rw [if_neg h1, show k + 16 - 1 = k + 15 by omega])⟩
  · have h1 : k = 0 := by
      rcases Nat.eq_zero_or_pos k with h0 | h0
      · exact h0
      · exact absurd h1 (nI_ne0 h0 (by omega))
    refine z_bipush E (v := nI 16) d_M_taken_4 (by decide) ?_
    refine z_goto E 21 d_M_taken_6 (by decide) ?_
    refine z_iret E hr ?_ (by decide) (by decide) d_M_taken_21
    exact ⟨rfl, congrArg nI (by unfold tk; rw [if_pos h1])⟩
theorem c_thrown (l : Launch) (D : va_G) (cA : Nat → ClassId) (a : Nat → Nat) (M : zmem) : zMi l y_M_thrown b_M_thrown 1 .int (rmk 0) D zcl (ztys cA) (mw a cA) [.ref (a 0)] M (fun r M' => M' = M ∧ r = M 7 0) := by
  refine zMi.of (own := "ZoneHeapModel") (by decide) rfl (Nat.le_of_ble_eq_true rfl) (by simp [Value.category]) ?_
  intro p e s m args below meth c A E hr hex
  refine z_aload_n E 0 d_M_thrown_0 rfl rfl ?_
  refine mm_get E 0 (by decide) fl_M_32 rfl rfl d_M_thrown_1 ?_
  refine z_iret E hr ?_ (by decide) (by decide) d_M_thrown_4
  exact ⟨rfl, rfl⟩
theorem c_fails1 (l : Launch) (D : va_G) (cA : Nat → ClassId) (a : Nat → Nat) (M : zmem) (y : Int32) : zMi l y_M_fails b_M_fails 3 .boolean (rmk 0) D zcl (ztys cA) (mw a cA) [.ref (a 0), .int (nI 1), .int y] M (fun r M' => M' = zu M 7 0 y ∧ r = nI 1) := by
  refine zMi.of (own := "ZoneHeapModel") (by decide) rfl (Nat.le_of_ble_eq_true rfl) (by simp [Value.category]) ?_
  intro p e s m args below meth c A E hr hex
  refine z_aload_n E 0 d_M_fails_0 rfl rfl ?_
  refine z_iload_n E 1 d_M_fails_1 rfl rfl ?_
  refine z_if_eq E 9 d_M_fails_2 (by decide) (fun h2 => ?_) (fun h2 => ?_)
  · exact absurd h2 (by decide)
  · refine z_iload_n E 2 d_M_fails_5 rfl rfl ?_
    refine z_goto E 10 d_M_fails_6 (by decide) ?_
    refine mm_put E 0 0 (by decide) fl_M_32 rfl rfl rfl rfl d_M_fails_10 ?_
    refine z_iload_n E 1 d_M_fails_13 rfl rfl ?_
    refine z_zret E hr (Or.inr rfl) ?_ (by decide) (by decide) d_M_fails_14
    exact ⟨rfl, rfl⟩
theorem c_fails0 (l : Launch) (D : va_G) (cA : Nat → ClassId) (a : Nat → Nat) (M : zmem) (y : Int32) : zMi l y_M_fails b_M_fails 3 .boolean (rmk 0) D zcl (ztys cA) (mw a cA) [.ref (a 0), .int (nI 0), .int y] M (fun r M' => M' = zu M 7 0 (nI 0) ∧ r = nI 0) := by
  refine zMi.of (own := "ZoneHeapModel") (by decide) rfl (Nat.le_of_ble_eq_true rfl) (by simp [Value.category]) ?_
  intro p e s m args below meth c A E hr hex
  refine z_aload_n E 0 d_M_fails_0 rfl rfl ?_
  refine z_iload_n E 1 d_M_fails_1 rfl rfl ?_
  refine z_if_eq E 9 d_M_fails_2 (by decide) (fun h2 => ?_) (fun h2 => ?_)
  · refine z_iconst E (v := nI 0) d_M_fails_9 (by decide) ?_
    refine mm_put E 0 0 (by decide) fl_M_32 rfl rfl rfl rfl d_M_fails_10 ?_
    refine z_iload_n E 1 d_M_fails_13 rfl rfl ?_
    refine z_zret E hr (Or.inl rfl) ?_ (by decide) (by decide) d_M_fails_14
    exact ⟨rfl, rfl⟩
  · exact absurd rfl h2
theorem c_mroom (l : Launch) (D : va_G) (cA : Nat → ClassId) (a : Nat → Nat) (M : zmem) (n : Nat) (pl sz : Nat → Nat) (st : Nat → Option Nat) (h : zmap) (g : Nat) (hp0 : mPic M n pl sz st h g) (q : Nat) (hq : q ≤ 2048) : zMi l y_M_room b_M_room 5 .int (rmk 1) D zcl (ztys cA) (mw a cA) [.ref (a 0), .int (nI q)] M (fun r M' => M' = M ∧ ((∃ x, x < 8192 ∧ r = nI x ∧ hff h q x) ∨ (r = nI 0 ∧ ∀ x, ¬ hfit h q x))) := by
  refine zMi.of (own := "ZoneHeapModel") (by decide) rfl (Nat.le_of_ble_eq_true rfl) (by simp [Value.category]) ?_
  intro p e s m args below meth c A E hr hex
  have h256 := hp0.few
  have htq := tk_le q
  refine z_bipush E (v := nI 16) d_M_room_0 (by decide) ?_
  refine z_istore_n E 2 d_M_room_2 rfl (by decide) ?_
  refine z_lp (ι := Nat) (fun x => 8192 - x) (fun x => 16 ≤ x ∧ x % 16 = 0 ∧ x ≤ 8192 ∧ ∀ y, y < x → ¬ hfit h q y) (fun x => [some (.ref (a 0)), some (.int (nI q)), some (.int (nI x)), none, none]) (fun _ => M) ?_ 16 ⟨by omega, by omega, by omega, fun y hy hfit => by have := hfit.2.1; omega⟩ (by repeat' first | exact trivial | refine ⟨rfl, ?_⟩)
  rintro x ⟨h1, h2, h8, h3⟩ ih
  refine z_iload_n E 2 d_M_room_3 rfl rfl ?_
  refine z_iload_n E 1 d_M_room_4 rfl rfl ?_
  refine zk_callsi E [.int (nI q)] (c_taken l D _ _ _ _ q hq) ks_M_36 rfl rfl (by decide) (Nat.le_of_ble_eq_true rfl) (by decide) d_M_room_5 (fun r M1 hp => ?_)
  obtain ⟨hM1, rfl⟩ := hp
  subst M1
  refine z_iadd E d_M_room_8 ?_
  refine z_top (nI_add _ _) ?_
  refine z_bipush E (v := nI 16) d_M_room_9 (by decide) ?_
  refine z_iadd E d_M_room_11 ?_
  refine z_top (nI_add _ _) ?_
  refine z_sipush E (v := nI 8192) d_M_room_12 (by decide) ?_
  refine z_icmp_gt E 96 d_M_room_15 (by decide) (fun h15 => ?_) (fun h15 => ?_)
  · have h15 := (nI_ltI (by omega) (by omega)).mp h15
    refine z_iconst E (v := nI 0) d_M_room_96 (by decide) ?_
    refine z_iret E hr ?_ (by decide) (by decide) d_M_room_97
    refine ⟨rfl, Or.inr ⟨rfl, fun y hy => ?_⟩⟩
    by_cases hlt : y < x
    · exact h3 y hlt hy
    · have := hy.2.2.1; omega
  · have h15 : x + tk q + 16 ≤ 8192 := by have := mt (nI_ltI (by omega) (by omega)).mpr h15; omega
    refine z_iconst E (v := nI 1) d_M_room_18 (by decide) ?_
    refine z_istore_n E 3 d_M_room_19 rfl (by decide) ?_
    refine z_iconst E (v := nI 0) d_M_room_20 (by decide) ?_
    refine z_istore E d_M_room_21 (by decide) ?_
    refine z_lp (ι := Nat × Bool) (fun y => n - y.1) (fun y => y.1 ≤ n ∧ (y.2 = true → ∀ i, i < y.1 → (pl i + tk (sz i) + 16 ≤ x ∨ x + tk q + 16 ≤ pl i)) ∧ (y.2 = false → ∃ i, i < n ∧ ¬ (pl i + tk (sz i) + 16 ≤ x ∨ x + tk q + 16 ≤ pl i))) (fun y => [some (.ref (a 0)), some (.int (nI q)), some (.int (nI x)), some (.int (if y.2 = true then nI 1 else nI 0)), some (.int (nI y.1))]) (fun _ => M) ?_ (0, true) ⟨Nat.zero_le _, fun _ i hi => absurd hi (Nat.not_lt_zero i), fun hh => by cases hh⟩ (by repeat' first | exact trivial | refine ⟨rfl, ?_⟩)
    rintro ⟨k, fr⟩ ⟨i1, i2, i3⟩ ih2
    dsimp only at i1 i2 i3 ih2 ⊢
    refine z_iload E d_M_room_23 rfl ?_
    refine z_aload_n E 0 d_M_room_25 rfl rfl ?_
    refine mm_get E 8 (by decide) fl_M_40 rfl rfl d_M_room_26 ?_
    refine z_top hp0.1.1 ?_
    refine z_icmp_ge E 84 d_M_room_29 (by decide) (fun h29 => ?_) (fun h29 => ?_)
    · have h29 := (nI_leI (by omega) (by omega)).mp h29
      have hkn : k = n := by omega
      subst k
      refine z_iload_n E 3 d_M_room_84 rfl rfl ?_
      refine z_if_eq E 90 d_M_room_85 (by decide) (fun h85 => ?_) (fun h85 => ?_)
      · have h85 : fr = false := by cases fr with | false => rfl | true => exact absurd h85 (by rw [if_pos rfl]; decide)
        refine z_iinc E (v := nI (x + 16)) d_M_room_90 rfl (nI_add _ 16) (by decide) ?_
        refine z_goto E 3 d_M_room_93 (by decide) ?_
        refine ih (x + 16) _ ⟨by omega, by omega, by omega, fun y hy hfit => ?_⟩ (by omega) (by repeat' first | exact trivial | refine ⟨rfl, ?_⟩)
        by_cases he : y = x
        · obtain ⟨i, hi, hn⟩ := i3 h85
          rw [he] at hfit
          exact hn (hfit.2.2.2 _ _ (hp0.2.2.1.1 i hi))
        · by_cases hlt : y < x
          · exact h3 y hlt hfit
          · have := hfit.1; omega
      · have h85 : fr = true := by cases fr with | true => rfl | false => exact absurd rfl h85
        refine z_iload_n E 2 d_M_room_88 rfl rfl ?_
        refine z_iret E hr ?_ (by decide) (by decide) d_M_room_89
        refine ⟨rfl, Or.inl ⟨x, by omega, rfl, ⟨h2, h1, h15, fun y b hy => ?_⟩, h3⟩⟩
        obtain ⟨i, hi, rfl⟩ := hp0.2.2.1.2 y b hy
        have e := hp0.2.2.1.1 i hi
        rw [hy] at e
        have e := Option.some.inj e
        subst e
        exact i2 h85 i hi
    · have h29 : k < n := by have := mt (nI_leI (by omega) (by omega)).mpr h29; omega
      have hc := hp0.1.2 k h29
      have hbk := tk_le (sz k)
      refine z_iload_n E 2 d_M_room_32 rfl rfl ?_
      refine z_bipush E (v := nI 16) d_M_room_33 (by decide) ?_
      refine z_isub E d_M_room_35 ?_
      refine z_top (pk_sub (by omega)) ?_
      refine z_aload_n E 0 d_M_room_36 rfl rfl ?_
      refine mm_get E 2 (by decide) fl_M_13 rfl rfl d_M_room_37 ?_
      refine z_iload E d_M_room_40 rfl ?_
      refine zn_iald E 2 1 rfl rfl (_) (rfl) (by omega) (by decide) d_M_room_42 ?_
      refine z_top hc.1 ?_
      refine z_aload_n E 0 d_M_room_43 rfl rfl ?_
      refine mm_get E 3 (by decide) fl_M_16 rfl rfl d_M_room_44 ?_
      refine z_iload E d_M_room_47 rfl ?_
      refine zn_iald E 3 1 rfl rfl (_) (rfl) (by omega) (by decide) d_M_room_49 ?_
      refine z_top hc.2.1 ?_
      refine zk_callsi E [.int (nI (sz k))] (c_taken l D _ _ _ _ (sz k) hc.2.2.2.2.2) ks_M_36 rfl rfl (by decide) (Nat.le_of_ble_eq_true rfl) (by decide) d_M_room_50 (fun r M1 hp => ?_)
      obtain ⟨hM1, rfl⟩ := hp
      subst M1
      refine z_iadd E d_M_room_53 ?_
      refine z_top (nI_add _ _) ?_
      refine z_icmp_ge E 78 d_M_room_54 (by decide) (fun h54 => ?_) (fun h54 => ?_)
      · have h54 := (nI_leI (by omega) (by omega)).mp h54
        refine z_iinc E (v := nI (k + 1)) d_M_room_78 rfl (nI_1 k) (by decide) ?_
        refine z_goto E 23 d_M_room_81 (by decide) ?_
        refine ih2 (k + 1, fr) _ ⟨by dsimp only; omega, fun hf i hi => ?_, fun hf => ?_⟩ (by dsimp only; omega) (by repeat' first | exact trivial | refine ⟨rfl, ?_⟩)
        · by_cases he : i = k
          · rw [he]; exact Or.inl (by omega)
          · exact i2 hf i (by dsimp only at hi; omega)
        · obtain ⟨i, hi, hn⟩ := i3 hf
          exact ⟨i, by omega, hn⟩
      · have h54 := mt (nI_leI (by omega) (by omega)).mpr h54
        refine z_aload_n E 0 d_M_room_57 rfl rfl ?_
        refine mm_get E 2 (by decide) fl_M_13 rfl rfl d_M_room_58 ?_
        refine z_iload E d_M_room_61 rfl ?_
        refine zn_iald E 2 1 rfl rfl (_) (rfl) (by omega) (by decide) d_M_room_63 ?_
        refine z_top hc.1 ?_
        refine z_iload_n E 2 d_M_room_64 rfl rfl ?_
        refine z_iload_n E 1 d_M_room_65 rfl rfl ?_
        refine zk_callsi E [.int (nI q)] (c_taken l D _ _ _ _ q hq) ks_M_36 rfl rfl (by decide) (Nat.le_of_ble_eq_true rfl) (by decide) d_M_room_66 (fun r M1 hp => ?_)
        obtain ⟨hM1, rfl⟩ := hp
        subst M1
        refine z_iadd E d_M_room_69 ?_
        refine z_top (nI_add _ _) ?_
        refine z_bipush E (v := nI 16) d_M_room_70 (by decide) ?_
        refine z_iadd E d_M_room_72 ?_
        refine z_top (nI_add _ _) ?_
        refine z_icmp_ge E 78 d_M_room_73 (by decide) (fun h73 => ?_) (fun h73 => ?_)
        · have h73 := (nI_leI (by omega) (by omega)).mp h73
          refine z_iinc E (v := nI (k + 1)) d_M_room_78 rfl (nI_1 k) (by decide) ?_
          refine z_goto E 23 d_M_room_81 (by decide) ?_
          refine ih2 (k + 1, fr) _ ⟨by dsimp only; omega, fun hf i hi => ?_, fun hf => ?_⟩ (by dsimp only; omega) (by repeat' first | exact trivial | refine ⟨rfl, ?_⟩)
          · by_cases he : i = k
            · rw [he]; exact Or.inr (by omega)
            · exact i2 hf i (by dsimp only at hi; omega)
          · obtain ⟨i, hi, hn⟩ := i3 hf
            exact ⟨i, by omega, hn⟩
        · have h73 := mt (nI_leI (by omega) (by omega)).mpr h73
          refine z_iconst E (v := nI 0) d_M_room_76 (by decide) ?_
          refine z_istore_n E 3 d_M_room_77 rfl (by decide) ?_
          refine z_iinc E (v := nI (k + 1)) d_M_room_78 rfl (nI_1 k) (by decide) ?_
          refine z_goto E 23 d_M_room_81 (by decide) ?_
          refine ih2 (k + 1, false) _ ⟨by dsimp only; omega, (fun hf => by cases hf), fun _ => ⟨k, by omega, by omega⟩⟩ (by dsimp only; omega) (by repeat' first | exact trivial | refine ⟨rfl, ?_⟩)
theorem make_pic {N : zmem} {n q x g : Nat} {pl sz : Nat → Nat} {st : Nat → Option Nat} {h : zmap} {v : Int32} (hp : mPic N n pl sz st h g) (hq : q ≤ 2048) (hf : hfit h q x) :
    mPic (zu (zu (zu (zu (zu N 1 n (nI x)) 2 n (nI q)) 7 1 (nI (n + 1))) 3 n (nI 1)) 7 2 v) (n + 1) (ins pl n x) (ins sz n q) (ins st n none) (hst h x (q, none)) g := by
  obtain ⟨hR, hd, hrp, hOh, hWh, h3⟩ := hp
  have hfree := hff_free hf
  have hx8 : x < 8192 := by have := hf.2.2.1; omega
  refine ⟨⟨by simp [zu, upd], fun i hi => ?_⟩, fun i j hi hj he => ?_, rep_ins hrp (Nat.le_refl _) hfree none, ⟨fun y b hy => ?_, fun y z b b' hy hz hyz => ?_⟩, hW_new hWh, by simpa [zu, upd] using h3⟩
  · unfold ins
    by_cases hin : i = n
    · subst hin; simp [zu, upd, hx8, hq]
    · have hc := hR.2 i (by omega)
      have hlt : i < n := by omega
      simp only [if_pos hlt]
      simpa [zu, upd, hin] using hc
  · have hne : ∀ i, i < n → pl i ≠ x := fun i hi he => by have := hrp.1 i hi; rw [he, hfree] at this; cases this
    unfold ins at he
    by_cases h1 : i = n
    · by_cases h2 : j = n
      · omega
      · rw [h1, if_neg (Nat.lt_irrefl n), if_pos rfl, if_pos (show j < n by omega)] at he
        exact absurd he.symm (hne j (by omega))
    · by_cases h2 : j = n
      · rw [h2, if_pos (show i < n by omega), if_neg (Nat.lt_irrefl n), if_pos rfl] at he
        exact absurd he (hne i (by omega))
      · rw [if_pos (show i < n by omega), if_pos (show j < n by omega)] at he
        exact hd i j (by omega) (by omega) he
  · unfold hst at hy
    split at hy
    · cases hy; rw [‹y = _›]; exact ⟨hf.2.1, hf.1, hf.2.2.1, hq⟩
    · exact hOh.1 y b hy
  · unfold hst at hy hz
    split at hy
    · split at hz
      · omega
      · cases hy
        have := hf.2.2.2 z b' hz
        have ht := tk_lo b'.1
        dsimp only
        omega
    · split at hz
      · cases hz
        have := hf.2.2.2 y b hy
        have ht := tk_lo q
        omega
      · exact hOh.2 y z b b' hy hz hyz
theorem c_make (l : Launch) (D : va_G) (cA : Nat → ClassId) (a : Nat → Nat) (M : zmem) (n : Nat) (pl sz : Nat → Nat) (st : Nat → Option Nat) (h : zmap) (g : Nat) (hp0 : mPic M n pl sz st h g) (q : Nat) (hq : q ≤ 2048) : zMi l y_M_make b_M_make 3 .int (rmk 2) D zcl (ztys cA) (mw a cA) [.ref (a 0), .int (nI q)] M (fun r M' => (r = nI 0 ∧ M' = M ∧ ∀ x, ¬ hfit h q x) ∨ (∃ x, x < 8192 ∧ r = nI x ∧ hff h q x ∧ mPic M' (n + 1) (ins pl n x) (ins sz n q) (ins st n none) (hst h x (q, none)) g ∧ M' 7 2 = M 7 2 + 1 ∧ M' 0 = M 0 ∧ M' 5 = M 5 ∧ M' 6 = M 6 ∧ M' 7 0 = M 7 0 ∧ M' 7 4 = M 7 4)) := by
  refine zMi.of (own := "ZoneHeapModel") (by decide) rfl (Nat.le_of_ble_eq_true rfl) (by simp [Value.category]) ?_
  intro p e s m args below meth c A E hr hex
  have h256 := hp0.few
  refine z_aload_n E 0 d_M_make_0 rfl rfl ?_
  refine z_iload_n E 1 d_M_make_1 rfl rfl ?_
  refine mm_calli E [.int (nI q)] (c_mroom l D cA a M n pl sz st h g hp0 q hq) kv_M_43 rfl rfl (by decide) (Nat.le_of_ble_eq_true rfl) (by decide) d_M_make_2 (fun r M1 hp => ?_)
  obtain ⟨hM1, ⟨x, hx8, rfl, hfx⟩ | ⟨rfl, hno⟩⟩ := hp <;> subst M1
  · refine z_istore_n E 2 d_M_make_5 rfl (by decide) ?_
    refine z_iload_n E 2 d_M_make_6 rfl rfl ?_
    refine z_if_ne E 12 d_M_make_7 (by decide) (fun h7 => ?_) (fun h7 => ?_)
    · refine z_aload_n E 0 d_M_make_12 rfl rfl ?_
      refine mm_get E 2 (by decide) fl_M_13 rfl rfl d_M_make_13 ?_
      refine z_aload_n E 0 d_M_make_16 rfl rfl ?_
      refine mm_get E 8 (by decide) fl_M_40 rfl rfl d_M_make_17 ?_
      refine z_top hp0.1.1 ?_
      refine z_iload_n E 2 d_M_make_20 rfl rfl ?_
      refine mm_iast E 1 rfl (_) (rfl) (by omega) rfl d_M_make_21 ?_
      refine z_aload_n E 0 d_M_make_22 rfl rfl ?_
      refine mm_get E 3 (by decide) fl_M_16 rfl rfl d_M_make_23 ?_
      refine z_aload_n E 0 d_M_make_26 rfl rfl ?_
      refine mm_get E 8 (by decide) fl_M_40 rfl rfl d_M_make_27 ?_
      refine z_top hp0.1.1 ?_
      refine z_iload_n E 1 d_M_make_30 rfl rfl ?_
      refine mm_iast E 2 rfl (_) (rfl) (by omega) rfl d_M_make_31 ?_
      refine z_aload_n E 0 d_M_make_32 rfl rfl ?_
      refine mm_get E 4 (by decide) fl_M_19 rfl rfl d_M_make_33 ?_
      refine z_aload_n E 0 d_M_make_36 rfl rfl ?_
      refine z_dup E d_M_make_37 rfl ?_
      refine mm_get E 8 (by decide) fl_M_40 rfl rfl d_M_make_38 ?_
      refine z_top hp0.1.1 ?_
      refine z_dup_x1 E d_M_make_41 rfl rfl ?_
      refine z_iconst E (v := nI 1) d_M_make_42 (by decide) ?_
      refine z_iadd E d_M_make_43 ?_
      refine z_top (nI_1 n) ?_
      refine mm_put E 8 1 (by decide) fl_M_40 rfl rfl rfl rfl d_M_make_44 ?_
      refine z_iconst E (v := nI 1) d_M_make_47 (by decide) ?_
      refine mm_iast E 3 rfl (_) (rfl) (by omega) rfl d_M_make_48 ?_
      refine z_aload_n E 0 d_M_make_49 rfl rfl ?_
      refine z_dup E d_M_make_50 rfl ?_
      refine mm_get E 9 (by decide) fl_M_46 rfl rfl d_M_make_51 ?_
      refine z_iconst E (v := nI 1) d_M_make_54 (by decide) ?_
      refine z_iadd E d_M_make_55 ?_
      refine mm_put E 9 2 (by decide) fl_M_46 rfl rfl rfl rfl d_M_make_56 ?_
      refine z_iload_n E 2 d_M_make_59 rfl rfl ?_
      refine z_iret E hr ?_ (by decide) (by decide) d_M_make_60
      refine Or.inr ⟨x, hx8, rfl, hfx, make_pic hp0 hq hfx.1, ?_, rfl, rfl, rfl, rfl, rfl⟩
      first | rfl | (simp [zu, upd]; done) | (simp [zu, upd]; rfl)
    · exact absurd h7 (nI_ne0 (by have := hfx.1.2.1; omega) (by omega))
  · refine z_istore_n E 2 d_M_make_5 rfl (by decide) ?_
    refine z_iload_n E 2 d_M_make_6 rfl rfl ?_
    refine z_if_ne E 12 d_M_make_7 (by decide) (fun h7 => ?_) (fun h7 => ?_)
    · exact absurd rfl h7
    · refine z_iconst E (v := nI 0) d_M_make_10 (by decide) ?_
      refine z_iret E hr ?_ (by decide) (by decide) d_M_make_11
      exact Or.inl ⟨rfl, rfl, hno⟩
end
section
/-! ZoneHeapModel: at, kept, give -/
theorem sm_1 {o : Option Nat} : (if o.isSome = true then nI 2 else nI 1) = nI 1 ↔ o = none := by
  cases o with
  | none => simp
  | some w => simp only [Option.isSome_some, if_true]; constructor <;> intro h
              · exact absurd h (by decide)
              · cases h
theorem sm_2 {o : Option Nat} : (if o.isSome = true then nI 2 else nI 1) = nI 2 ↔ o.isSome = true := by
  cases o with
  | none => simp only [Option.isSome_none, Bool.false_eq_true, if_false]; constructor <;> intro h
            · exact absurd h (by decide)
            · exact h.elim
  | some w => simp
def sw {α : Type} (f : Nat → α) (b m : Nat) (i : Nat) : α := if i = b then f m else f i
theorem rep_sw {n b : Nat} {pl sz : Nat → Nat} {st : Nat → Option Nat} {h : zmap} (hr : rep n pl sz st h) (hd : ∀ i j, i < n → j < n → pl i = pl j → i = j) (hb : b < n) : rep (n - 1) (sw pl b (n - 1)) (sw sz b (n - 1)) (sw st b (n - 1)) (hrm h (pl b)) := by
  constructor
  · intro i hi
    unfold sw hrm
    by_cases h1 : i = b
    · simp only [if_pos h1]
      rw [if_neg (fun he => by have := hd (n - 1) b (by omega) hb he; omega)]
      exact hr.1 (n - 1) (by omega)
    · simp only [if_neg h1]
      rw [if_neg (fun he => by have := hd i b (by omega) hb he; omega)]
      exact hr.1 i (by omega)
  · intro x c hx
    unfold hrm at hx
    split at hx
    · cases hx
    · obtain ⟨i, hi, he⟩ := hr.2 x c hx
      have hne : i ≠ b := fun hh => by subst hh; exact absurd he.symm ‹_›
      by_cases h1 : i = n - 1
      · exact ⟨b, by omega, by unfold sw; rw [if_pos rfl, ← h1]; exact he⟩
      · exact ⟨i, by omega, by unfold sw; rw [if_neg hne]; exact he⟩
theorem mgive_start {M : zmem} {n k g : Nat} {pl sz : Nat → Nat} {st : Nat → Option Nat} {h : zmap} (hp : mPic M n pl sz st h g) (hk : k < n) (hl : st k = none) :
    mPic (zu (zu (zu M 3 k (nI 2)) 7 3 (nI (g + 1))) 4 k (nI (g + 1))) n pl sz (fun i => if i = k then some g else st i) (hst h (pl k) (sz k, some g)) (g + 1) := by
  obtain ⟨hR, hd, hrp, hOh, hWh, h2⟩ := hp
  have hx := hrp.1 k hk
  refine ⟨⟨?_, fun i hi => ?_⟩, hd, rep_set hrp hd hk _, ⟨fun x b hb => ?_, fun x y b b' hb hb' hxy => ?_⟩, ⟨fun x q w hb => ?_, fun x y q q' w hb hb' => ?_⟩, ?_⟩
  · simp [zu, upd, hR.1]
  · have hc := hR.2 i hi
    by_cases he : i = k
    · subst he
      simp [zu, upd]
      exact ⟨hc.1, hc.2.1, hc.2.2.2.2.1, hc.2.2.2.2.2⟩
    · simpa [zu, upd, he] using hc
  · unfold hst at hb
    split at hb
    · cases hb; rw [‹x = _›]; have := hOh.1 _ _ hx; exact this
    · exact hOh.1 x b hb
  · have e1 : ∃ v, h x = some (b.1, v) := by
      unfold hst at hb
      split at hb
      · cases hb; rw [‹x = _›]; exact ⟨_, hx⟩
      · exact ⟨b.2, hb⟩
    have e2 : ∃ v, h y = some (b'.1, v) := by
      unfold hst at hb'
      split at hb'
      · cases hb'; rw [‹y = _›]; exact ⟨_, hx⟩
      · exact ⟨b'.2, hb'⟩
    obtain ⟨v, e1⟩ := e1
    obtain ⟨v', e2⟩ := e2
    have := hOh.2 x y _ _ e1 e2 hxy
    exact this
  · unfold hst at hb
    split at hb
    · cases hb; omega
    · have := hWh.1 x q w hb; omega
  · unfold hst at hb hb'
    split at hb
    · split at hb'
      · rw [‹x = _›, ‹y = _›]
      · cases hb; have := hWh.1 y q' _ hb'; omega
    · split at hb'
      · cases hb'; have := hWh.1 x q _ hb; omega
      · exact hWh.2 x y q q' w hb hb'
  · simp [zu, upd]
theorem mgive_some {M : zmem} {n g : Nat} {pl sz : Nat → Nat} {st : Nat → Option Nat} {h : zmap} (hp : mPic M n pl sz st h g) (hs : 512 < ksum h) (hno : ∀ i, i < n → st i = none) : False := by
  obtain ⟨hR, hd, hrp, hOh, hWh, h2⟩ := hp
  have := ksum_rep hrp hOh hd
  rw [sumN_zero (fun i hi => by simp [hno i hi])] at this
  omega
theorem mgive_step {M : zmem} {n b g w : Nat} {pl sz : Nat → Nat} {st : Nat → Option Nat} {h : zmap} (hp : mPic M n pl sz st h g) (hb : b < n) (hw : st b = some w) (hmin : ∀ i, i < n → ∀ w', st i = some w' → w ≤ w') :
    mPic (zu (zu (zu (zu (zu M 7 1 (nI (n - 1))) 1 b (M 1 (n - 1))) 2 b (M 2 (n - 1))) 3 b (M 3 (n - 1))) 4 b (M 4 (n - 1))) (n - 1) (sw pl b (n - 1)) (sw sz b (n - 1)) (sw st b (n - 1)) (hrm h (pl b)) g ∧ old h (pl b) := by
  obtain ⟨hR, hd, hrp, hOh, hWh, h2⟩ := hp
  have hx := hrp.1 b hb
  refine ⟨⟨⟨by simp [zu, upd], fun i hi => ?_⟩, fun i j hi hj he => ?_, rep_sw hrp hd hb, hOh.rm, hWh.rm, by simpa [zu, upd] using h2⟩, ⟨sz b, w, by rw [hx, hw], fun y q' w' hy => ?_⟩⟩
  · unfold sw
    by_cases he : i = b
    · have hc := hR.2 (n - 1) (by omega)
      subst he
      simpa [zu, upd] using hc
    · have hc := hR.2 i (by omega)
      simp only [if_neg he]
      simpa [zu, upd, he] using hc
  · unfold sw at he
    by_cases h1 : i = b
    · by_cases h3 : j = b
      · omega
      · rw [if_pos h1, if_neg h3] at he
        have := hd (n - 1) j (by omega) (by omega) he
        omega
    · by_cases h3 : j = b
      · rw [if_neg h1, if_pos h3] at he
        have := hd i (n - 1) (by omega) (by omega) he
        omega
      · rw [if_neg h1, if_neg h3] at he
        exact hd i j (by omega) (by omega) he
  · obtain ⟨i, hi, rfl⟩ := hrp.2 y _ hy
    have e5 := hrp.1 i hi
    rw [hy] at e5
    exact hmin i hi w' (Prod.mk.inj (Option.some.inj e5)).2.symm
theorem c_at1 (l : Launch) (D : va_G) (cA : Nat → ClassId) (a : Nat → Nat) (M : zmem) (n : Nat) (pl sz : Nat → Nat) (st : Nat → Option Nat) (h : zmap) (g : Nat) (hp0 : mPic M n pl sz st h g) (x : Int32) : zMi l y_M_at b_M_at 4 .int (rmk 0) D zcl (ztys cA) (mw a cA) [.ref (a 0), .int x, .int (nI 1)] M (fun r M' => M' = M ∧ ((∃ k, k < n ∧ r = nI k ∧ x = nI (pl k) ∧ st k = none) ∨ (r = -1 ∧ ∀ k, k < n → x = nI (pl k) → ¬ st k = none))) := by
  refine zMi.of (own := "ZoneHeapModel") (by decide) rfl (Nat.le_of_ble_eq_true rfl) (by simp [Value.category]) ?_
  intro p e s m args below meth c A E hr hex
  have h256 := hp0.few
  refine z_iconst E (v := nI 0) d_M_at_0 (by decide) ?_
  refine z_istore_n E 3 d_M_at_1 rfl (by decide) ?_
  refine z_lp (ι := Nat) (fun k => n - k) (fun k => k ≤ n ∧ ∀ i, i < k → x = nI (pl i) → ¬ st i = none) (fun k => [some (.ref (a 0)), some (.int x), some (.int (nI 1)), some (.int (nI k))]) (fun _ => M) ?_ 0 ⟨Nat.zero_le _, fun i hi => absurd hi (Nat.not_lt_zero i)⟩ (by repeat' first | exact trivial | refine ⟨rfl, ?_⟩)
  rintro k ⟨h1, h2⟩ ih
  refine z_iload_n E 3 d_M_at_2 rfl rfl ?_
  refine z_aload_n E 0 d_M_at_3 rfl rfl ?_
  refine mm_get E 8 (by decide) fl_M_40 rfl rfl d_M_at_4 ?_
  refine z_top hp0.1.1 ?_
  refine z_icmp_ge E 38 d_M_at_7 (by decide) (fun h7 => ?_) (fun h7 => ?_)
  · have h7 := (nI_leI (by omega) (by omega)).mp h7
    have : k = n := by omega
    subst this
    refine z_iconst E (v := (-1 : Int32)) d_M_at_38 (by decide) ?_
    refine z_iret E hr ?_ (by decide) (by decide) d_M_at_39
    exact ⟨rfl, Or.inr ⟨rfl, h2⟩⟩
  · have h7 : k < n := by have := mt (nI_leI (by omega) (by omega)).mpr h7; omega
    have hc := hp0.1.2 k h7
    refine z_aload_n E 0 d_M_at_10 rfl rfl ?_
    refine mm_get E 2 (by decide) fl_M_13 rfl rfl d_M_at_11 ?_
    refine z_iload_n E 3 d_M_at_14 rfl rfl ?_
    refine zn_iald E 2 1 rfl rfl (_) (rfl) (by omega) (by decide) d_M_at_15 ?_
    refine z_top hc.1 ?_
    refine z_iload_n E 1 d_M_at_16 rfl rfl ?_
    refine z_icmp_ne E 32 d_M_at_17 (by decide) (fun h17 => ?_) (fun h17 => ?_)
    · refine z_iinc E (v := nI (k + 1)) d_M_at_32 rfl (nI_1 k) (by decide) ?_
      refine z_goto E 2 d_M_at_35 (by decide) ?_
      refine ih (k + 1) _ ⟨by omega, fun i hi he => ?_⟩ (by omega) (by repeat' first | exact trivial | refine ⟨rfl, ?_⟩)
      by_cases hik : i = k
      · rw [hik] at he; exact absurd he.symm h17
      · exact h2 i (by omega) he
    · refine z_aload_n E 0 d_M_at_20 rfl rfl ?_
      refine mm_get E 4 (by decide) fl_M_19 rfl rfl d_M_at_21 ?_
      refine z_iload_n E 3 d_M_at_24 rfl rfl ?_
      refine zn_iald E 4 1 rfl rfl (_) (rfl) (by omega) (by decide) d_M_at_25 ?_
      refine z_top hc.2.2.1 ?_
      refine z_iload_n E 2 d_M_at_26 rfl rfl ?_
      refine z_icmp_ne E 32 d_M_at_27 (by decide) (fun h27 => ?_) (fun h27 => ?_)
      · have h27 := mt sm_1.mpr h27
        refine z_iinc E (v := nI (k + 1)) d_M_at_32 rfl (nI_1 k) (by decide) ?_
        refine z_goto E 2 d_M_at_35 (by decide) ?_
        refine ih (k + 1) _ ⟨by omega, fun i hi he => ?_⟩ (by omega) (by repeat' first | exact trivial | refine ⟨rfl, ?_⟩)
        by_cases hik : i = k
        · rw [hik]; exact h27
        · exact h2 i (by omega) he
      · have h27 := sm_1.mp h27
        refine z_iload_n E 3 d_M_at_30 rfl rfl ?_
        refine z_iret E hr ?_ (by decide) (by decide) d_M_at_31
        exact ⟨rfl, Or.inl ⟨k, h7, rfl, h17.symm, h27⟩⟩
theorem c_at2 (l : Launch) (D : va_G) (cA : Nat → ClassId) (a : Nat → Nat) (M : zmem) (n : Nat) (pl sz : Nat → Nat) (st : Nat → Option Nat) (h : zmap) (g : Nat) (hp0 : mPic M n pl sz st h g) (x : Int32) : zMi l y_M_at b_M_at 4 .int (rmk 0) D zcl (ztys cA) (mw a cA) [.ref (a 0), .int x, .int (nI 2)] M (fun r M' => M' = M ∧ ((∃ k, k < n ∧ r = nI k ∧ x = nI (pl k) ∧ (st k).isSome = true) ∨ (r = -1 ∧ ∀ k, k < n → x = nI (pl k) → ¬ (st k).isSome = true))) := by
  refine zMi.of (own := "ZoneHeapModel") (by decide) rfl (Nat.le_of_ble_eq_true rfl) (by simp [Value.category]) ?_
  intro p e s m args below meth c A E hr hex
  have h256 := hp0.few
  refine z_iconst E (v := nI 0) d_M_at_0 (by decide) ?_
  refine z_istore_n E 3 d_M_at_1 rfl (by decide) ?_
  refine z_lp (ι := Nat) (fun k => n - k) (fun k => k ≤ n ∧ ∀ i, i < k → x = nI (pl i) → ¬ (st i).isSome = true) (fun k => [some (.ref (a 0)), some (.int x), some (.int (nI 2)), some (.int (nI k))]) (fun _ => M) ?_ 0 ⟨Nat.zero_le _, fun i hi => absurd hi (Nat.not_lt_zero i)⟩ (by repeat' first | exact trivial | refine ⟨rfl, ?_⟩)
  rintro k ⟨h1, h2⟩ ih
  refine z_iload_n E 3 d_M_at_2 rfl rfl ?_
  refine z_aload_n E 0 d_M_at_3 rfl rfl ?_
  refine mm_get E 8 (by decide) fl_M_40 rfl rfl d_M_at_4 ?_
  refine z_top hp0.1.1 ?_
  refine z_icmp_ge E 38 d_M_at_7 (by decide) (fun h7 => ?_) (fun h7 => ?_)
  · have h7 := (nI_leI (by omega) (by omega)).mp h7
    have : k = n := by omega
    subst this
    refine z_iconst E (v := (-1 : Int32)) d_M_at_38 (by decide) ?_
    refine z_iret E hr ?_ (by decide) (by decide) d_M_at_39
    exact ⟨rfl, Or.inr ⟨rfl, h2⟩⟩
  · have h7 : k < n := by have := mt (nI_leI (by omega) (by omega)).mpr h7; omega
    have hc := hp0.1.2 k h7
    refine z_aload_n E 0 d_M_at_10 rfl rfl ?_
    refine mm_get E 2 (by decide) fl_M_13 rfl rfl d_M_at_11 ?_
    refine z_iload_n E 3 d_M_at_14 rfl rfl ?_
    refine zn_iald E 2 1 rfl rfl (_) (rfl) (by omega) (by decide) d_M_at_15 ?_
    refine z_top hc.1 ?_
    refine z_iload_n E 1 d_M_at_16 rfl rfl ?_
    refine z_icmp_ne E 32 d_M_at_17 (by decide) (fun h17 => ?_) (fun h17 => ?_)
    · refine z_iinc E (v := nI (k + 1)) d_M_at_32 rfl (nI_1 k) (by decide) ?_
      refine z_goto E 2 d_M_at_35 (by decide) ?_
      refine ih (k + 1) _ ⟨by omega, fun i hi he => ?_⟩ (by omega) (by repeat' first | exact trivial | refine ⟨rfl, ?_⟩)
      by_cases hik : i = k
      · rw [hik] at he; exact absurd he.symm h17
      · exact h2 i (by omega) he
    · refine z_aload_n E 0 d_M_at_20 rfl rfl ?_
      refine mm_get E 4 (by decide) fl_M_19 rfl rfl d_M_at_21 ?_
      refine z_iload_n E 3 d_M_at_24 rfl rfl ?_
      refine zn_iald E 4 1 rfl rfl (_) (rfl) (by omega) (by decide) d_M_at_25 ?_
      refine z_top hc.2.2.1 ?_
      refine z_iload_n E 2 d_M_at_26 rfl rfl ?_
      refine z_icmp_ne E 32 d_M_at_27 (by decide) (fun h27 => ?_) (fun h27 => ?_)
      · have h27 := mt sm_2.mpr h27
        refine z_iinc E (v := nI (k + 1)) d_M_at_32 rfl (nI_1 k) (by decide) ?_
        refine z_goto E 2 d_M_at_35 (by decide) ?_
        refine ih (k + 1) _ ⟨by omega, fun i hi he => ?_⟩ (by omega) (by repeat' first | exact trivial | refine ⟨rfl, ?_⟩)
        by_cases hik : i = k
        · rw [hik]; exact h27
        · exact h2 i (by omega) he
      · have h27 := sm_2.mp h27
        refine z_iload_n E 3 d_M_at_30 rfl rfl ?_
        refine z_iret E hr ?_ (by decide) (by decide) d_M_at_31
        exact ⟨rfl, Or.inl ⟨k, h7, rfl, h17.symm, h27⟩⟩
theorem c_kept (l : Launch) (D : va_G) (cA : Nat → ClassId) (a : Nat → Nat) (M : zmem) (n : Nat) (pl sz : Nat → Nat) (st : Nat → Option Nat) (h : zmap) (g : Nat) (hp0 : mPic M n pl sz st h g) : zMi l y_M_kept b_M_kept 3 .int (rmk 0) D zcl (ztys cA) (mw a cA) [.ref (a 0)] M (fun r M' => M' = M ∧ r = nI (ksum h)) := by
  refine zMi.of (own := "ZoneHeapModel") (by decide) rfl (Nat.le_of_ble_eq_true rfl) (by simp [Value.category]) ?_
  intro p e s m args below meth c A E hr hex
  have h256 := hp0.few
  refine z_iconst E (v := nI 0) d_M_kept_0 (by decide) ?_
  refine z_istore_n E 1 d_M_kept_1 rfl (by decide) ?_
  refine z_iconst E (v := nI 0) d_M_kept_2 (by decide) ?_
  refine z_istore_n E 2 d_M_kept_3 rfl (by decide) ?_
  refine z_lp (ι := Nat) (fun k => n - k) (fun k => k ≤ n) (fun k => [some (.ref (a 0)), some (.int (nI (sumN (fun i => if (st i).isSome then sz i else 0) k))), some (.int (nI k))]) (fun _ => M) ?_ 0 (Nat.zero_le _) (by repeat' first | exact trivial | refine ⟨rfl, ?_⟩)
  intro k hk ih
  refine z_iload_n E 2 d_M_kept_4 rfl rfl ?_
  refine z_aload_n E 0 d_M_kept_5 rfl rfl ?_
  refine mm_get E 8 (by decide) fl_M_40 rfl rfl d_M_kept_6 ?_
  refine z_top hp0.1.1 ?_
  refine z_icmp_ge E 37 d_M_kept_9 (by decide) (fun h9 => ?_) (fun h9 => ?_)
  · have h9 := (nI_leI (by omega) (by omega)).mp h9
    have : k = n := by omega
    subst this
    refine z_iload_n E 1 d_M_kept_37 rfl rfl ?_
    refine z_iret E hr ?_ (by decide) (by decide) d_M_kept_38
    exact ⟨rfl, congrArg nI (ksum_rep hp0.2.2.1 hp0.2.2.2.1 hp0.2.1).symm⟩
  · have h9 : k < n := by have := mt (nI_leI (by omega) (by omega)).mpr h9; omega
    have hc := hp0.1.2 k h9
    refine z_aload_n E 0 d_M_kept_12 rfl rfl ?_
    refine mm_get E 4 (by decide) fl_M_19 rfl rfl d_M_kept_13 ?_
    refine z_iload_n E 2 d_M_kept_16 rfl rfl ?_
    refine zn_iald E 4 1 rfl rfl (_) (rfl) (by omega) (by decide) d_M_kept_17 ?_
    refine z_top hc.2.2.1 ?_
    refine z_iconst E (v := nI 2) d_M_kept_18 (by decide) ?_
    refine z_icmp_ne E 31 d_M_kept_19 (by decide) (fun h19 => ?_) (fun h19 => ?_)
    · have h19 := mt sm_2.mpr h19
      refine z_iinc E (v := nI (k + 1)) d_M_kept_31 rfl (nI_1 k) (by decide) ?_
      refine z_goto E 4 d_M_kept_34 (by decide) ?_
      refine ih (k + 1) _ (by omega) (by omega) ?_
      have h19 : (st k).isSome = false := by simpa using h19
      simp only [sumN, h19, Bool.false_eq_true, if_false, Nat.add_zero]
      exact (by repeat' first | exact trivial | refine ⟨rfl, ?_⟩)
    · have h19 := sm_2.mp h19
      refine z_iload_n E 1 d_M_kept_22 rfl rfl ?_
      refine z_aload_n E 0 d_M_kept_23 rfl rfl ?_
      refine mm_get E 3 (by decide) fl_M_16 rfl rfl d_M_kept_24 ?_
      refine z_iload_n E 2 d_M_kept_27 rfl rfl ?_
      refine zn_iald E 3 1 rfl rfl (_) (rfl) (by omega) (by decide) d_M_kept_28 ?_
      refine z_top hc.2.1 ?_
      refine z_iadd E d_M_kept_29 ?_
      refine z_top (nI_add _ _) ?_
      refine z_istore_n E 1 d_M_kept_30 rfl (by decide) ?_
      refine z_iinc E (v := nI (k + 1)) d_M_kept_31 rfl (nI_1 k) (by decide) ?_
      refine z_goto E 4 d_M_kept_34 (by decide) ?_
      refine ih (k + 1) _ (by omega) (by omega) ?_
      simp only [sumN, h19, if_true]
      exact (by repeat' first | exact trivial | refine ⟨rfl, ?_⟩)
theorem c_mgive (l : Launch) (D : va_G) (cA : Nat → ClassId) (a : Nat → Nat) (M : zmem) (n : Nat) (pl sz : Nat → Nat) (st : Nat → Option Nat) (h : zmap) (g : Nat) (hp0 : mPic M n pl sz st h g) (hg : g < 2 ^ 30) (hks : ksum h ≤ 512) (k : Nat) (hk : k < n) (hl : st k = none) : zMv l y_M_give b_M_give 4 (rmk 1) D zcl (ztys cA) (mw a cA) [.ref (a 0), .int (nI k)] M (fun M' => ∃ h', mInv M' h' (g + 1) ∧ evs (hst h (pl k) (sz k, some g)) h' ∧ M' 0 = M 0 ∧ M' 5 = M 5 ∧ M' 6 = M 6 ∧ M' 7 0 = M 7 0 ∧ M' 7 2 = M 7 2 ∧ M' 7 4 = M 7 4) := by
  refine zMv.of (own := "ZoneHeapModel") (by decide) rfl (Nat.le_of_ble_eq_true rfl) (by simp [Value.category]) ?_
  intro p e s m args below meth c A E hr hex
  have h256 := hp0.few
  refine z_aload_n E 0 d_M_give_0 rfl rfl ?_
  refine mm_get E 4 (by decide) fl_M_19 rfl rfl d_M_give_1 ?_
  refine z_iload_n E 1 d_M_give_4 rfl rfl ?_
  refine z_iconst E (v := nI 2) d_M_give_5 (by decide) ?_
  refine mm_iast E 3 rfl (_) (rfl) (by omega) rfl d_M_give_6 ?_
  refine z_aload_n E 0 d_M_give_7 rfl rfl ?_
  refine mm_get E 5 (by decide) fl_M_22 rfl rfl d_M_give_8 ?_
  refine z_iload_n E 1 d_M_give_11 rfl rfl ?_
  refine z_aload_n E 0 d_M_give_12 rfl rfl ?_
  refine z_dup E d_M_give_13 rfl ?_
  refine mm_get E 10 (by decide) fl_M_49 rfl rfl d_M_give_14 ?_
  refine z_top hp0.2.2.2.2.2 ?_
  refine z_iconst E (v := nI 1) d_M_give_17 (by decide) ?_
  refine z_iadd E d_M_give_18 ?_
  refine z_top (nI_1 g) ?_
  refine z_dup_x1 E d_M_give_19 rfl rfl ?_
  refine mm_put E 10 3 (by decide) fl_M_49 rfl rfl rfl rfl d_M_give_20 ?_
  refine mm_iast E 4 rfl (_) (rfl) (by omega) rfl d_M_give_23 ?_
  refine z_lp (ι := Nat × zmem) (fun y => y.1) (fun y => ∃ (pl' sz' : Nat → Nat) (st' : Nat → Option Nat) (h' : zmap) (kk : Nat), mPic y.2 y.1 pl' sz' st' h' (g + 1) ∧ chain (hst h (pl k) (sz k, some g)) kk h' ∧ ksum h' ≤ 2560 ∧ y.2 0 = M 0 ∧ y.2 5 = M 5 ∧ y.2 6 = M 6 ∧ y.2 7 0 = M 7 0 ∧ y.2 7 2 = M 7 2 ∧ y.2 7 4 = M 7 4) (fun y => [some (.ref (a 0)), none, none, none]) (fun y => y.2) ?_ (n, zu (zu (zu M 3 k (nI 2)) 7 3 (nI (g + 1))) 4 k (nI (g + 1))) ⟨pl, sz, _, _, 0, mgive_start hp0 hk hl, chain_0 _, ?_, rfl, rfl, rfl, rfl, rfl, rfl⟩ (by repeat' first | exact trivial | refine ⟨rfl, ?_⟩)
  rotate_left
  · have := ksum_st (h := h) (x := pl k) (b := (sz k, some g)) (rep_lt hp0.2.2.1 hp0.2.2.2.1 hk)
    have e : kb (sz k, some g) = sz k := rfl
    have := (hp0.1.2 k hk).2.2.2.2.2
    omega
  rintro ⟨n', M'⟩ ⟨pl', sz', st', h', kk, hpic, hch, hk2560, e0, e5, e6, e70, e72, e74⟩ ih
  dsimp only at hpic hch hk2560 e0 e5 e6 e70 e72 e74 ih ⊢
  have hn := hpic.1.1
  have hn256 := hpic.few
  have hat := hpic.1.2
  refine z_aload_n E 0 d_M_give_24 rfl rfl ?_
  refine mm_calli E [] (c_kept l D cA a M' n' pl' sz' st' h' (g + 1) hpic) kv_M_52 rfl rfl (by decide) (Nat.le_of_ble_eq_true rfl) (by decide) d_M_give_25 (fun r M1 hp => ?_)
  obtain ⟨hM1, rfl⟩ := hp
  subst M1
  refine z_sipush E (v := nI 512) d_M_give_28 (by decide) ?_
  refine z_icmp_le E 156 d_M_give_31 (by decide) (fun h31 => ?_) (fun h31 => ?_)
  · have h31 := (nI_leI (by omega) (by omega)).mp h31
    refine z_vret E hr ?_ (by decide) (by decide) d_M_give_156
    exact ⟨h', ⟨n', pl', sz', st', hpic⟩, ⟨kk, hch, h31⟩, e0, e5, e6, e70, e72, e74⟩
  · have hk512 : 512 < ksum h' := by have := mt (nI_leI (by omega) (by omega)).mpr h31; omega
    refine z_iconst E (v := (-1 : Int32)) d_M_give_34 (by decide) ?_
    refine z_istore_n E 2 d_M_give_35 rfl (by decide) ?_
    refine z_iconst E (v := nI 0) d_M_give_36 (by decide) ?_
    refine z_istore_n E 3 d_M_give_37 rfl (by decide) ?_
    refine z_lp (ι := Nat × Option Nat) (fun y => n' - y.1) (fun y => y.1 ≤ n' ∧ (y.2 = none → ∀ i, i < y.1 → st' i = none) ∧ ∀ b, y.2 = some b → b < y.1 ∧ ∃ w, st' b = some w ∧ ∀ i, i < y.1 → ∀ w', st' i = some w' → w ≤ w') (fun y => [some (.ref (a 0)), none, some (.int (ov y.2)), some (.int (nI y.1))]) (fun _ => M') ?_ (0, none) ⟨by dsimp only; omega, fun _ i hi => absurd hi (Nat.not_lt_zero i), fun b hb => by cases hb⟩ (by repeat' first | exact trivial | refine ⟨rfl, ?_⟩)
    rintro ⟨j, o⟩ ⟨i1, i2, i3⟩ ih2
    dsimp only at i1 i2 i3 ih2 ⊢
    cases o with
    | none =>
      dsimp only [ov]
      refine z_iload_n E 3 d_M_give_38 rfl rfl ?_
      refine z_aload_n E 0 d_M_give_39 rfl rfl ?_
      refine mm_get E 8 (by decide) fl_M_40 rfl rfl d_M_give_40 ?_
      refine z_top hn ?_
      refine z_icmp_ge E 83 d_M_give_43 (by decide) (fun h43 => ?_) (fun h43 => ?_)
      · have h43 := (nI_leI (by omega) (by omega)).mp h43
        have : j = n' := by omega
        subst this
        exact (mgive_some hpic hk512 (fun i hi => i2 rfl i hi)).elim
      · have h43 : j < n' := by have := mt (nI_leI (by omega) (by omega)).mpr h43; omega
        have hj := hat j h43
        refine z_aload_n E 0 d_M_give_46 rfl rfl ?_
        refine mm_get E 4 (by decide) fl_M_19 rfl rfl d_M_give_47 ?_
        refine z_iload_n E 3 d_M_give_50 rfl rfl ?_
        refine zn_iald E 4 1 rfl rfl (_) (rfl) (by omega) (by decide) d_M_give_51 ?_
        refine z_top hj.2.2.1 ?_
        refine z_iconst E (v := nI 2) d_M_give_52 (by decide) ?_
        refine z_icmp_ne E 77 d_M_give_53 (by decide) (fun h53 => ?_) (fun h53 => ?_)
        · have h53 := mt sm_2.mpr h53
          have hs : st' j = none := by
            cases hs : st' j with
            | none => rfl
            | some w => rw [hs] at h53; exact absurd rfl h53
          refine z_iinc E (v := nI (j + 1)) d_M_give_77 rfl (nI_1 j) (by decide) ?_
          refine z_goto E 38 d_M_give_80 (by decide) ?_
          refine ih2 (j + 1, none) _ ⟨by dsimp only; omega, fun _ i hi => ?_, fun b hb => by cases hb⟩ (by dsimp only; omega) (by repeat' first | exact trivial | refine ⟨rfl, ?_⟩)
          by_cases he : i = j
          · rw [he]; exact hs
          · exact i2 rfl i (by dsimp only at hi; omega)
        · obtain ⟨w, hs⟩ := Option.isSome_iff_exists.mp (sm_2.mp h53)
          refine z_iload_n E 2 d_M_give_56 rfl rfl ?_
          refine z_if_lt E 75 d_M_give_57 (by decide) (fun h57 => ?_) (fun h57 => ?_)
          · refine z_iload_n E 3 d_M_give_75 rfl rfl ?_
            refine z_istore_n E 2 d_M_give_76 rfl (by decide) ?_
            refine z_iinc E (v := nI (j + 1)) d_M_give_77 rfl (nI_1 j) (by decide) ?_
            refine z_goto E 38 d_M_give_80 (by decide) ?_
            refine ih2 (j + 1, some j) _ ⟨by dsimp only; omega, (fun hh => by cases hh), fun b hb => ?_⟩ (by dsimp only; omega) (by repeat' first | exact trivial | refine ⟨rfl, ?_⟩)
            cases hb
            refine ⟨by dsimp only; omega, w, hs, fun i hi w' hw' => ?_⟩
            by_cases he : i = j
            · rw [he, hs] at hw'; cases hw'; omega
            · rw [i2 rfl i (by dsimp only at hi; omega)] at hw'; cases hw'
          · exact absurd (by decide) h57
    | some b =>
      obtain ⟨hbj, w0, hw0, hmin⟩ := i3 b rfl
      have hb1 : b < n' := by omega
      dsimp only [ov]
      refine z_iload_n E 3 d_M_give_38 rfl rfl ?_
      refine z_aload_n E 0 d_M_give_39 rfl rfl ?_
      refine mm_get E 8 (by decide) fl_M_40 rfl rfl d_M_give_40 ?_
      refine z_top hn ?_
      refine z_icmp_ge E 83 d_M_give_43 (by decide) (fun h43 => ?_) (fun h43 => ?_)
      · have h43 := (nI_leI (by omega) (by omega)).mp h43
        have : j = n' := by omega
        subst this
        refine z_aload_n E 0 d_M_give_83 rfl rfl ?_
        refine z_dup E d_M_give_84 rfl ?_
        refine mm_get E 8 (by decide) fl_M_40 rfl rfl d_M_give_85 ?_
        refine z_top hn ?_
        refine z_iconst E (v := nI 1) d_M_give_88 (by decide) ?_
        refine z_isub E d_M_give_89 ?_
        refine z_top (nI_sub1 (by omega)) ?_
        refine mm_put E 8 1 (by decide) fl_M_40 rfl rfl rfl rfl d_M_give_90 ?_
        refine z_aload_n E 0 d_M_give_93 rfl rfl ?_
        refine mm_get E 2 (by decide) fl_M_13 rfl rfl d_M_give_94 ?_
        refine z_iload_n E 2 d_M_give_97 rfl rfl ?_
        refine z_aload_n E 0 d_M_give_98 rfl rfl ?_
        refine mm_get E 2 (by decide) fl_M_13 rfl rfl d_M_give_99 ?_
        refine z_aload_n E 0 d_M_give_102 rfl rfl ?_
        refine mm_get E 8 (by decide) fl_M_40 rfl rfl d_M_give_103 ?_
        refine z_top (show _ = nI (j - 1) from rfl) ?_
        refine zn_iald E 2 1 rfl rfl (_) (rfl) (by omega) (by decide) d_M_give_106 ?_
        refine mm_iast E 1 rfl (_) (rfl) (by omega) rfl d_M_give_107 ?_
        refine z_aload_n E 0 d_M_give_108 rfl rfl ?_
        refine mm_get E 3 (by decide) fl_M_16 rfl rfl d_M_give_109 ?_
        refine z_iload_n E 2 d_M_give_112 rfl rfl ?_
        refine z_aload_n E 0 d_M_give_113 rfl rfl ?_
        refine mm_get E 3 (by decide) fl_M_16 rfl rfl d_M_give_114 ?_
        refine z_aload_n E 0 d_M_give_117 rfl rfl ?_
        refine mm_get E 8 (by decide) fl_M_40 rfl rfl d_M_give_118 ?_
        refine z_top (show _ = nI (j - 1) from rfl) ?_
        refine zn_iald E 3 1 rfl rfl (_) (rfl) (by omega) (by decide) d_M_give_121 ?_
        refine mm_iast E 2 rfl (_) (rfl) (by omega) rfl d_M_give_122 ?_
        refine z_aload_n E 0 d_M_give_123 rfl rfl ?_
        refine mm_get E 4 (by decide) fl_M_19 rfl rfl d_M_give_124 ?_
        refine z_iload_n E 2 d_M_give_127 rfl rfl ?_
        refine z_aload_n E 0 d_M_give_128 rfl rfl ?_
        refine mm_get E 4 (by decide) fl_M_19 rfl rfl d_M_give_129 ?_
        refine z_aload_n E 0 d_M_give_132 rfl rfl ?_
        refine mm_get E 8 (by decide) fl_M_40 rfl rfl d_M_give_133 ?_
        refine z_top (show _ = nI (j - 1) from rfl) ?_
        refine zn_iald E 4 1 rfl rfl (_) (rfl) (by omega) (by decide) d_M_give_136 ?_
        refine mm_iast E 3 rfl (_) (rfl) (by omega) rfl d_M_give_137 ?_
        refine z_aload_n E 0 d_M_give_138 rfl rfl ?_
        refine mm_get E 5 (by decide) fl_M_22 rfl rfl d_M_give_139 ?_
        refine z_iload_n E 2 d_M_give_142 rfl rfl ?_
        refine z_aload_n E 0 d_M_give_143 rfl rfl ?_
        refine mm_get E 5 (by decide) fl_M_22 rfl rfl d_M_give_144 ?_
        refine z_aload_n E 0 d_M_give_147 rfl rfl ?_
        refine mm_get E 8 (by decide) fl_M_40 rfl rfl d_M_give_148 ?_
        refine z_top (show _ = nI (j - 1) from rfl) ?_
        refine zn_iald E 5 1 rfl rfl (_) (rfl) (by omega) (by decide) d_M_give_151 ?_
        refine mm_iast E 4 rfl (_) (rfl) (by omega) rfl d_M_give_152 ?_
        refine z_goto E 24 d_M_give_153 (by decide) ?_
        obtain ⟨p1, p2⟩ := mgive_step hpic hb1 hw0 hmin
        refine ih (j - 1, _) _ ⟨_, _, _, _, kk + 1, p1, chain_s hch hk512 p2, ?_, e0, e5, e6, e70, e72, e74⟩ (by dsimp only; omega) (by repeat' first | exact trivial | refine ⟨rfl, ?_⟩)
        have := ksum_rm (h := h') (x := pl' b) (rep_lt hpic.2.2.1 hpic.2.2.2.1 hb1)
        omega
      · have h43 : j < n' := by have := mt (nI_leI (by omega) (by omega)).mpr h43; omega
        have hj := hat j h43
        refine z_aload_n E 0 d_M_give_46 rfl rfl ?_
        refine mm_get E 4 (by decide) fl_M_19 rfl rfl d_M_give_47 ?_
        refine z_iload_n E 3 d_M_give_50 rfl rfl ?_
        refine zn_iald E 4 1 rfl rfl (_) (rfl) (by omega) (by decide) d_M_give_51 ?_
        refine z_top hj.2.2.1 ?_
        refine z_iconst E (v := nI 2) d_M_give_52 (by decide) ?_
        refine z_icmp_ne E 77 d_M_give_53 (by decide) (fun h53 => ?_) (fun h53 => ?_)
        · have h53 := mt sm_2.mpr h53
          have hs : st' j = none := by
            cases hs : st' j with
            | none => rfl
            | some w => rw [hs] at h53; exact absurd rfl h53
          refine z_iinc E (v := nI (j + 1)) d_M_give_77 rfl (nI_1 j) (by decide) ?_
          refine z_goto E 38 d_M_give_80 (by decide) ?_
          refine ih2 (j + 1, some b) _ ⟨by dsimp only; omega, (fun hh => by cases hh), fun b' hb' => ?_⟩ (by dsimp only; omega) (by repeat' first | exact trivial | refine ⟨rfl, ?_⟩)
          cases hb'
          refine ⟨by dsimp only; omega, w0, hw0, fun i hi w' hw' => ?_⟩
          by_cases he : i = j
          · rw [he, hs] at hw'; cases hw'
          · exact hmin i (by dsimp only at hi; omega) w' hw'
        · obtain ⟨w, hs⟩ := Option.isSome_iff_exists.mp (sm_2.mp h53)
          refine z_iload_n E 2 d_M_give_56 rfl rfl ?_
          refine z_if_lt E 75 d_M_give_57 (by decide) (fun h57 => ?_) (fun h57 => ?_)
          · exact absurd h57 (nI_pos (by omega))
          · have hwj : w < g + 1 := hpic.2.2.2.2.1.1 _ _ _ ((hpic.2.2.1.1 j h43).trans (by rw [hs]))
            have hwb : w0 < g + 1 := hpic.2.2.2.2.1.1 _ _ _ ((hpic.2.2.1.1 b (by omega)).trans (by rw [hw0]))
            refine z_aload_n E 0 d_M_give_60 rfl rfl ?_
            refine mm_get E 5 (by decide) fl_M_22 rfl rfl d_M_give_61 ?_
            refine z_iload_n E 3 d_M_give_64 rfl rfl ?_
            refine zn_iald E 5 1 rfl rfl (_) (rfl) (by omega) (by decide) d_M_give_65 ?_
            refine z_top (hj.2.2.2.1 w hs) ?_
            refine z_aload_n E 0 d_M_give_66 rfl rfl ?_
            refine mm_get E 5 (by decide) fl_M_22 rfl rfl d_M_give_67 ?_
            refine z_iload_n E 2 d_M_give_70 rfl rfl ?_
            refine zn_iald E 5 1 rfl rfl (_) (rfl) (by omega) (by decide) d_M_give_71 ?_
            refine z_top ((hat b (by omega)).2.2.2.1 w0 hw0) ?_
            refine z_icmp_ge E 77 d_M_give_72 (by decide) (fun h72 => ?_) (fun h72 => ?_)
            · have h72 := (nI_leI (by omega) (by omega)).mp h72
              refine z_iinc E (v := nI (j + 1)) d_M_give_77 rfl (nI_1 j) (by decide) ?_
              refine z_goto E 38 d_M_give_80 (by decide) ?_
              refine ih2 (j + 1, some b) _ ⟨by dsimp only; omega, (fun hh => by cases hh), fun b' hb' => ?_⟩ (by dsimp only; omega) (by repeat' first | exact trivial | refine ⟨rfl, ?_⟩)
              cases hb'
              refine ⟨by dsimp only; omega, w0, hw0, fun i hi w' hw' => ?_⟩
              by_cases he : i = j
              · rw [he, hs] at hw'; cases hw'; omega
              · exact hmin i (by dsimp only at hi; omega) w' hw'
            · have h72 := mt (nI_leI (by omega) (by omega)).mpr h72
              refine z_iload_n E 3 d_M_give_75 rfl rfl ?_
              refine z_istore_n E 2 d_M_give_76 rfl (by decide) ?_
              refine z_iinc E (v := nI (j + 1)) d_M_give_77 rfl (nI_1 j) (by decide) ?_
              refine z_goto E 38 d_M_give_80 (by decide) ?_
              refine ih2 (j + 1, some j) _ ⟨by dsimp only; omega, (fun hh => by cases hh), fun b' hb' => ?_⟩ (by dsimp only; omega) (by repeat' first | exact trivial | refine ⟨rfl, ?_⟩)
              cases hb'
              refine ⟨by dsimp only; omega, w, hs, fun i hi w' hw' => ?_⟩
              by_cases he : i = j
              · rw [he, hs] at hw'; cases hw'; omega
              · have := hmin i (by dsimp only at hi; omega) w' hw'; omega
end
section
/-! ZoneHeapModel: get, back, again -/
theorem c_mget (l : Launch) (D : va_G) (cA : Nat → ClassId) (a : Nat → Nat) (M : zmem) (h : zmap) (g : Nat) (hi : mInv M h g) (q : Nat) (hq : q ≤ 2048) : zMi l y_M_get b_M_get 2 .int (rmk 3) D zcl (ztys cA) (mw a cA) [.ref (a 0), .int (nI q)] M (fun r M' => M' 7 0 = nI 0 ∧ M' 0 = M 0 ∧ M' 5 = M 5 ∧ M' 6 = M 6 ∧ M' 7 4 = M 7 4 ∧ ((r = nI 0 ∧ mInv M' h g ∧ M' 7 2 = M 7 2 ∧ ∀ x, ¬ hfit h q x) ∨ ∃ x, x < 8192 ∧ r = nI x ∧ hff h q x ∧ mInv M' (hst h x (q, none)) g ∧ M' 7 2 = M 7 2 + 1)) := by
  refine zMi.of (own := "ZoneHeapModel") (by decide) rfl (Nat.le_of_ble_eq_true rfl) (by simp [Value.category]) ?_
  intro p e s m args below meth c A E hr hex
  obtain ⟨n, pl, sz, st, hp0⟩ := hi
  refine z_aload_n E 0 d_M_get_0 rfl rfl ?_
  refine z_iload_n E 1 d_M_get_1 rfl rfl ?_
  refine z_if_lt E 12 d_M_get_2 (by decide) (fun h2 => ?_) (fun h2 => ?_)
  · exact absurd h2 (nI_pos (by omega))
  · refine z_iload_n E 1 d_M_get_5 rfl rfl ?_
    refine z_sipush E (v := nI 2048) d_M_get_6 (by decide) ?_
    refine z_icmp_le E 16 d_M_get_9 (by decide) (fun h9 => ?_) (fun h9 => ?_)
    · refine z_iconst E (v := nI 0) d_M_get_16 (by decide) ?_
      refine z_iconst E (v := nI 1) d_M_get_17 (by decide) ?_
      refine mm_calli E [.int (nI 0), .int (nI 1)] (c_fails0 l D cA a M (nI 1)) kv_M_56 rfl rfl (by decide) (Nat.le_of_ble_eq_true rfl) (by decide) d_M_get_18 (fun r M1 hp => ?_)
      obtain ⟨rfl, rfl⟩ := hp
      refine z_if_eq E 26 d_M_get_21 (by decide) (fun h21 => ?_) (fun h21 => ?_)
      · refine z_aload_n E 0 d_M_get_26 rfl rfl ?_
        refine z_iload_n E 1 d_M_get_27 rfl rfl ?_
        refine mm_calli E [.int (nI q)] (c_make l D cA a (zu M 7 0 (nI 0)) n pl sz st h g (hp0.congr rfl rfl rfl rfl rfl rfl) q hq) kv_M_60 rfl rfl (by decide) (Nat.le_of_ble_eq_true rfl) (by decide) d_M_get_28 (fun r M1 hp => ?_)
        rcases hp with ⟨rfl, hM1, hno⟩ | ⟨x, hx, rfl, hf, hm, h72, e0, e5, e6, e70, e74⟩
        · subst M1
          refine z_iret E hr ?_ (by decide) (by decide) d_M_get_31
          exact ⟨rfl, rfl, rfl, rfl, rfl, Or.inl ⟨rfl, ⟨n, pl, sz, st, (hp0.congr rfl rfl rfl rfl rfl rfl)⟩, rfl, hno⟩⟩
        · refine z_iret E hr ?_ (by decide) (by decide) d_M_get_31
          exact ⟨e70, e0, e5, e6, e74, Or.inr ⟨x, hx, rfl, hf, ⟨_, _, _, _, hm⟩, h72⟩⟩
      · exact absurd rfl h21
    · exact absurd ((nI_leI (by omega) (by omega)).mpr hq) h9
theorem c_mget_t (l : Launch) (D : va_G) (cA : Nat → ClassId) (a : Nat → Nat) (M : zmem) (x : Int32) (hx : x.toInt < 0 ∨ 2048 < x.toInt) : zMi l y_M_get b_M_get 2 .int (rmk 1) D zcl (ztys cA) (mw a cA) [.ref (a 0), .int x] M (fun r M' => M' = zu M 7 0 (nI 1) ∧ r = nI 0) := by
  refine zMi.of (own := "ZoneHeapModel") (by decide) rfl (Nat.le_of_ble_eq_true rfl) (by simp [Value.category]) ?_
  intro p e s m args below meth c A E hr hex
  refine z_aload_n E 0 d_M_get_0 rfl rfl ?_
  refine z_iload_n E 1 d_M_get_1 rfl rfl ?_
  refine z_if_lt E 12 d_M_get_2 (by decide) (fun h2 => ?_) (fun h2 => ?_)
  · refine z_iconst E (v := nI 1) d_M_get_12 (by decide) ?_
    refine z_goto E 17 d_M_get_13 (by decide) ?_
    refine z_iconst E (v := nI 1) d_M_get_17 (by decide) ?_
    refine mm_calli E [.int (nI 1), .int (nI 1)] (c_fails1 l D cA a M (nI 1)) kv_M_56 rfl rfl (by decide) (Nat.le_of_ble_eq_true rfl) (by decide) d_M_get_18 (fun r M1 hp => ?_)
    obtain ⟨rfl, rfl⟩ := hp
    refine z_if_eq E 26 d_M_get_21 (by decide) (fun h21 => ?_) (fun h21 => ?_)
    · exact absurd h21 (by decide)
    · refine z_iconst E (v := nI 0) d_M_get_24 (by decide) ?_
      refine z_iret E hr ?_ (by decide) (by decide) d_M_get_25
      exact ⟨rfl, rfl⟩
  · refine z_iload_n E 1 d_M_get_5 rfl rfl ?_
    refine z_sipush E (v := nI 2048) d_M_get_6 (by decide) ?_
    refine z_icmp_le E 16 d_M_get_9 (by decide) (fun h9 => ?_) (fun h9 => ?_)
    · rw [i_le (by omega)] at h9
      rw [Int32.lt_iff_toInt_lt] at h2
      rcases hx with h | h
      · exact absurd h h2
      · exact absurd h9 (by omega)
    · refine z_iconst E (v := nI 1) d_M_get_12 (by decide) ?_
      refine z_goto E 17 d_M_get_13 (by decide) ?_
      refine z_iconst E (v := nI 1) d_M_get_17 (by decide) ?_
      refine mm_calli E [.int (nI 1), .int (nI 1)] (c_fails1 l D cA a M (nI 1)) kv_M_56 rfl rfl (by decide) (Nat.le_of_ble_eq_true rfl) (by decide) d_M_get_18 (fun r M1 hp => ?_)
      obtain ⟨rfl, rfl⟩ := hp
      refine z_if_eq E 26 d_M_get_21 (by decide) (fun h21 => ?_) (fun h21 => ?_)
      · exact absurd h21 (by decide)
      · refine z_iconst E (v := nI 0) d_M_get_24 (by decide) ?_
        refine z_iret E hr ?_ (by decide) (by decide) d_M_get_25
        exact ⟨rfl, rfl⟩
theorem mlive {M : zmem} {n g : Nat} {pl sz : Nat → Nat} {st : Nat → Option Nat} {h : zmap} (hp0 : mPic M n pl sz st h g) {x : Nat} {b : Nat × Option Nat} (hx : h x = some b) : ∃ k, k < n ∧ pl k = x ∧ b = (sz k, st k) := by
  obtain ⟨k, hk, rfl⟩ := hp0.2.2.1.2 x _ hx
  have e := hp0.2.2.1.1 k hk
  rw [hx] at e
  exact ⟨k, hk, rfl, Option.some.inj e⟩
theorem mlive1 {M : zmem} {n g k x : Nat} {pl sz : Nat → Nat} {st : Nat → Option Nat} {h : zmap} (hp0 : mPic M n pl sz st h g) (hk : k < n) (hx8 : x < 8192) (he : nI x = nI (pl k)) : pl k = x := by
  have := (hp0.1.2 k hk).2.2.2.2.1
  exact ((nI_eq (by omega) (by omega)).mp he).symm
theorem c_mback (l : Launch) (D : va_G) (cA : Nat → ClassId) (a : Nat → Nat) (M : zmem) (h : zmap) (g : Nat) (hi : mInv M h g) (hg : g < 2 ^ 30) (hks : ksum h ≤ 512) (x q : Nat) (hx : h x = some (q, none)) : zMi l y_M_back b_M_back 4 .int (rmk 2) D zcl (ztys cA) (mw a cA) [.ref (a 0), .int (nI x)] M (fun r M' => M' 7 0 = nI 0 ∧ M' 0 = M 0 ∧ M' 5 = M 5 ∧ M' 6 = M 6 ∧ M' 7 4 = M 7 4 ∧ r = nI q ∧ ∃ h', evs (hst h x (q, some g)) h' ∧ mInv M' h' (g + 1) ∧ M' 7 2 = M 7 2) := by
  refine zMi.of (own := "ZoneHeapModel") (by decide) rfl (Nat.le_of_ble_eq_true rfl) (by simp [Value.category]) ?_
  intro p e s m args below meth c A E hr hex
  obtain ⟨n, pl, sz, st, hp0⟩ := hi
  have h256 := hp0.few
  have hx8 : x < 8192 := by have := hp0.2.2.2.1.1 x _ hx; omega
  refine z_aload_n E 0 d_M_back_0 rfl rfl ?_
  refine z_iload_n E 1 d_M_back_1 rfl rfl ?_
  refine z_iconst E (v := nI 1) d_M_back_2 (by decide) ?_
  refine mm_calli E [.int (nI x), .int (nI 1)] (c_at1 l D cA a M n pl sz st h g hp0 (nI x)) kv_M_63 rfl rfl (by decide) (Nat.le_of_ble_eq_true rfl) (by decide) d_M_back_3 (fun r M1 hp => ?_)
  obtain ⟨hM1, ⟨k, hk, rfl, hxk, hsk⟩ | ⟨rfl, hno⟩⟩ := hp <;> subst M1
  · refine z_istore_n E 2 d_M_back_6 rfl (by decide) ?_
    refine z_aload_n E 0 d_M_back_7 rfl rfl ?_
    refine z_iload_n E 2 d_M_back_8 rfl rfl ?_
    refine z_if_ge E 16 d_M_back_9 (by decide) (fun h9 => ?_) (fun h9 => ?_)
    · refine z_iconst E (v := nI 0) d_M_back_16 (by decide) ?_
      refine z_aload_n E 0 d_M_back_17 rfl rfl ?_
      refine z_iload_n E 1 d_M_back_18 rfl rfl ?_
      refine z_iconst E (v := nI 2) d_M_back_19 (by decide) ?_
      refine mm_calli E [.int (nI x), .int (nI 2)] (c_at2 l D cA a M n pl sz st h g hp0 (nI x)) kv_M_63 rfl rfl (by decide) (Nat.le_of_ble_eq_true rfl) (by decide) d_M_back_20 (fun r2 M2 hp2 => ?_)
      obtain ⟨hM2, ⟨k2, hk2, rfl, hxk2, hst2⟩ | ⟨rfl, hno2⟩⟩ := hp2 <;> subst M2
      · exfalso
        have e1 := mlive1 hp0 hk hx8 hxk
        have e2 := mlive1 hp0 hk2 hx8 hxk2
        have := hp0.2.1 k k2 hk hk2 (e1.trans e2.symm)
        subst this
        rw [hsk] at hst2
        cases hst2
      · refine z_if_lt E 30 d_M_back_23 (by decide) (fun h23 => ?_) (fun h23 => ?_)
        · refine z_iconst E (v := nI 1) d_M_back_30 (by decide) ?_
          refine mm_calli E [.int (nI 0), .int (nI 1)] (c_fails0 l D cA a M (nI 1)) kv_M_56 rfl rfl (by decide) (Nat.le_of_ble_eq_true rfl) (by decide) d_M_back_31 (fun r M1 hp => ?_)
          obtain ⟨rfl, rfl⟩ := hp
          refine z_if_eq E 39 d_M_back_34 (by decide) (fun h34 => ?_) (fun h34 => ?_)
          · have e1 := mlive1 hp0 hk hx8 hxk
            obtain ⟨k0, hk0, e2, e3⟩ := mlive hp0 hx
            have hkk := hp0.2.1 k k0 hk hk0 (e1.trans e2.symm)
            subst hkk
            have hqs : q = sz k := (Prod.mk.inj e3).1
            refine z_aload_n E 0 d_M_back_39 rfl rfl ?_
            refine mm_get E 3 (by decide) fl_M_16 rfl rfl d_M_back_40 ?_
            refine z_iload_n E 2 d_M_back_43 rfl rfl ?_
            refine zn_iald E 3 1 rfl rfl (_) (rfl) (by omega) (by decide) d_M_back_44 ?_
            refine z_top ((hp0.1.2 k hk).2.1.trans (congrArg nI hqs.symm)) ?_
            refine z_istore_n E 3 d_M_back_45 rfl (by decide) ?_
            refine z_aload_n E 0 d_M_back_46 rfl rfl ?_
            refine z_iload_n E 2 d_M_back_47 rfl rfl ?_
            refine mm_callv E [.int (nI k)] (c_mgive l D cA a (zu M 7 0 (nI 0)) n pl sz st h g (hp0.congr rfl rfl rfl rfl rfl rfl) hg hks k (by omega) hsk) kv_M_67 rfl rfl (by decide) (Nat.le_of_ble_eq_true rfl) (by decide) d_M_back_48 (fun M3 hp3 => ?_)
            obtain ⟨h', hm, he, e0, e5, e6, e70, e72, e74⟩ := hp3
            refine z_iload_n E 3 d_M_back_51 rfl rfl ?_
            refine z_iret E hr ?_ (by decide) (by decide) d_M_back_52
            rw [e1, ← hqs] at he
            exact ⟨e70, e0, e5, e6, e74, rfl, h', he, hm, e72⟩
          · exact absurd rfl h34
        · exact absurd (by decide) h23
    · exact absurd (nI_pos' (by omega)) h9
  · obtain ⟨k0, hk0, e2, e3⟩ := mlive hp0 hx
    exact absurd (Prod.mk.inj e3).2.symm (hno k0 hk0 (by rw [e2]))
theorem c_mback_a (l : Launch) (D : va_G) (cA : Nat → ClassId) (a : Nat → Nat) (M : zmem) (h : zmap) (g : Nat) (hi : mInv M h g) (x : Int32) (hx : ∀ y b, h y = some b → x ≠ nI y) : zMi l y_M_back b_M_back 4 .int (rmk 1) D zcl (ztys cA) (mw a cA) [.ref (a 0), .int x] M (fun r M' => M' = zu M 7 0 (nI 1) ∧ r = nI 0) := by
  refine zMi.of (own := "ZoneHeapModel") (by decide) rfl (Nat.le_of_ble_eq_true rfl) (by simp [Value.category]) ?_
  intro p e s m args below meth c A E hr hex
  obtain ⟨n, pl, sz, st, hp0⟩ := hi
  refine z_aload_n E 0 d_M_back_0 rfl rfl ?_
  refine z_iload_n E 1 d_M_back_1 rfl rfl ?_
  refine z_iconst E (v := nI 1) d_M_back_2 (by decide) ?_
  refine mm_calli E [.int x, .int (nI 1)] (c_at1 l D cA a M n pl sz st h g hp0 x) kv_M_63 rfl rfl (by decide) (Nat.le_of_ble_eq_true rfl) (by decide) d_M_back_3 (fun r M1 hp => ?_)
  obtain ⟨hM1, ⟨k, hk, rfl, hxk, hsk⟩ | ⟨rfl, hno⟩⟩ := hp <;> subst M1
  · exact absurd hxk (hx _ _ (hp0.2.2.1.1 k hk))
  · refine z_istore_n E 2 d_M_back_6 rfl (by decide) ?_
    refine z_aload_n E 0 d_M_back_7 rfl rfl ?_
    refine z_iload_n E 2 d_M_back_8 rfl rfl ?_
    refine z_if_ge E 16 d_M_back_9 (by decide) (fun h9 => ?_) (fun h9 => ?_)
    · exact absurd h9 (by decide)
    · refine z_iconst E (v := nI 1) d_M_back_12 (by decide) ?_
      refine z_goto E 17 d_M_back_13 (by decide) ?_
      refine z_aload_n E 0 d_M_back_17 rfl rfl ?_
      refine z_iload_n E 1 d_M_back_18 rfl rfl ?_
      refine z_iconst E (v := nI 2) d_M_back_19 (by decide) ?_
      refine mm_calli E [.int x, .int (nI 2)] (c_at2 l D cA a M n pl sz st h g hp0 x) kv_M_63 rfl rfl (by decide) (Nat.le_of_ble_eq_true rfl) (by decide) d_M_back_20 (fun r2 M2 hp2 => ?_)
      obtain ⟨hM2, ⟨k2, hk2, rfl, hxk2, hst2⟩ | ⟨rfl, hno2⟩⟩ := hp2 <;> subst M2
      · exact absurd hxk2 (hx _ _ (hp0.2.2.1.1 k2 hk2))
      · refine z_if_lt E 30 d_M_back_23 (by decide) (fun h23 => ?_) (fun h23 => ?_)
        · refine z_iconst E (v := nI 1) d_M_back_30 (by decide) ?_
          refine mm_calli E [.int (nI 1), .int (nI 1)] (c_fails1 l D cA a M (nI 1)) kv_M_56 rfl rfl (by decide) (Nat.le_of_ble_eq_true rfl) (by decide) d_M_back_31 (fun r M1 hp => ?_)
          obtain ⟨rfl, rfl⟩ := hp
          refine z_if_eq E 39 d_M_back_34 (by decide) (fun h34 => ?_) (fun h34 => ?_)
          · exact absurd h34 (by decide)
          · refine z_iconst E (v := nI 0) d_M_back_37 (by decide) ?_
            refine z_iret E hr ?_ (by decide) (by decide) d_M_back_38
            exact ⟨rfl, rfl⟩
        · exact absurd (by decide) h23
theorem c_mback_s (l : Launch) (D : va_G) (cA : Nat → ClassId) (a : Nat → Nat) (M : zmem) (h : zmap) (g : Nat) (hi : mInv M h g) (x q w : Nat) (hx : h x = some (q, some w)) : zMi l y_M_back b_M_back 4 .int (rmk 1) D zcl (ztys cA) (mw a cA) [.ref (a 0), .int (nI x)] M (fun r M' => M' = zu M 7 0 (nI 2) ∧ r = nI 0) := by
  refine zMi.of (own := "ZoneHeapModel") (by decide) rfl (Nat.le_of_ble_eq_true rfl) (by simp [Value.category]) ?_
  intro p e s m args below meth c A E hr hex
  obtain ⟨n, pl, sz, st, hp0⟩ := hi
  have h256 := hp0.few
  have hx8 : x < 8192 := by have := hp0.2.2.2.1.1 x _ hx; omega
  obtain ⟨k0, hk0, e2, e3⟩ := mlive hp0 hx
  refine z_aload_n E 0 d_M_back_0 rfl rfl ?_
  refine z_iload_n E 1 d_M_back_1 rfl rfl ?_
  refine z_iconst E (v := nI 1) d_M_back_2 (by decide) ?_
  refine mm_calli E [.int (nI x), .int (nI 1)] (c_at1 l D cA a M n pl sz st h g hp0 (nI x)) kv_M_63 rfl rfl (by decide) (Nat.le_of_ble_eq_true rfl) (by decide) d_M_back_3 (fun r M1 hp => ?_)
  obtain ⟨hM1, ⟨k, hk, rfl, hxk, hsk⟩ | ⟨rfl, hno⟩⟩ := hp <;> subst M1
  · have e1 := mlive1 hp0 hk hx8 hxk
    have hkk := hp0.2.1 k k0 hk hk0 (e1.trans e2.symm)
    subst hkk
    rw [hsk] at e3
    cases (Prod.mk.inj e3).2
  · refine z_istore_n E 2 d_M_back_6 rfl (by decide) ?_
    refine z_aload_n E 0 d_M_back_7 rfl rfl ?_
    refine z_iload_n E 2 d_M_back_8 rfl rfl ?_
    refine z_if_ge E 16 d_M_back_9 (by decide) (fun h9 => ?_) (fun h9 => ?_)
    · exact absurd h9 (by decide)
    · refine z_iconst E (v := nI 1) d_M_back_12 (by decide) ?_
      refine z_goto E 17 d_M_back_13 (by decide) ?_
      refine z_aload_n E 0 d_M_back_17 rfl rfl ?_
      refine z_iload_n E 1 d_M_back_18 rfl rfl ?_
      refine z_iconst E (v := nI 2) d_M_back_19 (by decide) ?_
      refine mm_calli E [.int (nI x), .int (nI 2)] (c_at2 l D cA a M n pl sz st h g hp0 (nI x)) kv_M_63 rfl rfl (by decide) (Nat.le_of_ble_eq_true rfl) (by decide) d_M_back_20 (fun r2 M2 hp2 => ?_)
      obtain ⟨hM2, ⟨k2, hk2, rfl, hxk2, hst2⟩ | ⟨rfl, hno2⟩⟩ := hp2 <;> subst M2
      · refine z_if_lt E 30 d_M_back_23 (by decide) (fun h23 => ?_) (fun h23 => ?_)
        · exact absurd h23 (nI_pos (by omega))
        · refine z_iconst E (v := nI 2) d_M_back_26 (by decide) ?_
          refine z_goto E 31 d_M_back_27 (by decide) ?_
          refine mm_calli E [.int (nI 1), .int (nI 2)] (c_fails1 l D cA a M (nI 2)) kv_M_56 rfl rfl (by decide) (Nat.le_of_ble_eq_true rfl) (by decide) d_M_back_31 (fun r M1 hp => ?_)
          obtain ⟨rfl, rfl⟩ := hp
          refine z_if_eq E 39 d_M_back_34 (by decide) (fun h34 => ?_) (fun h34 => ?_)
          · exact absurd h34 (by decide)
          · refine z_iconst E (v := nI 0) d_M_back_37 (by decide) ?_
            refine z_iret E hr ?_ (by decide) (by decide) d_M_back_38
            exact ⟨rfl, rfl⟩
      · exact absurd (by rw [← (Prod.mk.inj e3).2]; rfl) (hno2 k0 hk0 (by rw [e2]))
theorem c_magain_n (l : Launch) (D : va_G) (cA : Nat → ClassId) (a : Nat → Nat) (M : zmem) (x y : Int32) (hx : y.toInt < 0 ∨ 2048 < y.toInt) : zMi l y_M_again b_M_again 6 .int (rmk 1) D zcl (ztys cA) (mw a cA) [.ref (a 0), .int x, .int y] M (fun r M' => M' = zu M 7 0 (nI 1) ∧ r = nI 0) := by
  refine zMi.of (own := "ZoneHeapModel") (by decide) rfl (Nat.le_of_ble_eq_true rfl) (by simp [Value.category]) ?_
  intro p e s m args below meth c A E hr hex
  refine z_aload_n E 0 d_M_again_0 rfl rfl ?_
  refine z_iload_n E 2 d_M_again_1 rfl rfl ?_
  refine z_if_lt E 12 d_M_again_2 (by decide) (fun h2 => ?_) (fun h2 => ?_)
  · refine z_iconst E (v := nI 1) d_M_again_12 (by decide) ?_
    refine z_goto E 17 d_M_again_13 (by decide) ?_
    refine z_iconst E (v := nI 1) d_M_again_17 (by decide) ?_
    refine mm_calli E [.int (nI 1), .int (nI 1)] (c_fails1 l D cA a M (nI 1)) kv_M_56 rfl rfl (by decide) (Nat.le_of_ble_eq_true rfl) (by decide) d_M_again_18 (fun r M1 hp => ?_)
    obtain ⟨rfl, rfl⟩ := hp
    refine z_if_eq E 26 d_M_again_21 (by decide) (fun h21 => ?_) (fun h21 => ?_)
    · exact absurd h21 (by decide)
    · refine z_iconst E (v := nI 0) d_M_again_24 (by decide) ?_
      refine z_iret E hr ?_ (by decide) (by decide) d_M_again_25
      exact ⟨rfl, rfl⟩
  · refine z_iload_n E 2 d_M_again_5 rfl rfl ?_
    refine z_sipush E (v := nI 2048) d_M_again_6 (by decide) ?_
    refine z_icmp_le E 16 d_M_again_9 (by decide) (fun h9 => ?_) (fun h9 => ?_)
    · rw [i_le (by omega)] at h9
      rw [Int32.lt_iff_toInt_lt] at h2
      rcases hx with h | h
      · exact absurd h h2
      · exact absurd h9 (by omega)
    · refine z_iconst E (v := nI 1) d_M_again_12 (by decide) ?_
      refine z_goto E 17 d_M_again_13 (by decide) ?_
      refine z_iconst E (v := nI 1) d_M_again_17 (by decide) ?_
      refine mm_calli E [.int (nI 1), .int (nI 1)] (c_fails1 l D cA a M (nI 1)) kv_M_56 rfl rfl (by decide) (Nat.le_of_ble_eq_true rfl) (by decide) d_M_again_18 (fun r M1 hp => ?_)
      obtain ⟨rfl, rfl⟩ := hp
      refine z_if_eq E 26 d_M_again_21 (by decide) (fun h21 => ?_) (fun h21 => ?_)
      · exact absurd h21 (by decide)
      · refine z_iconst E (v := nI 0) d_M_again_24 (by decide) ?_
        refine z_iret E hr ?_ (by decide) (by decide) d_M_again_25
        exact ⟨rfl, rfl⟩
theorem zu_zu {M : zmem} {k j : Nat} {v v' : Int32} : zu (zu M k j v) k j v' = zu M k j v' := by
  funext q i
  unfold zu upd
  by_cases h : q = k
  · simp only [if_pos h]
    by_cases h2 : i = j
    · simp [h2]
    · simp [h2]
  · simp only [if_neg h]
theorem c_magain_a (l : Launch) (D : va_G) (cA : Nat → ClassId) (a : Nat → Nat) (M : zmem) (h : zmap) (g : Nat) (hi : mInv M h g) (x : Int32) (hx : ∀ y b, h y = some b → x ≠ nI y) (q : Nat) (hq : q ≤ 2048) : zMi l y_M_again b_M_again 6 .int (rmk 1) D zcl (ztys cA) (mw a cA) [.ref (a 0), .int x, .int (nI q)] M (fun r M' => M' = zu M 7 0 (nI 1) ∧ r = nI 0) := by
  refine zMi.of (own := "ZoneHeapModel") (by decide) rfl (Nat.le_of_ble_eq_true rfl) (by simp [Value.category]) ?_
  intro p e s m args below meth c A E hr hex
  obtain ⟨n, pl, sz, st, hp0⟩ := hi
  refine z_aload_n E 0 d_M_again_0 rfl rfl ?_
  refine z_iload_n E 2 d_M_again_1 rfl rfl ?_
  refine z_if_lt E 12 d_M_again_2 (by decide) (fun h2 => ?_) (fun h2 => ?_)
  · exact absurd h2 (nI_pos (by omega))
  · refine z_iload_n E 2 d_M_again_5 rfl rfl ?_
    refine z_sipush E (v := nI 2048) d_M_again_6 (by decide) ?_
    refine z_icmp_le E 16 d_M_again_9 (by decide) (fun h9 => ?_) (fun h9 => ?_)
    · refine z_iconst E (v := nI 0) d_M_again_16 (by decide) ?_
      refine z_iconst E (v := nI 1) d_M_again_17 (by decide) ?_
      refine mm_calli E [.int (nI 0), .int (nI 1)] (c_fails0 l D cA a M (nI 1)) kv_M_56 rfl rfl (by decide) (Nat.le_of_ble_eq_true rfl) (by decide) d_M_again_18 (fun r M1 hp => ?_)
      obtain ⟨rfl, rfl⟩ := hp
      refine z_if_eq E 26 d_M_again_21 (by decide) (fun h21 => ?_) (fun h21 => ?_)
      · refine z_aload_n E 0 d_M_again_26 rfl rfl ?_
        refine z_iload_n E 1 d_M_again_27 rfl rfl ?_
        refine z_iconst E (v := nI 1) d_M_again_28 (by decide) ?_
        refine mm_calli E [.int x, .int (nI 1)] (c_at1 l D cA a (zu M 7 0 (nI 0)) n pl sz st h g (hp0.congr rfl rfl rfl rfl rfl rfl) x) kv_M_63 rfl rfl (by decide) (Nat.le_of_ble_eq_true rfl) (by decide) d_M_again_29 (fun r M1 hp => ?_)
        obtain ⟨hM1, ⟨k, hk, rfl, hxk, hsk⟩ | ⟨rfl, hno⟩⟩ := hp <;> subst M1
        · exact absurd hxk (hx _ _ (hp0.2.2.1.1 k hk))
        · refine z_istore_n E 3 d_M_again_32 rfl (by decide) ?_
          refine z_aload_n E 0 d_M_again_33 rfl rfl ?_
          refine z_iload_n E 3 d_M_again_34 rfl rfl ?_
          refine z_if_ge E 42 d_M_again_35 (by decide) (fun h35 => ?_) (fun h35 => ?_)
          · exact absurd h35 (by decide)
          · refine z_iconst E (v := nI 1) d_M_again_38 (by decide) ?_
            refine z_goto E 43 d_M_again_39 (by decide) ?_
            refine z_aload_n E 0 d_M_again_43 rfl rfl ?_
            refine z_iload_n E 1 d_M_again_44 rfl rfl ?_
            refine z_iconst E (v := nI 2) d_M_again_45 (by decide) ?_
            refine mm_calli E [.int x, .int (nI 2)] (c_at2 l D cA a (zu M 7 0 (nI 0)) n pl sz st h g (hp0.congr rfl rfl rfl rfl rfl rfl) x) kv_M_63 rfl rfl (by decide) (Nat.le_of_ble_eq_true rfl) (by decide) d_M_again_46 (fun r2 M2 hp2 => ?_)
            obtain ⟨hM2, ⟨k2, hk2, rfl, hxk2, hst2⟩ | ⟨rfl, hno2⟩⟩ := hp2 <;> subst M2
            · exact absurd hxk2 (hx _ _ (hp0.2.2.1.1 k2 hk2))
            · refine z_if_lt E 56 d_M_again_49 (by decide) (fun h49 => ?_) (fun h49 => ?_)
              · refine z_iconst E (v := nI 1) d_M_again_56 (by decide) ?_
                refine mm_calli E [.int (nI 1), .int (nI 1)] (c_fails1 l D cA a (zu M 7 0 (nI 0)) (nI 1)) kv_M_56 rfl rfl (by decide) (Nat.le_of_ble_eq_true rfl) (by decide) d_M_again_57 (fun r M1 hp => ?_)
                obtain ⟨rfl, rfl⟩ := hp
                refine z_if_eq E 65 d_M_again_60 (by decide) (fun h60 => ?_) (fun h60 => ?_)
                · exact absurd h60 (by decide)
                · refine z_iconst E (v := nI 0) d_M_again_63 (by decide) ?_
                  refine z_iret E hr ?_ (by decide) (by decide) d_M_again_64
                  exact ⟨zu_zu, rfl⟩
              · exact absurd (by decide) h49
      · exact absurd rfl h21
    · exact absurd ((nI_leI (by omega) (by omega)).mpr hq) h9
theorem c_magain_s (l : Launch) (D : va_G) (cA : Nat → ClassId) (a : Nat → Nat) (M : zmem) (h : zmap) (g : Nat) (hi : mInv M h g) (x z w : Nat) (hx : h x = some (z, some w)) (q : Nat) (hq : q ≤ 2048) : zMi l y_M_again b_M_again 6 .int (rmk 1) D zcl (ztys cA) (mw a cA) [.ref (a 0), .int (nI x), .int (nI q)] M (fun r M' => M' = zu M 7 0 (nI 2) ∧ r = nI 0) := by
  refine zMi.of (own := "ZoneHeapModel") (by decide) rfl (Nat.le_of_ble_eq_true rfl) (by simp [Value.category]) ?_
  intro p e s m args below meth c A E hr hex
  obtain ⟨n, pl, sz, st, hp0⟩ := hi
  have h256 := hp0.few
  have hx8 : x < 8192 := by have := hp0.2.2.2.1.1 x _ hx; omega
  obtain ⟨k0, hk0, e2, e3⟩ := mlive hp0 hx
  refine z_aload_n E 0 d_M_again_0 rfl rfl ?_
  refine z_iload_n E 2 d_M_again_1 rfl rfl ?_
  refine z_if_lt E 12 d_M_again_2 (by decide) (fun h2 => ?_) (fun h2 => ?_)
  · exact absurd h2 (nI_pos (by omega))
  · refine z_iload_n E 2 d_M_again_5 rfl rfl ?_
    refine z_sipush E (v := nI 2048) d_M_again_6 (by decide) ?_
    refine z_icmp_le E 16 d_M_again_9 (by decide) (fun h9 => ?_) (fun h9 => ?_)
    · refine z_iconst E (v := nI 0) d_M_again_16 (by decide) ?_
      refine z_iconst E (v := nI 1) d_M_again_17 (by decide) ?_
      refine mm_calli E [.int (nI 0), .int (nI 1)] (c_fails0 l D cA a M (nI 1)) kv_M_56 rfl rfl (by decide) (Nat.le_of_ble_eq_true rfl) (by decide) d_M_again_18 (fun r M1 hp => ?_)
      obtain ⟨rfl, rfl⟩ := hp
      refine z_if_eq E 26 d_M_again_21 (by decide) (fun h21 => ?_) (fun h21 => ?_)
      · refine z_aload_n E 0 d_M_again_26 rfl rfl ?_
        refine z_iload_n E 1 d_M_again_27 rfl rfl ?_
        refine z_iconst E (v := nI 1) d_M_again_28 (by decide) ?_
        refine mm_calli E [.int (nI x), .int (nI 1)] (c_at1 l D cA a (zu M 7 0 (nI 0)) n pl sz st h g (hp0.congr rfl rfl rfl rfl rfl rfl) (nI x)) kv_M_63 rfl rfl (by decide) (Nat.le_of_ble_eq_true rfl) (by decide) d_M_again_29 (fun r M1 hp => ?_)
        obtain ⟨hM1, ⟨k, hk, rfl, hxk, hsk⟩ | ⟨rfl, hno⟩⟩ := hp <;> subst M1
        · have e1 := mlive1 hp0 hk hx8 hxk
          have hkk := hp0.2.1 k k0 hk hk0 (e1.trans e2.symm)
          subst hkk
          rw [hsk] at e3
          cases (Prod.mk.inj e3).2
        · refine z_istore_n E 3 d_M_again_32 rfl (by decide) ?_
          refine z_aload_n E 0 d_M_again_33 rfl rfl ?_
          refine z_iload_n E 3 d_M_again_34 rfl rfl ?_
          refine z_if_ge E 42 d_M_again_35 (by decide) (fun h35 => ?_) (fun h35 => ?_)
          · exact absurd h35 (by decide)
          · refine z_iconst E (v := nI 1) d_M_again_38 (by decide) ?_
            refine z_goto E 43 d_M_again_39 (by decide) ?_
            refine z_aload_n E 0 d_M_again_43 rfl rfl ?_
            refine z_iload_n E 1 d_M_again_44 rfl rfl ?_
            refine z_iconst E (v := nI 2) d_M_again_45 (by decide) ?_
            refine mm_calli E [.int (nI x), .int (nI 2)] (c_at2 l D cA a (zu M 7 0 (nI 0)) n pl sz st h g (hp0.congr rfl rfl rfl rfl rfl rfl) (nI x)) kv_M_63 rfl rfl (by decide) (Nat.le_of_ble_eq_true rfl) (by decide) d_M_again_46 (fun r2 M2 hp2 => ?_)
            obtain ⟨hM2, ⟨k2, hk2, rfl, hxk2, hst2⟩ | ⟨rfl, hno2⟩⟩ := hp2 <;> subst M2
            · refine z_if_lt E 56 d_M_again_49 (by decide) (fun h49 => ?_) (fun h49 => ?_)
              · exact absurd h49 (nI_pos (by omega))
              · refine z_iconst E (v := nI 2) d_M_again_52 (by decide) ?_
                refine z_goto E 57 d_M_again_53 (by decide) ?_
                refine mm_calli E [.int (nI 1), .int (nI 2)] (c_fails1 l D cA a (zu M 7 0 (nI 0)) (nI 2)) kv_M_56 rfl rfl (by decide) (Nat.le_of_ble_eq_true rfl) (by decide) d_M_again_57 (fun r M1 hp => ?_)
                obtain ⟨rfl, rfl⟩ := hp
                refine z_if_eq E 65 d_M_again_60 (by decide) (fun h60 => ?_) (fun h60 => ?_)
                · exact absurd h60 (by decide)
                · refine z_iconst E (v := nI 0) d_M_again_63 (by decide) ?_
                  refine z_iret E hr ?_ (by decide) (by decide) d_M_again_64
                  exact ⟨zu_zu, rfl⟩
            · exact absurd (by rw [← (Prod.mk.inj e3).2]; rfl) (hno2 k0 hk0 (by rw [e2]))
      · exact absurd rfl h21
    · exact absurd ((nI_leI (by omega) (by omega)).mpr hq) h9
theorem c_magain (l : Launch) (D : va_G) (cA : Nat → ClassId) (a : Nat → Nat) (M : zmem) (h : zmap) (g : Nat) (hi : mInv M h g) (hg : g < 2 ^ 30) (hks : ksum h ≤ 512) (x z : Nat) (hx : h x = some (z, none)) (q : Nat) (hq : q ≤ 2048) : zMi l y_M_again b_M_again 6 .int (rmk 3) D zcl (ztys cA) (mw a cA) [.ref (a 0), .int (nI x), .int (nI q)] M (fun r M' => M' 7 0 = nI 0 ∧ M' 5 = M 5 ∧ M' 6 = M 6 ∧ M' 7 4 = M 7 4 ∧ ((r = nI 0 ∧ mInv M' h g ∧ M' 7 2 = M 7 2 ∧ M' 0 = M 0 ∧ ∀ X, ¬ hfit h q X) ∨ ∃ X, X < 8192 ∧ r = nI X ∧ hff h q X ∧ ∃ h', evs (hst (hst h X (q, none)) x (z, some g)) h' ∧ mInv M' h' (g + 1) ∧ M' 7 2 = M 7 2 + 1 ∧ ∀ i, i < 8192 → M' 0 i = if X ≤ i ∧ i < X + min q z then M 0 (x + (i - X)) else M 0 i)) := by
  refine zMi.of (own := "ZoneHeapModel") (by decide) rfl (Nat.le_of_ble_eq_true rfl) (by simp [Value.category]) ?_
  intro p e s m args below meth c A E hr hex
  obtain ⟨n, pl, sz, st, hp0⟩ := hi
  have h256 := hp0.few
  have hx8 : x < 8192 := by have := hp0.2.2.2.1.1 x _ hx; omega
  refine z_aload_n E 0 d_M_again_0 rfl rfl ?_
  refine z_iload_n E 2 d_M_again_1 rfl rfl ?_
  refine z_if_lt E 12 d_M_again_2 (by decide) (fun h2 => ?_) (fun h2 => ?_)
  · exact absurd h2 (nI_pos (by omega))
  · refine z_iload_n E 2 d_M_again_5 rfl rfl ?_
    refine z_sipush E (v := nI 2048) d_M_again_6 (by decide) ?_
    refine z_icmp_le E 16 d_M_again_9 (by decide) (fun h9 => ?_) (fun h9 => ?_)
    · refine z_iconst E (v := nI 0) d_M_again_16 (by decide) ?_
      refine z_iconst E (v := nI 1) d_M_again_17 (by decide) ?_
      refine mm_calli E [.int (nI 0), .int (nI 1)] (c_fails0 l D cA a M (nI 1)) kv_M_56 rfl rfl (by decide) (Nat.le_of_ble_eq_true rfl) (by decide) d_M_again_18 (fun r M1 hp => ?_)
      obtain ⟨rfl, rfl⟩ := hp
      refine z_if_eq E 26 d_M_again_21 (by decide) (fun h21 => ?_) (fun h21 => ?_)
      · refine z_aload_n E 0 d_M_again_26 rfl rfl ?_
        refine z_iload_n E 1 d_M_again_27 rfl rfl ?_
        refine z_iconst E (v := nI 1) d_M_again_28 (by decide) ?_
        refine mm_calli E [.int (nI x), .int (nI 1)] (c_at1 l D cA a (zu M 7 0 (nI 0)) n pl sz st h g (hp0.congr rfl rfl rfl rfl rfl rfl) (nI x)) kv_M_63 rfl rfl (by decide) (Nat.le_of_ble_eq_true rfl) (by decide) d_M_again_29 (fun r M1 hp => ?_)
        obtain ⟨hM1, ⟨k, hk, rfl, hxk, hsk⟩ | ⟨rfl, hno⟩⟩ := hp <;> subst M1
        · refine z_istore_n E 3 d_M_again_32 rfl (by decide) ?_
          refine z_aload_n E 0 d_M_again_33 rfl rfl ?_
          refine z_iload_n E 3 d_M_again_34 rfl rfl ?_
          refine z_if_ge E 42 d_M_again_35 (by decide) (fun h35 => ?_) (fun h35 => ?_)
          · refine z_iconst E (v := nI 0) d_M_again_42 (by decide) ?_
            refine z_aload_n E 0 d_M_again_43 rfl rfl ?_
            refine z_iload_n E 1 d_M_again_44 rfl rfl ?_
            refine z_iconst E (v := nI 2) d_M_again_45 (by decide) ?_
            refine mm_calli E [.int (nI x), .int (nI 2)] (c_at2 l D cA a (zu M 7 0 (nI 0)) n pl sz st h g (hp0.congr rfl rfl rfl rfl rfl rfl) (nI x)) kv_M_63 rfl rfl (by decide) (Nat.le_of_ble_eq_true rfl) (by decide) d_M_again_46 (fun r2 M2 hp2 => ?_)
            obtain ⟨hM2, ⟨k2, hk2, rfl, hxk2, hst2⟩ | ⟨rfl, hno2⟩⟩ := hp2 <;> subst M2
            · exfalso
              have e1 := mlive1 hp0 hk hx8 hxk
              have e2 := mlive1 hp0 hk2 hx8 hxk2
              have := hp0.2.1 k k2 hk hk2 (e1.trans e2.symm)
              subst this
              rw [hsk] at hst2
              cases hst2
            · refine z_if_lt E 56 d_M_again_49 (by decide) (fun h49 => ?_) (fun h49 => ?_)
              · refine z_iconst E (v := nI 1) d_M_again_56 (by decide) ?_
                refine mm_calli E [.int (nI 0), .int (nI 1)] (c_fails0 l D cA a (zu M 7 0 (nI 0)) (nI 1)) kv_M_56 rfl rfl (by decide) (Nat.le_of_ble_eq_true rfl) (by decide) d_M_again_57 (fun r M1 hp => ?_)
                obtain ⟨rfl, rfl⟩ := hp
                refine z_if_eq E 65 d_M_again_60 (by decide) (fun h60 => ?_) (fun h60 => ?_)
                · have e1 := mlive1 hp0 hk hx8 hxk
                  obtain ⟨k0, hk0, e2, e3⟩ := mlive hp0 hx
                  have hkk := hp0.2.1 k k0 hk hk0 (e1.trans e2.symm)
                  subst hkk
                  have hqs : z = sz k := (Prod.mk.inj e3).1
                  have hz2048 := (hp0.1.2 k hk).2.2.2.2.2
                  rw [← hqs] at hz2048
                  refine z_aload_n E 0 d_M_again_65 rfl rfl ?_
                  refine z_iload_n E 2 d_M_again_66 rfl rfl ?_
                  refine mm_calli E [.int (nI q)] (c_make l D cA a (zu (zu M 7 0 (nI 0)) 7 0 (nI 0)) n pl sz st h g (hp0.congr rfl rfl rfl rfl rfl rfl) q hq) kv_M_60 rfl rfl (by decide) (Nat.le_of_ble_eq_true rfl) (by decide) d_M_again_67 (fun r M1 hp => ?_)
                  rcases hp with ⟨rfl, hM1, hno⟩ | ⟨X, hX8, rfl, hfx, hm, h72, e0, e5, e6, e70, e74⟩
                  · subst M1
                    refine z_istore E d_M_again_70 (by decide) ?_
                    refine z_iload E d_M_again_72 rfl ?_
                    refine z_if_ne E 79 d_M_again_74 (by decide) (fun h74 => ?_) (fun h74 => ?_)
                    · exact absurd rfl h74
                    · refine z_iconst E (v := nI 0) d_M_again_77 (by decide) ?_
                      refine z_iret E hr ?_ (by decide) (by decide) d_M_again_78
                      exact ⟨rfl, rfl, rfl, rfl, Or.inl ⟨rfl, ⟨n, pl, sz, st, (hp0.congr rfl rfl rfl rfl rfl rfl)⟩, rfl, rfl, hno⟩⟩
                  · have hfit := hfx.1
                    have hfree := hff_free hfx.1
                    have hne : x ≠ X := fun he => by rw [he, hfree] at hx; cases hx
                    have hks1 : ksum (hst h X (q, none)) = ksum h := (ks_new (by have := hfit.2.2.1; omega) hfree).1
                    have hdis := hfit.2.2.2 x _ hx
                    have hX3 := hfit.2.2.1
                    have hxO := hp0.2.2.2.1.1 x _ hx
                    have ht1 := tk_ge q
                    have ht2 := tk_ge z
                    dsimp only at hdis hxO
                    have hplk : ins pl n X k = x := by unfold ins; rw [if_pos hk]; exact e1
                    have hszk : ins sz n q k = z := by unfold ins; rw [if_pos hk]; exact hqs.symm
                    have hstk : ins st n none k = none := by unfold ins; rw [if_pos hk]; exact hsk
                    have hsz1 : M1 2 k = nI z := (hm.1.2 k (by omega)).2.1.trans (congrArg nI hszk)
                    refine z_istore E d_M_again_70 (by decide) ?_
                    refine z_iload E d_M_again_72 rfl ?_
                    refine z_if_ne E 79 d_M_again_74 (by decide) (fun h74 => ?_) (fun h74 => ?_)
                    · refine z_iconst E (v := nI 0) d_M_again_79 (by decide) ?_
                      refine z_istore E d_M_again_80 (by decide) ?_
                      refine z_lp (ι := Nat × zmem) (fun y => q - y.1) (fun y => y.1 ≤ q ∧ y.1 ≤ z ∧ (∀ r, r ≠ 0 → y.2 r = M1 r) ∧ ∀ i, i < 8192 → y.2 0 i = if X ≤ i ∧ i < X + y.1 then M 0 (x + (i - X)) else M 0 i) (fun y => [some (.ref (a 0)), some (.int (nI x)), some (.int (nI q)), some (.int (nI k)), some (.int (nI X)), some (.int (nI y.1))]) (fun y => y.2) ?_ (0, M1) ⟨by dsimp only; omega, by dsimp only; omega, fun _ _ => rfl, fun i hi => by dsimp only; rw [if_neg (by omega), e0]; rfl⟩ (by repeat' first | exact trivial | refine ⟨rfl, ?_⟩)
                      rintro ⟨j, M'⟩ ⟨hI1, hI2, hI3, hI4⟩ ih
                      dsimp only at hI1 hI2 hI3 hI4 ih ⊢
                      refine z_iload E d_M_again_82 rfl ?_
                      refine z_iload_n E 2 d_M_again_84 rfl rfl ?_
                      refine z_icmp_ge E 124 d_M_again_85 (by decide) (fun h85 => ?_) (fun h85 => ?_)
                      · have h85 := (nI_leI (by omega) (by omega)).mp h85
                        have hz2 := hm.congr (hI3 1 (by decide)) (hI3 2 (by decide)) (hI3 3 (by decide)) (hI3 4 (by decide)) (congrFun (hI3 7 (by decide)) 1) (congrFun (hI3 7 (by decide)) 3)
                        refine z_aload_n E 0 d_M_again_124 rfl rfl ?_
                        refine z_iload_n E 3 d_M_again_125 rfl rfl ?_
                        refine mm_callv E [.int (nI k)] (c_mgive l D cA a _ _ _ _ _ _ g hz2 hg (by rw [hks1]; exact hks) k (by omega) hstk) kv_M_67 rfl rfl (by decide) (Nat.le_of_ble_eq_true rfl) (by decide) d_M_again_126 (fun M4 hp4 => ?_)
                        obtain ⟨h', hm4, he4, f0, f5, f6, f70, f72, f74⟩ := hp4
                        refine z_iload E d_M_again_129 rfl ?_
                        refine z_iret E hr ?_ (by decide) (by decide) d_M_again_131
                        rw [hplk, hszk] at he4
                        refine ⟨?_, ?_, ?_, ?_, Or.inr ⟨X, by omega, rfl, hfx, h', he4, hm4, ?_, fun i hi => ?_⟩⟩
                        · rw [f70, hI3 7 (by decide)]; exact e70
                        · rw [f5, hI3 5 (by decide)]; exact e5
                        · rw [f6, hI3 6 (by decide)]; exact e6
                        · rw [f74, hI3 7 (by decide)]; exact e74
                        · rw [f72, hI3 7 (by decide)]; exact h72
                        · rw [f0, hI4 i hi, show min q z = j by omega]
                      · have h85 : j < q := by have := mt (nI_leI (by omega) (by omega)).mpr h85; omega
                        refine z_iload E d_M_again_88 rfl ?_
                        refine z_aload_n E 0 d_M_again_90 rfl rfl ?_
                        refine mm_get E 3 (by decide) fl_M_16 rfl rfl d_M_again_91 ?_
                        refine z_iload_n E 3 d_M_again_94 rfl rfl ?_
                        refine zn_iald E 3 1 rfl rfl (_) (rfl) (by omega) (by decide) d_M_again_95 ?_
                        refine z_top ((congrFun (hI3 2 (by decide)) k).trans hsz1) ?_
                        refine z_icmp_ge E 124 d_M_again_96 (by decide) (fun h96 => ?_) (fun h96 => ?_)
                        · have h96 := (nI_leI (by omega) (by omega)).mp h96
                          have hz2 := hm.congr (hI3 1 (by decide)) (hI3 2 (by decide)) (hI3 3 (by decide)) (hI3 4 (by decide)) (congrFun (hI3 7 (by decide)) 1) (congrFun (hI3 7 (by decide)) 3)
                          refine z_aload_n E 0 d_M_again_124 rfl rfl ?_
                          refine z_iload_n E 3 d_M_again_125 rfl rfl ?_
                          refine mm_callv E [.int (nI k)] (c_mgive l D cA a _ _ _ _ _ _ g hz2 hg (by rw [hks1]; exact hks) k (by omega) hstk) kv_M_67 rfl rfl (by decide) (Nat.le_of_ble_eq_true rfl) (by decide) d_M_again_126 (fun M4 hp4 => ?_)
                          obtain ⟨h', hm4, he4, f0, f5, f6, f70, f72, f74⟩ := hp4
                          refine z_iload E d_M_again_129 rfl ?_
                          refine z_iret E hr ?_ (by decide) (by decide) d_M_again_131
                          rw [hplk, hszk] at he4
                          refine ⟨?_, ?_, ?_, ?_, Or.inr ⟨X, by omega, rfl, hfx, h', he4, hm4, ?_, fun i hi => ?_⟩⟩
                          · rw [f70, hI3 7 (by decide)]; exact e70
                          · rw [f5, hI3 5 (by decide)]; exact e5
                          · rw [f6, hI3 6 (by decide)]; exact e6
                          · rw [f74, hI3 7 (by decide)]; exact e74
                          · rw [f72, hI3 7 (by decide)]; exact h72
                          · rw [f0, hI4 i hi, show min q z = j by omega]
                        · have h96 : j < z := by have := mt (nI_leI (by omega) (by omega)).mpr h96; omega
                          refine z_aload_n E 0 d_M_again_99 rfl rfl ?_
                          refine mm_get E 1 (by decide) fl_M_7 rfl rfl d_M_again_100 ?_
                          refine z_iload E d_M_again_103 rfl ?_
                          refine z_iload E d_M_again_105 rfl ?_
                          refine z_iadd E d_M_again_107 ?_
                          refine z_top (nI_add _ _) ?_
                          refine z_aload_n E 0 d_M_again_108 rfl rfl ?_
                          refine mm_get E 1 (by decide) fl_M_7 rfl rfl d_M_again_109 ?_
                          refine z_iload_n E 1 d_M_again_112 rfl rfl ?_
                          refine z_iload E d_M_again_113 rfl ?_
                          refine z_iadd E d_M_again_115 ?_
                          refine z_top (nI_add _ _) ?_
                          refine zn_iald E 1 1 rfl rfl (_) (rfl) (by omega) (by decide) d_M_again_116 ?_
                          refine z_top ((hI4 (x + j) (by omega)).trans (if_neg (by omega))) ?_
                          refine mm_iast E 0 rfl (_) (rfl) (by omega) rfl d_M_again_117 ?_
                          refine z_iinc E (v := nI (j + 1)) d_M_again_118 rfl (nI_1 j) (by decide) ?_
                          refine z_goto E 82 d_M_again_121 (by decide) ?_
                          refine ih (j + 1, zu M' 0 (X + j) (M 0 (x + j))) _ ⟨by dsimp only; omega, by dsimp only; omega, fun r hr' => (zu_ne hr').trans (hI3 r hr'), fun i hi => ?_⟩ (by dsimp only; omega) (by repeat' first | exact trivial | refine ⟨rfl, ?_⟩)
                          dsimp only
                          rw [zu_same]
                          by_cases hij : i = X + j
                          · rw [hij, upd_same, if_pos (by omega), show X + j - X = j by omega]
                          · rw [upd_ne hij, hI4 i hi]
                            by_cases hc : X ≤ i ∧ i < X + j
                            · rw [if_pos hc, if_pos (by omega)]
                            · rw [if_neg hc, if_neg (by omega)]
                    · exact absurd h74 (nI_ne0 (by have := hfx.1.2.1; omega) (by omega))
                · exact absurd rfl h60
              · exact absurd (by decide) h49
          · exact absurd (nI_pos' (by omega)) h35
        · obtain ⟨k0, hk0, e2, e3⟩ := mlive hp0 hx
          exact absurd (Prod.mk.inj e3).2.symm (hno k0 hk0 (by rw [e2]))
      · exact absurd rfl h21
    · exact absurd ((nI_leI (by omega) (by omega)).mpr hq) h9
end
section
/-! ZoneHeapModel: of, kind, block, bad, word, write, read -/
theorem c_of1 (l : Launch) (D : va_G) (cA : Nat → ClassId) (a : Nat → Nat) (M : zmem) (n : Nat) (pl sz : Nat → Nat) (st : Nat → Option Nat) (h : zmap) (g : Nat) (hp0 : mPic M n pl sz st h g) (X : Nat) (hX : X < 8192) : zMi l y_M_of b_M_of 4 .int (rmk 0) D zcl (ztys cA) (mw a cA) [.ref (a 0), .int (nI X), .int (nI 1)] M (fun r M' => M' = M ∧ ((∃ k, k < n ∧ r = nI k ∧ st k = none ∧ pl k ≤ X ∧ X < pl k + sz k) ∨ (r = -1 ∧ ¬ hlive h X))) := by
  refine zMi.of (own := "ZoneHeapModel") (by decide) rfl (Nat.le_of_ble_eq_true rfl) (by simp [Value.category]) ?_
  intro p e s m args below meth c A E hr hex
  have h256 := hp0.few
  refine z_iconst E (v := nI 0) d_M_of_0 (by decide) ?_
  refine z_istore_n E 3 d_M_of_1 rfl (by decide) ?_
  refine z_lp (ι := Nat) (fun k => n - k) (fun k => k ≤ n ∧ ∀ i, i < k → st i = none → ¬ (pl i ≤ X ∧ X < pl i + sz i)) (fun k => [some (.ref (a 0)), some (.int (nI X)), some (.int (nI 1)), some (.int (nI k))]) (fun _ => M) ?_ 0 ⟨Nat.zero_le _, fun i hi => absurd hi (Nat.not_lt_zero i)⟩ (by repeat' first | exact trivial | refine ⟨rfl, ?_⟩)
  rintro k ⟨h1, h2⟩ ih
  refine z_iload_n E 3 d_M_of_2 rfl rfl ?_
  refine z_aload_n E 0 d_M_of_3 rfl rfl ?_
  refine mm_get E 8 (by decide) fl_M_40 rfl rfl d_M_of_4 ?_
  refine z_top hp0.1.1 ?_
  refine z_icmp_ge E 55 d_M_of_7 (by decide) (fun h7 => ?_) (fun h7 => ?_)
  · have h7 := (nI_leI (by omega) (by omega)).mp h7
    have : k = n := by omega
    subst this
    refine z_iconst E (v := (-1 : Int32)) d_M_of_55 (by decide) ?_
    refine z_iret E hr ?_ (by decide) (by decide) d_M_of_56
    refine ⟨rfl, Or.inr ⟨rfl, ?_⟩⟩
    rintro ⟨y, q, e1, e2, e3⟩
    obtain ⟨i, hi, rfl, e4⟩ := mlive hp0 e1
    have b1 := (Prod.mk.inj e4).1
    exact h2 i hi (Prod.mk.inj e4).2.symm ⟨e2, by omega⟩
  · have h7 : k < n := by have := mt (nI_leI (by omega) (by omega)).mpr h7; omega
    have hc := hp0.1.2 k h7
    refine z_aload_n E 0 d_M_of_10 rfl rfl ?_
    refine mm_get E 4 (by decide) fl_M_19 rfl rfl d_M_of_11 ?_
    refine z_iload_n E 3 d_M_of_14 rfl rfl ?_
    refine zn_iald E 4 1 rfl rfl (_) (rfl) (by omega) (by decide) d_M_of_15 ?_
    refine z_top hc.2.2.1 ?_
    refine z_iload_n E 2 d_M_of_16 rfl rfl ?_
    refine z_icmp_ne E 49 d_M_of_17 (by decide) (fun h17 => ?_) (fun h17 => ?_)
    · have h17 := mt sm_1.mpr h17
      refine z_iinc E (v := nI (k + 1)) d_M_of_49 rfl (nI_1 k) (by decide) ?_
      refine z_goto E 2 d_M_of_52 (by decide) ?_
      refine ih (k + 1) _ ⟨by omega, fun i hi hs hin => ?_⟩ (by omega) (by repeat' first | exact trivial | refine ⟨rfl, ?_⟩)
      by_cases hik : i = k
      · rw [hik] at hs hin; exact absurd hs h17
      · exact h2 i (by omega) hs hin
    · have h17 := sm_1.mp h17
      refine z_iload_n E 1 d_M_of_20 rfl rfl ?_
      refine z_aload_n E 0 d_M_of_21 rfl rfl ?_
      refine mm_get E 2 (by decide) fl_M_13 rfl rfl d_M_of_22 ?_
      refine z_iload_n E 3 d_M_of_25 rfl rfl ?_
      refine zn_iald E 2 1 rfl rfl (_) (rfl) (by omega) (by decide) d_M_of_26 ?_
      refine z_top hc.1 ?_
      refine z_icmp_lt E 49 d_M_of_27 (by decide) (fun h27 => ?_) (fun h27 => ?_)
      · have h27 := (nI_ltI (by omega) (by omega)).mp h27
        refine z_iinc E (v := nI (k + 1)) d_M_of_49 rfl (nI_1 k) (by decide) ?_
        refine z_goto E 2 d_M_of_52 (by decide) ?_
        refine ih (k + 1) _ ⟨by omega, fun i hi hs hin => ?_⟩ (by omega) (by repeat' first | exact trivial | refine ⟨rfl, ?_⟩)
        by_cases hik : i = k
        · rw [hik] at hs hin; omega
        · exact h2 i (by omega) hs hin
      · have h27 := mt (nI_ltI (by omega) (by omega)).mpr h27
        refine z_iload_n E 1 d_M_of_30 rfl rfl ?_
        refine z_aload_n E 0 d_M_of_31 rfl rfl ?_
        refine mm_get E 2 (by decide) fl_M_13 rfl rfl d_M_of_32 ?_
        refine z_iload_n E 3 d_M_of_35 rfl rfl ?_
        refine zn_iald E 2 1 rfl rfl (_) (rfl) (by omega) (by decide) d_M_of_36 ?_
        refine z_top hc.1 ?_
        refine z_aload_n E 0 d_M_of_37 rfl rfl ?_
        refine mm_get E 3 (by decide) fl_M_16 rfl rfl d_M_of_38 ?_
        refine z_iload_n E 3 d_M_of_41 rfl rfl ?_
        refine zn_iald E 3 1 rfl rfl (_) (rfl) (by omega) (by decide) d_M_of_42 ?_
        refine z_top hc.2.1 ?_
        refine z_iadd E d_M_of_43 ?_
        refine z_top (nI_add _ _) ?_
        refine z_icmp_ge E 49 d_M_of_44 (by decide) (fun h44 => ?_) (fun h44 => ?_)
        · have h44 := (nI_leI (by omega) (by omega)).mp h44
          refine z_iinc E (v := nI (k + 1)) d_M_of_49 rfl (nI_1 k) (by decide) ?_
          refine z_goto E 2 d_M_of_52 (by decide) ?_
          refine ih (k + 1) _ ⟨by omega, fun i hi hs hin => ?_⟩ (by omega) (by repeat' first | exact trivial | refine ⟨rfl, ?_⟩)
          by_cases hik : i = k
          · rw [hik] at hs hin; omega
          · exact h2 i (by omega) hs hin
        · have h44 := mt (nI_leI (by omega) (by omega)).mpr h44
          refine z_iload_n E 3 d_M_of_47 rfl rfl ?_
          refine z_iret E hr ?_ (by decide) (by decide) d_M_of_48
          exact ⟨rfl, Or.inl ⟨k, h7, rfl, h17, by omega, by omega⟩⟩
theorem c_of2 (l : Launch) (D : va_G) (cA : Nat → ClassId) (a : Nat → Nat) (M : zmem) (n : Nat) (pl sz : Nat → Nat) (st : Nat → Option Nat) (h : zmap) (g : Nat) (hp0 : mPic M n pl sz st h g) (X : Nat) (hX : X < 8192) : zMi l y_M_of b_M_of 4 .int (rmk 0) D zcl (ztys cA) (mw a cA) [.ref (a 0), .int (nI X), .int (nI 2)] M (fun r M' => M' = M ∧ ((∃ k, k < n ∧ r = nI k ∧ (st k).isSome = true ∧ pl k ≤ X ∧ X < pl k + sz k) ∨ (r = -1 ∧ ¬ hkept h X))) := by
  refine zMi.of (own := "ZoneHeapModel") (by decide) rfl (Nat.le_of_ble_eq_true rfl) (by simp [Value.category]) ?_
  intro p e s m args below meth c A E hr hex
  have h256 := hp0.few
  refine z_iconst E (v := nI 0) d_M_of_0 (by decide) ?_
  refine z_istore_n E 3 d_M_of_1 rfl (by decide) ?_
  refine z_lp (ι := Nat) (fun k => n - k) (fun k => k ≤ n ∧ ∀ i, i < k → (st i).isSome = true → ¬ (pl i ≤ X ∧ X < pl i + sz i)) (fun k => [some (.ref (a 0)), some (.int (nI X)), some (.int (nI 2)), some (.int (nI k))]) (fun _ => M) ?_ 0 ⟨Nat.zero_le _, fun i hi => absurd hi (Nat.not_lt_zero i)⟩ (by repeat' first | exact trivial | refine ⟨rfl, ?_⟩)
  rintro k ⟨h1, h2⟩ ih
  refine z_iload_n E 3 d_M_of_2 rfl rfl ?_
  refine z_aload_n E 0 d_M_of_3 rfl rfl ?_
  refine mm_get E 8 (by decide) fl_M_40 rfl rfl d_M_of_4 ?_
  refine z_top hp0.1.1 ?_
  refine z_icmp_ge E 55 d_M_of_7 (by decide) (fun h7 => ?_) (fun h7 => ?_)
  · have h7 := (nI_leI (by omega) (by omega)).mp h7
    have : k = n := by omega
    subst this
    refine z_iconst E (v := (-1 : Int32)) d_M_of_55 (by decide) ?_
    refine z_iret E hr ?_ (by decide) (by decide) d_M_of_56
    refine ⟨rfl, Or.inr ⟨rfl, ?_⟩⟩
    rintro ⟨y, q, w, e1, e2, e3⟩
    obtain ⟨i, hi, rfl, e4⟩ := mlive hp0 e1
    have b1 := (Prod.mk.inj e4).1
    exact h2 i hi (by rw [← (Prod.mk.inj e4).2]; rfl) ⟨e2, by omega⟩
  · have h7 : k < n := by have := mt (nI_leI (by omega) (by omega)).mpr h7; omega
    have hc := hp0.1.2 k h7
    refine z_aload_n E 0 d_M_of_10 rfl rfl ?_
    refine mm_get E 4 (by decide) fl_M_19 rfl rfl d_M_of_11 ?_
    refine z_iload_n E 3 d_M_of_14 rfl rfl ?_
    refine zn_iald E 4 1 rfl rfl (_) (rfl) (by omega) (by decide) d_M_of_15 ?_
    refine z_top hc.2.2.1 ?_
    refine z_iload_n E 2 d_M_of_16 rfl rfl ?_
    refine z_icmp_ne E 49 d_M_of_17 (by decide) (fun h17 => ?_) (fun h17 => ?_)
    · have h17 := mt sm_2.mpr h17
      refine z_iinc E (v := nI (k + 1)) d_M_of_49 rfl (nI_1 k) (by decide) ?_
      refine z_goto E 2 d_M_of_52 (by decide) ?_
      refine ih (k + 1) _ ⟨by omega, fun i hi hs hin => ?_⟩ (by omega) (by repeat' first | exact trivial | refine ⟨rfl, ?_⟩)
      by_cases hik : i = k
      · rw [hik] at hs hin; exact absurd hs h17
      · exact h2 i (by omega) hs hin
    · have h17 := sm_2.mp h17
      refine z_iload_n E 1 d_M_of_20 rfl rfl ?_
      refine z_aload_n E 0 d_M_of_21 rfl rfl ?_
      refine mm_get E 2 (by decide) fl_M_13 rfl rfl d_M_of_22 ?_
      refine z_iload_n E 3 d_M_of_25 rfl rfl ?_
      refine zn_iald E 2 1 rfl rfl (_) (rfl) (by omega) (by decide) d_M_of_26 ?_
      refine z_top hc.1 ?_
      refine z_icmp_lt E 49 d_M_of_27 (by decide) (fun h27 => ?_) (fun h27 => ?_)
      · have h27 := (nI_ltI (by omega) (by omega)).mp h27
        refine z_iinc E (v := nI (k + 1)) d_M_of_49 rfl (nI_1 k) (by decide) ?_
        refine z_goto E 2 d_M_of_52 (by decide) ?_
        refine ih (k + 1) _ ⟨by omega, fun i hi hs hin => ?_⟩ (by omega) (by repeat' first | exact trivial | refine ⟨rfl, ?_⟩)
        by_cases hik : i = k
        · rw [hik] at hs hin; omega
        · exact h2 i (by omega) hs hin
      · have h27 := mt (nI_ltI (by omega) (by omega)).mpr h27
        refine z_iload_n E 1 d_M_of_30 rfl rfl ?_
        refine z_aload_n E 0 d_M_of_31 rfl rfl ?_
        refine mm_get E 2 (by decide) fl_M_13 rfl rfl d_M_of_32 ?_
        refine z_iload_n E 3 d_M_of_35 rfl rfl ?_
        refine zn_iald E 2 1 rfl rfl (_) (rfl) (by omega) (by decide) d_M_of_36 ?_
        refine z_top hc.1 ?_
        refine z_aload_n E 0 d_M_of_37 rfl rfl ?_
        refine mm_get E 3 (by decide) fl_M_16 rfl rfl d_M_of_38 ?_
        refine z_iload_n E 3 d_M_of_41 rfl rfl ?_
        refine zn_iald E 3 1 rfl rfl (_) (rfl) (by omega) (by decide) d_M_of_42 ?_
        refine z_top hc.2.1 ?_
        refine z_iadd E d_M_of_43 ?_
        refine z_top (nI_add _ _) ?_
        refine z_icmp_ge E 49 d_M_of_44 (by decide) (fun h44 => ?_) (fun h44 => ?_)
        · have h44 := (nI_leI (by omega) (by omega)).mp h44
          refine z_iinc E (v := nI (k + 1)) d_M_of_49 rfl (nI_1 k) (by decide) ?_
          refine z_goto E 2 d_M_of_52 (by decide) ?_
          refine ih (k + 1) _ ⟨by omega, fun i hi hs hin => ?_⟩ (by omega) (by repeat' first | exact trivial | refine ⟨rfl, ?_⟩)
          by_cases hik : i = k
          · rw [hik] at hs hin; omega
          · exact h2 i (by omega) hs hin
        · have h44 := mt (nI_leI (by omega) (by omega)).mpr h44
          refine z_iload_n E 3 d_M_of_47 rfl rfl ?_
          refine z_iret E hr ?_ (by decide) (by decide) d_M_of_48
          exact ⟨rfl, Or.inl ⟨k, h7, rfl, h17, by omega, by omega⟩⟩
theorem c_mkind (l : Launch) (D : va_G) (cA : Nat → ClassId) (a : Nat → Nat) (M : zmem) (h : zmap) (g : Nat) (hi : mInv M h g) (X : Nat) (hX : X < 8192) : zMi l y_M_kind b_M_kind 3 .int (rmk 1) D zcl (ztys cA) (mw a cA) [.ref (a 0), .int (nI X)] M (fun r M' => M' = zu M 7 0 (nI 0) ∧ ((r = 1 ∧ hlive h X) ∨ (r = 2 ∧ hkept h X ∧ ¬ hlive h X) ∨ (r = 3 ∧ ¬ hlive h X ∧ ¬ hkept h X ∧ hzone h X) ∨ (r = 0 ∧ ¬ hlive h X ∧ ¬ hkept h X ∧ ¬ hzone h X))) := by
  refine zMi.of (own := "ZoneHeapModel") (by decide) rfl (Nat.le_of_ble_eq_true rfl) (by simp [Value.category]) ?_
  intro p e s m args below meth c A E hr hex
  obtain ⟨n, pl, sz, st, hp0⟩ := hi
  have h256 := hp0.few
  refine z_aload_n E 0 d_M_kind_0 rfl rfl ?_
  refine z_iload_n E 1 d_M_kind_1 rfl rfl ?_
  refine z_if_lt E 12 d_M_kind_2 (by decide) (fun h2 => ?_) (fun h2 => ?_)
  · exact absurd h2 (nI_pos (by omega))
  · refine z_iload_n E 1 d_M_kind_5 rfl rfl ?_
    refine z_sipush E (v := nI 8192) d_M_kind_6 (by decide) ?_
    refine z_icmp_lt E 16 d_M_kind_9 (by decide) (fun h9 => ?_) (fun h9 => ?_)
    · refine z_iconst E (v := nI 0) d_M_kind_16 (by decide) ?_
      refine z_iconst E (v := nI 1) d_M_kind_17 (by decide) ?_
      refine mm_calli E [.int (nI 0), .int (nI 1)] (c_fails0 l D cA a M (nI 1)) kv_M_56 rfl rfl (by decide) (Nat.le_of_ble_eq_true rfl) (by decide) d_M_kind_18 (fun r M1 hp => ?_)
      obtain ⟨rfl, rfl⟩ := hp
      refine z_if_eq E 26 d_M_kind_21 (by decide) (fun h21 => ?_) (fun h21 => ?_)
      · refine z_aload_n E 0 d_M_kind_26 rfl rfl ?_
        refine z_iload_n E 1 d_M_kind_27 rfl rfl ?_
        refine z_iconst E (v := nI 1) d_M_kind_28 (by decide) ?_
        refine mm_calli E [.int (nI X), .int (nI 1)] (c_of1 l D cA a (zu M 7 0 (nI 0)) n pl sz st h g (hp0.congr rfl rfl rfl rfl rfl rfl) X hX) kv_M_71 rfl rfl (by decide) (Nat.le_of_ble_eq_true rfl) (by decide) d_M_kind_29 (fun r M1 hp => ?_)
        obtain ⟨hM1, ⟨k, hk, rfl, hs, hi1, hi2⟩ | ⟨rfl, hno⟩⟩ := hp <;> subst M1
        · refine z_if_lt E 37 d_M_kind_32 (by decide) (fun h32 => ?_) (fun h32 => ?_)
          · exact absurd h32 (nI_pos (by omega))
          · refine z_iconst E (v := nI 1) d_M_kind_35 (by decide) ?_
            refine z_iret E hr ?_ (by decide) (by decide) d_M_kind_36
            exact ⟨rfl, Or.inl ⟨rfl, pl k, sz k, by rw [← hs]; exact hp0.2.2.1.1 k hk, hi1, hi2⟩⟩
        · refine z_if_lt E 37 d_M_kind_32 (by decide) (fun h32 => ?_) (fun h32 => ?_)
          · refine z_aload_n E 0 d_M_kind_37 rfl rfl ?_
            refine z_iload_n E 1 d_M_kind_38 rfl rfl ?_
            refine z_iconst E (v := nI 2) d_M_kind_39 (by decide) ?_
            refine mm_calli E [.int (nI X), .int (nI 2)] (c_of2 l D cA a (zu M 7 0 (nI 0)) n pl sz st h g (hp0.congr rfl rfl rfl rfl rfl rfl) X hX) kv_M_71 rfl rfl (by decide) (Nat.le_of_ble_eq_true rfl) (by decide) d_M_kind_40 (fun r2 M2 hp2 => ?_)
            obtain ⟨hM2, ⟨k, hk, rfl, hs, hi1, hi2⟩ | ⟨rfl, hno2⟩⟩ := hp2 <;> subst M2
            · refine z_if_lt E 48 d_M_kind_43 (by decide) (fun h43 => ?_) (fun h43 => ?_)
              · exact absurd h43 (nI_pos (by omega))
              · refine z_iconst E (v := nI 2) d_M_kind_46 (by decide) ?_
                refine z_iret E hr ?_ (by decide) (by decide) d_M_kind_47
                obtain ⟨w, hw⟩ := Option.isSome_iff_exists.mp hs
                exact ⟨rfl, Or.inr (Or.inl ⟨rfl, ⟨pl k, sz k, w, by rw [← hw]; exact hp0.2.2.1.1 k hk, hi1, hi2⟩, hno⟩)⟩
            · refine z_if_lt E 48 d_M_kind_43 (by decide) (fun h43 => ?_) (fun h43 => ?_)
              · refine z_iconst E (v := nI 0) d_M_kind_48 (by decide) ?_
                refine z_istore_n E 2 d_M_kind_49 rfl (by decide) ?_
                refine z_lp (ι := Nat) (fun k => n - k) (fun k => k ≤ n ∧ ∀ i, i < k → ¬ (pl i ≤ X + 16 ∧ X < pl i + tk (sz i) + 16)) (fun k => [some (.ref (a 0)), some (.int (nI X)), some (.int (nI k))]) (fun _ => (zu M 7 0 (nI 0))) ?_ 0 ⟨Nat.zero_le _, fun i hi => absurd hi (Nat.not_lt_zero i)⟩ (by repeat' first | exact trivial | refine ⟨rfl, ?_⟩)
                rintro k ⟨z1, z2⟩ ih
                refine z_iload_n E 2 d_M_kind_50 rfl rfl ?_
                refine z_aload_n E 0 d_M_kind_51 rfl rfl ?_
                refine mm_get E 8 (by decide) fl_M_40 rfl rfl d_M_kind_52 ?_
                refine z_top hp0.1.1 ?_
                refine z_icmp_ge E 102 d_M_kind_55 (by decide) (fun h55 => ?_) (fun h55 => ?_)
                · have h55 := (nI_leI (by omega) (by omega)).mp h55
                  have : k = n := by omega
                  subst this
                  refine z_iconst E (v := nI 0) d_M_kind_102 (by decide) ?_
                  refine z_iret E hr ?_ (by decide) (by decide) d_M_kind_103
                  refine ⟨rfl, Or.inr (Or.inr (Or.inr ⟨rfl, hno, hno2, ?_⟩))⟩
                  rintro ⟨y, b, e1, e2, e3⟩
                  obtain ⟨i, hi, rfl, e4⟩ := mlive hp0 e1
                  subst e4
                  exact z2 i hi ⟨e2, e3⟩
                · have h55 : k < n := by have := mt (nI_leI (by omega) (by omega)).mpr h55; omega
                  have hc := hp0.1.2 k h55
                  have hOk := hp0.2.2.2.1.1 _ _ (hp0.2.2.1.1 k h55)
                  dsimp only at hOk
                  refine z_iload_n E 1 d_M_kind_58 rfl rfl ?_
                  refine z_aload_n E 0 d_M_kind_59 rfl rfl ?_
                  refine mm_get E 2 (by decide) fl_M_13 rfl rfl d_M_kind_60 ?_
                  refine z_iload_n E 2 d_M_kind_63 rfl rfl ?_
                  refine zn_iald E 2 1 rfl rfl (_) (rfl) (by omega) (by decide) d_M_kind_64 ?_
                  refine z_top hc.1 ?_
                  refine z_bipush E (v := nI 16) d_M_kind_65 (by decide) ?_
                  refine z_isub E d_M_kind_67 ?_
                  refine z_top (pk_sub hOk.1) ?_
                  refine z_icmp_lt E 96 d_M_kind_68 (by decide) (fun h68 => ?_) (fun h68 => ?_)
                  · have h68 := (nI_ltI (by omega) (by omega)).mp h68
                    refine z_iinc E (v := nI (k + 1)) d_M_kind_96 rfl (nI_1 k) (by decide) ?_
                    refine z_goto E 50 d_M_kind_99 (by decide) ?_
                    refine ih (k + 1) _ ⟨by omega, fun i hi hin => ?_⟩ (by omega) (by repeat' first | exact trivial | refine ⟨rfl, ?_⟩)
                    by_cases hik : i = k
                    · rw [hik] at hin; omega
                    · exact z2 i (by omega) hin
                  · have h68 := mt (nI_ltI (by omega) (by omega)).mpr h68
                    refine z_iload_n E 1 d_M_kind_71 rfl rfl ?_
                    refine z_aload_n E 0 d_M_kind_72 rfl rfl ?_
                    refine mm_get E 2 (by decide) fl_M_13 rfl rfl d_M_kind_73 ?_
                    refine z_iload_n E 2 d_M_kind_76 rfl rfl ?_
                    refine zn_iald E 2 1 rfl rfl (_) (rfl) (by omega) (by decide) d_M_kind_77 ?_
                    refine z_top hc.1 ?_
                    refine z_aload_n E 0 d_M_kind_78 rfl rfl ?_
                    refine mm_get E 3 (by decide) fl_M_16 rfl rfl d_M_kind_79 ?_
                    refine z_iload_n E 2 d_M_kind_82 rfl rfl ?_
                    refine zn_iald E 3 1 rfl rfl (_) (rfl) (by omega) (by decide) d_M_kind_83 ?_
                    refine z_top hc.2.1 ?_
                    refine zk_callsi E [.int (nI (sz k))] (c_taken l D _ _ _ _ (sz k) hc.2.2.2.2.2) ks_M_36 rfl rfl (by decide) (Nat.le_of_ble_eq_true rfl) (by decide) d_M_kind_84 (fun r M1 hp => ?_)
                    obtain ⟨hM1, rfl⟩ := hp
                    subst M1
                    refine z_iadd E d_M_kind_87 ?_
                    refine z_top (nI_add _ _) ?_
                    refine z_bipush E (v := nI 16) d_M_kind_88 (by decide) ?_
                    refine z_iadd E d_M_kind_90 ?_
                    refine z_top (nI_add _ _) ?_
                    refine z_icmp_ge E 96 d_M_kind_91 (by decide) (fun h91 => ?_) (fun h91 => ?_)
                    · have h91 := (nI_leI (by omega) (by omega)).mp h91
                      refine z_iinc E (v := nI (k + 1)) d_M_kind_96 rfl (nI_1 k) (by decide) ?_
                      refine z_goto E 50 d_M_kind_99 (by decide) ?_
                      refine ih (k + 1) _ ⟨by omega, fun i hi hin => ?_⟩ (by omega) (by repeat' first | exact trivial | refine ⟨rfl, ?_⟩)
                      by_cases hik : i = k
                      · rw [hik] at hin; omega
                      · exact z2 i (by omega) hin
                    · have h91 := mt (nI_leI (by omega) (by omega)).mpr h91
                      refine z_iconst E (v := nI 3) d_M_kind_94 (by decide) ?_
                      refine z_iret E hr ?_ (by decide) (by decide) d_M_kind_95
                      exact ⟨rfl, Or.inr (Or.inr (Or.inl ⟨rfl, hno, hno2, pl k, _, hp0.2.2.1.1 k h55, by omega, by dsimp only; omega⟩))⟩
              · exact absurd (by decide) h43
          · exact absurd (by decide) h32
      · exact absurd rfl h21
    · exact absurd ((nI_ltI (by omega) (by omega)).mpr hX) h9
theorem c_mkind_t (l : Launch) (D : va_G) (cA : Nat → ClassId) (a : Nat → Nat) (M : zmem) (x : Int32) (hx : x.toInt < 0 ∨ 8192 ≤ x.toInt) : zMi l y_M_kind b_M_kind 3 .int (rmk 1) D zcl (ztys cA) (mw a cA) [.ref (a 0), .int x] M (fun r M' => M' = zu M 7 0 (nI 1) ∧ r = nI 0) := by
  refine zMi.of (own := "ZoneHeapModel") (by decide) rfl (Nat.le_of_ble_eq_true rfl) (by simp [Value.category]) ?_
  intro p e s m args below meth c A E hr hex
  refine z_aload_n E 0 d_M_kind_0 rfl rfl ?_
  refine z_iload_n E 1 d_M_kind_1 rfl rfl ?_
  refine z_if_lt E 12 d_M_kind_2 (by decide) (fun h2 => ?_) (fun h2 => ?_)
  · refine z_iconst E (v := nI 1) d_M_kind_12 (by decide) ?_
    refine z_goto E 17 d_M_kind_13 (by decide) ?_
    refine z_iconst E (v := nI 1) d_M_kind_17 (by decide) ?_
    refine mm_calli E [.int (nI 1), .int (nI 1)] (c_fails1 l D cA a M (nI 1)) kv_M_56 rfl rfl (by decide) (Nat.le_of_ble_eq_true rfl) (by decide) d_M_kind_18 (fun r M1 hp => ?_)
    obtain ⟨rfl, rfl⟩ := hp
    refine z_if_eq E 26 d_M_kind_21 (by decide) (fun h21 => ?_) (fun h21 => ?_)
    · exact absurd h21 (by decide)
    · refine z_iconst E (v := nI 0) d_M_kind_24 (by decide) ?_
      refine z_iret E hr ?_ (by decide) (by decide) d_M_kind_25
      exact ⟨rfl, rfl⟩
  · refine z_iload_n E 1 d_M_kind_5 rfl rfl ?_
    refine z_sipush E (v := nI 8192) d_M_kind_6 (by decide) ?_
    refine z_icmp_lt E 16 d_M_kind_9 (by decide) (fun h9 => ?_) (fun h9 => ?_)
    · rw [i_lt (by omega)] at h9
      rw [Int32.lt_iff_toInt_lt] at h2
      rcases hx with h | h
      · exact absurd h h2
      · exact absurd h9 (by omega)
    · refine z_iconst E (v := nI 1) d_M_kind_12 (by decide) ?_
      refine z_goto E 17 d_M_kind_13 (by decide) ?_
      refine z_iconst E (v := nI 1) d_M_kind_17 (by decide) ?_
      refine mm_calli E [.int (nI 1), .int (nI 1)] (c_fails1 l D cA a M (nI 1)) kv_M_56 rfl rfl (by decide) (Nat.le_of_ble_eq_true rfl) (by decide) d_M_kind_18 (fun r M1 hp => ?_)
      obtain ⟨rfl, rfl⟩ := hp
      refine z_if_eq E 26 d_M_kind_21 (by decide) (fun h21 => ?_) (fun h21 => ?_)
      · exact absurd h21 (by decide)
      · refine z_iconst E (v := nI 0) d_M_kind_24 (by decide) ?_
        refine z_iret E hr ?_ (by decide) (by decide) d_M_kind_25
        exact ⟨rfl, rfl⟩
theorem c_mblock (l : Launch) (D : va_G) (cA : Nat → ClassId) (a : Nat → Nat) (M : zmem) (h : zmap) (g : Nat) (hi : mInv M h g) (X : Nat) (hX : X < 8192) : zMi l y_M_block b_M_block 3 .int (rmk 1) D zcl (ztys cA) (mw a cA) [.ref (a 0), .int (nI X)] M (fun r M' => M' = zu M 7 0 (nI 0) ∧ ((∃ y q, r = nI y ∧ h y = some (q, none) ∧ y ≤ X ∧ X < y + q) ∨ (r = -1 ∧ ¬ hlive h X))) := by
  refine zMi.of (own := "ZoneHeapModel") (by decide) rfl (Nat.le_of_ble_eq_true rfl) (by simp [Value.category]) ?_
  intro p e s m args below meth c A E hr hex
  obtain ⟨n, pl, sz, st, hp0⟩ := hi
  have h256 := hp0.few
  refine z_aload_n E 0 d_M_block_0 rfl rfl ?_
  refine z_iload_n E 1 d_M_block_1 rfl rfl ?_
  refine z_if_lt E 12 d_M_block_2 (by decide) (fun h2 => ?_) (fun h2 => ?_)
  · exact absurd h2 (nI_pos (by omega))
  · refine z_iload_n E 1 d_M_block_5 rfl rfl ?_
    refine z_sipush E (v := nI 8192) d_M_block_6 (by decide) ?_
    refine z_icmp_lt E 16 d_M_block_9 (by decide) (fun h9 => ?_) (fun h9 => ?_)
    · refine z_iconst E (v := nI 0) d_M_block_16 (by decide) ?_
      refine z_iconst E (v := nI 1) d_M_block_17 (by decide) ?_
      refine mm_calli E [.int (nI 0), .int (nI 1)] (c_fails0 l D cA a M (nI 1)) kv_M_56 rfl rfl (by decide) (Nat.le_of_ble_eq_true rfl) (by decide) d_M_block_18 (fun r M1 hp => ?_)
      obtain ⟨rfl, rfl⟩ := hp
      refine z_if_eq E 26 d_M_block_21 (by decide) (fun h21 => ?_) (fun h21 => ?_)
      · refine z_aload_n E 0 d_M_block_26 rfl rfl ?_
        refine z_iload_n E 1 d_M_block_27 rfl rfl ?_
        refine z_iconst E (v := nI 1) d_M_block_28 (by decide) ?_
        refine mm_calli E [.int (nI X), .int (nI 1)] (c_of1 l D cA a (zu M 7 0 (nI 0)) n pl sz st h g (hp0.congr rfl rfl rfl rfl rfl rfl) X hX) kv_M_71 rfl rfl (by decide) (Nat.le_of_ble_eq_true rfl) (by decide) d_M_block_29 (fun r M1 hp => ?_)
        obtain ⟨hM1, ⟨k, hk, rfl, hs, hi1, hi2⟩ | ⟨rfl, hno⟩⟩ := hp <;> subst M1
        · refine z_istore_n E 2 d_M_block_32 rfl (by decide) ?_
          refine z_iload_n E 2 d_M_block_33 rfl rfl ?_
          refine z_if_ge E 41 d_M_block_34 (by decide) (fun h34 => ?_) (fun h34 => ?_)
          · refine z_aload_n E 0 d_M_block_41 rfl rfl ?_
            refine mm_get E 2 (by decide) fl_M_13 rfl rfl d_M_block_42 ?_
            refine z_iload_n E 2 d_M_block_45 rfl rfl ?_
            refine zn_iald E 2 1 rfl rfl (_) (rfl) (by omega) (by decide) d_M_block_46 ?_
            refine z_top (hp0.1.2 k hk).1 ?_
            refine z_iret E hr ?_ (by decide) (by decide) d_M_block_47
            exact ⟨rfl, Or.inl ⟨pl k, sz k, rfl, by rw [← hs]; exact hp0.2.2.1.1 k hk, hi1, hi2⟩⟩
          · exact absurd (nI_pos' (by omega)) h34
        · refine z_istore_n E 2 d_M_block_32 rfl (by decide) ?_
          refine z_iload_n E 2 d_M_block_33 rfl rfl ?_
          refine z_if_ge E 41 d_M_block_34 (by decide) (fun h34 => ?_) (fun h34 => ?_)
          · exact absurd h34 (by decide)
          · refine z_iconst E (v := (-1 : Int32)) d_M_block_37 (by decide) ?_
            refine z_goto E 47 d_M_block_38 (by decide) ?_
            refine z_iret E hr ?_ (by decide) (by decide) d_M_block_47
            exact ⟨rfl, Or.inr ⟨rfl, hno⟩⟩
      · exact absurd rfl h21
    · exact absurd ((nI_ltI (by omega) (by omega)).mpr hX) h9
theorem c_mblock_t (l : Launch) (D : va_G) (cA : Nat → ClassId) (a : Nat → Nat) (M : zmem) (x : Int32) (hx : x.toInt < 0 ∨ 8192 ≤ x.toInt) : zMi l y_M_block b_M_block 3 .int (rmk 1) D zcl (ztys cA) (mw a cA) [.ref (a 0), .int x] M (fun r M' => M' = zu M 7 0 (nI 1) ∧ r = nI 0) := by
  refine zMi.of (own := "ZoneHeapModel") (by decide) rfl (Nat.le_of_ble_eq_true rfl) (by simp [Value.category]) ?_
  intro p e s m args below meth c A E hr hex
  refine z_aload_n E 0 d_M_block_0 rfl rfl ?_
  refine z_iload_n E 1 d_M_block_1 rfl rfl ?_
  refine z_if_lt E 12 d_M_block_2 (by decide) (fun h2 => ?_) (fun h2 => ?_)
  · refine z_iconst E (v := nI 1) d_M_block_12 (by decide) ?_
    refine z_goto E 17 d_M_block_13 (by decide) ?_
    refine z_iconst E (v := nI 1) d_M_block_17 (by decide) ?_
    refine mm_calli E [.int (nI 1), .int (nI 1)] (c_fails1 l D cA a M (nI 1)) kv_M_56 rfl rfl (by decide) (Nat.le_of_ble_eq_true rfl) (by decide) d_M_block_18 (fun r M1 hp => ?_)
    obtain ⟨rfl, rfl⟩ := hp
    refine z_if_eq E 26 d_M_block_21 (by decide) (fun h21 => ?_) (fun h21 => ?_)
    · exact absurd h21 (by decide)
    · refine z_iconst E (v := nI 0) d_M_block_24 (by decide) ?_
      refine z_iret E hr ?_ (by decide) (by decide) d_M_block_25
      exact ⟨rfl, rfl⟩
  · refine z_iload_n E 1 d_M_block_5 rfl rfl ?_
    refine z_sipush E (v := nI 8192) d_M_block_6 (by decide) ?_
    refine z_icmp_lt E 16 d_M_block_9 (by decide) (fun h9 => ?_) (fun h9 => ?_)
    · rw [i_lt (by omega)] at h9
      rw [Int32.lt_iff_toInt_lt] at h2
      rcases hx with h | h
      · exact absurd h h2
      · exact absurd h9 (by omega)
    · refine z_iconst E (v := nI 1) d_M_block_12 (by decide) ?_
      refine z_goto E 17 d_M_block_13 (by decide) ?_
      refine z_iconst E (v := nI 1) d_M_block_17 (by decide) ?_
      refine mm_calli E [.int (nI 1), .int (nI 1)] (c_fails1 l D cA a M (nI 1)) kv_M_56 rfl rfl (by decide) (Nat.le_of_ble_eq_true rfl) (by decide) d_M_block_18 (fun r M1 hp => ?_)
      obtain ⟨rfl, rfl⟩ := hp
      refine z_if_eq E 26 d_M_block_21 (by decide) (fun h21 => ?_) (fun h21 => ?_)
      · exact absurd h21 (by decide)
      · refine z_iconst E (v := nI 0) d_M_block_24 (by decide) ?_
        refine z_iret E hr ?_ (by decide) (by decide) d_M_block_25
        exact ⟨rfl, rfl⟩
theorem hlive_mid {h : zmap} {X : Nat} (ho : hO h) (h1 : hlive h X) (h3 : hlive h (X + 3)) : ∀ i, i < 4 → hlive h (X + i) := by
  obtain ⟨y, q, a1, a2, a3⟩ := h1
  obtain ⟨z, r, b1, b2, b3⟩ := h3
  have t1 := tk_ge q
  have t2 := tk_ge r
  have : y = z := by
    rcases Nat.lt_trichotomy y z with h4 | h4 | h4
    · have := ho.2 y z _ _ a1 b1 h4; dsimp only at this; omega
    · exact h4
    · have := ho.2 z y _ _ b1 a1 h4; dsimp only at this; omega
  subst this
  rw [a1] at b1
  cases b1
  exact fun i hi => ⟨y, q, a1, by omega, by omega⟩
theorem c_bad0 (l : Launch) (D : va_G) (cA : Nat → ClassId) (a : Nat → Nat) (M : zmem) (h : zmap) (g : Nat) (hi : mInv M h g) (X : Nat) (hX : X ≤ 8188) (h1 : hlive h X) (h3 : hlive h (X + 3)) : zMi l y_M_bad b_M_bad 3 .boolean (rmk 1) D zcl (ztys cA) (mw a cA) [.ref (a 0), .int (nI X)] M (fun r M' => M' = zu M 7 0 (nI 0) ∧ r = nI 0) := by
  refine zMi.of (own := "ZoneHeapModel") (by decide) rfl (Nat.le_of_ble_eq_true rfl) (by simp [Value.category]) ?_
  intro p e s m args below meth c A E hr hex
  obtain ⟨n, pl, sz, st, hp0⟩ := hi
  have h256 := hp0.few
  have hmid := hlive_mid hp0.2.2.2.1 h1 h3
  refine z_aload_n E 0 d_M_bad_0 rfl rfl ?_
  refine z_iload_n E 1 d_M_bad_1 rfl rfl ?_
  refine z_if_lt E 12 d_M_bad_2 (by decide) (fun h2 => ?_) (fun h2 => ?_)
  · exact absurd h2 (nI_pos (by omega))
  · refine z_iload_n E 1 d_M_bad_5 rfl rfl ?_
    refine z_sipush E (v := nI 8188) d_M_bad_6 (by decide) ?_
    refine z_icmp_le E 16 d_M_bad_9 (by decide) (fun h9 => ?_) (fun h9 => ?_)
    · refine z_iconst E (v := nI 0) d_M_bad_16 (by decide) ?_
      refine z_iconst E (v := nI 1) d_M_bad_17 (by decide) ?_
      refine mm_calli E [.int (nI 0), .int (nI 1)] (c_fails0 l D cA a M (nI 1)) kv_M_56 rfl rfl (by decide) (Nat.le_of_ble_eq_true rfl) (by decide) d_M_bad_18 (fun r M1 hp => ?_)
      obtain ⟨rfl, rfl⟩ := hp
      refine z_if_eq E 26 d_M_bad_21 (by decide) (fun h21 => ?_) (fun h21 => ?_)
      · refine z_iconst E (v := nI 0) d_M_bad_26 (by decide) ?_
        refine z_istore_n E 2 d_M_bad_27 rfl (by decide) ?_
        refine z_lp (ι := Nat) (fun k => 4 - k) (fun k => k ≤ 4 ∧ ∀ i, i < k → hlive h (X + i)) (fun k => [some (.ref (a 0)), some (.int (nI X)), some (.int (nI k))]) (fun _ => (zu M 7 0 (nI 0))) ?_ 0 ⟨by omega, fun i hi => absurd hi (Nat.not_lt_zero i)⟩ (by repeat' first | exact trivial | refine ⟨rfl, ?_⟩)
        rintro k ⟨z1, z2⟩ ih
        refine z_iload_n E 2 d_M_bad_28 rfl rfl ?_
        refine z_iconst E (v := nI 4) d_M_bad_29 (by decide) ?_
        refine z_icmp_ge E 65 d_M_bad_30 (by decide) (fun h30 => ?_) (fun h30 => ?_)
        · have h30 := (nI_leI (by omega) (by omega)).mp h30
          refine z_iconst E (v := nI 0) d_M_bad_65 (by decide) ?_
          refine z_zret E hr (Or.inl rfl) ?_ (by decide) (by decide) d_M_bad_66
          exact ⟨rfl, rfl⟩
        · have h30 : k < 4 := by have := mt (nI_leI (by omega) (by omega)).mpr h30; omega
          refine z_aload_n E 0 d_M_bad_33 rfl rfl ?_
          refine z_aload_n E 0 d_M_bad_34 rfl rfl ?_
          refine z_iload_n E 1 d_M_bad_35 rfl rfl ?_
          refine z_iload_n E 2 d_M_bad_36 rfl rfl ?_
          refine z_iadd E d_M_bad_37 ?_
          refine z_top (nI_add _ _) ?_
          refine z_iconst E (v := nI 1) d_M_bad_38 (by decide) ?_
          refine mm_calli E [.int (nI (X + k)), .int (nI 1)] (c_of1 l D cA a (zu M 7 0 (nI 0)) n pl sz st h g (hp0.congr rfl rfl rfl rfl rfl rfl) (X + k) (by omega)) kv_M_71 rfl rfl (by decide) (Nat.le_of_ble_eq_true rfl) (by decide) d_M_bad_39 (fun r M1 hp => ?_)
          obtain ⟨hM1, ⟨k1, hk1, rfl, hs, hi1, hi2⟩ | ⟨rfl, hno⟩⟩ := hp <;> subst M1
          · refine z_if_ge E 49 d_M_bad_42 (by decide) (fun h42 => ?_) (fun h42 => ?_)
            · refine z_iconst E (v := nI 0) d_M_bad_49 (by decide) ?_
              refine z_iconst E (v := nI 2) d_M_bad_50 (by decide) ?_
              refine mm_calli E [.int (nI 0), .int (nI 2)] (c_fails0 l D cA a (zu M 7 0 (nI 0)) (nI 2)) kv_M_56 rfl rfl (by decide) (Nat.le_of_ble_eq_true rfl) (by decide) d_M_bad_51 (fun r M1 hp => ?_)
              obtain ⟨rfl, rfl⟩ := hp
              rw [zu_zu]
              refine z_if_eq E 59 d_M_bad_54 (by decide) (fun h54 => ?_) (fun h54 => ?_)
              · refine z_iinc E (v := nI (k + 1)) d_M_bad_59 rfl (nI_1 k) (by decide) ?_
                refine z_goto E 28 d_M_bad_62 (by decide) ?_
                refine ih (k + 1) _ ⟨by omega, fun i hi => ?_⟩ (by omega) (by repeat' first | exact trivial | refine ⟨rfl, ?_⟩)
                by_cases hik : i = k
                · rw [hik]; exact ⟨pl k1, sz k1, by rw [← hs]; exact hp0.2.2.1.1 k1 hk1, hi1, hi2⟩
                · exact z2 i (by omega)
              · exact absurd rfl h54
            · exact absurd (nI_pos' (by omega)) h42
          · exact absurd (hmid k h30) hno
      · exact absurd rfl h21
    · exact absurd ((nI_leI (by omega) (by omega)).mpr hX) h9
theorem c_bad2 (l : Launch) (D : va_G) (cA : Nat → ClassId) (a : Nat → Nat) (M : zmem) (h : zmap) (g : Nat) (hi : mInv M h g) (X : Nat) (hX : X ≤ 8188) (h1 : ¬ (hlive h X ∧ hlive h (X + 3))) : zMi l y_M_bad b_M_bad 3 .boolean (rmk 1) D zcl (ztys cA) (mw a cA) [.ref (a 0), .int (nI X)] M (fun r M' => M' = zu M 7 0 (nI 2) ∧ r = nI 1) := by
  refine zMi.of (own := "ZoneHeapModel") (by decide) rfl (Nat.le_of_ble_eq_true rfl) (by simp [Value.category]) ?_
  intro p e s m args below meth c A E hr hex
  obtain ⟨n, pl, sz, st, hp0⟩ := hi
  have h256 := hp0.few
  refine z_aload_n E 0 d_M_bad_0 rfl rfl ?_
  refine z_iload_n E 1 d_M_bad_1 rfl rfl ?_
  refine z_if_lt E 12 d_M_bad_2 (by decide) (fun h2 => ?_) (fun h2 => ?_)
  · exact absurd h2 (nI_pos (by omega))
  · refine z_iload_n E 1 d_M_bad_5 rfl rfl ?_
    refine z_sipush E (v := nI 8188) d_M_bad_6 (by decide) ?_
    refine z_icmp_le E 16 d_M_bad_9 (by decide) (fun h9 => ?_) (fun h9 => ?_)
    · refine z_iconst E (v := nI 0) d_M_bad_16 (by decide) ?_
      refine z_iconst E (v := nI 1) d_M_bad_17 (by decide) ?_
      refine mm_calli E [.int (nI 0), .int (nI 1)] (c_fails0 l D cA a M (nI 1)) kv_M_56 rfl rfl (by decide) (Nat.le_of_ble_eq_true rfl) (by decide) d_M_bad_18 (fun r M1 hp => ?_)
      obtain ⟨rfl, rfl⟩ := hp
      refine z_if_eq E 26 d_M_bad_21 (by decide) (fun h21 => ?_) (fun h21 => ?_)
      · refine z_iconst E (v := nI 0) d_M_bad_26 (by decide) ?_
        refine z_istore_n E 2 d_M_bad_27 rfl (by decide) ?_
        refine z_lp (ι := Nat) (fun k => 4 - k) (fun k => k ≤ 4 ∧ ∀ i, i < k → hlive h (X + i)) (fun k => [some (.ref (a 0)), some (.int (nI X)), some (.int (nI k))]) (fun _ => (zu M 7 0 (nI 0))) ?_ 0 ⟨by omega, fun i hi => absurd hi (Nat.not_lt_zero i)⟩ (by repeat' first | exact trivial | refine ⟨rfl, ?_⟩)
        rintro k ⟨z1, z2⟩ ih
        refine z_iload_n E 2 d_M_bad_28 rfl rfl ?_
        refine z_iconst E (v := nI 4) d_M_bad_29 (by decide) ?_
        refine z_icmp_ge E 65 d_M_bad_30 (by decide) (fun h30 => ?_) (fun h30 => ?_)
        · have h30 := (nI_leI (by omega) (by omega)).mp h30
          exact absurd ⟨z2 0 (by omega), z2 3 (by omega)⟩ h1
        · have h30 : k < 4 := by have := mt (nI_leI (by omega) (by omega)).mpr h30; omega
          refine z_aload_n E 0 d_M_bad_33 rfl rfl ?_
          refine z_aload_n E 0 d_M_bad_34 rfl rfl ?_
          refine z_iload_n E 1 d_M_bad_35 rfl rfl ?_
          refine z_iload_n E 2 d_M_bad_36 rfl rfl ?_
          refine z_iadd E d_M_bad_37 ?_
          refine z_top (nI_add _ _) ?_
          refine z_iconst E (v := nI 1) d_M_bad_38 (by decide) ?_
          refine mm_calli E [.int (nI (X + k)), .int (nI 1)] (c_of1 l D cA a (zu M 7 0 (nI 0)) n pl sz st h g (hp0.congr rfl rfl rfl rfl rfl rfl) (X + k) (by omega)) kv_M_71 rfl rfl (by decide) (Nat.le_of_ble_eq_true rfl) (by decide) d_M_bad_39 (fun r M1 hp => ?_)
          obtain ⟨hM1, ⟨k1, hk1, rfl, hs, hi1, hi2⟩ | ⟨rfl, hno⟩⟩ := hp <;> subst M1
          · refine z_if_ge E 49 d_M_bad_42 (by decide) (fun h42 => ?_) (fun h42 => ?_)
            · refine z_iconst E (v := nI 0) d_M_bad_49 (by decide) ?_
              refine z_iconst E (v := nI 2) d_M_bad_50 (by decide) ?_
              refine mm_calli E [.int (nI 0), .int (nI 2)] (c_fails0 l D cA a (zu M 7 0 (nI 0)) (nI 2)) kv_M_56 rfl rfl (by decide) (Nat.le_of_ble_eq_true rfl) (by decide) d_M_bad_51 (fun r M1 hp => ?_)
              obtain ⟨rfl, rfl⟩ := hp
              rw [zu_zu]
              refine z_if_eq E 59 d_M_bad_54 (by decide) (fun h54 => ?_) (fun h54 => ?_)
              · refine z_iinc E (v := nI (k + 1)) d_M_bad_59 rfl (nI_1 k) (by decide) ?_
                refine z_goto E 28 d_M_bad_62 (by decide) ?_
                refine ih (k + 1) _ ⟨by omega, fun i hi => ?_⟩ (by omega) (by repeat' first | exact trivial | refine ⟨rfl, ?_⟩)
                by_cases hik : i = k
                · rw [hik]; exact ⟨pl k1, sz k1, by rw [← hs]; exact hp0.2.2.1.1 k1 hk1, hi1, hi2⟩
                · exact z2 i (by omega)
              · exact absurd rfl h54
            · exact absurd (nI_pos' (by omega)) h42
          · refine z_if_ge E 49 d_M_bad_42 (by decide) (fun h42 => ?_) (fun h42 => ?_)
            · exact absurd h42 (by decide)
            · refine z_iconst E (v := nI 1) d_M_bad_45 (by decide) ?_
              refine z_goto E 50 d_M_bad_46 (by decide) ?_
              refine z_iconst E (v := nI 2) d_M_bad_50 (by decide) ?_
              refine mm_calli E [.int (nI 1), .int (nI 2)] (c_fails1 l D cA a (zu M 7 0 (nI 0)) (nI 2)) kv_M_56 rfl rfl (by decide) (Nat.le_of_ble_eq_true rfl) (by decide) d_M_bad_51 (fun r M1 hp => ?_)
              obtain ⟨rfl, rfl⟩ := hp
              rw [zu_zu]
              refine z_if_eq E 59 d_M_bad_54 (by decide) (fun h54 => ?_) (fun h54 => ?_)
              · exact absurd h54 (by decide)
              · refine z_iconst E (v := nI 1) d_M_bad_57 (by decide) ?_
                refine z_zret E hr (Or.inr rfl) ?_ (by decide) (by decide) d_M_bad_58
                exact ⟨rfl, rfl⟩
      · exact absurd rfl h21
    · exact absurd ((nI_leI (by omega) (by omega)).mpr hX) h9
theorem c_bad1 (l : Launch) (D : va_G) (cA : Nat → ClassId) (a : Nat → Nat) (M : zmem) (x : Int32) (hx : x.toInt < 0 ∨ 8188 < x.toInt) : zMi l y_M_bad b_M_bad 3 .boolean (rmk 1) D zcl (ztys cA) (mw a cA) [.ref (a 0), .int x] M (fun r M' => M' = zu M 7 0 (nI 1) ∧ r = nI 1) := by
  refine zMi.of (own := "ZoneHeapModel") (by decide) rfl (Nat.le_of_ble_eq_true rfl) (by simp [Value.category]) ?_
  intro p e s m args below meth c A E hr hex
  refine z_aload_n E 0 d_M_bad_0 rfl rfl ?_
  refine z_iload_n E 1 d_M_bad_1 rfl rfl ?_
  refine z_if_lt E 12 d_M_bad_2 (by decide) (fun h2 => ?_) (fun h2 => ?_)
  · refine z_iconst E (v := nI 1) d_M_bad_12 (by decide) ?_
    refine z_goto E 17 d_M_bad_13 (by decide) ?_
    refine z_iconst E (v := nI 1) d_M_bad_17 (by decide) ?_
    refine mm_calli E [.int (nI 1), .int (nI 1)] (c_fails1 l D cA a M (nI 1)) kv_M_56 rfl rfl (by decide) (Nat.le_of_ble_eq_true rfl) (by decide) d_M_bad_18 (fun r M1 hp => ?_)
    obtain ⟨rfl, rfl⟩ := hp
    refine z_if_eq E 26 d_M_bad_21 (by decide) (fun h21 => ?_) (fun h21 => ?_)
    · exact absurd h21 (by decide)
    · refine z_iconst E (v := nI 1) d_M_bad_24 (by decide) ?_
      refine z_zret E hr (Or.inr rfl) ?_ (by decide) (by decide) d_M_bad_25
      exact ⟨rfl, rfl⟩
  · refine z_iload_n E 1 d_M_bad_5 rfl rfl ?_
    refine z_sipush E (v := nI 8188) d_M_bad_6 (by decide) ?_
    refine z_icmp_le E 16 d_M_bad_9 (by decide) (fun h9 => ?_) (fun h9 => ?_)
    · rw [i_le (by omega)] at h9
      rw [Int32.lt_iff_toInt_lt] at h2
      rcases hx with h | h
      · exact absurd h h2
      · exact absurd h9 (by omega)
    · refine z_iconst E (v := nI 1) d_M_bad_12 (by decide) ?_
      refine z_goto E 17 d_M_bad_13 (by decide) ?_
      refine z_iconst E (v := nI 1) d_M_bad_17 (by decide) ?_
      refine mm_calli E [.int (nI 1), .int (nI 1)] (c_fails1 l D cA a M (nI 1)) kv_M_56 rfl rfl (by decide) (Nat.le_of_ble_eq_true rfl) (by decide) d_M_bad_18 (fun r M1 hp => ?_)
      obtain ⟨rfl, rfl⟩ := hp
      refine z_if_eq E 26 d_M_bad_21 (by decide) (fun h21 => ?_) (fun h21 => ?_)
      · exact absurd h21 (by decide)
      · refine z_iconst E (v := nI 1) d_M_bad_24 (by decide) ?_
        refine z_zret E hr (Or.inr rfl) ?_ (by decide) (by decide) d_M_bad_25
        exact ⟨rfl, rfl⟩
def wMd (f : Nat → Int32) (p : Nat) : Int32 := ((f p ||| (f (p + 1) <<< (nI 8 &&& 31))) ||| (f (p + 2) <<< (nI 16 &&& 31))) ||| (f (p + 3) <<< (nI 24 &&& 31))
def wMb (v : Int32) (j : Nat) : Int32 := (v >>> (nI 8 * nI j &&& 31)) &&& nI 255
theorem c_mword (l : Launch) (D : va_G) (cA : Nat → ClassId) (a : Nat → Nat) (M : zmem) (X : Nat) (hX : X + 3 < 8192) : zMi l y_M_word b_M_word 2 .int (rmk 0) D zcl (ztys cA) (mw a cA) [.ref (a 0), .int (nI X)] M (fun r M' => M' = M ∧ r = wMd (M 0) X) := by
  refine zMi.of (own := "ZoneHeapModel") (by decide) rfl (Nat.le_of_ble_eq_true rfl) (by simp [Value.category]) ?_
  intro p e s m args below meth c A E hr hex
  refine z_aload_n E 0 d_M_word_0 rfl rfl ?_
  refine mm_get E 1 (by decide) fl_M_7 rfl rfl d_M_word_1 ?_
  refine z_iload_n E 1 d_M_word_4 rfl rfl ?_
  refine zn_iald E 1 1 rfl rfl (_) (rfl) (by omega) (by decide) d_M_word_5 ?_
  refine z_aload_n E 0 d_M_word_6 rfl rfl ?_
  refine mm_get E 1 (by decide) fl_M_7 rfl rfl d_M_word_7 ?_
  refine z_iload_n E 1 d_M_word_10 rfl rfl ?_
  refine z_iconst E (v := nI 1) d_M_word_11 (by decide) ?_
  refine z_iadd E d_M_word_12 ?_
  refine z_top (nI_add _ _) ?_
  refine zn_iald E 1 1 rfl rfl (_) (rfl) (by omega) (by decide) d_M_word_13 ?_
  refine z_bipush E (v := nI 8) d_M_word_14 (by decide) ?_
  refine z_ishl E d_M_word_16 ?_
  refine z_ior E d_M_word_17 ?_
  refine z_aload_n E 0 d_M_word_18 rfl rfl ?_
  refine mm_get E 1 (by decide) fl_M_7 rfl rfl d_M_word_19 ?_
  refine z_iload_n E 1 d_M_word_22 rfl rfl ?_
  refine z_iconst E (v := nI 2) d_M_word_23 (by decide) ?_
  refine z_iadd E d_M_word_24 ?_
  refine z_top (nI_add _ _) ?_
  refine zn_iald E 1 1 rfl rfl (_) (rfl) (by omega) (by decide) d_M_word_25 ?_
  refine z_bipush E (v := nI 16) d_M_word_26 (by decide) ?_
  refine z_ishl E d_M_word_28 ?_
  refine z_ior E d_M_word_29 ?_
  refine z_aload_n E 0 d_M_word_30 rfl rfl ?_
  refine mm_get E 1 (by decide) fl_M_7 rfl rfl d_M_word_31 ?_
  refine z_iload_n E 1 d_M_word_34 rfl rfl ?_
  refine z_iconst E (v := nI 3) d_M_word_35 (by decide) ?_
  refine z_iadd E d_M_word_36 ?_
  refine z_top (nI_add _ _) ?_
  refine zn_iald E 1 1 rfl rfl (_) (rfl) (by omega) (by decide) d_M_word_37 ?_
  refine z_bipush E (v := nI 24) d_M_word_38 (by decide) ?_
  refine z_ishl E d_M_word_40 ?_
  refine z_ior E d_M_word_41 ?_
  refine z_iret E hr ?_ (by decide) (by decide) d_M_word_42
  exact ⟨rfl, rfl⟩
theorem c_mwrite (l : Launch) (D : va_G) (cA : Nat → ClassId) (a : Nat → Nat) (M : zmem) (h : zmap) (g : Nat) (hi : mInv M h g) (X : Nat) (hX : X ≤ 8188) (h1 : hlive h X) (h3 : hlive h (X + 3)) (v : Int32) : zMv l y_M_write b_M_write 4 (rmk 2) D zcl (ztys cA) (mw a cA) [.ref (a 0), .int (nI X), .int v] M (fun M' => (∀ r, r ≠ 0 → M' r = (zu M 7 0 (nI 0)) r) ∧ ∀ i, M' 0 i = if X ≤ i ∧ i < X + 4 then wMb v (i - X) else M 0 i) := by
  refine zMv.of (own := "ZoneHeapModel") (by decide) rfl (Nat.le_of_ble_eq_true rfl) (by simp [Value.category]) ?_
  intro p e s m args below meth c A E hr hex
  refine z_aload_n E 0 d_M_write_0 rfl rfl ?_
  refine z_iload_n E 1 d_M_write_1 rfl rfl ?_
  refine mm_calli E [.int (nI X)] (c_bad0 l D cA a M h g hi X hX h1 h3) kv_M_74 rfl rfl (by decide) (Nat.le_of_ble_eq_true rfl) (by decide) d_M_write_2 (fun r M1 hp => ?_)
  obtain ⟨rfl, rfl⟩ := hp
  refine z_if_eq E 9 d_M_write_5 (by decide) (fun h5 => ?_) (fun h5 => ?_)
  · refine z_iconst E (v := nI 0) d_M_write_9 (by decide) ?_
    refine z_istore_n E 3 d_M_write_10 rfl (by decide) ?_
    refine z_lp (ι := Nat × zmem) (fun y => 4 - y.1) (fun y => y.1 ≤ 4 ∧ (∀ r, r ≠ 0 → y.2 r = (zu M 7 0 (nI 0)) r) ∧ ∀ i, y.2 0 i = if X ≤ i ∧ i < X + y.1 then wMb v (i - X) else M 0 i) (fun y => [some (.ref (a 0)), some (.int (nI X)), some (.int v), some (.int (nI y.1))]) (fun y => y.2) ?_ (0, (zu M 7 0 (nI 0))) ⟨Nat.zero_le _, fun _ _ => rfl, fun i => by dsimp only; rw [if_neg (by omega)]; rfl⟩ (by repeat' first | exact trivial | refine ⟨rfl, ?_⟩)
    rintro ⟨j, M'⟩ ⟨hI1, hI3, hI4⟩ ih
    dsimp only at hI1 hI3 hI4 ih ⊢
    refine z_iload_n E 3 d_M_write_11 rfl rfl ?_
    refine z_iconst E (v := nI 4) d_M_write_12 (by decide) ?_
    refine z_icmp_ge E 40 d_M_write_13 (by decide) (fun h13 => ?_) (fun h13 => ?_)
    · have h13 := (nI_leI (by omega) (by omega)).mp h13
      have : j = 4 := by omega
      subst this
      refine z_vret E hr ?_ (by decide) (by decide) d_M_write_40
      exact ⟨hI3, hI4⟩
    · have h13 : j < 4 := by have := mt (nI_leI (by omega) (by omega)).mpr h13; omega
      refine z_aload_n E 0 d_M_write_16 rfl rfl ?_
      refine mm_get E 1 (by decide) fl_M_7 rfl rfl d_M_write_17 ?_
      refine z_iload_n E 1 d_M_write_20 rfl rfl ?_
      refine z_iload_n E 3 d_M_write_21 rfl rfl ?_
      refine z_iadd E d_M_write_22 ?_
      refine z_top (nI_add _ _) ?_
      refine z_iload_n E 2 d_M_write_23 rfl rfl ?_
      refine z_bipush E (v := nI 8) d_M_write_24 (by decide) ?_
      refine z_iload_n E 3 d_M_write_26 rfl rfl ?_
      refine z_imul E d_M_write_27 ?_
      refine z_ishr E d_M_write_28 ?_
      refine z_sipush E (v := nI 255) d_M_write_29 (by decide) ?_
      refine z_iand E d_M_write_32 ?_
      refine mm_iast E 0 rfl (_) (rfl) (by omega) rfl d_M_write_33 ?_
      refine z_iinc E (v := nI (j + 1)) d_M_write_34 rfl (nI_1 j) (by decide) ?_
      refine z_goto E 11 d_M_write_37 (by decide) ?_
      refine ih (j + 1, zu M' 0 (X + j) (wMb v j)) _ ⟨by dsimp only; omega, fun r hr' => (zu_ne hr').trans (hI3 r hr'), fun i => ?_⟩ (by dsimp only; omega) (by repeat' first | exact trivial | refine ⟨rfl, ?_⟩)
      dsimp only
      rw [zu_same]
      by_cases hij : i = X + j
      · rw [hij, upd_same, if_pos (by omega), show X + j - X = j by omega]
      · rw [upd_ne hij, hI4 i]
        by_cases hc : X ≤ i ∧ i < X + j
        · rw [if_pos hc, if_pos (by omega)]
        · rw [if_neg hc, if_neg (by omega)]
  · exact absurd rfl h5
theorem c_mwrite_s (l : Launch) (D : va_G) (cA : Nat → ClassId) (a : Nat → Nat) (M : zmem) (h : zmap) (g : Nat) (hi : mInv M h g) (X : Nat) (hX : X ≤ 8188) (h1 : ¬ (hlive h X ∧ hlive h (X + 3))) (v : Int32) : zMv l y_M_write b_M_write 4 (rmk 2) D zcl (ztys cA) (mw a cA) [.ref (a 0), .int (nI X), .int v] M (fun M' => M' = zu M 7 0 (nI 2)) := by
  refine zMv.of (own := "ZoneHeapModel") (by decide) rfl (Nat.le_of_ble_eq_true rfl) (by simp [Value.category]) ?_
  intro p e s m args below meth c A E hr hex
  refine z_aload_n E 0 d_M_write_0 rfl rfl ?_
  refine z_iload_n E 1 d_M_write_1 rfl rfl ?_
  refine mm_calli E [.int (nI X)] (c_bad2 l D cA a M h g hi X hX h1) kv_M_74 rfl rfl (by decide) (Nat.le_of_ble_eq_true rfl) (by decide) d_M_write_2 (fun r M1 hp => ?_)
  obtain ⟨rfl, rfl⟩ := hp
  refine z_if_eq E 9 d_M_write_5 (by decide) (fun h5 => ?_) (fun h5 => ?_)
  · exact absurd h5 (by decide)
  · refine z_vret E hr ?_ (by decide) (by decide) d_M_write_8
    rfl
theorem c_mread_s (l : Launch) (D : va_G) (cA : Nat → ClassId) (a : Nat → Nat) (M : zmem) (h : zmap) (g : Nat) (hi : mInv M h g) (X : Nat) (hX : X ≤ 8188) (h1 : ¬ (hlive h X ∧ hlive h (X + 3))) : zMi l y_M_read b_M_read 2 .int (rmk 2) D zcl (ztys cA) (mw a cA) [.ref (a 0), .int (nI X)] M (fun r M' => M' = zu M 7 0 (nI 2) ∧ r = nI 0) := by
  refine zMi.of (own := "ZoneHeapModel") (by decide) rfl (Nat.le_of_ble_eq_true rfl) (by simp [Value.category]) ?_
  intro p e s m args below meth c A E hr hex
  refine z_aload_n E 0 d_M_read_0 rfl rfl ?_
  refine z_iload_n E 1 d_M_read_1 rfl rfl ?_
  refine mm_calli E [.int (nI X)] (c_bad2 l D cA a M h g hi X hX h1) kv_M_74 rfl rfl (by decide) (Nat.le_of_ble_eq_true rfl) (by decide) d_M_read_2 (fun r M1 hp => ?_)
  obtain ⟨rfl, rfl⟩ := hp
  refine z_if_eq E 12 d_M_read_5 (by decide) (fun h5 => ?_) (fun h5 => ?_)
  · exact absurd h5 (by decide)
  · refine z_iconst E (v := nI 0) d_M_read_8 (by decide) ?_
    refine z_goto E 17 d_M_read_9 (by decide) ?_
    refine z_iret E hr ?_ (by decide) (by decide) d_M_read_17
    exact ⟨rfl, rfl⟩
theorem c_mwrite_t (l : Launch) (D : va_G) (cA : Nat → ClassId) (a : Nat → Nat) (M : zmem) (x : Int32) (hx : x.toInt < 0 ∨ 8188 < x.toInt) (v : Int32) : zMv l y_M_write b_M_write 4 (rmk 2) D zcl (ztys cA) (mw a cA) [.ref (a 0), .int x, .int v] M (fun M' => M' = zu M 7 0 (nI 1)) := by
  refine zMv.of (own := "ZoneHeapModel") (by decide) rfl (Nat.le_of_ble_eq_true rfl) (by simp [Value.category]) ?_
  intro p e s m args below meth c A E hr hex
  refine z_aload_n E 0 d_M_write_0 rfl rfl ?_
  refine z_iload_n E 1 d_M_write_1 rfl rfl ?_
  refine mm_calli E [.int x] (c_bad1 l D cA a M x hx) kv_M_74 rfl rfl (by decide) (Nat.le_of_ble_eq_true rfl) (by decide) d_M_write_2 (fun r M1 hp => ?_)
  obtain ⟨rfl, rfl⟩ := hp
  refine z_if_eq E 9 d_M_write_5 (by decide) (fun h5 => ?_) (fun h5 => ?_)
  · exact absurd h5 (by decide)
  · refine z_vret E hr ?_ (by decide) (by decide) d_M_write_8
    rfl
theorem c_mread_t (l : Launch) (D : va_G) (cA : Nat → ClassId) (a : Nat → Nat) (M : zmem) (x : Int32) (hx : x.toInt < 0 ∨ 8188 < x.toInt) : zMi l y_M_read b_M_read 2 .int (rmk 2) D zcl (ztys cA) (mw a cA) [.ref (a 0), .int x] M (fun r M' => M' = zu M 7 0 (nI 1) ∧ r = nI 0) := by
  refine zMi.of (own := "ZoneHeapModel") (by decide) rfl (Nat.le_of_ble_eq_true rfl) (by simp [Value.category]) ?_
  intro p e s m args below meth c A E hr hex
  refine z_aload_n E 0 d_M_read_0 rfl rfl ?_
  refine z_iload_n E 1 d_M_read_1 rfl rfl ?_
  refine mm_calli E [.int x] (c_bad1 l D cA a M x hx) kv_M_74 rfl rfl (by decide) (Nat.le_of_ble_eq_true rfl) (by decide) d_M_read_2 (fun r M1 hp => ?_)
  obtain ⟨rfl, rfl⟩ := hp
  refine z_if_eq E 12 d_M_read_5 (by decide) (fun h5 => ?_) (fun h5 => ?_)
  · exact absurd h5 (by decide)
  · refine z_iconst E (v := nI 0) d_M_read_8 (by decide) ?_
    refine z_goto E 17 d_M_read_9 (by decide) ?_
    refine z_iret E hr ?_ (by decide) (by decide) d_M_read_17
    exact ⟨rfl, rfl⟩
theorem c_mread (l : Launch) (D : va_G) (cA : Nat → ClassId) (a : Nat → Nat) (M : zmem) (h : zmap) (g : Nat) (hi : mInv M h g) (X : Nat) (hX : X ≤ 8188) (h1 : hlive h X) (h3 : hlive h (X + 3)) : zMi l y_M_read b_M_read 2 .int (rmk 2) D zcl (ztys cA) (mw a cA) [.ref (a 0), .int (nI X)] M (fun r M' => M' = zu M 7 0 (nI 0) ∧ r = wMd (M 0) X) := by
  refine zMi.of (own := "ZoneHeapModel") (by decide) rfl (Nat.le_of_ble_eq_true rfl) (by simp [Value.category]) ?_
  intro p e s m args below meth c A E hr hex
  refine z_aload_n E 0 d_M_read_0 rfl rfl ?_
  refine z_iload_n E 1 d_M_read_1 rfl rfl ?_
  refine mm_calli E [.int (nI X)] (c_bad0 l D cA a M h g hi X hX h1 h3) kv_M_74 rfl rfl (by decide) (Nat.le_of_ble_eq_true rfl) (by decide) d_M_read_2 (fun r M1 hp => ?_)
  obtain ⟨rfl, rfl⟩ := hp
  refine z_if_eq E 12 d_M_read_5 (by decide) (fun h5 => ?_) (fun h5 => ?_)
  · refine z_aload_n E 0 d_M_read_12 rfl rfl ?_
    refine z_iload_n E 1 d_M_read_13 rfl rfl ?_
    refine mm_calli E [.int (nI X)] (c_mword l D cA a (zu M 7 0 (nI 0)) X (by omega)) kv_M_78 rfl rfl (by decide) (Nat.le_of_ble_eq_true rfl) (by decide) d_M_read_14 (fun r M1 hp => ?_)
    obtain ⟨hM1, rfl⟩ := hp
    subst M1
    refine z_iret E hr ?_ (by decide) (by decide) d_M_read_17
    exact ⟨rfl, rfl⟩
  · exact absurd rfl h5
end
section
/-! ZoneHeapModel: leads, touch, lost -/
def bI : Bool → Int32
  | true => nI 1
  | false => nI 0
theorem bI_or (b c : Bool) : bI b ||| bI c = bI (b || c) := by cases b <;> cases c <;> decide
theorem bI_0 {b : Bool} : bI b = 0 ↔ b = false := by cases b <;> simp [bI] <;> decide
theorem mldt {M : zmem} {n k g : Nat} {pl sz : Nat → Nat} {st : Nat → Option Nat} {h : zmap} {v : Int32} (hp0 : mPic M n pl sz st h g) (hk : k < n) (hl : ldt h v (pl k)) : st k = none ∧ (v.toInt = (pl k : Int) ∨ ((pl k : Int) ≤ v.toInt ∧ v.toInt < (pl k : Int) + sz k)) := by
  obtain ⟨q, h1, h2⟩ := hl
  have e := hp0.2.2.1.1 k hk
  rw [h1] at e
  have e1 := (Prod.mk.inj (Option.some.inj e)).1
  subst e1
  exact ⟨(Prod.mk.inj (Option.some.inj e)).2.symm, h2⟩
theorem c_mleads (l : Launch) (D : va_G) (cA : Nat → ClassId) (a : Nat → Nat) (M : zmem) (n : Nat) (pl sz : Nat → Nat) (st : Nat → Option Nat) (h : zmap) (g : Nat) (hp0 : mPic M n pl sz st h g) (v : Int32) : zMi l y_M_leads b_M_leads 3 .int (rmk 0) D zcl (ztys cA) (mw a cA) [.ref (a 0), .int v] M (fun r M' => M' = M ∧ ((∃ k, k < n ∧ r = nI k ∧ ldt h v (pl k)) ∨ (r = -1 ∧ ∀ k, k < n → ¬ ldt h v (pl k)))) := by
  refine zMi.of (own := "ZoneHeapModel") (by decide) rfl (Nat.le_of_ble_eq_true rfl) (by simp [Value.category]) ?_
  intro p e s m args below meth c A E hr hex
  have h256 := hp0.few
  refine z_iconst E (v := nI 0) d_M_leads_0 (by decide) ?_
  refine z_istore_n E 2 d_M_leads_1 rfl (by decide) ?_
  refine z_lp (ι := Nat) (fun k => n - k) (fun k => k ≤ n ∧ ∀ i, i < k → ¬ ldt h v (pl i)) (fun k => [some (.ref (a 0)), some (.int v), some (.int (nI k))]) (fun _ => M) ?_ 0 ⟨Nat.zero_le _, fun i hi => absurd hi (Nat.not_lt_zero i)⟩ (by repeat' first | exact trivial | refine ⟨rfl, ?_⟩)
  rintro k ⟨h1, h2⟩ ih
  refine z_iload_n E 2 d_M_leads_2 rfl rfl ?_
  refine z_aload_n E 0 d_M_leads_3 rfl rfl ?_
  refine mm_get E 8 (by decide) fl_M_40 rfl rfl d_M_leads_4 ?_
  refine z_top hp0.1.1 ?_
  refine z_icmp_ge E 65 d_M_leads_7 (by decide) (fun h7 => ?_) (fun h7 => ?_)
  · have h7 := (nI_leI (by omega) (by omega)).mp h7
    have : k = n := by omega
    subst this
    refine z_iconst E (v := (-1 : Int32)) d_M_leads_65 (by decide) ?_
    refine z_iret E hr ?_ (by decide) (by decide) d_M_leads_66
    exact ⟨rfl, Or.inr ⟨rfl, h2⟩⟩
  · have h7 : k < n := by have := mt (nI_leI (by omega) (by omega)).mpr h7; omega
    have hc := hp0.1.2 k h7
    have hcr := hp0.2.2.1.1 k h7
    refine z_aload_n E 0 d_M_leads_10 rfl rfl ?_
    refine mm_get E 4 (by decide) fl_M_19 rfl rfl d_M_leads_11 ?_
    refine z_iload_n E 2 d_M_leads_14 rfl rfl ?_
    refine zn_iald E 4 1 rfl rfl (_) (rfl) (by omega) (by decide) d_M_leads_15 ?_
    refine z_top hc.2.2.1 ?_
    refine z_iconst E (v := nI 1) d_M_leads_16 (by decide) ?_
    refine z_icmp_ne E 59 d_M_leads_17 (by decide) (fun h17 => ?_) (fun h17 => ?_)
    · have h17 := mt sm_1.mpr h17
      refine z_iinc E (v := nI (k + 1)) d_M_leads_59 rfl (nI_1 k) (by decide) ?_
      refine z_goto E 2 d_M_leads_62 (by decide) ?_
      refine ih (k + 1) _ ⟨by omega, fun i hi hl => ?_⟩ (by omega) (by repeat' first | exact trivial | refine ⟨rfl, ?_⟩)
      by_cases hik : i = k
      · rw [hik] at hl
        obtain ⟨e1, e2⟩ := mldt hp0 h7 hl
        exact absurd e1 h17
      · exact h2 i (by omega) hl
    · have h17 := sm_1.mp h17
      rw [h17] at hcr
      refine z_iload_n E 1 d_M_leads_20 rfl rfl ?_
      refine z_aload_n E 0 d_M_leads_21 rfl rfl ?_
      refine mm_get E 2 (by decide) fl_M_13 rfl rfl d_M_leads_22 ?_
      refine z_iload_n E 2 d_M_leads_25 rfl rfl ?_
      refine zn_iald E 2 1 rfl rfl (_) (rfl) (by omega) (by decide) d_M_leads_26 ?_
      refine z_top hc.1 ?_
      refine z_icmp_eq E 57 d_M_leads_27 (by decide) (fun h27 => ?_) (fun h27 => ?_)
      · have h27 := (i_eq (by omega)).mp h27
        refine z_iload_n E 2 d_M_leads_57 rfl rfl ?_
        refine z_iret E hr ?_ (by decide) (by decide) d_M_leads_58
        exact ⟨rfl, Or.inl ⟨k, h7, rfl, sz k, hcr, Or.inl h27⟩⟩
      · have h27 := mt (i_eq (by omega)).mpr h27
        refine z_iload_n E 1 d_M_leads_30 rfl rfl ?_
        refine z_aload_n E 0 d_M_leads_31 rfl rfl ?_
        refine mm_get E 2 (by decide) fl_M_13 rfl rfl d_M_leads_32 ?_
        refine z_iload_n E 2 d_M_leads_35 rfl rfl ?_
        refine zn_iald E 2 1 rfl rfl (_) (rfl) (by omega) (by decide) d_M_leads_36 ?_
        refine z_top hc.1 ?_
        refine z_icmp_lt E 59 d_M_leads_37 (by decide) (fun h37 => ?_) (fun h37 => ?_)
        · have h37 := (i_lt (by omega)).mp h37
          refine z_iinc E (v := nI (k + 1)) d_M_leads_59 rfl (nI_1 k) (by decide) ?_
          refine z_goto E 2 d_M_leads_62 (by decide) ?_
          refine ih (k + 1) _ ⟨by omega, fun i hi hl => ?_⟩ (by omega) (by repeat' first | exact trivial | refine ⟨rfl, ?_⟩)
          by_cases hik : i = k
          · rw [hik] at hl
            obtain ⟨e1, e2⟩ := mldt hp0 h7 hl
            omega
          · exact h2 i (by omega) hl
        · have h37 := mt (i_lt (by omega)).mpr h37
          refine z_iload_n E 1 d_M_leads_40 rfl rfl ?_
          refine z_aload_n E 0 d_M_leads_41 rfl rfl ?_
          refine mm_get E 2 (by decide) fl_M_13 rfl rfl d_M_leads_42 ?_
          refine z_iload_n E 2 d_M_leads_45 rfl rfl ?_
          refine zn_iald E 2 1 rfl rfl (_) (rfl) (by omega) (by decide) d_M_leads_46 ?_
          refine z_top hc.1 ?_
          refine z_aload_n E 0 d_M_leads_47 rfl rfl ?_
          refine mm_get E 3 (by decide) fl_M_16 rfl rfl d_M_leads_48 ?_
          refine z_iload_n E 2 d_M_leads_51 rfl rfl ?_
          refine zn_iald E 3 1 rfl rfl (_) (rfl) (by omega) (by decide) d_M_leads_52 ?_
          refine z_top hc.2.1 ?_
          refine z_iadd E d_M_leads_53 ?_
          refine z_top (nI_add _ _) ?_
          refine z_icmp_ge E 59 d_M_leads_54 (by decide) (fun h54 => ?_) (fun h54 => ?_)
          · have h54 := (le_i (by omega)).mp h54
            refine z_iinc E (v := nI (k + 1)) d_M_leads_59 rfl (nI_1 k) (by decide) ?_
            refine z_goto E 2 d_M_leads_62 (by decide) ?_
            refine ih (k + 1) _ ⟨by omega, fun i hi hl => ?_⟩ (by omega) (by repeat' first | exact trivial | refine ⟨rfl, ?_⟩)
            by_cases hik : i = k
            · rw [hik] at hl
              obtain ⟨e1, e2⟩ := mldt hp0 h7 hl
              omega
            · exact h2 i (by omega) hl
          · have h54 := mt (le_i (by omega)).mpr h54
            refine z_iload_n E 2 d_M_leads_57 rfl rfl ?_
            refine z_iret E hr ?_ (by decide) (by decide) d_M_leads_58
            exact ⟨rfl, Or.inl ⟨k, h7, rfl, sz k, hcr, Or.inr ⟨by omega, by omega⟩⟩⟩
theorem c_touch (l : Launch) (D : va_G) (cA : Nat → ClassId) (a : Nat → Nat) (M : zmem) (n : Nat) (pl sz : Nat → Nat) (st : Nat → Option Nat) (h : zmap) (g : Nat) (hp0 : mPic M n pl sz st h g) (rc : Nat → Bool) (hrc : ∀ i, i < n → M 5 i = if rc i = true then 1 else 0) (v : Int32) : zMi l y_M_touch b_M_touch 3 .boolean (rmk 1) D zcl (ztys cA) (mw a cA) [.ref (a 0), .int v] M (fun r M' => ∃ b : Bool, r = bI b ∧ ((b = false ∧ M' = M ∧ ∀ k, k < n → ldt h v (pl k) → rc k = true) ∨ (b = true ∧ ∃ k, k < n ∧ ldt h v (pl k) ∧ rc k = false ∧ M' = zu M 5 k 1))) := by
  refine zMi.of (own := "ZoneHeapModel") (by decide) rfl (Nat.le_of_ble_eq_true rfl) (by simp [Value.category]) ?_
  intro p e s m args below meth c A E hr hex
  have h256 := hp0.few
  refine z_aload_n E 0 d_M_touch_0 rfl rfl ?_
  refine z_iload_n E 1 d_M_touch_1 rfl rfl ?_
  refine mm_calli E [.int v] (c_mleads l D cA a M n pl sz st h g hp0 v) kv_M_81 rfl rfl (by decide) (Nat.le_of_ble_eq_true rfl) (by decide) d_M_touch_2 (fun r M1 hp => ?_)
  obtain ⟨hM1, ⟨k, hk, rfl, hl⟩ | ⟨rfl, hno⟩⟩ := hp <;> subst M1
  · refine z_istore_n E 2 d_M_touch_5 rfl (by decide) ?_
    refine z_iload_n E 2 d_M_touch_6 rfl rfl ?_
    refine z_if_lt E 19 d_M_touch_7 (by decide) (fun h7 => ?_) (fun h7 => ?_)
    · exact absurd h7 (nI_pos (by omega))
    · refine z_aload_n E 0 d_M_touch_10 rfl rfl ?_
      refine mm_get E 6 (by decide) fl_M_25 rfl rfl d_M_touch_11 ?_
      refine z_iload_n E 2 d_M_touch_14 rfl rfl ?_
      refine zn_zald E 6 2 rfl rfl (_) (rfl) (by omega) (by decide) d_M_touch_15 ?_
      refine z_top (hrc k hk) ?_
      refine z_if_eq E 21 d_M_touch_16 (by decide) (fun h16 => ?_) (fun h16 => ?_)
      · have h16 : rc k = false := b_live.mp h16
        refine z_aload_n E 0 d_M_touch_21 rfl rfl ?_
        refine mm_get E 6 (by decide) fl_M_25 rfl rfl d_M_touch_22 ?_
        refine z_iload_n E 2 d_M_touch_25 rfl rfl ?_
        refine z_iconst E (v := nI 1) d_M_touch_26 (by decide) ?_
        refine mm_zast E 5 rfl (v := 1) (by decide) (_) (rfl) (by omega) rfl d_M_touch_27 ?_
        refine z_iconst E (v := nI 1) d_M_touch_28 (by decide) ?_
        refine z_zret E hr (Or.inr rfl) ?_ (by decide) (by decide) d_M_touch_29
        exact ⟨true, rfl, Or.inr ⟨rfl, k, hk, hl, h16, rfl⟩⟩
      · have h16 : rc k = true := by have := mt b_live.mpr h16; simpa using this
        refine z_iconst E (v := nI 0) d_M_touch_19 (by decide) ?_
        refine z_zret E hr (Or.inl rfl) ?_ (by decide) (by decide) d_M_touch_20
        refine ⟨false, rfl, Or.inl ⟨rfl, rfl, fun k2 hk2 hl2 => ?_⟩⟩
        rw [hp0.2.1 k2 k hk2 hk (ldt_one hp0.2.2.2.1 hl2 hl)]
        exact h16
  · refine z_istore_n E 2 d_M_touch_5 rfl (by decide) ?_
    refine z_iload_n E 2 d_M_touch_6 rfl rfl ?_
    refine z_if_lt E 19 d_M_touch_7 (by decide) (fun h7 => ?_) (fun h7 => ?_)
    · refine z_iconst E (v := nI 0) d_M_touch_19 (by decide) ?_
      refine z_zret E hr (Or.inl rfl) ?_ (by decide) (by decide) d_M_touch_20
      exact ⟨false, rfl, Or.inl ⟨rfl, rfl, fun k2 hk2 hl2 => absurd hl2 (hno k2 hk2)⟩⟩
    · exact absurd (by decide) h7
def mLJ (N0 N : zmem) (n : Nat) (pl : Nat → Nat) (st : Nat → Option Nat) (h : zmap) (Wd : Nat → Int32) (va vb : Int32) (rc : Nat → Bool) : Prop :=
  (∀ r, r ≠ 5 → N r = N0 r) ∧ (∀ i, i < n → N 5 i = if rc i = true then 1 else 0) ∧ ∀ i, i < n → rc i = true → rch h Wd va vb (pl i) ∧ st i = none
theorem mLJ.touch {N0 N N' : zmem} {n g : Nat} {pl sz : Nat → Nat} {st : Nat → Option Nat} {h : zmap} {Wd : Nat → Int32} {va vb v : Int32} {rc : Nat → Bool} {b : Bool} (hp0 : mPic N0 n pl sz st h g) (hJ : mLJ N0 N n pl st h Wd va vb rc) (hv : ∀ k, k < n → ldt h v (pl k) → rch h Wd va vb (pl k))
    (hp : (b = false ∧ N' = N ∧ ∀ k, k < n → ldt h v (pl k) → rc k = true) ∨ (b = true ∧ ∃ k, k < n ∧ ldt h v (pl k) ∧ rc k = false ∧ N' = zu N 5 k 1)) :
    ∃ rc' : Nat → Bool, mLJ N0 N' n pl st h Wd va vb rc' ∧ (∀ i, rc i = true → rc' i = true) ∧ (∀ k, k < n → ldt h v (pl k) → rc' k = true) ∧ (b = true → cR rc n + 1 ≤ cR rc' n) ∧ (b = false → rc' = rc) ∧ cR rc n ≤ cR rc' n := by
  rcases hp with ⟨rfl, rfl, hall⟩ | ⟨rfl, k, hk, hl, hf, rfl⟩
  · exact ⟨rc, hJ, fun _ hh => hh, hall, (fun hh => by cases hh), fun _ => rfl, Nat.le_refl _⟩
  · obtain ⟨j1, j2, j3⟩ := hJ
    have hc := cR_set hk hf
    have hmono : ∀ i, rc i = true → (if i = k then true else rc i) = true := fun i hi => by by_cases he : i = k <;> simp [he, hi]
    refine ⟨fun i => if i = k then true else rc i, ⟨fun r h5 => (zu_ne h5).trans (j1 r h5), fun i hi => ?_, fun i hi hr => ?_⟩, hmono, fun k' hk' hl' => ?_, fun _ => by omega, (fun hh => by cases hh), by omega⟩
    · rw [zu_same]
      by_cases he : i = k
      · subst he; rw [upd_same]; simp
      · rw [upd_ne he, j2 i hi]; simp [he]
    · by_cases he : i = k
      · subst he; exact ⟨hv i hi hl, (mldt hp0 hi hl).1⟩
      · simp only [if_neg he] at hr; exact j3 i hi hr
    · by_cases he : k' = k
      · simp [he]
      · exact absurd (hp0.2.1 k' k hk' hk (ldt_one hp0.2.2.2.1 hl' hl)) he
theorem mLJ.done {N0 N : zmem} {n : Nat} {pl sz : Nat → Nat} {st : Nat → Option Nat} {h : zmap} {Wd : Nat → Int32} {va vb : Int32} {rc : Nat → Bool} (hrp : rep n pl sz st h) (hcl : ∀ i, i < n → rc i = true → zcl1 n pl sz h Wd rc i) (ha : ∀ k, k < n → ldt h va (pl k) → rc k = true) (hb : ∀ k, k < n → ldt h vb (pl k) → rc k = true) : ∀ i, i < n → rch h Wd va vb (pl i) → ∃ i', i' < n ∧ pl i' = pl i ∧ rc i' = true := by
  intro i hi hr
  refine hr (fun x => ∃ i', i' < n ∧ pl i' = x ∧ rc i' = true) ?_ ?_ ?_
  · rintro y ⟨q, h1, h2⟩
    obtain ⟨k, hk, rfl⟩ := hrp.2 y _ h1
    exact ⟨k, hk, rfl, ha k hk ⟨q, h1, h2⟩⟩
  · rintro y ⟨q, h1, h2⟩
    obtain ⟨k, hk, rfl⟩ := hrp.2 y _ h1
    exact ⟨k, hk, rfl, hb k hk ⟨q, h1, h2⟩⟩
  · rintro y q j z ⟨k, hk, rfl, hrc⟩ hq hj hl
    obtain ⟨k', hk', rfl⟩ := hrp.2 z _ hl.choose_spec.1
    refine ⟨k', hk', rfl, ?_⟩
    have e := hrp.1 k hk
    rw [hq] at e
    have e1 := (Prod.mk.inj (Option.some.inj e)).1
    subst e1
    exact hcl k hk hrc j hj k' hk' hl
theorem sumN_mono {f : Nat → Nat} {a b : Nat} (h : a ≤ b) : sumN f a ≤ sumN f b := by
  induction b with
  | zero => have : a = 0 := by omega
            subst this; exact Nat.le_refl _
  | succ b ih =>
    by_cases he : a = b + 1
    · subst he; exact Nat.le_refl _
    · have := ih (by omega)
      simp only [sumN]
      omega
theorem mLJ_f {N0 N N1 : zmem} {n : Nat} {pl : Nat → Nat} {st : Nat → Option Nat} {h : zmap} {Wd : Nat → Int32} {va vb v : Int32} {rc : Nat → Bool} {b : Bool} {i : Nat} (J0 : mLJ N0 N n pl st h Wd va vb (fun _ => false)) (J1 : mLJ N0 N1 n pl st h Wd va vb rc)
    (hp : (b = false ∧ N1 = N ∧ ∀ k, k < n → ldt h v (pl k) → (fun _ => false) k = true) ∨ (b = true ∧ ∃ k, k < n ∧ ldt h v (pl k) ∧ (fun (_ : Nat) => false) k = false ∧ N1 = zu N 5 k 1)) (hb : b = false) (hi : i < n) (hr : rc i = true) : false = true := by
  rcases hp with ⟨-, rfl, -⟩ | ⟨h1, -⟩
  · have e1 := J0.2.1 i hi
    have e2 := J1.2.1 i hi
    rw [e1, hr] at e2
    exact absurd e2 (by simp)
  · rw [hb] at h1; exact h1
set_option maxHeartbeats 1000000 in
theorem c_mlost (l : Launch) (D : va_G) (cA : Nat → ClassId) (a : Nat → Nat) (M : zmem) (h : zmap) (g : Nat) (hi : mInv M h g) (va vb : Int32) : zMi l y_M_lost b_M_lost 6 .int (rmk 2) D zcl (ztys cA) (mw a cA) [.ref (a 0), .int va, .int vb] M (fun r M' => ∃ (T : Nat) (en : Nat → Nat), T ≤ 256 ∧ r = nI T ∧ M' 7 4 = nI T ∧ enumS (M' 6) T en (lostSet h (wMd (M 0)) va vb) ∧ mInv M' h g ∧ M' 7 0 = nI 0 ∧ M' 7 2 = M 7 2 ∧ M' 0 = M 0) := by
  refine zMi.of (own := "ZoneHeapModel") (by decide) rfl (Nat.le_of_ble_eq_true rfl) (by simp [Value.category]) ?_
  intro p e s m args below meth c A E hr hex
  obtain ⟨n, pl, sz, st, hp0⟩ := hi
  have hpB : mPic (zu M 7 0 (nI 0)) n pl sz st h g := (hp0.congr rfl rfl rfl rfl rfl rfl)
  have h256 := hp0.few
  refine z_aload_n E 0 d_M_lost_0 rfl rfl ?_
  refine z_iconst E (v := nI 0) d_M_lost_1 (by decide) ?_
  refine mm_put E 0 0 (by decide) fl_M_32 rfl rfl rfl rfl d_M_lost_2 ?_
  refine z_iconst E (v := nI 0) d_M_lost_5 (by decide) ?_
  refine z_istore_n E 3 d_M_lost_6 rfl (by decide) ?_
  refine z_lp (ι := Nat × zmem) (fun y => n - y.1) (fun y => y.1 ≤ n ∧ (∀ r, r ≠ 5 → y.2 r = (zu M 7 0 (nI 0)) r) ∧ ∀ i, i < y.1 → y.2 5 i = 0) (fun y => [some (.ref (a 0)), some (.int va), some (.int vb), some (.int (nI y.1)), none, none]) (fun y => y.2) ?_ (0, (zu M 7 0 (nI 0))) ⟨Nat.zero_le _, fun _ _ => rfl, fun i hi => absurd hi (Nat.not_lt_zero i)⟩ (by repeat' first | exact trivial | refine ⟨rfl, ?_⟩)
  rintro ⟨k, M'⟩ ⟨hI1, hI3, hI4⟩ ih
  dsimp only at hI1 hI3 hI4 ih ⊢
  refine z_iload_n E 3 d_M_lost_7 rfl rfl ?_
  refine z_aload_n E 0 d_M_lost_8 rfl rfl ?_
  refine mm_get E 8 (by decide) fl_M_40 rfl rfl d_M_lost_9 ?_
  refine z_top ((congrFun (hI3 7 (by decide)) 1).trans hpB.1.1) ?_
  refine z_icmp_ge E 28 d_M_lost_12 (by decide) (fun h12 => ?_) (fun h12 => ?_)
  · have h12 := (nI_leI (by omega) (by omega)).mp h12
    have hkn : k = n := by omega
    have J0 : mLJ (zu M 7 0 (nI 0)) M' n pl st h (wMd (M 0)) va vb (fun _ => false) := ⟨hI3, fun i hi => (hI4 i (by omega)).trans rfl, fun i hi hr' => by cases hr'⟩
    refine z_aload_n E 0 d_M_lost_28 rfl rfl ?_
    refine z_iload_n E 1 d_M_lost_29 rfl rfl ?_
    refine mm_calli E [.int va] (c_touch l D cA a M' n pl sz st h g (hpB.congr (J0.1 1 (by decide)) (J0.1 2 (by decide)) (J0.1 3 (by decide)) (J0.1 4 (by decide)) (congrFun (J0.1 7 (by decide)) 1) (congrFun (J0.1 7 (by decide)) 3)) (fun _ => false) J0.2.1 va) kv_M_84 rfl rfl (by decide) (Nat.le_of_ble_eq_true rfl) (by decide) d_M_lost_30 (fun r1 M1 hp1 => ?_)
    obtain ⟨b1, rfl, hp1⟩ := hp1
    obtain ⟨rc1, J1, m1, m2, -, -, -⟩ := mLJ.touch hpB J0 (fun k hk hl => rch_a hl) hp1
    refine z_aload_n E 0 d_M_lost_33 rfl rfl ?_
    refine z_iload_n E 2 d_M_lost_34 rfl rfl ?_
    refine mm_calli E [.int vb] (c_touch l D cA a M1 n pl sz st h g (hpB.congr (J1.1 1 (by decide)) (J1.1 2 (by decide)) (J1.1 3 (by decide)) (J1.1 4 (by decide)) (congrFun (J1.1 7 (by decide)) 1) (congrFun (J1.1 7 (by decide)) 3)) rc1 J1.2.1 vb) kv_M_84 rfl rfl (by decide) (Nat.le_of_ble_eq_true rfl) (by decide) d_M_lost_35 (fun r2 M2 hp2 => ?_)
    obtain ⟨b2, rfl, hp2⟩ := hp2
    obtain ⟨rc2, J2, n1, n2, -, n4, -⟩ := mLJ.touch hpB J1 (fun k hk hl => rch_b hl) hp2
    refine z_ior E d_M_lost_38 ?_
    refine z_top (bI_or b1 b2) ?_
    refine z_istore_n E 3 d_M_lost_39 rfl (by decide) ?_
    refine z_lp (ι := zmem × (Nat → Bool) × Bool) (fun y => 2 * (n - cR y.2.1 n) + (if y.2.2 = true then 1 else 0)) (fun y => mLJ (zu M 7 0 (nI 0)) y.1 n pl st h (wMd (M 0)) va vb y.2.1 ∧ (∀ k, k < n → ldt h va (pl k) → y.2.1 k = true) ∧ (∀ k, k < n → ldt h vb (pl k) → y.2.1 k = true) ∧ (y.2.2 = false → ∀ i, i < n → y.2.1 i = true → zcl1 n pl sz h (wMd (M 0)) y.2.1 i)) (fun y => [some (.ref (a 0)), none, none, some (.int (bI y.2.2)), none, none]) (fun y => y.1) ?_ (M2, rc2, b1 || b2) ⟨J2, fun k hk hl => n1 k (m2 k hk hl), n2, fun hh i hi hri => ?_⟩ (by repeat' first | exact trivial | refine ⟨rfl, ?_⟩)
    rotate_left
    · simp only [Bool.or_eq_false_iff] at hh
      exfalso
      have e2 := n4 hh.2
      dsimp only at hri
      rw [e2] at hri
      rcases id hp1 with ⟨h1, -, -⟩ | ⟨h1, -⟩
      · have e1 := mLJ_f J0 J1 hp1 hh.1 hi hri
        cases e1
      · rw [hh.1] at h1; cases h1
    clear ih
    rintro ⟨Mx, rc, mo⟩ ⟨hJ, ha, hb, hcl⟩ ih
    dsimp only at hJ ha hb hcl ih ⊢
    have hcR := cR_le rc n
    refine z_iload_n E 3 d_M_lost_40 rfl rfl ?_
    refine z_if_eq E 121 d_M_lost_41 (by decide) (fun h41 => ?_) (fun h41 => ?_)
    · have hmo := bI_0.mp h41
      subst hmo
      refine z_aload_n E 0 d_M_lost_121 rfl rfl ?_
      refine z_iconst E (v := nI 0) d_M_lost_122 (by decide) ?_
      refine mm_put E 11 4 (by decide) fl_M_87 rfl rfl rfl rfl d_M_lost_123 ?_
      refine z_iconst E (v := nI 0) d_M_lost_126 (by decide) ?_
      refine z_istore E d_M_lost_127 (by decide) ?_
      refine z_lp (ι := Nat × Nat × (Nat → Nat) × zmem) (fun y => 8192 - y.1) (fun y => y.1 ≤ 8192 ∧ y.1 % 16 = 0 ∧ y.2.1 ≤ sumN (l1 h) y.1 ∧ (∀ r, r ≠ 6 → r ≠ 7 → y.2.2.2 r = Mx r) ∧ (∀ j, j ≠ 4 → y.2.2.2 7 j = Mx 7 j) ∧ y.2.2.2 7 4 = nI y.2.1 ∧ enumS (y.2.2.2 6) y.2.1 y.2.2.1 (fun x => x < y.1 ∧ lostSet h (wMd (M 0)) va vb x)) (fun y => [some (.ref (a 0)), none, none, none, some (.int (nI y.1)), none]) (fun y => y.2.2.2) ?_ (0, 0, (fun _ => 0), zu Mx 7 4 (nI 0)) ⟨by dsimp only; omega, by dsimp only, Nat.zero_le _, fun r h6 h7 => zu_ne h7, fun j hj => ?_, ?_, enumS_0 (fun x hx => absurd hx.1 (Nat.not_lt_zero x))⟩ (by repeat' first | exact trivial | refine ⟨rfl, ?_⟩)
      rotate_left
      · dsimp only; rw [zu_same, upd_ne hj]
      · dsimp only; rw [zu_same, upd_same]
      clear ih
      rintro ⟨x, c, en, M'⟩ ⟨w1, w2, w3, w4, w5, w6, w7⟩ ih
      dsimp only at w1 w2 w3 w4 w5 w6 w7 ih ⊢
      refine z_iload E d_M_lost_129 rfl ?_
      refine z_sipush E (v := nI 8192) d_M_lost_131 (by decide) ?_
      refine z_icmp_ge E 185 d_M_lost_134 (by decide) (fun h134 => ?_) (fun h134 => ?_)
      · have h134 := (nI_leI (by omega) (by omega)).mp h134
        refine z_aload_n E 0 d_M_lost_185 rfl rfl ?_
        refine mm_get E 11 (by decide) fl_M_87 rfl rfl d_M_lost_186 ?_
        refine z_top w6 ?_
        refine z_iret E hr ?_ (by decide) (by decide) d_M_lost_189
        have hx8 : x = 8192 := by omega
        have hc256 : c ≤ 256 := by
          have e2 := cnt_all hpB.2.2.1 hpB.2.2.2.1 hpB.2.1
          unfold lcnt at e2
          rw [hx8] at w3
          omega
        refine ⟨c, en, hc256, rfl, w6, enumS_congr w7 (fun y => ⟨fun e => e.2, fun e => ⟨?_, e⟩⟩), ⟨n, pl, sz, st, (hpB.congr ((w4 1 (by decide) (by decide)).trans (hJ.1 1 (by decide))) ((w4 2 (by decide) (by decide)).trans (hJ.1 2 (by decide))) ((w4 3 (by decide) (by decide)).trans (hJ.1 3 (by decide))) ((w4 4 (by decide) (by decide)).trans (hJ.1 4 (by decide))) ((w5 1 (by decide)).trans (congrFun (hJ.1 7 (by decide)) 1)) ((w5 3 (by decide)).trans (congrFun (hJ.1 7 (by decide)) 3)))⟩, ?_, ?_, ?_⟩
        · have := hpB.2.2.2.1.1 y _ e.1.choose_spec; omega
        · rw [w5 0 (by decide), hJ.1 7 (by decide)]; rfl
        · rw [w5 2 (by decide), hJ.1 7 (by decide)]; rfl
        · rw [w4 0 (by decide) (by decide), hJ.1 0 (by decide)]; rfl
      · have h134 : x < 8192 := by have := mt (nI_leI (by omega) (by omega)).mpr h134; omega
        refine z_aload_n E 0 d_M_lost_137 rfl rfl ?_
        refine z_iload E d_M_lost_138 rfl ?_
        refine z_iconst E (v := nI 1) d_M_lost_140 (by decide) ?_
        refine mm_calli E [.int (nI x), .int (nI 1)] (c_at1 l D cA a M' n pl sz st h g (hpB.congr ((w4 1 (by decide) (by decide)).trans (hJ.1 1 (by decide))) ((w4 2 (by decide) (by decide)).trans (hJ.1 2 (by decide))) ((w4 3 (by decide) (by decide)).trans (hJ.1 3 (by decide))) ((w4 4 (by decide) (by decide)).trans (hJ.1 4 (by decide))) ((w5 1 (by decide)).trans (congrFun (hJ.1 7 (by decide)) 1)) ((w5 3 (by decide)).trans (congrFun (hJ.1 7 (by decide)) 3))) (nI x)) kv_M_63 rfl rfl (by decide) (Nat.le_of_ble_eq_true rfl) (by decide) d_M_lost_141 (fun r M1 hp => ?_)
        obtain ⟨hM1, ⟨k, hk, rfl, hxk, hsk⟩ | ⟨rfl, hno⟩⟩ := hp <;> subst M1
        · have hplk : pl k = x := mlive1 hpB hk h134 hxk
          have hlx : h x = some (sz k, none) := by rw [← hplk, ← hsk]; exact hpB.2.2.1.1 k hk
          refine z_istore E d_M_lost_144 (by decide) ?_
          refine z_iload E d_M_lost_146 rfl ?_
          refine z_if_lt E 179 d_M_lost_148 (by decide) (fun h148 => ?_) (fun h148 => ?_)
          · exact absurd h148 (nI_pos (by omega))
          · refine z_aload_n E 0 d_M_lost_151 rfl rfl ?_
            refine mm_get E 6 (by decide) fl_M_25 rfl rfl d_M_lost_152 ?_
            refine z_iload E d_M_lost_155 rfl ?_
            refine zn_zald E 6 2 rfl rfl (_) (rfl) (by omega) (by decide) d_M_lost_157 ?_
            refine z_top ((congrFun (w4 5 (by decide) (by decide)) k).trans (hJ.2.1 k hk)) ?_
            refine z_if_ne E 179 d_M_lost_158 (by decide) (fun h158 => ?_) (fun h158 => ?_)
            · have h158 : rc k = true := by have := mt b_live.mpr h158; simpa using this
              refine z_iinc E (v := nI (x + 16)) d_M_lost_179 rfl (nI_add _ 16) (by decide) ?_
              refine z_goto E 129 d_M_lost_182 (by decide) ?_
              refine ih (x + 16, c, en, M') _ ⟨by dsimp only; omega, by dsimp only; omega, Nat.le_trans w3 (sumN_mono (by dsimp only; omega)), w4, w5, w6, enumS_congr w7 (fun y => ?_)⟩ (by dsimp only; omega) (by repeat' first | exact trivial | refine ⟨rfl, ?_⟩)
              constructor
              · rintro ⟨e1, e2⟩; exact ⟨by dsimp only; omega, e2⟩
              · rintro ⟨e1, e2⟩
                refine ⟨?_, e2⟩
                have hy16 := (hpB.2.2.2.1.1 y _ e2.1.choose_spec).2.1
                by_cases he : y = x
                · exfalso; rw [he] at e2
                  exact e2.2 (by rw [← hplk]; exact (hJ.2.2 k hk h158).1)
                · dsimp only at e1; omega
            · have h158 : rc k = false := b_live.mp h158
              refine z_aload_n E 0 d_M_lost_161 rfl rfl ?_
              refine mm_get E 7 (by decide) fl_M_29 rfl rfl d_M_lost_162 ?_
              refine z_aload_n E 0 d_M_lost_165 rfl rfl ?_
              refine z_dup E d_M_lost_166 rfl ?_
              refine mm_get E 11 (by decide) fl_M_87 rfl rfl d_M_lost_167 ?_
              have hc256 : c ≤ 256 := by
                have e1 := sumN_mono (f := l1 h) (show x ≤ 8192 by omega)
                have e2 := cnt_all hpB.2.2.1 hpB.2.2.2.1 hpB.2.1
                unfold lcnt at e2
                omega
              refine z_top w6 ?_
              refine z_dup_x1 E d_M_lost_170 rfl rfl ?_
              refine z_iconst E (v := nI 1) d_M_lost_171 (by decide) ?_
              refine z_iadd E d_M_lost_172 ?_
              refine z_top (nI_1 c) ?_
              refine mm_put E 11 4 (by decide) fl_M_87 rfl rfl rfl rfl d_M_lost_173 ?_
              refine z_iload E d_M_lost_176 rfl ?_
              refine mm_iast E 6 rfl (_) (rfl) (by omega) rfl d_M_lost_178 ?_
              refine z_iinc E (v := nI (x + 16)) d_M_lost_179 rfl (nI_add _ 16) (by decide) ?_
              refine z_goto E 129 d_M_lost_182 (by decide) ?_
              have hlost : lostSet h (wMd (M 0)) va vb x := by
                refine ⟨⟨_, hlx⟩, fun hr' => ?_⟩
                rw [← hplk] at hr'
                obtain ⟨i', h5, h6, h7⟩ := mLJ.done hpB.2.2.1 (N0 := M) (N := M) (hcl rfl) ha hb k hk hr'
                have := hpB.2.1 i' k h5 hk h6
                subst this
                rw [h158] at h7; cases h7
              refine ih (x + 16, c + 1, (fun i => if i = c then x else en i), zu (zu M' 7 4 (nI (c + 1))) 6 c (nI x)) _ ⟨by dsimp only; omega, by dsimp only; omega, ?_, fun r h6 h7 => ?_, fun j hj => ?_, ?_, ?_⟩ (by dsimp only; omega) (by repeat' first | exact trivial | refine ⟨rfl, ?_⟩)
              · dsimp only
                have e1 := sumN_mono (f := l1 h) (show x + 1 ≤ x + 16 by omega)
                have e2 : l1 h x = 1 := by simp [l1, hlx]
                have e3 : sumN (l1 h) (x + 1) = sumN (l1 h) x + l1 h x := rfl
                omega
              · dsimp only; rw [zu_ne h6, zu_ne h7]; exact w4 r h6 h7
              · dsimp only; rw [zu_ne (by decide), zu_same, upd_ne hj]; exact w5 j hj
              · dsimp only; rw [zu_ne (by decide), zu_same, upd_same]
              · dsimp only
                rw [zu_same, zu_ne (by decide)]
                refine enumS_push w7 (fun y hy => hy.1) (fun y => ?_)
                constructor
                · rintro ⟨e1, e2⟩
                  have hy16 := (hpB.2.2.2.1.1 y _ e2.1.choose_spec).2.1
                  by_cases he : y = x
                  · exact Or.inr he
                  · exact Or.inl ⟨by omega, e2⟩
                · rintro (⟨e1, e2⟩ | e1)
                  · exact ⟨by omega, e2⟩
                  · rw [e1]; exact ⟨by omega, hlost⟩
        · refine z_istore E d_M_lost_144 (by decide) ?_
          refine z_iload E d_M_lost_146 rfl ?_
          refine z_if_lt E 179 d_M_lost_148 (by decide) (fun h148 => ?_) (fun h148 => ?_)
          · refine z_iinc E (v := nI (x + 16)) d_M_lost_179 rfl (nI_add _ 16) (by decide) ?_
            refine z_goto E 129 d_M_lost_182 (by decide) ?_
            refine ih (x + 16, c, en, M') _ ⟨by dsimp only; omega, by dsimp only; omega, Nat.le_trans w3 (sumN_mono (by dsimp only; omega)), w4, w5, w6, enumS_congr w7 (fun y => ?_)⟩ (by dsimp only; omega) (by repeat' first | exact trivial | refine ⟨rfl, ?_⟩)
            constructor
            · rintro ⟨e1, e2⟩; exact ⟨by dsimp only; omega, e2⟩
            · rintro ⟨e1, e2⟩
              refine ⟨?_, e2⟩
              have hy16 := (hpB.2.2.2.1.1 y _ e2.1.choose_spec).2.1
              by_cases he : y = x
              · exfalso; rw [he] at e2
                obtain ⟨q, hq⟩ := e2.1
                obtain ⟨k0, hk0, e3, e4⟩ := mlive hpB hq
                exact absurd (Prod.mk.inj e4).2.symm (hno k0 hk0 (by rw [e3]))
              · dsimp only at e1; omega
          · exact absurd (by decide) h148
    · have hmo : mo = true := by have := mt bI_0.mpr h41; simpa using this
      subst hmo
      refine z_iconst E (v := nI 0) d_M_lost_44 (by decide) ?_
      refine z_istore_n E 3 d_M_lost_45 rfl (by decide) ?_
      refine z_iconst E (v := nI 0) d_M_lost_46 (by decide) ?_
      refine z_istore E d_M_lost_47 (by decide) ?_
      refine z_lp (ι := Nat × zmem × (Nat → Bool) × Bool) (fun y => n - y.1) (fun y => y.1 ≤ n ∧ mLJ (zu M 7 0 (nI 0)) y.2.1 n pl st h (wMd (M 0)) va vb y.2.2.1 ∧ (∀ i, rc i = true → y.2.2.1 i = true) ∧ (y.2.2.2 = true → cR rc n + 1 ≤ cR y.2.2.1 n) ∧ (y.2.2.2 = false → y.2.2.1 = rc) ∧ cR rc n ≤ cR y.2.2.1 n ∧ (y.2.2.2 = false → ∀ i, i < y.1 → rc i = true → zcl1 n pl sz h (wMd (M 0)) rc i)) (fun y => [some (.ref (a 0)), none, none, some (.int (bI y.2.2.2)), some (.int (nI y.1)), none]) (fun y => y.2.1) ?_ (0, Mx, rc, false) ⟨Nat.zero_le _, hJ, fun _ hh => hh, (fun hh => by cases hh), fun _ => rfl, Nat.le_refl _, fun _ i hi => absurd hi (Nat.not_lt_zero i)⟩ (by repeat' first | exact trivial | refine ⟨rfl, ?_⟩)
      rintro ⟨k, M', rc', mo'⟩ ⟨hk1, J, c1, c2, c3, c4, d1⟩ ih3
      dsimp only at hk1 J c1 c2 c3 c4 d1 ih3 ⊢
      refine z_iload E d_M_lost_49 rfl ?_
      refine z_aload_n E 0 d_M_lost_51 rfl rfl ?_
      refine mm_get E 8 (by decide) fl_M_40 rfl rfl d_M_lost_52 ?_
      refine z_top ((congrFun (J.1 7 (by decide)) 1).trans hpB.1.1) ?_
      refine z_icmp_ge E 118 d_M_lost_55 (by decide) (fun h55 => ?_) (fun h55 => ?_)
      · have h55 := (nI_leI (by omega) (by omega)).mp h55
        have hkn : k = n := by omega
        refine z_goto E 40 d_M_lost_118 (by decide) ?_
        refine ih (M', rc', mo') _ ⟨J, fun q hq hl => c1 q (ha q hq hl), fun q hq hl => c1 q (hb q hq hl), fun hh i hi hri => ?_⟩ ?_ (by repeat' first | exact trivial | refine ⟨rfl, ?_⟩)
        · have e := c3 hh
          dsimp only at hri ⊢
          rw [e] at hri ⊢
          exact d1 hh i (by omega) hri
        · dsimp only
          have e1 := cR_le rc' n
          cases hm : mo' with
          | true => have := c2 hm; simp only [if_true]; omega
          | false => simp only [if_true, Bool.false_eq_true, if_false]; omega
      · have hk : k < n := by have := mt (nI_leI (by omega) (by omega)).mpr h55; omega
        have hck := hpB.1.2 k hk
        refine z_aload_n E 0 d_M_lost_58 rfl rfl ?_
        refine mm_get E 6 (by decide) fl_M_25 rfl rfl d_M_lost_59 ?_
        refine z_iload E d_M_lost_62 rfl ?_
        refine zn_zald E 6 2 rfl rfl (_) (rfl) (by omega) (by decide) d_M_lost_64 ?_
        refine z_top (J.2.1 k hk) ?_
        refine z_if_eq E 112 d_M_lost_65 (by decide) (fun h65 => ?_) (fun h65 => ?_)
        · have h65 : rc' k = false := b_live.mp h65
          refine z_iinc E (v := nI (k + 1)) d_M_lost_112 rfl (nI_1 k) (by decide) ?_
          refine z_goto E 49 d_M_lost_115 (by decide) ?_
          refine ih3 (k + 1, M', rc', mo') _ ⟨by dsimp only; omega, J, c1, c2, c3, c4, fun hh i hi hri => ?_⟩ (by dsimp only; omega) (by repeat' first | exact trivial | refine ⟨rfl, ?_⟩)
          by_cases he : i = k
          · rw [he, ← c3 hh, h65] at hri; cases hri
          · exact d1 hh i (by dsimp only at hi; omega) hri
        · have hrk : rc' k = true := by have := mt b_live.mpr h65; simpa using this
          have hOk := hpB.2.2.2.1.1 _ _ (hpB.2.2.1.1 k hk)
          dsimp only at hOk
          have htkk := tk_ge (sz k)
          have hqk : h (pl k) = some (sz k, none) := by rw [← (J.2.2 k hk hrk).2]; exact hpB.2.2.1.1 k hk
          refine z_iconst E (v := nI 0) d_M_lost_68 (by decide) ?_
          refine z_istore E d_M_lost_69 (by decide) ?_
          refine z_lp (ι := Nat × zmem × (Nat → Bool) × Bool) (fun y => sz k + 4 - 4 * y.1) (fun y => mLJ (zu M 7 0 (nI 0)) y.2.1 n pl st h (wMd (M 0)) va vb y.2.2.1 ∧ (∀ i, rc i = true → y.2.2.1 i = true) ∧ (y.2.2.2 = true → cR rc n + 1 ≤ cR y.2.2.1 n) ∧ (y.2.2.2 = false → y.2.2.1 = rc) ∧ cR rc n ≤ cR y.2.2.1 n ∧ (y.2.2.2 = false → ∀ i, i < k → rc i = true → zcl1 n pl sz h (wMd (M 0)) rc i) ∧ (y.2.2.2 = false → ∀ j, j < y.1 → ∀ k', k' < n → ldt h ((wMd (M 0)) (pl k + 4 * j)) (pl k') → rc k' = true) ∧ 4 * y.1 ≤ sz k + 4 ∧ y.2.2.1 k = true) (fun y => [some (.ref (a 0)), none, none, some (.int (bI y.2.2.2)), some (.int (nI k)), some (.int (nI (4 * y.1)))]) (fun y => y.2.1) ?_ (0, M', rc', mo') ⟨J, c1, c2, c3, c4, d1, fun _ j hj => absurd hj (Nat.not_lt_zero j), by dsimp only; omega, hrk⟩ (by repeat' first | exact trivial | refine ⟨rfl, ?_⟩)
          clear J c1 c2 c3 c4 d1 hrk hqk
          rintro ⟨j, M', rc', mo'⟩ ⟨J, c1, c2, c3, c4, d1, d2, hj4, hrk⟩ ih4
          dsimp only at J c1 c2 c3 c4 d1 d2 hj4 hrk ih4 ⊢
          have hqk : h (pl k) = some (sz k, none) := by rw [← (J.2.2 k hk hrk).2]; exact hpB.2.2.1.1 k hk
          refine z_iload E d_M_lost_71 rfl ?_
          refine z_iconst E (v := nI 4) d_M_lost_73 (by decide) ?_
          refine z_iadd E d_M_lost_74 ?_
          refine z_top (nI_add _ _) ?_
          refine z_aload_n E 0 d_M_lost_75 rfl rfl ?_
          refine mm_get E 3 (by decide) fl_M_16 rfl rfl d_M_lost_76 ?_
          refine z_iload E d_M_lost_79 rfl ?_
          refine zn_iald E 3 1 rfl rfl (_) (rfl) (by omega) (by decide) d_M_lost_81 ?_
          refine z_top ((congrFun (J.1 2 (by decide)) k).trans hck.2.1) ?_
          refine z_icmp_gt E 112 d_M_lost_82 (by decide) (fun h82 => ?_) (fun h82 => ?_)
          · have h82 := (nI_ltI (by omega) (by omega)).mp h82
            refine z_iinc E (v := nI (k + 1)) d_M_lost_112 rfl (nI_1 k) (by decide) ?_
            refine z_goto E 49 d_M_lost_115 (by decide) ?_
            refine ih3 (k + 1, M', rc', mo') _ ⟨by dsimp only; omega, J, c1, c2, c3, c4, fun hh i hi hri => ?_⟩ (by dsimp only; omega) (by repeat' first | exact trivial | refine ⟨rfl, ?_⟩)
            by_cases he : i = k
            · rw [he]
              exact fun j' hj' k' hk' hl => d2 hh j' (by omega) k' hk' hl
            · exact d1 hh i (by dsimp only at hi; omega) hri
          · have h82 := mt (nI_ltI (by omega) (by omega)).mpr h82
            refine z_iload_n E 3 d_M_lost_85 rfl rfl ?_
            refine z_aload_n E 0 d_M_lost_86 rfl rfl ?_
            refine z_aload_n E 0 d_M_lost_87 rfl rfl ?_
            refine z_aload_n E 0 d_M_lost_88 rfl rfl ?_
            refine mm_get E 2 (by decide) fl_M_13 rfl rfl d_M_lost_89 ?_
            refine z_iload E d_M_lost_92 rfl ?_
            refine zn_iald E 2 1 rfl rfl (_) (rfl) (by omega) (by decide) d_M_lost_94 ?_
            refine z_top ((congrFun (J.1 1 (by decide)) k).trans hck.1) ?_
            refine z_iload E d_M_lost_95 rfl ?_
            refine z_iadd E d_M_lost_97 ?_
            refine z_top (nI_add _ _) ?_
            refine mm_calli E [.int (nI (pl k + 4 * j))] (c_mword l D cA a M' (pl k + 4 * j) (by omega)) kv_M_78 rfl rfl (by decide) (Nat.le_of_ble_eq_true rfl) (by decide) d_M_lost_98 (fun r M1 hp => ?_)
            obtain ⟨hM1, rfl⟩ := hp
            subst M1
            refine z_top (congrArg (fun f => wMd f (pl k + 4 * j)) (J.1 0 (by decide)) : wMd (M' 0) (pl k + 4 * j) = wMd (M 0) (pl k + 4 * j)) ?_
            refine mm_calli E [.int (wMd (M 0) (pl k + 4 * j))] (c_touch l D cA a M' n pl sz st h g (hpB.congr (J.1 1 (by decide)) (J.1 2 (by decide)) (J.1 3 (by decide)) (J.1 4 (by decide)) (congrFun (J.1 7 (by decide)) 1) (congrFun (J.1 7 (by decide)) 3)) rc' J.2.1 (wMd (M 0) (pl k + 4 * j))) kv_M_84 rfl rfl (by decide) (Nat.le_of_ble_eq_true rfl) (by decide) d_M_lost_101 (fun r2 M2 hp2 => ?_)
            obtain ⟨b2, rfl, hp2⟩ := hp2
            obtain ⟨rc2, J2, m1, m2, m3, m4, m5⟩ := mLJ.touch hpB J (fun k' hk' hl => rch_s (J.2.2 k hk hrk).1 hqk (by omega) hl) hp2
            refine z_ior E d_M_lost_104 ?_
            refine z_top (bI_or mo' b2) ?_
            refine z_istore_n E 3 d_M_lost_105 rfl (by decide) ?_
            refine z_iinc E (v := nI (4 * (j + 1))) d_M_lost_106 rfl (nI_add _ 4) (by decide) ?_
            refine z_goto E 71 d_M_lost_109 (by decide) ?_
            refine ih4 (j + 1, M2, rc2, mo' || b2) _ ⟨J2, fun i hi => m1 i (c1 i hi), fun hh => ?_, fun hh => ?_, by dsimp only; omega, fun hh => ?_, fun hh j' hj' k' hk' hl => ?_, by dsimp only; omega, m1 k hrk⟩ (by dsimp only; omega) (by repeat' first | exact trivial | refine ⟨rfl, ?_⟩)
            · dsimp only at hh ⊢
              cases hm : mo' with
              | true => have := c2 hm; omega
              | false =>
                rw [hm] at hh
                have := m3 hh
                omega
            · dsimp only at hh ⊢
              simp only [Bool.or_eq_false_iff] at hh
              rw [m4 hh.2, c3 hh.1]
            · dsimp only at hh
              simp only [Bool.or_eq_false_iff] at hh
              exact d1 hh.1
            · dsimp only at hh hj'
              simp only [Bool.or_eq_false_iff] at hh
              by_cases he : j' = j
              · rw [he] at hl
                have := m2 k' hk' hl
                rw [m4 hh.2, c3 hh.1] at this
                exact this
              · exact d2 hh.1 j' (by omega) k' hk' hl
  · have h12 : k < n := by have := mt (nI_leI (by omega) (by omega)).mpr h12; omega
    refine z_aload_n E 0 d_M_lost_15 rfl rfl ?_
    refine mm_get E 6 (by decide) fl_M_25 rfl rfl d_M_lost_16 ?_
    refine z_iload_n E 3 d_M_lost_19 rfl rfl ?_
    refine z_iconst E (v := nI 0) d_M_lost_20 (by decide) ?_
    refine mm_zast E 5 rfl (v := 0) (by decide) (_) (rfl) (by omega) rfl d_M_lost_21 ?_
    refine z_iinc E (v := nI (k + 1)) d_M_lost_22 rfl (nI_1 k) (by decide) ?_
    refine z_goto E 7 d_M_lost_25 (by decide) ?_
    refine ih (k + 1, zu M' 5 k 0) _ ⟨by dsimp only; omega, fun r h5 => (zu_ne h5).trans (hI3 r h5), fun i hi => ?_⟩ (by dsimp only; omega) (by repeat' first | exact trivial | refine ⟨rfl, ?_⟩)
    dsimp only
    rw [zu_same]
    by_cases he : i = k
    · rw [he, upd_same]
    · rw [upd_ne he]; exact hI4 i (by dsimp only at hi; omega)
end
section
/-! ZoneHeapModel: lostAt, count -/
theorem c_mlostAt (l : Launch) (D : va_G) (cA : Nat → ClassId) (a : Nat → Nat) (M : zmem) (t k : Nat) (ht : M 7 4 = nI t) (ht2 : t ≤ 256) (hk : k < t) : zMi l y_M_lostAt b_M_lostAt 2 .int (rmk 1) D zcl (ztys cA) (mw a cA) [.ref (a 0), .int (nI k)] M (fun r M' => M' = zu M 7 0 (nI 0) ∧ r = M 6 k) := by
  refine zMi.of (own := "ZoneHeapModel") (by decide) rfl (Nat.le_of_ble_eq_true rfl) (by simp [Value.category]) ?_
  intro p e s m args below meth c A E hr hex
  refine z_aload_n E 0 d_M_lostAt_0 rfl rfl ?_
  refine z_iload_n E 1 d_M_lostAt_1 rfl rfl ?_
  refine z_if_lt E 13 d_M_lostAt_2 (by decide) (fun h2 => ?_) (fun h2 => ?_)
  · exact absurd h2 (nI_pos (by omega))
  · refine z_iload_n E 1 d_M_lostAt_5 rfl rfl ?_
    refine z_aload_n E 0 d_M_lostAt_6 rfl rfl ?_
    refine mm_get E 11 (by decide) fl_M_87 rfl rfl d_M_lostAt_7 ?_
    refine z_top ht ?_
    refine z_icmp_lt E 17 d_M_lostAt_10 (by decide) (fun h10 => ?_) (fun h10 => ?_)
    · refine z_iconst E (v := nI 0) d_M_lostAt_17 (by decide) ?_
      refine z_iconst E (v := nI 1) d_M_lostAt_18 (by decide) ?_
      refine mm_calli E [.int (nI 0), .int (nI 1)] (c_fails0 l D cA a M (nI 1)) kv_M_56 rfl rfl (by decide) (Nat.le_of_ble_eq_true rfl) (by decide) d_M_lostAt_19 (fun r M1 hp => ?_)
      obtain ⟨rfl, rfl⟩ := hp
      refine z_if_eq E 27 d_M_lostAt_22 (by decide) (fun h22 => ?_) (fun h22 => ?_)
      · refine z_aload_n E 0 d_M_lostAt_27 rfl rfl ?_
        refine mm_get E 7 (by decide) fl_M_29 rfl rfl d_M_lostAt_28 ?_
        refine z_iload_n E 1 d_M_lostAt_31 rfl rfl ?_
        refine zn_iald E 7 1 rfl rfl (_) (rfl) (by omega) (by decide) d_M_lostAt_32 ?_
        refine z_iret E hr ?_ (by decide) (by decide) d_M_lostAt_33
        exact ⟨rfl, rfl⟩
      · exact absurd rfl h22
    · exact absurd ((nI_ltI (by omega) (by omega)).mpr hk) h10
theorem c_mlostAt_t (l : Launch) (D : va_G) (cA : Nat → ClassId) (a : Nat → Nat) (M : zmem) (t : Nat) (x : Int32) (ht : M 7 4 = nI t) (ht2 : t ≤ 256) (hx : x.toInt < 0 ∨ (t : Int) ≤ x.toInt) : zMi l y_M_lostAt b_M_lostAt 2 .int (rmk 1) D zcl (ztys cA) (mw a cA) [.ref (a 0), .int x] M (fun r M' => M' = zu M 7 0 (nI 1) ∧ r = nI 0) := by
  refine zMi.of (own := "ZoneHeapModel") (by decide) rfl (Nat.le_of_ble_eq_true rfl) (by simp [Value.category]) ?_
  intro p e s m args below meth c A E hr hex
  refine z_aload_n E 0 d_M_lostAt_0 rfl rfl ?_
  refine z_iload_n E 1 d_M_lostAt_1 rfl rfl ?_
  refine z_if_lt E 13 d_M_lostAt_2 (by decide) (fun h2 => ?_) (fun h2 => ?_)
  · refine z_iconst E (v := nI 1) d_M_lostAt_13 (by decide) ?_
    refine z_goto E 18 d_M_lostAt_14 (by decide) ?_
    refine z_iconst E (v := nI 1) d_M_lostAt_18 (by decide) ?_
    refine mm_calli E [.int (nI 1), .int (nI 1)] (c_fails1 l D cA a M (nI 1)) kv_M_56 rfl rfl (by decide) (Nat.le_of_ble_eq_true rfl) (by decide) d_M_lostAt_19 (fun r M1 hp => ?_)
    obtain ⟨rfl, rfl⟩ := hp
    refine z_if_eq E 27 d_M_lostAt_22 (by decide) (fun h22 => ?_) (fun h22 => ?_)
    · exact absurd h22 (by decide)
    · refine z_iconst E (v := nI 0) d_M_lostAt_25 (by decide) ?_
      refine z_iret E hr ?_ (by decide) (by decide) d_M_lostAt_26
      exact ⟨rfl, rfl⟩
  · refine z_iload_n E 1 d_M_lostAt_5 rfl rfl ?_
    refine z_aload_n E 0 d_M_lostAt_6 rfl rfl ?_
    refine mm_get E 11 (by decide) fl_M_87 rfl rfl d_M_lostAt_7 ?_
    refine z_top ht ?_
    refine z_icmp_lt E 17 d_M_lostAt_10 (by decide) (fun h10 => ?_) (fun h10 => ?_)
    · rw [i_lt (by omega)] at h10
      rw [Int32.lt_iff_toInt_lt] at h2
      rcases hx with h | h
      · exact absurd h h2
      · exact absurd h10 (by omega)
    · refine z_iconst E (v := nI 1) d_M_lostAt_13 (by decide) ?_
      refine z_goto E 18 d_M_lostAt_14 (by decide) ?_
      refine z_iconst E (v := nI 1) d_M_lostAt_18 (by decide) ?_
      refine mm_calli E [.int (nI 1), .int (nI 1)] (c_fails1 l D cA a M (nI 1)) kv_M_56 rfl rfl (by decide) (Nat.le_of_ble_eq_true rfl) (by decide) d_M_lostAt_19 (fun r M1 hp => ?_)
      obtain ⟨rfl, rfl⟩ := hp
      refine z_if_eq E 27 d_M_lostAt_22 (by decide) (fun h22 => ?_) (fun h22 => ?_)
      · exact absurd h22 (by decide)
      · refine z_iconst E (v := nI 0) d_M_lostAt_25 (by decide) ?_
        refine z_iret E hr ?_ (by decide) (by decide) d_M_lostAt_26
        exact ⟨rfl, rfl⟩
theorem c_mcount_t (l : Launch) (D : va_G) (cA : Nat → ClassId) (a : Nat → Nat) (M : zmem) (x : Int32) (hx : x.toInt < 0 ∨ 4 < x.toInt) : zMi l y_M_count b_M_count 5 .int (rmk 1) D zcl (ztys cA) (mw a cA) [.ref (a 0), .int x] M (fun r M' => M' = zu M 7 0 (nI 1) ∧ r = nI 0) := by
  refine zMi.of (own := "ZoneHeapModel") (by decide) rfl (Nat.le_of_ble_eq_true rfl) (by simp [Value.category]) ?_
  intro p e s m args below meth c A E hr hex
  refine z_aload_n E 0 d_M_count_0 rfl rfl ?_
  refine z_iload_n E 1 d_M_count_1 rfl rfl ?_
  refine z_if_lt E 10 d_M_count_2 (by decide) (fun h2 => ?_) (fun h2 => ?_)
  · refine z_iconst E (v := nI 1) d_M_count_10 (by decide) ?_
    refine z_goto E 15 d_M_count_11 (by decide) ?_
    refine z_iconst E (v := nI 1) d_M_count_15 (by decide) ?_
    refine mm_calli E [.int (nI 1), .int (nI 1)] (c_fails1 l D cA a M (nI 1)) kv_M_56 rfl rfl (by decide) (Nat.le_of_ble_eq_true rfl) (by decide) d_M_count_16 (fun r M1 hp => ?_)
    obtain ⟨rfl, rfl⟩ := hp
    refine z_if_eq E 24 d_M_count_19 (by decide) (fun h19 => ?_) (fun h19 => ?_)
    · exact absurd h19 (by decide)
    · refine z_iconst E (v := nI 0) d_M_count_22 (by decide) ?_
      refine z_iret E hr ?_ (by decide) (by decide) d_M_count_23
      exact ⟨rfl, rfl⟩
  · refine z_iload_n E 1 d_M_count_5 rfl rfl ?_
    refine z_iconst E (v := nI 4) d_M_count_6 (by decide) ?_
    refine z_icmp_le E 14 d_M_count_7 (by decide) (fun h7 => ?_) (fun h7 => ?_)
    · rw [i_le (by omega)] at h7
      rw [Int32.lt_iff_toInt_lt] at h2
      rcases hx with h | h
      · exact absurd h h2
      · exact absurd h7 (by omega)
    · refine z_iconst E (v := nI 1) d_M_count_10 (by decide) ?_
      refine z_goto E 15 d_M_count_11 (by decide) ?_
      refine z_iconst E (v := nI 1) d_M_count_15 (by decide) ?_
      refine mm_calli E [.int (nI 1), .int (nI 1)] (c_fails1 l D cA a M (nI 1)) kv_M_56 rfl rfl (by decide) (Nat.le_of_ble_eq_true rfl) (by decide) d_M_count_16 (fun r M1 hp => ?_)
      obtain ⟨rfl, rfl⟩ := hp
      refine z_if_eq E 24 d_M_count_19 (by decide) (fun h19 => ?_) (fun h19 => ?_)
      · exact absurd h19 (by decide)
      · refine z_iconst E (v := nI 0) d_M_count_22 (by decide) ?_
        refine z_iret E hr ?_ (by decide) (by decide) d_M_count_23
        exact ⟨rfl, rfl⟩
theorem c_mcount0 (l : Launch) (D : va_G) (cA : Nat → ClassId) (a : Nat → Nat) (M : zmem) (h : zmap) (g : Nat) (hi : mInv M h g) : zMi l y_M_count b_M_count 5 .int (rmk 1) D zcl (ztys cA) (mw a cA) [.ref (a 0), .int (nI 0)] M (fun r M' => M' = zu M 7 0 (nI 0) ∧ r = nI (lcnt h)) := by
  refine zMi.of (own := "ZoneHeapModel") (by decide) rfl (Nat.le_of_ble_eq_true rfl) (by simp [Value.category]) ?_
  intro p e s m args below meth c A E hr hex
  obtain ⟨n, pl, sz, st, hp0⟩ := hi
  have hpB : mPic (zu M 7 0 (nI 0)) n pl sz st h g := (hp0.congr rfl rfl rfl rfl rfl rfl)
  have h256 := hp0.few
  refine z_aload_n E 0 d_M_count_0 rfl rfl ?_
  refine z_iload_n E 1 d_M_count_1 rfl rfl ?_
  refine z_if_lt E 10 d_M_count_2 (by decide) (fun h2 => ?_) (fun h2 => ?_)
  · exact absurd h2 (nI_pos (by omega))
  · refine z_iload_n E 1 d_M_count_5 rfl rfl ?_
    refine z_iconst E (v := nI 4) d_M_count_6 (by decide) ?_
    refine z_icmp_le E 14 d_M_count_7 (by decide) (fun h7 => ?_) (fun h7 => ?_)
    · refine z_iconst E (v := nI 0) d_M_count_14 (by decide) ?_
      refine z_iconst E (v := nI 1) d_M_count_15 (by decide) ?_
      refine mm_calli E [.int (nI 0), .int (nI 1)] (c_fails0 l D cA a M (nI 1)) kv_M_56 rfl rfl (by decide) (Nat.le_of_ble_eq_true rfl) (by decide) d_M_count_16 (fun r M1 hp => ?_)
      obtain ⟨rfl, rfl⟩ := hp
      refine z_if_eq E 24 d_M_count_19 (by decide) (fun h19 => ?_) (fun h19 => ?_)
      · refine z_iconst E (v := nI 0) d_M_count_24 (by decide) ?_
        refine z_istore_n E 2 d_M_count_25 rfl (by decide) ?_
        refine z_iconst E (v := nI 0) d_M_count_26 (by decide) ?_
        refine z_istore_n E 3 d_M_count_27 rfl (by decide) ?_
        refine z_iconst E (v := nI 0) d_M_count_28 (by decide) ?_
        refine z_istore E d_M_count_29 (by decide) ?_
        refine z_lp (ι := Nat) (fun k => n - k) (fun k => k ≤ n) (fun k => [some (.ref (a 0)), some (.int (nI 0)), some (.int (nI (sumN (fun i => if (st i).isSome then 0 else 1) k))), some (.int (nI (sumN (fun i => if (st i).isSome then 0 else sz i) k))), some (.int (nI k))]) (fun _ => (zu M 7 0 (nI 0))) ?_ 0 (Nat.zero_le _) (by repeat' first | exact trivial | refine ⟨rfl, ?_⟩)
        intro k hk ih
        refine z_iload E d_M_count_31 rfl ?_
        refine z_aload_n E 0 d_M_count_33 rfl rfl ?_
        refine mm_get E 8 (by decide) fl_M_40 rfl rfl d_M_count_34 ?_
        refine z_top hpB.1.1 ?_
        refine z_icmp_ge E 70 d_M_count_37 (by decide) (fun h37 => ?_) (fun h37 => ?_)
        · have h37 := (nI_leI (by omega) (by omega)).mp h37
          have : k = n := by omega
          subst this
          refine z_iload_n E 1 d_M_count_70 rfl rfl ?_
          refine z_tableIn (off := 29) E 100 d_M_count_71 (by rw [nI_toInt (by decide)]; decide) (by rw [nI_toInt (by decide)]; decide) (by rw [nI_toInt (by decide)]; decide) (by decide) ?_
          refine z_iload_n E 2 d_M_count_100 rfl rfl ?_
          refine z_iret E hr ?_ (by decide) (by decide) d_M_count_101
          exact ⟨rfl, congrArg nI (lcnt_rep hpB.2.2.1 hpB.2.2.2.1 hpB.2.1).symm⟩
        · have h37 : k < n := by have := mt (nI_leI (by omega) (by omega)).mpr h37; omega
          have hc := hpB.1.2 k h37
          refine z_aload_n E 0 d_M_count_40 rfl rfl ?_
          refine mm_get E 4 (by decide) fl_M_19 rfl rfl d_M_count_41 ?_
          refine z_iload E d_M_count_44 rfl ?_
          refine zn_iald E 4 1 rfl rfl (_) (rfl) (by omega) (by decide) d_M_count_46 ?_
          refine z_top hc.2.2.1 ?_
          refine z_iconst E (v := nI 1) d_M_count_47 (by decide) ?_
          refine z_icmp_ne E 64 d_M_count_48 (by decide) (fun h48 => ?_) (fun h48 => ?_)
          · have h48 := mt sm_1.mpr h48
            refine z_iinc E (v := nI (k + 1)) d_M_count_64 rfl (nI_1 k) (by decide) ?_
            refine z_goto E 31 d_M_count_67 (by decide) ?_
            refine ih (k + 1) _ (by omega) (by omega) ?_
            have h48 : (st k).isSome = true := by
              cases hs : st k with
              | none => exact absurd hs h48
              | some w => rfl
            simp only [sumN, h48, if_true, Nat.add_zero]
            exact (by repeat' first | exact trivial | refine ⟨rfl, ?_⟩)
          · have h48 := sm_1.mp h48
            refine z_iinc E (v := nI (sumN (fun i => if (st i).isSome then 0 else 1) k + 1)) d_M_count_51 rfl (nI_1 _) (by decide) ?_
            refine z_iload_n E 3 d_M_count_54 rfl rfl ?_
            refine z_aload_n E 0 d_M_count_55 rfl rfl ?_
            refine mm_get E 3 (by decide) fl_M_16 rfl rfl d_M_count_56 ?_
            refine z_iload E d_M_count_59 rfl ?_
            refine zn_iald E 3 1 rfl rfl (_) (rfl) (by omega) (by decide) d_M_count_61 ?_
            refine z_top hc.2.1 ?_
            refine z_iadd E d_M_count_62 ?_
            refine z_top (nI_add _ _) ?_
            refine z_istore_n E 3 d_M_count_63 rfl (by decide) ?_
            refine z_iinc E (v := nI (k + 1)) d_M_count_64 rfl (nI_1 k) (by decide) ?_
            refine z_goto E 31 d_M_count_67 (by decide) ?_
            refine ih (k + 1) _ (by omega) (by omega) ?_
            have h48 : (st k).isSome = false := by rw [h48]; rfl
            simp only [sumN, h48, Bool.false_eq_true, if_false]
            exact (by repeat' first | exact trivial | refine ⟨rfl, ?_⟩)
      · exact absurd rfl h19
    · exact absurd ((nI_leI (by omega) (by omega)).mpr (by omega)) h7
theorem c_mcount1 (l : Launch) (D : va_G) (cA : Nat → ClassId) (a : Nat → Nat) (M : zmem) (h : zmap) (g : Nat) (hi : mInv M h g) : zMi l y_M_count b_M_count 5 .int (rmk 1) D zcl (ztys cA) (mw a cA) [.ref (a 0), .int (nI 1)] M (fun r M' => M' = zu M 7 0 (nI 0) ∧ r = nI (lsum h)) := by
  refine zMi.of (own := "ZoneHeapModel") (by decide) rfl (Nat.le_of_ble_eq_true rfl) (by simp [Value.category]) ?_
  intro p e s m args below meth c A E hr hex
  obtain ⟨n, pl, sz, st, hp0⟩ := hi
  have hpB : mPic (zu M 7 0 (nI 0)) n pl sz st h g := (hp0.congr rfl rfl rfl rfl rfl rfl)
  have h256 := hp0.few
  refine z_aload_n E 0 d_M_count_0 rfl rfl ?_
  refine z_iload_n E 1 d_M_count_1 rfl rfl ?_
  refine z_if_lt E 10 d_M_count_2 (by decide) (fun h2 => ?_) (fun h2 => ?_)
  · exact absurd h2 (nI_pos (by omega))
  · refine z_iload_n E 1 d_M_count_5 rfl rfl ?_
    refine z_iconst E (v := nI 4) d_M_count_6 (by decide) ?_
    refine z_icmp_le E 14 d_M_count_7 (by decide) (fun h7 => ?_) (fun h7 => ?_)
    · refine z_iconst E (v := nI 0) d_M_count_14 (by decide) ?_
      refine z_iconst E (v := nI 1) d_M_count_15 (by decide) ?_
      refine mm_calli E [.int (nI 0), .int (nI 1)] (c_fails0 l D cA a M (nI 1)) kv_M_56 rfl rfl (by decide) (Nat.le_of_ble_eq_true rfl) (by decide) d_M_count_16 (fun r M1 hp => ?_)
      obtain ⟨rfl, rfl⟩ := hp
      refine z_if_eq E 24 d_M_count_19 (by decide) (fun h19 => ?_) (fun h19 => ?_)
      · refine z_iconst E (v := nI 0) d_M_count_24 (by decide) ?_
        refine z_istore_n E 2 d_M_count_25 rfl (by decide) ?_
        refine z_iconst E (v := nI 0) d_M_count_26 (by decide) ?_
        refine z_istore_n E 3 d_M_count_27 rfl (by decide) ?_
        refine z_iconst E (v := nI 0) d_M_count_28 (by decide) ?_
        refine z_istore E d_M_count_29 (by decide) ?_
        refine z_lp (ι := Nat) (fun k => n - k) (fun k => k ≤ n) (fun k => [some (.ref (a 0)), some (.int (nI 1)), some (.int (nI (sumN (fun i => if (st i).isSome then 0 else 1) k))), some (.int (nI (sumN (fun i => if (st i).isSome then 0 else sz i) k))), some (.int (nI k))]) (fun _ => (zu M 7 0 (nI 0))) ?_ 0 (Nat.zero_le _) (by repeat' first | exact trivial | refine ⟨rfl, ?_⟩)
        intro k hk ih
        refine z_iload E d_M_count_31 rfl ?_
        refine z_aload_n E 0 d_M_count_33 rfl rfl ?_
        refine mm_get E 8 (by decide) fl_M_40 rfl rfl d_M_count_34 ?_
        refine z_top hpB.1.1 ?_
        refine z_icmp_ge E 70 d_M_count_37 (by decide) (fun h37 => ?_) (fun h37 => ?_)
        · have h37 := (nI_leI (by omega) (by omega)).mp h37
          have : k = n := by omega
          subst this
          refine z_iload_n E 1 d_M_count_70 rfl rfl ?_
          refine z_tableIn (off := 31) E 102 d_M_count_71 (by rw [nI_toInt (by decide)]; decide) (by rw [nI_toInt (by decide)]; decide) (by rw [nI_toInt (by decide)]; decide) (by decide) ?_
          refine z_iload_n E 3 d_M_count_102 rfl rfl ?_
          refine z_iret E hr ?_ (by decide) (by decide) d_M_count_103
          exact ⟨rfl, congrArg nI (lsum_rep hpB.2.2.1 hpB.2.2.2.1 hpB.2.1).symm⟩
        · have h37 : k < n := by have := mt (nI_leI (by omega) (by omega)).mpr h37; omega
          have hc := hpB.1.2 k h37
          refine z_aload_n E 0 d_M_count_40 rfl rfl ?_
          refine mm_get E 4 (by decide) fl_M_19 rfl rfl d_M_count_41 ?_
          refine z_iload E d_M_count_44 rfl ?_
          refine zn_iald E 4 1 rfl rfl (_) (rfl) (by omega) (by decide) d_M_count_46 ?_
          refine z_top hc.2.2.1 ?_
          refine z_iconst E (v := nI 1) d_M_count_47 (by decide) ?_
          refine z_icmp_ne E 64 d_M_count_48 (by decide) (fun h48 => ?_) (fun h48 => ?_)
          · have h48 := mt sm_1.mpr h48
            refine z_iinc E (v := nI (k + 1)) d_M_count_64 rfl (nI_1 k) (by decide) ?_
            refine z_goto E 31 d_M_count_67 (by decide) ?_
            refine ih (k + 1) _ (by omega) (by omega) ?_
            have h48 : (st k).isSome = true := by
              cases hs : st k with
              | none => exact absurd hs h48
              | some w => rfl
            simp only [sumN, h48, if_true, Nat.add_zero]
            exact (by repeat' first | exact trivial | refine ⟨rfl, ?_⟩)
          · have h48 := sm_1.mp h48
            refine z_iinc E (v := nI (sumN (fun i => if (st i).isSome then 0 else 1) k + 1)) d_M_count_51 rfl (nI_1 _) (by decide) ?_
            refine z_iload_n E 3 d_M_count_54 rfl rfl ?_
            refine z_aload_n E 0 d_M_count_55 rfl rfl ?_
            refine mm_get E 3 (by decide) fl_M_16 rfl rfl d_M_count_56 ?_
            refine z_iload E d_M_count_59 rfl ?_
            refine zn_iald E 3 1 rfl rfl (_) (rfl) (by omega) (by decide) d_M_count_61 ?_
            refine z_top hc.2.1 ?_
            refine z_iadd E d_M_count_62 ?_
            refine z_top (nI_add _ _) ?_
            refine z_istore_n E 3 d_M_count_63 rfl (by decide) ?_
            refine z_iinc E (v := nI (k + 1)) d_M_count_64 rfl (nI_1 k) (by decide) ?_
            refine z_goto E 31 d_M_count_67 (by decide) ?_
            refine ih (k + 1) _ (by omega) (by omega) ?_
            have h48 : (st k).isSome = false := by rw [h48]; rfl
            simp only [sumN, h48, Bool.false_eq_true, if_false]
            exact (by repeat' first | exact trivial | refine ⟨rfl, ?_⟩)
      · exact absurd rfl h19
    · exact absurd ((nI_leI (by omega) (by omega)).mpr (by omega)) h7
theorem c_mcount2 (l : Launch) (D : va_G) (cA : Nat → ClassId) (a : Nat → Nat) (M : zmem) (h : zmap) (g : Nat) (hi : mInv M h g) : zMi l y_M_count b_M_count 5 .int (rmk 1) D zcl (ztys cA) (mw a cA) [.ref (a 0), .int (nI 2)] M (fun r M' => M' = zu M 7 0 (nI 0) ∧ r = nI (kcnt h)) := by
  refine zMi.of (own := "ZoneHeapModel") (by decide) rfl (Nat.le_of_ble_eq_true rfl) (by simp [Value.category]) ?_
  intro p e s m args below meth c A E hr hex
  obtain ⟨n, pl, sz, st, hp0⟩ := hi
  have hpB : mPic (zu M 7 0 (nI 0)) n pl sz st h g := (hp0.congr rfl rfl rfl rfl rfl rfl)
  have h256 := hp0.few
  refine z_aload_n E 0 d_M_count_0 rfl rfl ?_
  refine z_iload_n E 1 d_M_count_1 rfl rfl ?_
  refine z_if_lt E 10 d_M_count_2 (by decide) (fun h2 => ?_) (fun h2 => ?_)
  · exact absurd h2 (nI_pos (by omega))
  · refine z_iload_n E 1 d_M_count_5 rfl rfl ?_
    refine z_iconst E (v := nI 4) d_M_count_6 (by decide) ?_
    refine z_icmp_le E 14 d_M_count_7 (by decide) (fun h7 => ?_) (fun h7 => ?_)
    · refine z_iconst E (v := nI 0) d_M_count_14 (by decide) ?_
      refine z_iconst E (v := nI 1) d_M_count_15 (by decide) ?_
      refine mm_calli E [.int (nI 0), .int (nI 1)] (c_fails0 l D cA a M (nI 1)) kv_M_56 rfl rfl (by decide) (Nat.le_of_ble_eq_true rfl) (by decide) d_M_count_16 (fun r M1 hp => ?_)
      obtain ⟨rfl, rfl⟩ := hp
      refine z_if_eq E 24 d_M_count_19 (by decide) (fun h19 => ?_) (fun h19 => ?_)
      · refine z_iconst E (v := nI 0) d_M_count_24 (by decide) ?_
        refine z_istore_n E 2 d_M_count_25 rfl (by decide) ?_
        refine z_iconst E (v := nI 0) d_M_count_26 (by decide) ?_
        refine z_istore_n E 3 d_M_count_27 rfl (by decide) ?_
        refine z_iconst E (v := nI 0) d_M_count_28 (by decide) ?_
        refine z_istore E d_M_count_29 (by decide) ?_
        refine z_lp (ι := Nat) (fun k => n - k) (fun k => k ≤ n) (fun k => [some (.ref (a 0)), some (.int (nI 2)), some (.int (nI (sumN (fun i => if (st i).isSome then 0 else 1) k))), some (.int (nI (sumN (fun i => if (st i).isSome then 0 else sz i) k))), some (.int (nI k))]) (fun _ => (zu M 7 0 (nI 0))) ?_ 0 (Nat.zero_le _) (by repeat' first | exact trivial | refine ⟨rfl, ?_⟩)
        intro k hk ih
        refine z_iload E d_M_count_31 rfl ?_
        refine z_aload_n E 0 d_M_count_33 rfl rfl ?_
        refine mm_get E 8 (by decide) fl_M_40 rfl rfl d_M_count_34 ?_
        refine z_top hpB.1.1 ?_
        refine z_icmp_ge E 70 d_M_count_37 (by decide) (fun h37 => ?_) (fun h37 => ?_)
        · have h37 := (nI_leI (by omega) (by omega)).mp h37
          have : k = n := by omega
          subst this
          refine z_iload_n E 1 d_M_count_70 rfl rfl ?_
          refine z_tableIn (off := 33) E 104 d_M_count_71 (by rw [nI_toInt (by decide)]; decide) (by rw [nI_toInt (by decide)]; decide) (by rw [nI_toInt (by decide)]; decide) (by decide) ?_
          refine z_aload_n E 0 d_M_count_104 rfl rfl ?_
          refine mm_get E 8 (by decide) fl_M_40 rfl rfl d_M_count_105 ?_
          refine z_top hpB.1.1 ?_
          refine z_iload_n E 2 d_M_count_108 rfl rfl ?_
          refine z_isub E d_M_count_109 ?_
          have e1 := lcnt_rep hpB.2.2.1 hpB.2.2.2.1 hpB.2.1
          have e2 := cnt_all hpB.2.2.1 hpB.2.2.2.1 hpB.2.1
          rw [← e1]
          refine z_top (pk_sub (by omega)) ?_
          refine z_iret E hr ?_ (by decide) (by decide) d_M_count_110
          exact ⟨rfl, congrArg nI (by omega)⟩
        · have h37 : k < n := by have := mt (nI_leI (by omega) (by omega)).mpr h37; omega
          have hc := hpB.1.2 k h37
          refine z_aload_n E 0 d_M_count_40 rfl rfl ?_
          refine mm_get E 4 (by decide) fl_M_19 rfl rfl d_M_count_41 ?_
          refine z_iload E d_M_count_44 rfl ?_
          refine zn_iald E 4 1 rfl rfl (_) (rfl) (by omega) (by decide) d_M_count_46 ?_
          refine z_top hc.2.2.1 ?_
          refine z_iconst E (v := nI 1) d_M_count_47 (by decide) ?_
          refine z_icmp_ne E 64 d_M_count_48 (by decide) (fun h48 => ?_) (fun h48 => ?_)
          · have h48 := mt sm_1.mpr h48
            refine z_iinc E (v := nI (k + 1)) d_M_count_64 rfl (nI_1 k) (by decide) ?_
            refine z_goto E 31 d_M_count_67 (by decide) ?_
            refine ih (k + 1) _ (by omega) (by omega) ?_
            have h48 : (st k).isSome = true := by
              cases hs : st k with
              | none => exact absurd hs h48
              | some w => rfl
            simp only [sumN, h48, if_true, Nat.add_zero]
            exact (by repeat' first | exact trivial | refine ⟨rfl, ?_⟩)
          · have h48 := sm_1.mp h48
            refine z_iinc E (v := nI (sumN (fun i => if (st i).isSome then 0 else 1) k + 1)) d_M_count_51 rfl (nI_1 _) (by decide) ?_
            refine z_iload_n E 3 d_M_count_54 rfl rfl ?_
            refine z_aload_n E 0 d_M_count_55 rfl rfl ?_
            refine mm_get E 3 (by decide) fl_M_16 rfl rfl d_M_count_56 ?_
            refine z_iload E d_M_count_59 rfl ?_
            refine zn_iald E 3 1 rfl rfl (_) (rfl) (by omega) (by decide) d_M_count_61 ?_
            refine z_top hc.2.1 ?_
            refine z_iadd E d_M_count_62 ?_
            refine z_top (nI_add _ _) ?_
            refine z_istore_n E 3 d_M_count_63 rfl (by decide) ?_
            refine z_iinc E (v := nI (k + 1)) d_M_count_64 rfl (nI_1 k) (by decide) ?_
            refine z_goto E 31 d_M_count_67 (by decide) ?_
            refine ih (k + 1) _ (by omega) (by omega) ?_
            have h48 : (st k).isSome = false := by rw [h48]; rfl
            simp only [sumN, h48, Bool.false_eq_true, if_false]
            exact (by repeat' first | exact trivial | refine ⟨rfl, ?_⟩)
      · exact absurd rfl h19
    · exact absurd ((nI_leI (by omega) (by omega)).mpr (by omega)) h7
theorem c_mcount3 (l : Launch) (D : va_G) (cA : Nat → ClassId) (a : Nat → Nat) (M : zmem) (h : zmap) (g : Nat) (hi : mInv M h g) : zMi l y_M_count b_M_count 5 .int (rmk 1) D zcl (ztys cA) (mw a cA) [.ref (a 0), .int (nI 3)] M (fun r M' => M' = zu M 7 0 (nI 0) ∧ r = nI (ksum h)) := by
  refine zMi.of (own := "ZoneHeapModel") (by decide) rfl (Nat.le_of_ble_eq_true rfl) (by simp [Value.category]) ?_
  intro p e s m args below meth c A E hr hex
  obtain ⟨n, pl, sz, st, hp0⟩ := hi
  have hpB : mPic (zu M 7 0 (nI 0)) n pl sz st h g := (hp0.congr rfl rfl rfl rfl rfl rfl)
  have h256 := hp0.few
  refine z_aload_n E 0 d_M_count_0 rfl rfl ?_
  refine z_iload_n E 1 d_M_count_1 rfl rfl ?_
  refine z_if_lt E 10 d_M_count_2 (by decide) (fun h2 => ?_) (fun h2 => ?_)
  · exact absurd h2 (nI_pos (by omega))
  · refine z_iload_n E 1 d_M_count_5 rfl rfl ?_
    refine z_iconst E (v := nI 4) d_M_count_6 (by decide) ?_
    refine z_icmp_le E 14 d_M_count_7 (by decide) (fun h7 => ?_) (fun h7 => ?_)
    · refine z_iconst E (v := nI 0) d_M_count_14 (by decide) ?_
      refine z_iconst E (v := nI 1) d_M_count_15 (by decide) ?_
      refine mm_calli E [.int (nI 0), .int (nI 1)] (c_fails0 l D cA a M (nI 1)) kv_M_56 rfl rfl (by decide) (Nat.le_of_ble_eq_true rfl) (by decide) d_M_count_16 (fun r M1 hp => ?_)
      obtain ⟨rfl, rfl⟩ := hp
      refine z_if_eq E 24 d_M_count_19 (by decide) (fun h19 => ?_) (fun h19 => ?_)
      · refine z_iconst E (v := nI 0) d_M_count_24 (by decide) ?_
        refine z_istore_n E 2 d_M_count_25 rfl (by decide) ?_
        refine z_iconst E (v := nI 0) d_M_count_26 (by decide) ?_
        refine z_istore_n E 3 d_M_count_27 rfl (by decide) ?_
        refine z_iconst E (v := nI 0) d_M_count_28 (by decide) ?_
        refine z_istore E d_M_count_29 (by decide) ?_
        refine z_lp (ι := Nat) (fun k => n - k) (fun k => k ≤ n) (fun k => [some (.ref (a 0)), some (.int (nI 3)), some (.int (nI (sumN (fun i => if (st i).isSome then 0 else 1) k))), some (.int (nI (sumN (fun i => if (st i).isSome then 0 else sz i) k))), some (.int (nI k))]) (fun _ => (zu M 7 0 (nI 0))) ?_ 0 (Nat.zero_le _) (by repeat' first | exact trivial | refine ⟨rfl, ?_⟩)
        intro k hk ih
        refine z_iload E d_M_count_31 rfl ?_
        refine z_aload_n E 0 d_M_count_33 rfl rfl ?_
        refine mm_get E 8 (by decide) fl_M_40 rfl rfl d_M_count_34 ?_
        refine z_top hpB.1.1 ?_
        refine z_icmp_ge E 70 d_M_count_37 (by decide) (fun h37 => ?_) (fun h37 => ?_)
        · have h37 := (nI_leI (by omega) (by omega)).mp h37
          have : k = n := by omega
          subst this
          refine z_iload_n E 1 d_M_count_70 rfl rfl ?_
          refine z_tableIn (off := 40) E 111 d_M_count_71 (by rw [nI_toInt (by decide)]; decide) (by rw [nI_toInt (by decide)]; decide) (by rw [nI_toInt (by decide)]; decide) (by decide) ?_
          refine z_aload_n E 0 d_M_count_111 rfl rfl ?_
          refine mm_calli E [] (c_kept l D cA a (zu M 7 0 (nI 0)) _ pl sz st h g hpB) kv_M_52 rfl rfl (by decide) (Nat.le_of_ble_eq_true rfl) (by decide) d_M_count_112 (fun r M1 hp => ?_)
          obtain ⟨hM1, rfl⟩ := hp
          subst M1
          refine z_iret E hr ?_ (by decide) (by decide) d_M_count_115
          exact ⟨rfl, rfl⟩
        · have h37 : k < n := by have := mt (nI_leI (by omega) (by omega)).mpr h37; omega
          have hc := hpB.1.2 k h37
          refine z_aload_n E 0 d_M_count_40 rfl rfl ?_
          refine mm_get E 4 (by decide) fl_M_19 rfl rfl d_M_count_41 ?_
          refine z_iload E d_M_count_44 rfl ?_
          refine zn_iald E 4 1 rfl rfl (_) (rfl) (by omega) (by decide) d_M_count_46 ?_
          refine z_top hc.2.2.1 ?_
          refine z_iconst E (v := nI 1) d_M_count_47 (by decide) ?_
          refine z_icmp_ne E 64 d_M_count_48 (by decide) (fun h48 => ?_) (fun h48 => ?_)
          · have h48 := mt sm_1.mpr h48
            refine z_iinc E (v := nI (k + 1)) d_M_count_64 rfl (nI_1 k) (by decide) ?_
            refine z_goto E 31 d_M_count_67 (by decide) ?_
            refine ih (k + 1) _ (by omega) (by omega) ?_
            have h48 : (st k).isSome = true := by
              cases hs : st k with
              | none => exact absurd hs h48
              | some w => rfl
            simp only [sumN, h48, if_true, Nat.add_zero]
            exact (by repeat' first | exact trivial | refine ⟨rfl, ?_⟩)
          · have h48 := sm_1.mp h48
            refine z_iinc E (v := nI (sumN (fun i => if (st i).isSome then 0 else 1) k + 1)) d_M_count_51 rfl (nI_1 _) (by decide) ?_
            refine z_iload_n E 3 d_M_count_54 rfl rfl ?_
            refine z_aload_n E 0 d_M_count_55 rfl rfl ?_
            refine mm_get E 3 (by decide) fl_M_16 rfl rfl d_M_count_56 ?_
            refine z_iload E d_M_count_59 rfl ?_
            refine zn_iald E 3 1 rfl rfl (_) (rfl) (by omega) (by decide) d_M_count_61 ?_
            refine z_top hc.2.1 ?_
            refine z_iadd E d_M_count_62 ?_
            refine z_top (nI_add _ _) ?_
            refine z_istore_n E 3 d_M_count_63 rfl (by decide) ?_
            refine z_iinc E (v := nI (k + 1)) d_M_count_64 rfl (nI_1 k) (by decide) ?_
            refine z_goto E 31 d_M_count_67 (by decide) ?_
            refine ih (k + 1) _ (by omega) (by omega) ?_
            have h48 : (st k).isSome = false := by rw [h48]; rfl
            simp only [sumN, h48, Bool.false_eq_true, if_false]
            exact (by repeat' first | exact trivial | refine ⟨rfl, ?_⟩)
      · exact absurd rfl h19
    · exact absurd ((nI_leI (by omega) (by omega)).mpr (by omega)) h7
theorem c_mcount4 (l : Launch) (D : va_G) (cA : Nat → ClassId) (a : Nat → Nat) (M : zmem) (h : zmap) (g : Nat) (hi : mInv M h g) : zMi l y_M_count b_M_count 5 .int (rmk 1) D zcl (ztys cA) (mw a cA) [.ref (a 0), .int (nI 4)] M (fun r M' => M' = zu M 7 0 (nI 0) ∧ r = M 7 2) := by
  refine zMi.of (own := "ZoneHeapModel") (by decide) rfl (Nat.le_of_ble_eq_true rfl) (by simp [Value.category]) ?_
  intro p e s m args below meth c A E hr hex
  obtain ⟨n, pl, sz, st, hp0⟩ := hi
  have hpB : mPic (zu M 7 0 (nI 0)) n pl sz st h g := (hp0.congr rfl rfl rfl rfl rfl rfl)
  have h256 := hp0.few
  refine z_aload_n E 0 d_M_count_0 rfl rfl ?_
  refine z_iload_n E 1 d_M_count_1 rfl rfl ?_
  refine z_if_lt E 10 d_M_count_2 (by decide) (fun h2 => ?_) (fun h2 => ?_)
  · exact absurd h2 (nI_pos (by omega))
  · refine z_iload_n E 1 d_M_count_5 rfl rfl ?_
    refine z_iconst E (v := nI 4) d_M_count_6 (by decide) ?_
    refine z_icmp_le E 14 d_M_count_7 (by decide) (fun h7 => ?_) (fun h7 => ?_)
    · refine z_iconst E (v := nI 0) d_M_count_14 (by decide) ?_
      refine z_iconst E (v := nI 1) d_M_count_15 (by decide) ?_
      refine mm_calli E [.int (nI 0), .int (nI 1)] (c_fails0 l D cA a M (nI 1)) kv_M_56 rfl rfl (by decide) (Nat.le_of_ble_eq_true rfl) (by decide) d_M_count_16 (fun r M1 hp => ?_)
      obtain ⟨rfl, rfl⟩ := hp
      refine z_if_eq E 24 d_M_count_19 (by decide) (fun h19 => ?_) (fun h19 => ?_)
      · refine z_iconst E (v := nI 0) d_M_count_24 (by decide) ?_
        refine z_istore_n E 2 d_M_count_25 rfl (by decide) ?_
        refine z_iconst E (v := nI 0) d_M_count_26 (by decide) ?_
        refine z_istore_n E 3 d_M_count_27 rfl (by decide) ?_
        refine z_iconst E (v := nI 0) d_M_count_28 (by decide) ?_
        refine z_istore E d_M_count_29 (by decide) ?_
        refine z_lp (ι := Nat) (fun k => n - k) (fun k => k ≤ n) (fun k => [some (.ref (a 0)), some (.int (nI 4)), some (.int (nI (sumN (fun i => if (st i).isSome then 0 else 1) k))), some (.int (nI (sumN (fun i => if (st i).isSome then 0 else sz i) k))), some (.int (nI k))]) (fun _ => (zu M 7 0 (nI 0))) ?_ 0 (Nat.zero_le _) (by repeat' first | exact trivial | refine ⟨rfl, ?_⟩)
        intro k hk ih
        refine z_iload E d_M_count_31 rfl ?_
        refine z_aload_n E 0 d_M_count_33 rfl rfl ?_
        refine mm_get E 8 (by decide) fl_M_40 rfl rfl d_M_count_34 ?_
        refine z_top hpB.1.1 ?_
        refine z_icmp_ge E 70 d_M_count_37 (by decide) (fun h37 => ?_) (fun h37 => ?_)
        · have h37 := (nI_leI (by omega) (by omega)).mp h37
          have : k = n := by omega
          subst this
          refine z_iload_n E 1 d_M_count_70 rfl rfl ?_
          refine z_tableOut E 116 d_M_count_71 (by rw [nI_toInt (by decide)]; decide) (by decide) ?_
          refine z_aload_n E 0 d_M_count_116 rfl rfl ?_
          refine mm_get E 9 (by decide) fl_M_46 rfl rfl d_M_count_117 ?_
          refine z_iret E hr ?_ (by decide) (by decide) d_M_count_120
          exact ⟨rfl, rfl⟩
        · have h37 : k < n := by have := mt (nI_leI (by omega) (by omega)).mpr h37; omega
          have hc := hpB.1.2 k h37
          refine z_aload_n E 0 d_M_count_40 rfl rfl ?_
          refine mm_get E 4 (by decide) fl_M_19 rfl rfl d_M_count_41 ?_
          refine z_iload E d_M_count_44 rfl ?_
          refine zn_iald E 4 1 rfl rfl (_) (rfl) (by omega) (by decide) d_M_count_46 ?_
          refine z_top hc.2.2.1 ?_
          refine z_iconst E (v := nI 1) d_M_count_47 (by decide) ?_
          refine z_icmp_ne E 64 d_M_count_48 (by decide) (fun h48 => ?_) (fun h48 => ?_)
          · have h48 := mt sm_1.mpr h48
            refine z_iinc E (v := nI (k + 1)) d_M_count_64 rfl (nI_1 k) (by decide) ?_
            refine z_goto E 31 d_M_count_67 (by decide) ?_
            refine ih (k + 1) _ (by omega) (by omega) ?_
            have h48 : (st k).isSome = true := by
              cases hs : st k with
              | none => exact absurd hs h48
              | some w => rfl
            simp only [sumN, h48, if_true, Nat.add_zero]
            exact (by repeat' first | exact trivial | refine ⟨rfl, ?_⟩)
          · have h48 := sm_1.mp h48
            refine z_iinc E (v := nI (sumN (fun i => if (st i).isSome then 0 else 1) k + 1)) d_M_count_51 rfl (nI_1 _) (by decide) ?_
            refine z_iload_n E 3 d_M_count_54 rfl rfl ?_
            refine z_aload_n E 0 d_M_count_55 rfl rfl ?_
            refine mm_get E 3 (by decide) fl_M_16 rfl rfl d_M_count_56 ?_
            refine z_iload E d_M_count_59 rfl ?_
            refine zn_iald E 3 1 rfl rfl (_) (rfl) (by omega) (by decide) d_M_count_61 ?_
            refine z_top hc.2.1 ?_
            refine z_iadd E d_M_count_62 ?_
            refine z_top (nI_add _ _) ?_
            refine z_istore_n E 3 d_M_count_63 rfl (by decide) ?_
            refine z_iinc E (v := nI (k + 1)) d_M_count_64 rfl (nI_1 k) (by decide) ?_
            refine z_goto E 31 d_M_count_67 (by decide) ?_
            refine ih (k + 1) _ (by omega) (by omega) ?_
            have h48 : (st k).isSome = false := by rw [h48]; rfl
            simp only [sumN, h48, Bool.false_eq_true, if_false]
            exact (by repeat' first | exact trivial | refine ⟨rfl, ?_⟩)
      · exact absurd rfl h19
    · exact absurd ((nI_leI (by omega) (by omega)).mpr (by omega)) h7
end
section
/-! A handler's search with catch types that are linked here for the first time or not; calls on a part of the world -/
section ZH
variable {Q : Handler → Pre} {E : CtlPost} {e : Env} {d : Bool} {acts : List Action} {s : State} {f : JFrame} {a : Addr}
theorem zc_go {x : ExceptionTableEntry} {t : List ExceptionTableEntry} {c : ClassId} {cell : Cell} (hx : covers x f.pc = true) (h0 : x.catchType ≠ 0) (hl : s.vm.ClassLinks e.platform f.method.cls x.catchType c) (hcell : s.heap[a]? = some cell) (hobj : ∀ k, cell.vm ≠ .statics k) (hk : ∃ k, s.vm.classes[cell.cls]? = some k) (hc : ∃ k, s.vm.classes[c]? = some k) :
    wp (findHandler.go f a (x :: t)) Q E e d acts s ↔ if s.vm.assignable cell.cls c = true then Q (.found x.handlerPc) d acts (s.setVm (s.vm.noted f.method.cls x.catchType (.cls c))) else wp (findHandler.go f a t) Q E e d acts (s.setVm (s.vm.noted f.method.cls x.catchType (.cls c))) := by
  have hx' := hx
  simp only [covers] at hx'
  obtain ⟨g1, g2⟩ := (resolveClass_links e.toSetting hl).op (op := VmOp.resolveClass f.method.cls x.catchType) rfl
  have al : s.vm.Alike (s.vm.noted f.method.cls x.catchType (.cls c)) := (Vm.Alike.refl s.vm).noted _ _ _
  obtain ⟨q1, hq1⟩ := hk
  obtain ⟨q2, hq2⟩ := hc
  obtain ⟨r1, hr1, -⟩ := al.2.2 _ _ hq1
  obtain ⟨r2, hr2, -⟩ := al.2.2 _ _ hq2
  have hA := al.assignable cell.cls c
  cases hfit : s.vm.assignable cell.cls c <;> rw [hfit] at hA <;>
    simp [findHandler.go, hx', h0, g1, g2, hcell, hobj, hr1, hr2, hA, VmOp.dirties, VmOp.acts]
end ZH
/-- the search ends at a handler, the tables are vm' behind it -/
def zFnd (e : Env) (s : State) (f : JFrame) (a : Addr) (pc : Nat) (vm' : Vm) : Prop := ∀ (Q : Handler → Pre) (E : CtlPost) (d : Bool) (acts : List Action), wp (findHandler f a) Q E e d acts s ↔ Q (.found pc) d acts (s.setVm vm')
theorem zc_into {tb : Tables} {e : Env} {s target : State} {g : JFrame} {c : Code} {below : List Frame} {a : Addr} (h : At s g.method c below) {pc : Nat} {vm' : Vm} (hf : zFnd e ((s.setTop g).pushFrame (.throwing a)) g a pc vm') (hrest : Steps tb e below ((s.setVm vm').setTop { g with pc := pc, stack := [.ref a] }) target) :
    Steps tb e below ((s.setTop g).pushFrame (.throwing a)) target := by
  obtain ⟨hgo, hw⟩ := h.throwing a
  refine Steps.head hgo hw ?_
  have hstep : (stepThrowing e ((s.setTop g).pushFrame (.throwing a)) a (.java g :: s.frames.tail)).1 = (((s.setTop g).pushFrame (.throwing a)).setVm vm').setFrames (.java { g with pc := pc, stack := [.ref a] } :: s.frames.tail) := by
    simp only [stepThrowing, searchFrame, vmDo]
    generalize hr : Sem.go _ e false [] ((s.setTop g).pushFrame (.throwing a)) = res
    obtain ⟨as, rfl, -⟩ := Sem.eq_ok_of hr (a := Handler.found pc) (s' := ((s.setTop g).pushFrame (.throwing a)).setVm vm') (acts' := []) (by simp [hf _ _ _ _])
    rfl
  rw [stepThread_throwing (frames_entered h.top _), hstep]
  obtain ⟨g₀, hg⟩ := Option.isSome_iff_exists.mp h.top
  obtain ⟨r, hr⟩ := State.topJava?_eq_some.mp hg
  have hr' : (s.setVm vm').frames = .java g₀ :: r := hr
  rw [State.setTop_of_frames _ hr'] at hrest
  rw [hr, List.tail_cons, State.pushFrame, State.setTop_of_frames _ hr, State.setFrames_setFrames]
  have e1 : ∀ F G : List Frame, ((s.setFrames F).setVm vm').setFrames G = (s.setVm vm').setFrames G := fun F G => by
    have h1 : (s.setFrames F).setVm vm' = (s.setVm vm').setFrames F := rfl
    rw [h1, State.setFrames_setFrames]
  rw [e1]
  exact hrest
section ZK
variable {p : Program} {l : Launch} {e : Env} {R : Room} {s : State} {m : MethodId} {args : Array Value} {below : List Frame} {meth : Method} {c : Code} {T : State} {locs : List Loc} {cells slots : Nat}
theorem zc_one (X : Stand p l e R s m args below meth c T locs cells slots) {g : JFrame} (hg : g.method = m) {own C : String} (hown : s.vm.findClass own = some m.cls) (x : ExceptionTableEntry) (rest : List ExceptionTableEntry) (hsp : c.exceptionTable.toList = x :: rest) (hx : covers x g.pc = true) (h0 : x.catchType ≠ 0) (hlink : (Cond.classLink own x.catchType C).before args s = true)
    {a : Addr} {cell : Cell} (hcell : T.heap[a]? = some cell) (hobj : cell.vm.isStatics = false) {cT : ClassId} (hcT : s.vm.findClass C = some cT) (hfit : s.vm.assignable cell.cls cT = true) :
    ∃ vm', Stand p l e R s m args below meth c (T.setVm vm') locs cells slots ∧ ∀ target, Steps p.tables e below ((T.setVm vm').setTop { g with pc := x.handlerPc, stack := [.ref a] }) target → Steps p.tables e below ((T.setTop g).pushFrame (.throwing a)) target := by
  have hpl : e.platform.magicAccessors = ({} : Platform).magicAccessors := by rw [X.admits.platform]
  obtain ⟨c', hc', hcl⟩ := Cond.classLink_spec hown hlink e.platform hpl
  cases hcT.symm.trans hc'
  obtain ⟨dk, _, _, kt, hd, _, _, _, _, hkt, _, hopen⟩ := hcl.here
  have hcl₀ := X.warmed.classLinks hcl
  have hal := X.warmed.alike
  obtain ⟨kt', hkt', -⟩ := hal.2.2 _ _ hkt
  have hfit' : T.vm.assignable cell.cls cT = true := by rw [hal.assignable]; exact hfit
  subst hg
  refine ⟨T.vm.noted g.method.cls x.catchType (.cls cT), X.noted (X.warmed.noted hd hopen (State.rightAt_cls hcl)), fun target hr => zc_into X.here ?_ hr⟩
  intro Q E d acts
  rw [W.findHandler_eq (s := (T.setTop g).pushFrame (.throwing a)) (meth := meth) (code := c) X.method' X.code, hsp]
  rw [zc_go (s := (T.setTop g).pushFrame (.throwing a)) hx h0 hcl₀ hcell (VmData.ne_statics_of hobj) (Vm.classAt_of_assignable hfit' ⟨kt', hkt'⟩) ⟨kt', hkt'⟩]
  rw [if_pos (show ((T.setTop g).pushFrame (.throwing a)).vm.assignable cell.cls cT = true from hfit')]
  rfl
theorem zc_two (X : Stand p l e R s m args below meth c T locs cells slots) {g : JFrame} (hg : g.method = m) {own C C1 : String} (hown : s.vm.findClass own = some m.cls) (x1 x : ExceptionTableEntry) (rest : List ExceptionTableEntry) (hsp : c.exceptionTable.toList = x1 :: x :: rest) (hx1 : covers x1 g.pc = true) (h01 : x1.catchType ≠ 0) (hlink1 : (Cond.classLink own x1.catchType C1).before args s = true) (hx : covers x g.pc = true) (h0 : x.catchType ≠ 0) (hlink : (Cond.classLink own x.catchType C).before args s = true)
    {a : Addr} {cell : Cell} (hcell : T.heap[a]? = some cell) (hobj : cell.vm.isStatics = false) {cT c1 : ClassId} (hc1 : s.vm.findClass C1 = some c1) (hno : s.vm.assignable cell.cls c1 = false) (hcT : s.vm.findClass C = some cT) (hfit : s.vm.assignable cell.cls cT = true) :
    ∃ vm', Stand p l e R s m args below meth c (T.setVm vm') locs cells slots ∧ ∀ target, Steps p.tables e below ((T.setVm vm').setTop { g with pc := x.handlerPc, stack := [.ref a] }) target → Steps p.tables e below ((T.setTop g).pushFrame (.throwing a)) target := by
  have hpl : e.platform.magicAccessors = ({} : Platform).magicAccessors := by rw [X.admits.platform]
  obtain ⟨c', hc', hcl⟩ := Cond.classLink_spec hown hlink e.platform hpl
  cases hcT.symm.trans hc'
  obtain ⟨c'', hc'', hcl1⟩ := Cond.classLink_spec hown hlink1 e.platform hpl
  cases hc1.symm.trans hc''
  obtain ⟨dk, _, _, kt, hd, _, _, _, _, hkt, _, hopen⟩ := hcl.here
  obtain ⟨dk1, _, _, kt1, hd1, _, _, _, _, hkt1, _, hopen1⟩ := hcl1.here
  have hcl₀ := X.warmed.classLinks hcl1
  have hal := X.warmed.alike
  obtain ⟨kt', hkt', -⟩ := hal.2.2 _ _ hkt
  obtain ⟨kt1', hkt1', -⟩ := hal.2.2 _ _ hkt1
  have hfit' : T.vm.assignable cell.cls cT = true := by rw [hal.assignable]; exact hfit
  have hno' : T.vm.assignable cell.cls c1 = false := by rw [hal.assignable]; exact hno
  have hkc : ∃ k, T.vm.classes[cell.cls]? = some k := Vm.classAt_of_assignable hfit' ⟨kt', hkt'⟩
  subst hg
  have hW1 := X.warmed.noted hd1 hopen1 (State.rightAt_cls hcl1)
  have hcl₁ := hW1.classLinks hcl
  have hal1 := hW1.alike
  obtain ⟨kt2, hkt2, -⟩ := hal1.2.2 _ _ hkt
  have hfit2 : (T.vm.noted g.method.cls x1.catchType (.cls c1)).assignable cell.cls cT = true := by rw [hal1.assignable]; exact hfit
  refine ⟨(T.vm.noted g.method.cls x1.catchType (.cls c1)).noted g.method.cls x.catchType (.cls cT), X.noted (hW1.noted hd hopen (State.rightAt_cls hcl)), fun target hr => zc_into X.here ?_ hr⟩
  intro Q E d acts
  rw [W.findHandler_eq (s := (T.setTop g).pushFrame (.throwing a)) (meth := meth) (code := c) X.method' X.code, hsp]
  rw [zc_go (s := (T.setTop g).pushFrame (.throwing a)) hx1 h01 hcl₀ hcell (VmData.ne_statics_of hobj) hkc ⟨kt1', hkt1'⟩]
  rw [if_neg (show ¬ ((T.setTop g).pushFrame (.throwing a)).vm.assignable cell.cls c1 = true from by rw [show ((T.setTop g).pushFrame (.throwing a)).vm.assignable cell.cls c1 = false from hno']; decide)]
  rw [Stand.throwing_vm]
  rw [zc_go (s := ((T.setTop g).pushFrame (.throwing a)).setVm (T.vm.noted g.method.cls x1.catchType (.cls c1))) hx h0 hcl₁ hcell (VmData.ne_statics_of hobj) (Vm.classAt_of_assignable hfit2 ⟨kt2, hkt2⟩) ⟨kt2, hkt2⟩]
  rw [if_pos (show (((T.setTop g).pushFrame (.throwing a)).setVm (T.vm.noted g.method.cls x1.catchType (.cls c1))).vm.assignable cell.cls cT = true from hfit2)]
  rfl
end ZK
/-! calls on a part of the world -/
def zSub (W0 Wc Wr : va_W) (isC isR : List Nat) : Prop := isC.map (fun i => W0[i]?) = Wc.map some ∧ isR.map (fun i => W0[i]?) = Wr.map some ∧ va_nd isC = true ∧ va_nd isR = true ∧ ∀ i ∈ isR, i ∉ isC
def zPer (W1 W2 : va_W) (is : List Nat) : Prop := is.map (fun i => W1[i]?) = W2.map some ∧ va_nd is = true
theorem z_fm {is : List Nat} {W1 W2 : va_W} (h : is.map (fun i => W1[i]?) = W2.map some) : is.filterMap (fun i => W1[i]?) = W2 := by
  have key : ∀ (is : List Nat) (W2 : va_W), is.map (fun i => W1[i]?) = W2.map some → is.filterMap (fun i => W1[i]?) = W2 := by
    intro is
    induction is with
    | nil => intro W2 h; cases W2 with | nil => rfl | cons a t => cases h
    | cons i t ih =>
      intro W2 h
      cases W2 with
      | nil => cases h
      | cons b u =>
        simp only [List.map_cons, List.cons.injEq] at h
        rw [List.filterMap_cons, h.1]
        simp only [ih u h.2]
  exact key is W2 h
def zMiW (l : Launch) (y : MethodName) (b : ByteArray) (nL : Nat) (hh : List (Nat × Nat × Nat × Nat)) (rm : Room) (D : va_G) (cl : List vw_C) (tys : List (ClassId × FieldType)) {σ : Type} (w : σ → va_W) (av : List Value) (M : σ) (post : Int32 → σ → Prop) : Prop :=
  ∀ sz : Nat, Met l y (.codeWith y b nL (some .int) hh :: zT) rm (va_Pc av (zI D cl tys (w M) sz)) (va_Qi post (zB D cl tys (va_A (w M) sz) w) (va_A (w M) sz)) rm.cells rm.slots (va_A (w M) sz)
theorem zMiW.of {l : Launch} {y : MethodName} {b : ByteArray} {nL : Nat} {hh : List (Nat × Nat × Nat × Nat)} {rm : Room} {D : va_G} {cl : List vw_C} {tys : List (ClassId × FieldType)} {σ : Type} {w : σ → va_W} {av : List Value} {M : σ} {post : Int32 → σ → Prop} {own : String} (hy : plainName y.cls = true) (ho : y.cls = own) (hlen : (lg_sl av).length ≤ nL) (hcat : ∀ v ∈ av, v.category = 1)
    (body : ∀ (p : Program) (e : Env) (s : State) (m : MethodId) (args : Array Value) (below : List Frame) (meth : Method) (c : Code) (A : Nat → Prop), zE p s m args meth c b nL own D cl tys A → meth.sig.returnType = some .int → c.exceptionTable.toList = tableOf hh →
      ZW p l e rm s m args below meth c nL D cl A w 0 0 (zQi D cl tys A w post rm below args s) 0 (av.map some ++ List.replicate (nL - av.length) none) [] M) : zMiW l y b nL hh rm D cl tys w av M post := by
  intro sz
  refine va_MetW (cc := b) (maxL := nL) (ret := some .int) (hh := hh) hy rfl ?_
  intro p e s m args below meth c s₁ B hml hv
  obtain ⟨rfl, hsz, hP, hK, hD0, hZ⟩ := hv
  have hts := atoms_spec (ws := .codeWith y b nL (some .int) hh :: zT) B.pre
  have hown : s.vm.findClass own = some m.cls := ho ▸ findClass_of_methodNamed B.named
  have hex : c.exceptionTable.toList = tableOf hh := by
    obtain ⟨m9, meth9, c9, hn9, h1, h2, -, -, htab, -⟩ := Cond.codeWith_spec (hts _ List.mem_cons_self)
    cases B.named.symm.trans hn9
    cases B.method.symm.trans h1
    cases (Stand.of_body B).code.symm.trans h2
    rw [← htab, table_eq]
  subst hsz
  have hD := hD0.self (sz := s.heap.size)
  have hA : ∀ q : Nat, s.heap.size ≤ q → va_A (w M) s.heap.size q := fun q h => Or.inr h
  rw [lg_entry_eq]
  exact body p e s m av.toArray below meth c (va_A (w M) s.heap.size) ⟨B.exec, B.bytes, hml, hown, fun x hx => hts x (List.mem_cons_of_mem _ hx), hK, hA, B.notSynchronized, hZ, zE_st hP⟩ B.returns hex s.heap [] _ hP hD va_S.rf (zl.entry av hlen hcat)
section ZF
variable {p : Program} {l : Launch} {e : Env} {R : Room} {s : State} {m : MethodId} {args : Array Value} {below : List Frame} {meth : Method} {c : Code} {cells slots : Nat} {Q : State → Prop}
variable {cc : ByteArray} {nL : Nat} {own : String} {D : va_G} {cl : List vw_C} {tys : List (ClassId × FieldType)} {A : Nat → Prop} {σ : Type} {w : σ → va_W} {pc : Nat} {L : List (Option Value)} {st : List Value} {M : σ}
variable {σ1 : Type} {w1 : σ1 → va_W} {M1 : σ1}
theorem zf_back (E : zE p s m args meth c cc nL own D cl tys A) {Wr : va_W} {isC isR perm : List Nat} (hsub : zSub (w M) (w1 M1) Wr isC isR) {H H1 : Heap} (a1 : va_P D cl (w M) H) (a2 : va_D A (w M)) (hin : ∀ q, va_A (w1 M1) H.size q → A q) (hk : ∀ q : Nat, q < H.size → ¬ va_A (w1 M1) H.size q → H1[q]? = H[q]?) {M1' : σ1} {M' : σ} (b1 : va_P D cl (w1 M1') H1) (b3 : va_D (va_A (w1 M1) H.size) (w1 M1')) (hper : zPer (Wr ++ w1 M1') (w M') perm) : va_P D cl (w M') H1 ∧ va_D A (w M') := by
  obtain ⟨s1, s2, s3, s4, s5⟩ := hsub
  obtain ⟨c1, c2⟩ := va_join (wr := Wr) (w1 := w1 M1') a1 a2 isC isR s1 s2 s4 s5 hk hin b1 b3
  exact ⟨c1.sub perm (z_fm hper.1), c2.sub perm hper.2 hper.1⟩
theorem zf_calli (E : zE p s m args meth c cc nL own D cl tys A) {y : MethodName} {b : ByteArray} {n1 index n : Nat} {rt : FieldType} {rm : Room} {post : Int32 → σ1 → Prop} {C : String} {o : Nat} (As : List Value) {stk : List Value} (hM : zMi l y b n1 rt rm D cl tys w1 (.ref o :: As) M1 post) (hY : zYv own C index y b n1 (some rt) n) {Wr : va_W} (isC isR perm : List Nat) (hsub : zSub (w M) (w1 M1) Wr isC isR) (mk : σ1 → σ) (hper : ∀ M1', zPer (Wr ++ w1 M1') (w (mk M1')) perm) (q0 : Nat) {ci : Nat} {fs : List Value} {T : u_T} {N : Nat} (he : (w M)[q0]? = some (o, .inr (ci, fs))) (hc : cl[ci]? = some (C, T, N)) (hs : stk = As.reverse ++ .ref o :: st) (hn : As.length = n) (hR : rm.frames + 1 ≤ R.frames ∧ 8 + (n1 + 11) + rm.locals ≤ R.locals) (hw : (st.map fun v => v.category).sum ≤ 8) (hf : cells + rm.cells ≤ R.cells ∧ slots + rm.slots ≤ R.slots) (hd : decode cc pc = .ok (.invokevirtual index, 3))
    (kk : ∀ (r : Int32) (M1' : σ1), post r M1' → ZW p l e R s m args below meth c nL D cl A w (cells + rm.cells) (slots + rm.slots) Q (pc + 3) L (.int r :: st) (mk M1')) : ZW p l e R s m args below meth c nL D cl A w cells slots Q pc L stk M := by
  intro H locs ls a1 a2 a3 a4
  obtain ⟨h1, h2, h3, h4, h5, h6⟩ := hY
  have b1 := a1.sub isC (z_fm hsub.1)
  have b2 := a2.sub isC hsub.2.2.1 hsub.1
  obtain ⟨p1, p2⟩ := z_pre E b1 b2 a3 (.ref o :: As)
  have hin := z_in E b2 a3
  refine va_calli (va_runV (cc := cc) (nL := nL) (Ts := zT) (own := own) (C := C) (b := o) (As := As) (rest := st) (n := n) ⟨E.1, E.2.1, E.2.2.1, E.2.2.2.1, E.2.2.2.2.1⟩ (hM H.size) ⟨z_cb E h1 h2 h3 h6 hR, E.2.2.2.2.1 _ h4, E.2.2.2.2.1 _ h5⟩ ⟨p1, va_recv E.2.2.2.2.2.1 a1 hc he, p2⟩ rfl hn a4.1 hs (lv_room hw) hd hf) a3 (fun q _ h => hin q h) hin (fun r M' t H1 locs1 ht hvm hp hB hz hk hS => ?_)
  obtain ⟨d1, d2, d3⟩ := hB
  rw [ht] at d1
  obtain ⟨f1, f2⟩ := zf_back E hsub a1 a2 hin hk d1 d3 (hper M')
  exact kk r M' hp H1 locs1 ls f1 f2 hS a4
theorem zf_callv (E : zE p s m args meth c cc nL own D cl tys A) {y : MethodName} {b : ByteArray} {n1 index n : Nat} {rm : Room} {post : σ1 → Prop} {C : String} {o : Nat} (As : List Value) {stk : List Value} (hM : zMv l y b n1 rm D cl tys w1 (.ref o :: As) M1 post) (hY : zYv own C index y b n1 none n) {Wr : va_W} (isC isR perm : List Nat) (hsub : zSub (w M) (w1 M1) Wr isC isR) (mk : σ1 → σ) (hper : ∀ M1', zPer (Wr ++ w1 M1') (w (mk M1')) perm) (q0 : Nat) {ci : Nat} {fs : List Value} {T : u_T} {N : Nat} (he : (w M)[q0]? = some (o, .inr (ci, fs))) (hc : cl[ci]? = some (C, T, N)) (hs : stk = As.reverse ++ .ref o :: st) (hn : As.length = n) (hR : rm.frames + 1 ≤ R.frames ∧ 8 + (n1 + 11) + rm.locals ≤ R.locals) (hw : (st.map fun v => v.category).sum ≤ 8) (hf : cells + rm.cells ≤ R.cells ∧ slots + rm.slots ≤ R.slots) (hd : decode cc pc = .ok (.invokevirtual index, 3))
    (kk : ∀ (M1' : σ1), post M1' → ZW p l e R s m args below meth c nL D cl A w (cells + rm.cells) (slots + rm.slots) Q (pc + 3) L st (mk M1')) : ZW p l e R s m args below meth c nL D cl A w cells slots Q pc L stk M := by
  intro H locs ls a1 a2 a3 a4
  obtain ⟨h1, h2, h3, h4, h5, h6⟩ := hY
  have b1 := a1.sub isC (z_fm hsub.1)
  have b2 := a2.sub isC hsub.2.2.1 hsub.1
  obtain ⟨p1, p2⟩ := z_pre E b1 b2 a3 (.ref o :: As)
  have hin := z_in E b2 a3
  refine va_callv (va_runV (cc := cc) (nL := nL) (Ts := zT) (own := own) (C := C) (b := o) (As := As) (rest := st) (n := n) ⟨E.1, E.2.1, E.2.2.1, E.2.2.2.1, E.2.2.2.2.1⟩ (hM H.size) ⟨z_cb E h1 h2 h3 h6 hR, E.2.2.2.2.1 _ h4, E.2.2.2.2.1 _ h5⟩ ⟨p1, va_recv E.2.2.2.2.2.1 a1 hc he, p2⟩ rfl hn a4.1 hs (lv_room hw) hd hf) a3 (fun q _ h => hin q h) hin (fun M' t H1 locs1 ht hvm hp hB hz hk hS => ?_)
  obtain ⟨d1, d2, d3⟩ := hB
  rw [ht] at d1
  obtain ⟨f1, f2⟩ := zf_back E hsub a1 a2 hin hk d1 d3 (hper M')
  exact kk M' hp H1 locs1 ls f1 f2 hS a4
theorem zf_callI (E : zE p s m args meth c cc nL own D cl tys A) {y : MethodName} {b : ByteArray} {n1 index n : Nat} {rm : Room} {post : σ1 → Prop} {o : Nat} (As : List Value) {stk : List Value} (hM : zMv l y b n1 rm D cl tys w1 (.ref o :: As) M1 post) (hY : zYi own index y b n1 n) {Wr : va_W} (isC isR : List Nat) (hsub : zSub (w M) (w1 M1) Wr isC isR) (hs : stk = As.reverse ++ .ref o :: st) (hn : As.length = n) (hR : rm.frames + 1 ≤ R.frames ∧ 8 + (n1 + 11) + rm.locals ≤ R.locals) (hw : (st.map fun v => v.category).sum ≤ 8) (hf : cells + rm.cells ≤ R.cells ∧ slots + rm.slots ≤ R.slots) (hd : decode cc pc = .ok (.invokespecial index, 3))
    (kk : ∀ (M1' : σ1), post M1' → ∃ (M' : σ) (perm : List Nat), zPer (Wr ++ w1 M1') (w M') perm ∧ ZW p l e R s m args below meth c nL D cl A w (cells + rm.cells) (slots + rm.slots) Q (pc + 3) L st M') : ZW p l e R s m args below meth c nL D cl A w cells slots Q pc L stk M := by
  intro H locs ls a1 a2 a3 a4
  obtain ⟨h1, h2, h3, h4, h5, h6⟩ := hY
  have b1 := a1.sub isC (z_fm hsub.1)
  have b2 := a2.sub isC hsub.2.2.1 hsub.1
  have hin := z_in E b2 a3
  refine va_callv (va_runI (cc := cc) (nL := nL) (Ts := zT) (own := own) (b := o) (As := As) (rest := st) (n := n) ⟨E.1, E.2.1, E.2.2.1, E.2.2.2.1, E.2.2.2.2.1⟩ (hM H.size) ⟨z_cb E h1 h2 h3 h6 hR, h5, E.2.2.2.2.1 _ h4⟩ (z_pre E b1 b2 a3 (.ref o :: As)) rfl hn a4.1 hs (lv_room hw) hd hf) a3 (fun q _ h => hin q h) hin (fun M' t H1 locs1 ht hvm hp hB hz hk hS => ?_)
  obtain ⟨d1, d2, d3⟩ := hB
  rw [ht] at d1
  obtain ⟨M2, perm, hper, K⟩ := kk M' hp
  obtain ⟨f1, f2⟩ := zf_back E hsub a1 a2 hin hk d1 d3 hper
  exact K H1 locs1 ls f1 f2 hS a4
/-- a static callee with handlers -/
theorem zf_callW (E : zE p s m args meth c cc nL own D cl tys A) {y : MethodName} {b : ByteArray} {n1 index n : Nat} {hh : List (Nat × Nat × Nat × Nat)} {rm : Room} {post : Int32 → σ1 → Prop} (As : List Value) {stk : List Value} (hM : zMiW l y b n1 hh rm D cl tys w1 As M1 post) (hY : Cond.codeWith y b n1 (some .int) hh ∈ zT ∧ Cond.initialized y.cls ∈ zT ∧ Cond.methodLink own index y ∈ zT ∧ Cond.static y ∈ zT) (hy : y.cls ≠ "java/lang/invoke/MethodHandle" ∧ y.cls ≠ "java/lang/invoke/VarHandle" ∧ (parseMethodDescriptor y.desc).map (fun d => d.parameters.length) = some n) {Wr : va_W} (isC isR perm : List Nat) (hsub : zSub (w M) (w1 M1) Wr isC isR) (mk : σ1 → σ) (hper : ∀ M1', zPer (Wr ++ w1 M1') (w (mk M1')) perm) (hs : stk = As.reverse ++ st) (hn : As.length = n) (hR : rm.frames + 1 ≤ R.frames ∧ 8 + (n1 + 11) + rm.locals ≤ R.locals) (hw : (st.map fun v => v.category).sum ≤ 8) (hf : cells + rm.cells ≤ R.cells ∧ slots + rm.slots ≤ R.slots) (hd : decode cc pc = .ok (.invokestatic index, 3))
    (kk : ∀ (r : Int32) (M1' : σ1), post r M1' → ZW p l e R s m args below meth c nL D cl A w (cells + rm.cells) (slots + rm.slots) Q (pc + 3) L (.int r :: st) (mk M1')) : ZW p l e R s m args below meth c nL D cl A w cells slots Q pc L stk M := by
  intro H locs ls a1 a2 a3 a4
  obtain ⟨h1, h2, h3, h4⟩ := hY
  obtain ⟨e1, e2, e3, e4, e5, e6, e7, e8, e9, e10⟩ := id E
  have b1 := a1.sub isC (z_fm hsub.1)
  have b2 := a2.sub isC hsub.2.2.1 hsub.1
  obtain ⟨p1, p2⟩ := z_pre E b1 b2 a3 As
  have hin := z_in E b2 a3
  have hrun : va_Run p l e R s m args below meth c H locs cells slots rm.cells rm.slots (F0 m pc ls stk) st (va_Qi post (zB D cl tys (va_A (w1 M1) H.size) w1) (va_A (w1 M1) H.size) As.toArray) (va_A (w1 M1) H.size) := by
    have hK : Back l R p e below s args y 3 8 (PreOf R rm.cells rm.slots (va_Pc As (zI D cl tys (w1 M1) H.size))) (PostOf (va_Qi post (zB D cl tys (va_A (w1 M1) H.size) w1) (va_A (w1 M1) H.size)) rm.cells rm.slots (va_A (w1 M1) H.size)) :=
      va_backW (hh := hh) (bytes := b) (maxL := n1) (ret := some .int) (hM H.size) p1 rfl rfl hR.1 hR.2 (fun x hx a' U hW => by
        rcases List.mem_cons.mp hx with rfl | hx
        · exact word_at hW (zT_good _ h1) (e5 _ h1)
        · exact word_at hW (zT_good _ hx) (e5 _ hx)) List.mem_cons_self (fun a' U hW => word_at hW (zT_good _ h2) (e5 _ h2))
    intro T0 hT0 X0
    obtain ⟨mk9, methM, cM, hnamed, hmethM, -, -, -, -, -, -, hsigM⟩ := Cond.codeWith_spec (e5 _ h1)
    have hstatic : methM.isStatic = true := Cond.static_spec hnamed hmethM (e5 _ h4)
    obtain ⟨kP, hkP, -⟩ := className_of_methodNamed hnamed
    have hinitP : kP.init = .initialized := Cond.initialized_spec (findClass_of_methodNamed hnamed) hkP (e5 _ h2)
    have hlen : As.length = methM.sig.parameters.length := by
      have h7 := hy.2.2
      rw [hsigM] at h7
      rw [hn]
      simpa using h7.symm
    subst e2
    obtain ⟨vm₁, X₁, hstep₁⟩ := X0.invokestatic e1 e4 (e5 _ h3) hnamed hmethM hstatic hkP hinitP ⟨hy.1, hy.2.1⟩ (g := F0 m pc ls stk) rfl (argsL := As) (rest := st) hlen hs hd
    obtain ⟨v, ⟨U', l2, c2, s2⟩, X', ⟨g', mk', t, Lo, f1, f2, hq, g1, hL, g2, g3⟩, hsteps⟩ := hK m meth c ⟨T0.setVm vm₁, locs, cells, slots⟩ (F0 m pc ls st) (.invokestatic index) mk9 As.toArray X₁ rfl (a4.1.trans e3.symm) hd (lv_room hw) (X₁.named hnamed) ⟨hf.1, hf.2, p2 (T0.setVm vm₁) hT0 X₁.warmed⟩
    dsimp only [Pt.U, Pt.locs, Pt.cells, Pt.slots] at X' f1 f2 g1 g2 g3 hsteps
    subst g1; subst g2; subst g3
    exact ⟨v, (T0.setVm vm₁).calling g' mk' As.toArray, t, U', Lo, hT0, X', hL, f1, f2, hq, fun target h => hstep₁ _ (fun acts => by rw [doInvoke_state]; exact hsteps.trans h)⟩
  refine va_calli hrun a3 (fun q _ h => hin q h) hin (fun r M' t H1 locs1 ht hvm hp hB hz hk hS => ?_)
  obtain ⟨d1, d2, d3⟩ := hB
  rw [ht] at d1
  obtain ⟨f1, f2⟩ := zf_back E hsub a1 a2 hin hk d1 d3 (hper M')
  exact kk r M' hp H1 locs1 ls f1 f2 hS a4
end ZF
end
section
/-! A call whose throw is caught; rows of longs, of a new array and of constructors -/
section ZG
variable {p : Program} {l : Launch} {e : Env} {R : Room} {s : State} {m : MethodId} {args : Array Value} {below : List Frame} {meth : Method} {c : Code} {cells slots : Nat} {Q : State → Prop}
variable {cc : ByteArray} {nL : Nat} {own : String} {D : va_G} {cl : List vw_C} {tys : List (ClassId × FieldType)} {A : Nat → Prop} {σ : Type} {w : σ → va_W} {pc : Nat} {L : List (Option Value)} {st : List Value} {M : σ}
variable {σ1 : Type} {w1 : σ1 → va_W} {M1 : σ1}
def zFind (p : Program) (l : Launch) (e : Env) (R : Room) (s : State) (m : MethodId) (args : Array Value) (below : List Frame) (meth : Method) (c : Code) (pc hpc : Nat) (X : String) : Prop :=
  ∀ (T : State) (locs : List Loc) (cells slots : Nat) (g : JFrame) (a : Addr) (cell : Cell), Stand p l e R s m args below meth c T locs cells slots → g.method = m → g.pc = pc → T.heap[a]? = some cell → cell.vm.isStatics = false → s.vm.findClass X = some cell.cls →
    ∃ vm', Stand p l e R s m args below meth c (T.setVm vm') locs cells slots ∧ ∀ target, Steps p.tables e below ((T.setVm vm').setTop { g with pc := hpc, stack := [.ref a] }) target → Steps p.tables e below ((T.setTop g).pushFrame (.throwing a)) target
theorem zc_f1 (E : zE p s m args meth c cc nL own D cl tys A) {X : String} {f t hp ix : Nat} {rest : List (Nat × Nat × Nat × Nat)} (hex : c.exceptionTable.toList = tableOf ((f, t, hp, ix) :: rest)) (h1 : f ≤ pc ∧ pc < t) (h0 : ix ≠ 0) (hl : Cond.classLink own ix X ∈ zT) (hX : Cond.castable X X ∈ zC) : zFind p l e R s m args below meth c pc hp X := by
  intro T locs k n g a cell Y hg hp' hc hst hfc
  obtain ⟨c1, c2, q1, q2, q3⟩ := Cond.castable_spec (E.2.2.2.2.2.2.2.2.1.use args _ hX)
  cases hfc.symm.trans q1
  cases hfc.symm.trans q2
  exact zc_one Y hg E.2.2.2.1 ⟨f, t, hp, ix⟩ (tableOf rest) hex (by rw [hp']; simp [covers, h1.1, h1.2]) h0 (E.2.2.2.2.1 _ hl) hc hst hfc q3
theorem zc_f2 (E : zE p s m args meth c cc nL own D cl tys A) {X X1 : String} {f t hp ix hp1 ix1 : Nat} {rest : List (Nat × Nat × Nat × Nat)} (hex : c.exceptionTable.toList = tableOf ((f, t, hp1, ix1) :: (f, t, hp, ix) :: rest)) (h1 : f ≤ pc ∧ pc < t) (h0 : ix ≠ 0) (h01 : ix1 ≠ 0) (hl1 : Cond.classLink own ix1 X1 ∈ zT) (hl : Cond.classLink own ix X ∈ zT) (hX : Cond.castable X X ∈ zC) (hX1 : Cond.castable X1 X1 ∈ zC) (hn : Cond.not (.castable X X1) ∈ zC) : zFind p l e R s m args below meth c pc hp X := by
  intro T locs k n g a cell Y hg hp' hc hst hfc
  have hu := E.2.2.2.2.2.2.2.2.1.use args
  obtain ⟨c1, c2, q1, q2, q3⟩ := Cond.castable_spec (hu _ hX)
  cases hfc.symm.trans q1
  cases hfc.symm.trans q2
  obtain ⟨c3, c4, r1, r2, r3⟩ := Cond.castable_spec (hu _ hX1)
  have hno : s.vm.assignable cell.cls c3 = false := by
    have h := hu _ hn
    simp only [Cond.before, Cond.holds, Cond.value, hfc, r1] at h
    revert h
    cases s.vm.assignable cell.cls c3
    · intro _; rfl
    · intro h; cases h
  exact zc_two Y hg E.2.2.2.1 ⟨f, t, hp1, ix1⟩ ⟨f, t, hp, ix⟩ (tableOf rest) hex (by rw [hp']; simp [covers, h1.1, h1.2]) h01 (E.2.2.2.2.1 _ hl1) (by rw [hp']; simp [covers, h1.1, h1.2]) h0 (E.2.2.2.2.1 _ hl) hc hst r1 hno hfc q3
/-- a callee throws, the caller catches -/
theorem zc_callv (E : zE p s m args meth c cc nL own D cl tys A) {X : String} {y : MethodName} {b : ByteArray} {n1 index n : Nat} {ret : Option FieldType} {rm1 : Room} {C : String} {o : Nat} (As : List Value) {stk : List Value} (hM : zMt l y b n1 ret rm1 D cl tys w1 (.ref o :: As) M1 X) (hY : zYv own C index y b n1 ret n) {Wr : va_W} (isC isR perm : List Nat) (hsub : zSub (w M) (w1 M1) Wr isC isR) (hper : zPer (Wr ++ w1 M1) (w M) perm) (hp : Nat) (hF : zFind p l e R s m args below meth c pc hp X) (q0 : Nat) {ci : Nat} {fs : List Value} {T : u_T} {N : Nat} (he : (w M)[q0]? = some (o, .inr (ci, fs))) (hc : cl[ci]? = some (C, T, N)) (hs : stk = As.reverse ++ .ref o :: st) (hn : As.length = n) (hR : rm1.frames + 1 ≤ R.frames ∧ 8 + (n1 + 11) + rm1.locals ≤ R.locals) (hw : (st.map fun v => v.category).sum ≤ 8) (hf : cells + rm1.cells ≤ R.cells ∧ slots + rm1.slots ≤ R.slots) (hd : decode cc pc = .ok (.invokevirtual index, 3))
    (kk : ∀ x : Nat, ZW p l e R s m args below meth c nL D cl A w (cells + rm1.cells) (slots + rm1.slots) Q hp L [.ref x] M) : ZW p l e R s m args below meth c nL D cl A w cells slots Q pc L stk M := by
  intro H locs ls a1 a2 a3 a4 T0 hT0 X0
  obtain ⟨h1, h2, h3, h4, h5, h6⟩ := hY
  have b1 := a1.sub isC (z_fm hsub.1)
  have b2 := a2.sub isC hsub.2.2.1 hsub.1
  obtain ⟨p1, p2⟩ := z_pre E b1 b2 a3 (.ref o :: As)
  have hin := z_in E b2 a3
  have cb := z_cb (R := R) (rm := rm1) E h1 h2 h3 h6 hR
  obtain ⟨e1, e2, e3, e4, e5, e6, e7, e8, e9, e10⟩ := id E
  obtain ⟨cellB, hcB, hoB, hclB⟩ := va_recv e6 a1 hc he
  obtain ⟨mk, methM, hnamed, hmethM, hstM, habM⟩ := Cond.instanceMethod_spec (e5 _ h4)
  obtain ⟨methM', cM, hmethM', -, -, -, -, -, -, hsigM⟩ := Cond.code_spec hnamed (e5 _ h1)
  cases hmethM.symm.trans hmethM'
  obtain ⟨c2, r2, m2, q1, q2, q3, q4, kP, hkP, hkPi⟩ := Cond.selects_spec (e5 _ h5)
  cases hclB.symm.trans q1
  cases (State.methodFound?_of_named hnamed ⟨h6.1, h6.2.1⟩).symm.trans q2
  cases hnamed.symm.trans q3
  have hselP : selectMethod e.platform s.vm cellB.cls mk = .method mk := by rw [Launch.admits_selectMethod X0.admits]; exact q4
  subst e2
  obtain ⟨vm₁, X₁, hstep₁⟩ := X0.invokevirtual e1 e4 (e5 _ h3) hnamed hmethM hstM hkP hkPi ⟨h6.1, h6.2.1⟩ (a := o) (cell := cellB) (by rw [hT0]; exact hcB)
    (fun z h => by rw [h] at hoB; cases hoB) hselP hmethM habM hkP hkPi (g := F0 m pc ls stk) rfl (argsL := As) (rest := st) (hn.trans (cb.2.2.2.2.2.2.2.2.2.1 _ hsigM)) hs hd
  obtain ⟨x, t, T', Lo, X', hLo, f1, f2, hq, hsteps⟩ := zt_back (hM H.size) p1 cb X₁ (g := F0 m pc ls st) rfl (a4.1.trans e3.symm) hd (lv_room hw) (X₁.named hnamed) hf (p2 (T0.setVm vm₁) hT0 X₁.warmed)
  obtain ⟨⟨x', ce, hx, hce, hfc, hvm, d1, d2, d3⟩, hz, hkk⟩ := hq
  cases hx
  have hz' : H.size ≤ t.heap.size := by
    have h := hz
    rw [show ((T0.setVm vm₁).calling (F0 m pc ls st) mk (Value.ref o :: As).toArray).heap = H from hT0] at h
    exact h
  have hkk' : ∀ q : Nat, q < H.size → ¬ va_A (w1 M1) H.size q → t.heap[q]? = H[q]? := by
    have h := hkk
    rw [show ((T0.setVm vm₁).calling (F0 m pc ls st) mk (Value.ref o :: As).toArray).heap = H from hT0] at h
    exact h
  have hfs : s.vm.findClass X = some ce.cls := by
    rw [← X'.warmed.alike.findClass, f2]; exact hfc
  obtain ⟨vm', X'', hgo⟩ := hF T' (locs ++ Lo) _ _ (F0 m pc ls st) x ce X' rfl rfl (by rw [f1]; exact hce) hvm hfs
  obtain ⟨g1, g2⟩ := zf_back E hsub a1 a2 hin hkk' d1 d3 hper
  have hS : va_S A s.heap t.heap (locs ++ Lo) := by
    refine ⟨Nat.le_trans a3.1 hz', fun q h1 h2 => ?_, fun q hq => ?_⟩
    · rw [hkk' q (Nat.lt_of_lt_of_le h1 a3.1) (fun h => h2 (hin q h))]
      exact a3.2.1 q h1 h2
    · rcases List.mem_append.mp hq with h | h
      · exact a3.2.2 q h
      · exact hin _ (hLo q h)
  obtain ⟨t2, s1, s2⟩ := kk x t.heap (locs ++ Lo) ls g1 g2 hS a4 (T'.setVm vm') f1 X''
  exact ⟨t2, hstep₁ _ (fun acts => by rw [doInvoke_state]; exact hsteps.trans (hgo _ s1)), s2⟩
theorem z_last (E : zE p s m args meth c cc nL own D cl tys A) (q0 t0 : Nat) {a : Nat} {cA : ClassId} {n : Nat} {f : Nat → Int64} (ha : (w M)[q0]? = some (a, .inl (cA, n, .inr (.inl f)))) (ht : tys[t0]? = some (cA, .long)) {i : Int32} {x : Int64} (hin : vp_in i n) (M' : σ) (hM : (w M).set q0 (a, .inl (cA, n, .inr (.inl (vp_updL f i.toNatClampNeg x)))) = w M') (hd : decode cc pc = .ok (.lastore, 1)) (kk : ZW p l e R s m args below meth c nL D cl A w cells slots Q (pc + 1) L st M') : ZW p l e R s m args below meth c nL D cl A w cells slots Q pc L (.long x :: .int i :: .ref a :: st) M :=
  fun H locs ls a1 a2 a3 a4 => va_last E.1 E.2.1 E.2.2.2.2.2.1 a1 a2 a3 q0 t0 ha ht hin hd (fun H1 locs1 b1 b2 b3 => kk H1 locs1 ls (hM ▸ b1) (hM ▸ b2) b3 a4)
theorem z_lald (E : zE p s m args meth c cc nL own D cl tys A) (q0 t0 : Nat) {a : Nat} {cA : ClassId} {n : Nat} {f : Nat → Int64} (ha : (w M)[q0]? = some (a, .inl (cA, n, .inr (.inl f)))) (ht : tys[t0]? = some (cA, .long)) {i : Int32} (hin : vp_in i n) (hd : decode cc pc = .ok (.laload, 1)) (kk : ZW p l e R s m args below meth c nL D cl A w cells slots Q (pc + 1) L (.long (f i.toNatClampNeg) :: st) M) : ZW p l e R s m args below meth c nL D cl A w cells slots Q pc L (.int i :: .ref a :: st) M :=
  fun H locs ls a1 a2 a3 a4 => va_lald E.1 E.2.1 E.2.2.2.2.2.1 a1 q0 t0 ha ht hin hd (kk H locs ls a1 a2 a3 a4)
/-- a new array, of one of the kinds that tys names -/
theorem z_newa (E : zE p s m args meth c cc nL own D cl tys A) {atype : ArrayType} {ty : FieldType} (hty : newarray.typeOf atype = ty) (harr : Cond.arrayClass ty ∈ zT) (t0 : Nat) {c0 : ClassId} (ht : tys[t0]? = some (c0, ty)) (hRA : ∀ (U : State) (x : ClassId), va_RA U x ty = (U.vm.findClass ("[" ++ ty.toString) = some x)) {n : Int32} (N' : Nat) (a0 : vp_A) (ha : ∀ cA : ClassId, vp_cell cA a0 = arrV cA N' (fun _ => defaultValue ty)) (hn : ¬ n < 0) (hN : n.toNatClampNeg = N') (hbytes : N' * componentBytes ty ≤ 536870912) (hcells : cells + 1 ≤ R.cells) (hslots : slots + N' ≤ R.slots) (hd : decode cc pc = .ok (.newarray atype, 2)) (hM : ∀ q : Nat, ∃ M' : σ, w M ++ [(q, .inl (c0, a0))] = w M' ∧ ZW p l e R s m args below meth c nL D cl A w (cells + 1) (slots + N') Q (pc + 2) L (.ref q :: st) M') : ZW p l e R s m args below meth c nL D cl A w cells slots Q pc L (.int n :: st) M := by
  intro H locs ls a1 a2 a3 a4
  refine va_newa E.1 E.2.1 (by rw [hty]; exact E.2.2.2.2.1 _ harr) hty E.2.2.2.2.2.1 a1 a2 a3 E.2.2.2.2.2.2.1 ha hn hN hbytes hcells hslots hd (fun q cA H1 hK b1 b2 b3 => ?_)
  have h1 := (E.2.2.2.2.2.1.2 t0 _ ht).2
  have h2 := (hK.2 tys.length (cA, ty) (by simp)).2
  simp only [hRA] at h1 h2
  cases h1.symm.trans h2
  obtain ⟨M', e1, K⟩ := hM q
  exact K H1 locs ls (e1 ▸ b1) (e1 ▸ b2) b3 a4
theorem z_putF (E : zE p s m args meth c cc nL own D cl tys A) (hname : meth.name = "<init>") {C : String} {T : u_T} {N ci index a : Nat} (hin : ∀ x ∈ u_ws C T N, x ∈ zT) (ty0 : Nat → FieldType) (hty : ∀ k, k < N → parseFieldDescriptor (T k).2.2.1 = some (ty0 k)) (hnm : ∀ a, a < N → ∀ b, b < N → a ≠ b → (T a).2.1 ≠ (T b).2.1) (q0 : Nat) {fs : List Value} (he : (w M)[q0]? = some (a, .inr (ci, fs))) (hc : cl[ci]? = some (C, T, N)) (k : Nat) (hk : k < N) (hlink : Cond.fieldLink own index own (T k).2.1 (T k).2.2.1 ∈ zT) (hdecl : (T k).1 = own) (hfin : (T k).2.2.2 = true) {ty : FieldType} {v : Value} (hdd : parseFieldDescriptor (T k).2.2.1 = some ty) (hn : narrow ty v = v) (hfit : fits ty v = true) (hl : k < fs.length) (M' : σ) (hM : (w M).set q0 (a, .inr (ci, fs.set k v)) = w M') (hd : decode cc pc = .ok (.putfield index, 3)) (kk : ZW p l e R s m args below meth c nL D cl A w cells slots Q (pc + 3) L st M') : ZW p l e R s m args below meth c nL D cl A w cells slots Q pc L (v :: .ref a :: st) M :=
  fun H locs ls a1 a2 a3 a4 => va_putF E.1 E.2.1 E.2.2.2.2.1 hin ty0 hty hnm E.2.2.2.1 E.2.2.2.2.2.1 a1 a2 a3 q0 he hc k hk (E.2.2.2.2.1 _ hlink) (fun x h => hdecl ▸ h) hfin hname hdecl hdd hn hfit hl hd (fun H1 locs1 b1 b2 b3 => kk H1 locs1 ls (hM ▸ b1) (hM ▸ b2) b3 a4)
end ZG
end
section
/-! the two constructors; 'new' (printed by program) -/
section ZI
variable {p : Program} {l : Launch} {e : Env} {R : Room} {s : State} {m : MethodId} {args : Array Value} {below : List Frame} {meth : Method} {c : Code} {cells slots : Nat} {Q : State → Prop}
variable {cc : ByteArray} {nL : Nat} {own : String} {D : va_G} {cl : List vw_C} {tys : List (ClassId × FieldType)} {A : Nat → Prop} {σ : Type} {w : σ → va_W} {pc : Nat} {L : List (Option Value)} {st : List Value} {M : σ}
theorem ob_1 : Cond.instanceMethod Lib.objectInit ∈ zT := zT_in 40 (by decide +kernel) (by decide +kernel)
theorem ob_2 : Cond.code Lib.objectInit ⟨#[0xb1]⟩ 1 none ∈ zT := zT_in 41 (by decide +kernel) (by decide +kernel)
theorem ob_Z : Cond.methodLink "ZoneHeap" 1 Lib.objectInit ∈ zT := zT_in 39 (by decide +kernel) (by decide +kernel)
theorem ob_M : Cond.methodLink "ZoneHeapModel" 1 Lib.objectInit ∈ zT := zT_in 322 (by decide +kernel) (by decide +kernel)
theorem ar_byte : Cond.arrayClass .byte ∈ zT := zT_in 88 (by decide +kernel) (by decide +kernel)
theorem ar_int : Cond.arrayClass .int ∈ zT := zT_in 89 (by decide +kernel) (by decide +kernel)
theorem ar_boolean : Cond.arrayClass .boolean ∈ zT := zT_in 90 (by decide +kernel) (by decide +kernel)
theorem ar_long : Cond.arrayClass .long ∈ zT := zT_in 451 (by decide +kernel) (by decide +kernel)
theorem z_objInit (E : zE p s m args meth c cc nL own D cl tys A) {idx a : Nat} (hl : Cond.methodLink own idx Lib.objectInit ∈ zT) (hf : 1 ≤ R.frames) (hw : (st.map fun v => v.category).sum + 12 ≤ R.locals) (hd : decode cc pc = .ok (.invokespecial idx, 3)) (kk : ZW p l e R s m args below meth c nL D cl A w cells slots Q (pc + 3) L st M) : ZW p l e R s m args below meth c nL D cl A w cells slots Q pc L (.ref a :: st) M :=
  fun H locs ls a1 a2 a3 a4 => W.objInit E.1 E.2.1 E.2.2.2.1 (E.2.2.2.2.1 _ hl) (E.2.2.2.2.1 _ ob_1) (E.2.2.2.2.1 _ ob_2) (g := F0 m pc ls (.ref a :: st)) rfl (a4.1.trans E.2.2.1.symm) rfl hd hf (by show 2 * 0 + (st.map fun v => v.category).sum + 12 ≤ R.locals; omega) (kk H locs ls a1 a2 a3 a4)
theorem z_new (E : zE p s m args meth c cc nL own D cl tys A) {C : String} {T : u_T} {N ci index : Nat} (hin : ∀ x ∈ u_ws C T N, x ∈ zT) (ty : Nat → FieldType) (hty : ∀ k, k < N → parseFieldDescriptor (T k).2.2.1 = some (ty k)) (hcl : Cond.classLink own index C ∈ zT) (hinst : Cond.instantiable C N ∈ zT) (hini : Cond.initialized C ∈ zT) (hc : cl[ci]? = some (C, T, N)) (fs : List Value) (hfs : ∀ j, j < N → defaultValue (ty j) = vp_V fs j) (hcells : cells + 1 ≤ R.cells) (hslots : slots + N ≤ R.slots) (hd : decode cc pc = .ok (.new index, 3)) (hM : ∀ q : Nat, ∃ M' : σ, w M ++ [(q, .inr (ci, fs))] = w M' ∧ ZW p l e R s m args below meth c nL D cl A w (cells + 1) (slots + N) Q (pc + 3) L (.ref q :: st) M') : ZW p l e R s m args below meth c nL D cl A w cells slots Q pc L st M := by
  intro H locs ls a1 a2 a3 a4
  refine va_new E.1 E.2.1 E.2.2.2.2.1 hin ty hty E.2.2.2.1 (E.2.2.2.2.1 _ hcl) (E.2.2.2.2.1 _ hinst) (E.2.2.2.2.1 _ hini) E.2.2.2.2.2.1 a1 a2 a3 E.2.2.2.2.2.2.1 hc (fs := fs) hfs hcells hslots hd (fun q H1 b1 b2 b3 => ?_)
  obtain ⟨M', e1, K⟩ := hM q
  exact K H1 locs ls (e1 ▸ b1) (e1 ▸ b2) b3 a4
end ZI
theorem zMv.ofI {l : Launch} {y : MethodName} {b : ByteArray} {nL : Nat} {rm : Room} {D : va_G} {cl : List vw_C} {tys : List (ClassId × FieldType)} {σ : Type} {w : σ → va_W} {av : List Value} {M : σ} {post : σ → Prop} {own : String} (hi : y.name = "<init>") (hy : plainName y.cls = true) (ho : y.cls = own) (hlen : (lg_sl av).length ≤ nL) (hcat : ∀ v ∈ av, v.category = 1)
    (body : ∀ (p : Program) (e : Env) (s : State) (m : MethodId) (args : Array Value) (below : List Frame) (meth : Method) (c : Code) (A : Nat → Prop), zE p s m args meth c b nL own D cl tys A → meth.sig.returnType = none → meth.name = "<init>" →
      ZW p l e rm s m args below meth c nL D cl A w 0 0 (zQv D cl tys A w post rm below args s) 0 (av.map some ++ List.replicate (nL - av.length) none) [] M) : zMv l y b nL rm D cl tys w av M post := by
  intro sz
  refine Met.ofW (cc := b) (maxL := nL) (ret := none) hy rfl ?_
  intro p e s m args below meth c s₁ B hml hv
  obtain ⟨rfl, hsz, hP, hK, hD0, hZ⟩ := hv
  have hts := atoms_spec (ws := .code y b nL none :: zT) B.pre
  have hown : s.vm.findClass own = some m.cls := ho ▸ findClass_of_methodNamed B.named
  have hnm : meth.name = "<init>" := (name_of_methodNamed B.named B.method).1.trans hi
  subst hsz
  have hD := hD0.self (sz := s.heap.size)
  have hA : ∀ q : Nat, s.heap.size ≤ q → va_A (w M) s.heap.size q := fun q h => Or.inr h
  rw [lg_entry_eq]
  exact body p e s m av.toArray below meth c (va_A (w M) s.heap.size) ⟨B.exec, B.bytes, hml, hown, fun x hx => hts x (List.mem_cons_of_mem _ hx), hK, hA, B.notSynchronized, hZ, zE_st hP⟩ B.returns hnm s.heap [] _ hP hD va_S.rf (zl.entry av hlen hcat)
theorem ce_byte (n : Nat) : ∀ cA : ClassId, vp_cell cA (n, .inl (fun _ => 0)) = arrV cA n (fun _ => defaultValue .byte) := fun _ => rfl
theorem ce_int (n : Nat) : ∀ cA : ClassId, vp_cell cA (n, .inl (fun _ => 0)) = arrV cA n (fun _ => defaultValue .int) := fun _ => rfl
theorem ce_boolean (n : Nat) : ∀ cA : ClassId, vp_cell cA (n, .inl (fun _ => 0)) = arrV cA n (fun _ => defaultValue .boolean) := fun _ => rfl
theorem ce_long (n : Nat) : ∀ cA : ClassId, vp_cell cA (n, .inr (.inl (fun _ => 0))) = arrV cA n (fun _ => defaultValue .long) := fun _ => rfl
def zero : zmem := fun _ _ => 0
def zf0 : List Value := [.null, .null, .null, .null, .null, .null, .null, .null, .int 0, .int 0, .int 0, .int 0, .int 0, .int 0, .int 0]
def mf0 : List Value := [.int 0, .null, .null, .null, .null, .null, .null, .null, .int 0, .int 0, .int 0, .int 0]
def rmZ : Room := { frames := 1, cells := 8, slots := 9984, locals := 40 }
def rmM : Room := { frames := 1, cells := 7, slots := 9992, locals := 40 }
theorem c_Z_init (l : Launch) (D : va_G) (cA : Nat → ClassId) (o : Nat) : zMv l y_Z_init b_Z_init 1 rmZ D zcl (ztys cA) (fun x : va_W => x) [.ref o] [(o, .inr (0, zf0))] (fun W => ∃ a : Nat → Nat, a 0 = o ∧ W = zw a cA zero) := by
  refine zMv.ofI (own := "ZoneHeap") rfl (by decide +kernel) rfl (Nat.le_of_ble_eq_true rfl) (by intro v hv; rcases List.mem_cons.mp hv with rfl | hv; rfl; cases hv) ?_
  intro p e s m args below meth c A E hr hnm
  refine z_aload_n E 0 d_Z_init_0 rfl rfl ?_
  refine z_objInit E ob_Z (Nat.le_of_ble_eq_true rfl) (Nat.le_of_ble_eq_true rfl) d_Z_init_1 ?_
  refine z_aload_n E 0 d_Z_init_4 rfl rfl ?_
  refine z_sipush E (v := nI 8192) d_Z_init_5 (by decide) ?_
  refine z_newa E (atype := .byte) rfl ar_byte 0 rfl (fun _ _ => rfl) 8192 (8192, .inl (fun _ => 0)) (ce_byte 8192) (by decide) (by decide) (by decide) (Nat.le_of_ble_eq_true rfl) (Nat.le_of_ble_eq_true rfl) d_Z_init_8 (fun q1 => ⟨_, rfl, ?_⟩)
  refine z_putF E hnm in_Z t_Z t_Z_ok n_Z 0 rfl rfl 0 (by decide) fl_Z_9 rfl rfl rfl rfl rfl (Nat.le_of_ble_eq_true rfl) [(o, .inr (0, [.ref q1, .null, .null, .null, .null, .null, .null, .null, .int 0, .int 0, .int 0, .int 0, .int 0, .int 0, .int 0])), (q1, .inl (cA 0, 8192, .inl (fun _ => 0)))] rfl d_Z_init_10 ?_
  refine z_aload_n E 0 d_Z_init_13 rfl rfl ?_
  refine z_sipush E (v := nI 256) d_Z_init_14 (by decide) ?_
  refine z_newa E (atype := .int) rfl ar_int 1 rfl (fun _ _ => rfl) 256 (256, .inl (fun _ => 0)) (ce_int 256) (by decide) (by decide) (by decide) (Nat.le_of_ble_eq_true rfl) (Nat.le_of_ble_eq_true rfl) d_Z_init_17 (fun q2 => ⟨_, rfl, ?_⟩)
  refine z_putF E hnm in_Z t_Z t_Z_ok n_Z 0 rfl rfl 1 (by decide) fl_Z_13 rfl rfl rfl rfl rfl (Nat.le_of_ble_eq_true rfl) [(o, .inr (0, [.ref q1, .ref q2, .null, .null, .null, .null, .null, .null, .int 0, .int 0, .int 0, .int 0, .int 0, .int 0, .int 0])), (q1, .inl (cA 0, 8192, .inl (fun _ => 0))), (q2, .inl (cA 1, 256, .inl (fun _ => 0)))] rfl d_Z_init_19 ?_
  refine z_aload_n E 0 d_Z_init_22 rfl rfl ?_
  refine z_sipush E (v := nI 256) d_Z_init_23 (by decide) ?_
  refine z_newa E (atype := .int) rfl ar_int 1 rfl (fun _ _ => rfl) 256 (256, .inl (fun _ => 0)) (ce_int 256) (by decide) (by decide) (by decide) (Nat.le_of_ble_eq_true rfl) (Nat.le_of_ble_eq_true rfl) d_Z_init_26 (fun q3 => ⟨_, rfl, ?_⟩)
  refine z_putF E hnm in_Z t_Z t_Z_ok n_Z 0 rfl rfl 2 (by decide) fl_Z_17 rfl rfl rfl rfl rfl (Nat.le_of_ble_eq_true rfl) [(o, .inr (0, [.ref q1, .ref q2, .ref q3, .null, .null, .null, .null, .null, .int 0, .int 0, .int 0, .int 0, .int 0, .int 0, .int 0])), (q1, .inl (cA 0, 8192, .inl (fun _ => 0))), (q2, .inl (cA 1, 256, .inl (fun _ => 0))), (q3, .inl (cA 1, 256, .inl (fun _ => 0)))] rfl d_Z_init_28 ?_
  refine z_aload_n E 0 d_Z_init_31 rfl rfl ?_
  refine z_sipush E (v := nI 256) d_Z_init_32 (by decide) ?_
  refine z_newa E (atype := .int) rfl ar_int 1 rfl (fun _ _ => rfl) 256 (256, .inl (fun _ => 0)) (ce_int 256) (by decide) (by decide) (by decide) (Nat.le_of_ble_eq_true rfl) (Nat.le_of_ble_eq_true rfl) d_Z_init_35 (fun q4 => ⟨_, rfl, ?_⟩)
  refine z_putF E hnm in_Z t_Z t_Z_ok n_Z 0 rfl rfl 3 (by decide) fl_Z_20 rfl rfl rfl rfl rfl (Nat.le_of_ble_eq_true rfl) [(o, .inr (0, [.ref q1, .ref q2, .ref q3, .ref q4, .null, .null, .null, .null, .int 0, .int 0, .int 0, .int 0, .int 0, .int 0, .int 0])), (q1, .inl (cA 0, 8192, .inl (fun _ => 0))), (q2, .inl (cA 1, 256, .inl (fun _ => 0))), (q3, .inl (cA 1, 256, .inl (fun _ => 0))), (q4, .inl (cA 1, 256, .inl (fun _ => 0)))] rfl d_Z_init_37 ?_
  refine z_aload_n E 0 d_Z_init_40 rfl rfl ?_
  refine z_sipush E (v := nI 256) d_Z_init_41 (by decide) ?_
  refine z_newa E (atype := .boolean) rfl ar_boolean 2 rfl (fun _ _ => rfl) 256 (256, .inl (fun _ => 0)) (ce_boolean 256) (by decide) (by decide) (by decide) (Nat.le_of_ble_eq_true rfl) (Nat.le_of_ble_eq_true rfl) d_Z_init_44 (fun q5 => ⟨_, rfl, ?_⟩)
  refine z_putF E hnm in_Z t_Z t_Z_ok n_Z 0 rfl rfl 4 (by decide) fl_Z_23 rfl rfl rfl rfl rfl (Nat.le_of_ble_eq_true rfl) [(o, .inr (0, [.ref q1, .ref q2, .ref q3, .ref q4, .ref q5, .null, .null, .null, .int 0, .int 0, .int 0, .int 0, .int 0, .int 0, .int 0])), (q1, .inl (cA 0, 8192, .inl (fun _ => 0))), (q2, .inl (cA 1, 256, .inl (fun _ => 0))), (q3, .inl (cA 1, 256, .inl (fun _ => 0))), (q4, .inl (cA 1, 256, .inl (fun _ => 0))), (q5, .inl (cA 2, 256, .inl (fun _ => 0)))] rfl d_Z_init_46 ?_
  refine z_aload_n E 0 d_Z_init_49 rfl rfl ?_
  refine z_sipush E (v := nI 256) d_Z_init_50 (by decide) ?_
  refine z_newa E (atype := .boolean) rfl ar_boolean 2 rfl (fun _ _ => rfl) 256 (256, .inl (fun _ => 0)) (ce_boolean 256) (by decide) (by decide) (by decide) (Nat.le_of_ble_eq_true rfl) (Nat.le_of_ble_eq_true rfl) d_Z_init_53 (fun q6 => ⟨_, rfl, ?_⟩)
  refine z_putF E hnm in_Z t_Z t_Z_ok n_Z 0 rfl rfl 5 (by decide) fl_Z_27 rfl rfl rfl rfl rfl (Nat.le_of_ble_eq_true rfl) [(o, .inr (0, [.ref q1, .ref q2, .ref q3, .ref q4, .ref q5, .ref q6, .null, .null, .int 0, .int 0, .int 0, .int 0, .int 0, .int 0, .int 0])), (q1, .inl (cA 0, 8192, .inl (fun _ => 0))), (q2, .inl (cA 1, 256, .inl (fun _ => 0))), (q3, .inl (cA 1, 256, .inl (fun _ => 0))), (q4, .inl (cA 1, 256, .inl (fun _ => 0))), (q5, .inl (cA 2, 256, .inl (fun _ => 0))), (q6, .inl (cA 2, 256, .inl (fun _ => 0)))] rfl d_Z_init_55 ?_
  refine z_aload_n E 0 d_Z_init_58 rfl rfl ?_
  refine z_sipush E (v := nI 256) d_Z_init_59 (by decide) ?_
  refine z_newa E (atype := .int) rfl ar_int 1 rfl (fun _ _ => rfl) 256 (256, .inl (fun _ => 0)) (ce_int 256) (by decide) (by decide) (by decide) (Nat.le_of_ble_eq_true rfl) (Nat.le_of_ble_eq_true rfl) d_Z_init_62 (fun q7 => ⟨_, rfl, ?_⟩)
  refine z_putF E hnm in_Z t_Z t_Z_ok n_Z 0 rfl rfl 6 (by decide) fl_Z_30 rfl rfl rfl rfl rfl (Nat.le_of_ble_eq_true rfl) [(o, .inr (0, [.ref q1, .ref q2, .ref q3, .ref q4, .ref q5, .ref q6, .ref q7, .null, .int 0, .int 0, .int 0, .int 0, .int 0, .int 0, .int 0])), (q1, .inl (cA 0, 8192, .inl (fun _ => 0))), (q2, .inl (cA 1, 256, .inl (fun _ => 0))), (q3, .inl (cA 1, 256, .inl (fun _ => 0))), (q4, .inl (cA 1, 256, .inl (fun _ => 0))), (q5, .inl (cA 2, 256, .inl (fun _ => 0))), (q6, .inl (cA 2, 256, .inl (fun _ => 0))), (q7, .inl (cA 1, 256, .inl (fun _ => 0)))] rfl d_Z_init_64 ?_
  refine z_aload_n E 0 d_Z_init_67 rfl rfl ?_
  refine z_sipush E (v := nI 256) d_Z_init_68 (by decide) ?_
  refine z_newa E (atype := .int) rfl ar_int 1 rfl (fun _ _ => rfl) 256 (256, .inl (fun _ => 0)) (ce_int 256) (by decide) (by decide) (by decide) (Nat.le_of_ble_eq_true rfl) (Nat.le_of_ble_eq_true rfl) d_Z_init_71 (fun q8 => ⟨_, rfl, ?_⟩)
  refine z_putF E hnm in_Z t_Z t_Z_ok n_Z 0 rfl rfl 7 (by decide) fl_Z_33 rfl rfl rfl rfl rfl (Nat.le_of_ble_eq_true rfl) [(o, .inr (0, [.ref q1, .ref q2, .ref q3, .ref q4, .ref q5, .ref q6, .ref q7, .ref q8, .int 0, .int 0, .int 0, .int 0, .int 0, .int 0, .int 0])), (q1, .inl (cA 0, 8192, .inl (fun _ => 0))), (q2, .inl (cA 1, 256, .inl (fun _ => 0))), (q3, .inl (cA 1, 256, .inl (fun _ => 0))), (q4, .inl (cA 1, 256, .inl (fun _ => 0))), (q5, .inl (cA 2, 256, .inl (fun _ => 0))), (q6, .inl (cA 2, 256, .inl (fun _ => 0))), (q7, .inl (cA 1, 256, .inl (fun _ => 0))), (q8, .inl (cA 1, 256, .inl (fun _ => 0)))] rfl d_Z_init_73 ?_
  exact z_vret E hr ⟨fun k => match k with | 0 => o | 1 => q1 | 2 => q2 | 3 => q3 | 4 => q4 | 5 => q5 | 6 => q6 | 7 => q7 | _ => q8, rfl, rfl⟩ (Nat.le_of_ble_eq_true rfl) (Nat.le_of_ble_eq_true rfl) d_Z_init_76
theorem c_M_init (l : Launch) (D : va_G) (cA : Nat → ClassId) (o : Nat) : zMv l y_M_init b_M_init 1 rmM D zcl (ztys cA) (fun x : va_W => x) [.ref o] [(o, .inr (1, mf0))] (fun W => ∃ a : Nat → Nat, a 0 = o ∧ W = mw a cA zero) := by
  refine zMv.ofI (own := "ZoneHeapModel") rfl (by decide +kernel) rfl (Nat.le_of_ble_eq_true rfl) (by intro v hv; rcases List.mem_cons.mp hv with rfl | hv; rfl; cases hv) ?_
  intro p e s m args below meth c A E hr hnm
  refine z_aload_n E 0 d_M_init_0 rfl rfl ?_
  refine z_objInit E ob_M (Nat.le_of_ble_eq_true rfl) (Nat.le_of_ble_eq_true rfl) d_M_init_1 ?_
  refine z_aload_n E 0 d_M_init_4 rfl rfl ?_
  refine z_sipush E (v := nI 8192) d_M_init_5 (by decide) ?_
  refine z_newa E (atype := .int) rfl ar_int 1 rfl (fun _ _ => rfl) 8192 (8192, .inl (fun _ => 0)) (ce_int 8192) (by decide) (by decide) (by decide) (Nat.le_of_ble_eq_true rfl) (Nat.le_of_ble_eq_true rfl) d_M_init_8 (fun q1 => ⟨_, rfl, ?_⟩)
  refine z_putF E hnm in_M t_M t_M_ok n_M 0 rfl rfl 1 (by decide) fl_M_7 rfl rfl rfl rfl rfl (Nat.le_of_ble_eq_true rfl) [(o, .inr (1, [.int 0, .ref q1, .null, .null, .null, .null, .null, .null, .int 0, .int 0, .int 0, .int 0])), (q1, .inl (cA 1, 8192, .inl (fun _ => 0)))] rfl d_M_init_10 ?_
  refine z_aload_n E 0 d_M_init_13 rfl rfl ?_
  refine z_sipush E (v := nI 300) d_M_init_14 (by decide) ?_
  refine z_newa E (atype := .int) rfl ar_int 1 rfl (fun _ _ => rfl) 300 (300, .inl (fun _ => 0)) (ce_int 300) (by decide) (by decide) (by decide) (Nat.le_of_ble_eq_true rfl) (Nat.le_of_ble_eq_true rfl) d_M_init_17 (fun q2 => ⟨_, rfl, ?_⟩)
  refine z_putF E hnm in_M t_M t_M_ok n_M 0 rfl rfl 2 (by decide) fl_M_13 rfl rfl rfl rfl rfl (Nat.le_of_ble_eq_true rfl) [(o, .inr (1, [.int 0, .ref q1, .ref q2, .null, .null, .null, .null, .null, .int 0, .int 0, .int 0, .int 0])), (q1, .inl (cA 1, 8192, .inl (fun _ => 0))), (q2, .inl (cA 1, 300, .inl (fun _ => 0)))] rfl d_M_init_19 ?_
  refine z_aload_n E 0 d_M_init_22 rfl rfl ?_
  refine z_sipush E (v := nI 300) d_M_init_23 (by decide) ?_
  refine z_newa E (atype := .int) rfl ar_int 1 rfl (fun _ _ => rfl) 300 (300, .inl (fun _ => 0)) (ce_int 300) (by decide) (by decide) (by decide) (Nat.le_of_ble_eq_true rfl) (Nat.le_of_ble_eq_true rfl) d_M_init_26 (fun q3 => ⟨_, rfl, ?_⟩)
  refine z_putF E hnm in_M t_M t_M_ok n_M 0 rfl rfl 3 (by decide) fl_M_16 rfl rfl rfl rfl rfl (Nat.le_of_ble_eq_true rfl) [(o, .inr (1, [.int 0, .ref q1, .ref q2, .ref q3, .null, .null, .null, .null, .int 0, .int 0, .int 0, .int 0])), (q1, .inl (cA 1, 8192, .inl (fun _ => 0))), (q2, .inl (cA 1, 300, .inl (fun _ => 0))), (q3, .inl (cA 1, 300, .inl (fun _ => 0)))] rfl d_M_init_28 ?_
  refine z_aload_n E 0 d_M_init_31 rfl rfl ?_
  refine z_sipush E (v := nI 300) d_M_init_32 (by decide) ?_
  refine z_newa E (atype := .int) rfl ar_int 1 rfl (fun _ _ => rfl) 300 (300, .inl (fun _ => 0)) (ce_int 300) (by decide) (by decide) (by decide) (Nat.le_of_ble_eq_true rfl) (Nat.le_of_ble_eq_true rfl) d_M_init_35 (fun q4 => ⟨_, rfl, ?_⟩)
  refine z_putF E hnm in_M t_M t_M_ok n_M 0 rfl rfl 4 (by decide) fl_M_19 rfl rfl rfl rfl rfl (Nat.le_of_ble_eq_true rfl) [(o, .inr (1, [.int 0, .ref q1, .ref q2, .ref q3, .ref q4, .null, .null, .null, .int 0, .int 0, .int 0, .int 0])), (q1, .inl (cA 1, 8192, .inl (fun _ => 0))), (q2, .inl (cA 1, 300, .inl (fun _ => 0))), (q3, .inl (cA 1, 300, .inl (fun _ => 0))), (q4, .inl (cA 1, 300, .inl (fun _ => 0)))] rfl d_M_init_37 ?_
  refine z_aload_n E 0 d_M_init_40 rfl rfl ?_
  refine z_sipush E (v := nI 300) d_M_init_41 (by decide) ?_
  refine z_newa E (atype := .int) rfl ar_int 1 rfl (fun _ _ => rfl) 300 (300, .inl (fun _ => 0)) (ce_int 300) (by decide) (by decide) (by decide) (Nat.le_of_ble_eq_true rfl) (Nat.le_of_ble_eq_true rfl) d_M_init_44 (fun q5 => ⟨_, rfl, ?_⟩)
  refine z_putF E hnm in_M t_M t_M_ok n_M 0 rfl rfl 5 (by decide) fl_M_22 rfl rfl rfl rfl rfl (Nat.le_of_ble_eq_true rfl) [(o, .inr (1, [.int 0, .ref q1, .ref q2, .ref q3, .ref q4, .ref q5, .null, .null, .int 0, .int 0, .int 0, .int 0])), (q1, .inl (cA 1, 8192, .inl (fun _ => 0))), (q2, .inl (cA 1, 300, .inl (fun _ => 0))), (q3, .inl (cA 1, 300, .inl (fun _ => 0))), (q4, .inl (cA 1, 300, .inl (fun _ => 0))), (q5, .inl (cA 1, 300, .inl (fun _ => 0)))] rfl d_M_init_46 ?_
  refine z_aload_n E 0 d_M_init_49 rfl rfl ?_
  refine z_sipush E (v := nI 300) d_M_init_50 (by decide) ?_
  refine z_newa E (atype := .boolean) rfl ar_boolean 2 rfl (fun _ _ => rfl) 300 (300, .inl (fun _ => 0)) (ce_boolean 300) (by decide) (by decide) (by decide) (Nat.le_of_ble_eq_true rfl) (Nat.le_of_ble_eq_true rfl) d_M_init_53 (fun q6 => ⟨_, rfl, ?_⟩)
  refine z_putF E hnm in_M t_M t_M_ok n_M 0 rfl rfl 6 (by decide) fl_M_25 rfl rfl rfl rfl rfl (Nat.le_of_ble_eq_true rfl) [(o, .inr (1, [.int 0, .ref q1, .ref q2, .ref q3, .ref q4, .ref q5, .ref q6, .null, .int 0, .int 0, .int 0, .int 0])), (q1, .inl (cA 1, 8192, .inl (fun _ => 0))), (q2, .inl (cA 1, 300, .inl (fun _ => 0))), (q3, .inl (cA 1, 300, .inl (fun _ => 0))), (q4, .inl (cA 1, 300, .inl (fun _ => 0))), (q5, .inl (cA 1, 300, .inl (fun _ => 0))), (q6, .inl (cA 2, 300, .inl (fun _ => 0)))] rfl d_M_init_55 ?_
  refine z_aload_n E 0 d_M_init_58 rfl rfl ?_
  refine z_sipush E (v := nI 300) d_M_init_59 (by decide) ?_
  refine z_newa E (atype := .int) rfl ar_int 1 rfl (fun _ _ => rfl) 300 (300, .inl (fun _ => 0)) (ce_int 300) (by decide) (by decide) (by decide) (Nat.le_of_ble_eq_true rfl) (Nat.le_of_ble_eq_true rfl) d_M_init_62 (fun q7 => ⟨_, rfl, ?_⟩)
  refine z_putF E hnm in_M t_M t_M_ok n_M 0 rfl rfl 7 (by decide) fl_M_29 rfl rfl rfl rfl rfl (Nat.le_of_ble_eq_true rfl) [(o, .inr (1, [.int 0, .ref q1, .ref q2, .ref q3, .ref q4, .ref q5, .ref q6, .ref q7, .int 0, .int 0, .int 0, .int 0])), (q1, .inl (cA 1, 8192, .inl (fun _ => 0))), (q2, .inl (cA 1, 300, .inl (fun _ => 0))), (q3, .inl (cA 1, 300, .inl (fun _ => 0))), (q4, .inl (cA 1, 300, .inl (fun _ => 0))), (q5, .inl (cA 1, 300, .inl (fun _ => 0))), (q6, .inl (cA 2, 300, .inl (fun _ => 0))), (q7, .inl (cA 1, 300, .inl (fun _ => 0)))] rfl d_M_init_64 ?_
  exact z_vret E hr ⟨fun k => match k with | 0 => o | 1 => q1 | 2 => q2 | 3 => q3 | 4 => q4 | 5 => q5 | 6 => q6 | _ => q7, rfl, rfl⟩ (Nat.le_of_ble_eq_true rfl) (Nat.le_of_ble_eq_true rfl) d_M_init_67
end
section
/-! the law's wrappers: one that returns, one for each handler (printed by program) -/
def ww (a : Nat → Nat) (cA : Nat → ClassId) (o : Nat) (S : zmem × (Nat → Int64)) : va_W := zw a cA S.1 ++ [(o, .inl (cA 3, 1, .inr (.inl S.2)))]
theorem vp_updL_0 (f : Nat → Int64) (x : Int64) : vp_updL f (nI 0).toNatClampNeg x 0 = x := rfl
theorem w_get_r (l : Launch) (D : va_G) (cA : Nat → ClassId) (a : Nat → Nat) (M : zmem) (o : Nat) (f : Nat → Int64) (x : Int32) (d : Nat) (hd : d ≤ 8) {post : Int32 → zmem → Prop} (hC : zMi l y_Z_get b_Z_get 3 .int (rmk d) D zcl (ztys cA) (zw a cA) [.ref (a 0), .int x] M post) : zMiW l y_L_get b_L_get 4 [(0, 9, 12, 13)] (rmt 9) D zcl (ztys cA) (ww a cA o) [.ref (a 0), .int x, .ref o] (M, f) (fun r S => r = nI 0 ∧ ∃ v, S.2 0 = v.toInt64 ∧ post v S.1) := by
  refine zMiW.of (own := "ZoneHeapLaw") (by decide +kernel) rfl (Nat.le_of_ble_eq_true rfl) (by intro v hv; rcases List.mem_cons.mp hv with rfl | hv; rfl; rcases List.mem_cons.mp hv with rfl | hv; rfl; rcases List.mem_cons.mp hv with rfl | hv; rfl; cases hv) ?_
  intro p e s m args below meth c A E hr hex
  refine z_aload_n E 2 d_L_get_0 rfl rfl ?_
  refine z_iconst E (v := nI 0) d_L_get_1 (by decide) ?_
  refine z_aload_n E 0 d_L_get_2 rfl rfl ?_
  refine z_iload_n E 1 d_L_get_3 rfl rfl ?_
  refine zf_calli E [.int x] hC kv_L_7 (Wr := [(o, .inl (cA 3, 1, .inr (.inl f)))]) [0, 1, 2, 3, 4, 5, 6, 7, 8] [9] [1, 2, 3, 4, 5, 6, 7, 8, 9, 0] ⟨rfl, rfl, rfl, rfl, by decide⟩ (fun S => (S, f)) (fun S => ⟨rfl, rfl⟩) 0 rfl rfl rfl rfl ⟨by show d + 1 ≤ 9; omega, by show 8 + (3 + 11) + 40 * d ≤ 360; omega⟩ (Nat.le_of_ble_eq_true rfl) ⟨(Nat.le_of_ble_eq_true rfl), (Nat.le_of_ble_eq_true rfl)⟩ d_L_get_4 (fun v S hp => ?_)
  refine z_i2l E d_L_get_7 ?_
  refine z_last E 9 3 rfl rfl (vp_in_nI (by decide) (by decide)) (S, vp_updL f (nI 0).toNatClampNeg v.toInt64) rfl d_L_get_8 ?_
  refine z_goto E 15 d_L_get_9 (by decide) ?_
  refine z_iconst E (v := nI 0) d_L_get_15 (by decide) ?_
  exact z_iret E hr ⟨rfl, v, vp_updL_0 f _, hp⟩ (Nat.le_of_ble_eq_true rfl) (Nat.le_of_ble_eq_true rfl) d_L_get_16
theorem w_get_1 (l : Launch) (D : va_G) (cA : Nat → ClassId) (a : Nat → Nat) (M : zmem) (o : Nat) (f : Nat → Int64) (x : Int32) (d : Nat) (hd : d ≤ 8) (hC : zMt l y_Z_get b_Z_get 3 (some .int) (rmt d) D zcl (ztys cA) (zw a cA) [.ref (a 0), .int x] M "java/lang/IllegalArgumentException") : zMiW l y_L_get b_L_get 4 [(0, 9, 12, 13)] (rmt 9) D zcl (ztys cA) (ww a cA o) [.ref (a 0), .int x, .ref o] (M, f) (fun r S => r = nI 1 ∧ S = (M, f)) := by
  refine zMiW.of (own := "ZoneHeapLaw") (by decide +kernel) rfl (Nat.le_of_ble_eq_true rfl) (by intro v hv; rcases List.mem_cons.mp hv with rfl | hv; rfl; rcases List.mem_cons.mp hv with rfl | hv; rfl; rcases List.mem_cons.mp hv with rfl | hv; rfl; cases hv) ?_
  intro p e s m args below meth c A E hr hex
  refine z_aload_n E 2 d_L_get_0 rfl rfl ?_
  refine z_iconst E (v := nI 0) d_L_get_1 (by decide) ?_
  refine z_aload_n E 0 d_L_get_2 rfl rfl ?_
  refine z_iload_n E 1 d_L_get_3 rfl rfl ?_
  refine zc_callv E [.int x] hC kv_L_7 (Wr := [(o, .inl (cA 3, 1, .inr (.inl f)))]) [0, 1, 2, 3, 4, 5, 6, 7, 8] [9] [1, 2, 3, 4, 5, 6, 7, 8, 9, 0] ⟨rfl, rfl, rfl, rfl, by decide⟩ ⟨rfl, rfl⟩ 12 (zc_f1 E hex ⟨by decide, by decide⟩ (by decide) cl_L_13 (by decide +kernel)) 0 rfl rfl rfl rfl ⟨by show d + 1 ≤ 9; omega, by show 8 + (3 + 11) + 40 * d ≤ 360; omega⟩ (Nat.le_of_ble_eq_true rfl) ⟨(Nat.le_of_ble_eq_true rfl), (Nat.le_of_ble_eq_true rfl)⟩ d_L_get_4 (fun q => ?_)
  refine z_astore_n E 3 d_L_get_12 rfl (by decide) ?_
  refine z_iconst E (v := nI 1) d_L_get_13 (by decide) ?_
  exact z_iret E hr ⟨rfl, rfl⟩ (Nat.le_of_ble_eq_true rfl) (Nat.le_of_ble_eq_true rfl) d_L_get_14
theorem w_back_r (l : Launch) (D : va_G) (cA : Nat → ClassId) (a : Nat → Nat) (M : zmem) (o : Nat) (f : Nat → Int64) (x : Int32) (d : Nat) (hd : d ≤ 8) {post : Int32 → zmem → Prop} (hC : zMi l y_Z_back b_Z_back 4 .int (rmk d) D zcl (ztys cA) (zw a cA) [.ref (a 0), .int x] M post) : zMiW l y_L_back b_L_back 4 [(0, 9, 12, 13), (0, 9, 15, 18)] (rmt 9) D zcl (ztys cA) (ww a cA o) [.ref (a 0), .int x, .ref o] (M, f) (fun r S => r = nI 0 ∧ ∃ v, S.2 0 = v.toInt64 ∧ post v S.1) := by
  refine zMiW.of (own := "ZoneHeapLaw") (by decide +kernel) rfl (Nat.le_of_ble_eq_true rfl) (by intro v hv; rcases List.mem_cons.mp hv with rfl | hv; rfl; rcases List.mem_cons.mp hv with rfl | hv; rfl; rcases List.mem_cons.mp hv with rfl | hv; rfl; cases hv) ?_
  intro p e s m args below meth c A E hr hex
  refine z_aload_n E 2 d_L_back_0 rfl rfl ?_
  refine z_iconst E (v := nI 0) d_L_back_1 (by decide) ?_
  refine z_aload_n E 0 d_L_back_2 rfl rfl ?_
  refine z_iload_n E 1 d_L_back_3 rfl rfl ?_
  refine zf_calli E [.int x] hC kv_L_15 (Wr := [(o, .inl (cA 3, 1, .inr (.inl f)))]) [0, 1, 2, 3, 4, 5, 6, 7, 8] [9] [1, 2, 3, 4, 5, 6, 7, 8, 9, 0] ⟨rfl, rfl, rfl, rfl, by decide⟩ (fun S => (S, f)) (fun S => ⟨rfl, rfl⟩) 0 rfl rfl rfl rfl ⟨by show d + 1 ≤ 9; omega, by show 8 + (4 + 11) + 40 * d ≤ 360; omega⟩ (Nat.le_of_ble_eq_true rfl) ⟨(Nat.le_of_ble_eq_true rfl), (Nat.le_of_ble_eq_true rfl)⟩ d_L_back_4 (fun v S hp => ?_)
  refine z_i2l E d_L_back_7 ?_
  refine z_last E 9 3 rfl rfl (vp_in_nI (by decide) (by decide)) (S, vp_updL f (nI 0).toNatClampNeg v.toInt64) rfl d_L_back_8 ?_
  refine z_goto E 18 d_L_back_9 (by decide) ?_
  refine z_iconst E (v := nI 0) d_L_back_18 (by decide) ?_
  exact z_iret E hr ⟨rfl, v, vp_updL_0 f _, hp⟩ (Nat.le_of_ble_eq_true rfl) (Nat.le_of_ble_eq_true rfl) d_L_back_19
theorem w_back_1 (l : Launch) (D : va_G) (cA : Nat → ClassId) (a : Nat → Nat) (M : zmem) (o : Nat) (f : Nat → Int64) (x : Int32) (d : Nat) (hd : d ≤ 8) (hC : zMt l y_Z_back b_Z_back 4 (some .int) (rmt d) D zcl (ztys cA) (zw a cA) [.ref (a 0), .int x] M "java/lang/IllegalArgumentException") : zMiW l y_L_back b_L_back 4 [(0, 9, 12, 13), (0, 9, 15, 18)] (rmt 9) D zcl (ztys cA) (ww a cA o) [.ref (a 0), .int x, .ref o] (M, f) (fun r S => r = nI 1 ∧ S = (M, f)) := by
  refine zMiW.of (own := "ZoneHeapLaw") (by decide +kernel) rfl (Nat.le_of_ble_eq_true rfl) (by intro v hv; rcases List.mem_cons.mp hv with rfl | hv; rfl; rcases List.mem_cons.mp hv with rfl | hv; rfl; rcases List.mem_cons.mp hv with rfl | hv; rfl; cases hv) ?_
  intro p e s m args below meth c A E hr hex
  refine z_aload_n E 2 d_L_back_0 rfl rfl ?_
  refine z_iconst E (v := nI 0) d_L_back_1 (by decide) ?_
  refine z_aload_n E 0 d_L_back_2 rfl rfl ?_
  refine z_iload_n E 1 d_L_back_3 rfl rfl ?_
  refine zc_callv E [.int x] hC kv_L_15 (Wr := [(o, .inl (cA 3, 1, .inr (.inl f)))]) [0, 1, 2, 3, 4, 5, 6, 7, 8] [9] [1, 2, 3, 4, 5, 6, 7, 8, 9, 0] ⟨rfl, rfl, rfl, rfl, by decide⟩ ⟨rfl, rfl⟩ 12 (zc_f1 E hex ⟨by decide, by decide⟩ (by decide) cl_L_13 (by decide +kernel)) 0 rfl rfl rfl rfl ⟨by show d + 1 ≤ 9; omega, by show 8 + (4 + 11) + 40 * d ≤ 360; omega⟩ (Nat.le_of_ble_eq_true rfl) ⟨(Nat.le_of_ble_eq_true rfl), (Nat.le_of_ble_eq_true rfl)⟩ d_L_back_4 (fun q => ?_)
  refine z_astore_n E 3 d_L_back_12 rfl (by decide) ?_
  refine z_iconst E (v := nI 1) d_L_back_13 (by decide) ?_
  exact z_iret E hr ⟨rfl, rfl⟩ (Nat.le_of_ble_eq_true rfl) (Nat.le_of_ble_eq_true rfl) d_L_back_14
theorem w_back_2 (l : Launch) (D : va_G) (cA : Nat → ClassId) (a : Nat → Nat) (M : zmem) (o : Nat) (f : Nat → Int64) (x : Int32) (d : Nat) (hd : d ≤ 8) (hC : zMt l y_Z_back b_Z_back 4 (some .int) (rmt d) D zcl (ztys cA) (zw a cA) [.ref (a 0), .int x] M "java/lang/IllegalStateException") : zMiW l y_L_back b_L_back 4 [(0, 9, 12, 13), (0, 9, 15, 18)] (rmt 9) D zcl (ztys cA) (ww a cA o) [.ref (a 0), .int x, .ref o] (M, f) (fun r S => r = nI 2 ∧ S = (M, f)) := by
  refine zMiW.of (own := "ZoneHeapLaw") (by decide +kernel) rfl (Nat.le_of_ble_eq_true rfl) (by intro v hv; rcases List.mem_cons.mp hv with rfl | hv; rfl; rcases List.mem_cons.mp hv with rfl | hv; rfl; rcases List.mem_cons.mp hv with rfl | hv; rfl; cases hv) ?_
  intro p e s m args below meth c A E hr hex
  refine z_aload_n E 2 d_L_back_0 rfl rfl ?_
  refine z_iconst E (v := nI 0) d_L_back_1 (by decide) ?_
  refine z_aload_n E 0 d_L_back_2 rfl rfl ?_
  refine z_iload_n E 1 d_L_back_3 rfl rfl ?_
  refine zc_callv E [.int x] hC kv_L_15 (Wr := [(o, .inl (cA 3, 1, .inr (.inl f)))]) [0, 1, 2, 3, 4, 5, 6, 7, 8] [9] [1, 2, 3, 4, 5, 6, 7, 8, 9, 0] ⟨rfl, rfl, rfl, rfl, by decide⟩ ⟨rfl, rfl⟩ 15 (zc_f2 E hex ⟨by decide, by decide⟩ (by decide) (by decide) cl_L_13 cl_L_18 (by decide +kernel) (by decide +kernel) (by decide +kernel)) 0 rfl rfl rfl rfl ⟨by show d + 1 ≤ 9; omega, by show 8 + (4 + 11) + 40 * d ≤ 360; omega⟩ (Nat.le_of_ble_eq_true rfl) ⟨(Nat.le_of_ble_eq_true rfl), (Nat.le_of_ble_eq_true rfl)⟩ d_L_back_4 (fun q => ?_)
  refine z_astore_n E 3 d_L_back_15 rfl (by decide) ?_
  refine z_iconst E (v := nI 2) d_L_back_16 (by decide) ?_
  exact z_iret E hr ⟨rfl, rfl⟩ (Nat.le_of_ble_eq_true rfl) (Nat.le_of_ble_eq_true rfl) d_L_back_17
theorem w_again_r (l : Launch) (D : va_G) (cA : Nat → ClassId) (a : Nat → Nat) (M : zmem) (o : Nat) (f : Nat → Int64) (x y : Int32) (d : Nat) (hd : d ≤ 8) {post : Int32 → zmem → Prop} (hC : zMi l y_Z_again b_Z_again 8 .int (rmk d) D zcl (ztys cA) (zw a cA) [.ref (a 0), .int x, .int y] M post) : zMiW l y_L_again b_L_again 5 [(0, 10, 13, 13), (0, 10, 17, 18)] (rmt 9) D zcl (ztys cA) (ww a cA o) [.ref (a 0), .int x, .int y, .ref o] (M, f) (fun r S => r = nI 0 ∧ ∃ v, S.2 0 = v.toInt64 ∧ post v S.1) := by
  refine zMiW.of (own := "ZoneHeapLaw") (by decide +kernel) rfl (Nat.le_of_ble_eq_true rfl) (by intro v hv; rcases List.mem_cons.mp hv with rfl | hv; rfl; rcases List.mem_cons.mp hv with rfl | hv; rfl; rcases List.mem_cons.mp hv with rfl | hv; rfl; rcases List.mem_cons.mp hv with rfl | hv; rfl; cases hv) ?_
  intro p e s m args below meth c A E hr hex
  refine z_aload_n E 3 d_L_again_0 rfl rfl ?_
  refine z_iconst E (v := nI 0) d_L_again_1 (by decide) ?_
  refine z_aload_n E 0 d_L_again_2 rfl rfl ?_
  refine z_iload_n E 1 d_L_again_3 rfl rfl ?_
  refine z_iload_n E 2 d_L_again_4 rfl rfl ?_
  refine zf_calli E [.int x, .int y] hC kv_L_20 (Wr := [(o, .inl (cA 3, 1, .inr (.inl f)))]) [0, 1, 2, 3, 4, 5, 6, 7, 8] [9] [1, 2, 3, 4, 5, 6, 7, 8, 9, 0] ⟨rfl, rfl, rfl, rfl, by decide⟩ (fun S => (S, f)) (fun S => ⟨rfl, rfl⟩) 0 rfl rfl rfl rfl ⟨by show d + 1 ≤ 9; omega, by show 8 + (8 + 11) + 40 * d ≤ 360; omega⟩ (Nat.le_of_ble_eq_true rfl) ⟨(Nat.le_of_ble_eq_true rfl), (Nat.le_of_ble_eq_true rfl)⟩ d_L_again_5 (fun v S hp => ?_)
  refine z_i2l E d_L_again_8 ?_
  refine z_last E 9 3 rfl rfl (vp_in_nI (by decide) (by decide)) (S, vp_updL f (nI 0).toNatClampNeg v.toInt64) rfl d_L_again_9 ?_
  refine z_goto E 21 d_L_again_10 (by decide) ?_
  refine z_iconst E (v := nI 0) d_L_again_21 (by decide) ?_
  exact z_iret E hr ⟨rfl, v, vp_updL_0 f _, hp⟩ (Nat.le_of_ble_eq_true rfl) (Nat.le_of_ble_eq_true rfl) d_L_again_22
theorem w_again_1 (l : Launch) (D : va_G) (cA : Nat → ClassId) (a : Nat → Nat) (M : zmem) (o : Nat) (f : Nat → Int64) (x y : Int32) (d : Nat) (hd : d ≤ 8) (hC : zMt l y_Z_again b_Z_again 8 (some .int) (rmt d) D zcl (ztys cA) (zw a cA) [.ref (a 0), .int x, .int y] M "java/lang/IllegalArgumentException") : zMiW l y_L_again b_L_again 5 [(0, 10, 13, 13), (0, 10, 17, 18)] (rmt 9) D zcl (ztys cA) (ww a cA o) [.ref (a 0), .int x, .int y, .ref o] (M, f) (fun r S => r = nI 1 ∧ S = (M, f)) := by
  refine zMiW.of (own := "ZoneHeapLaw") (by decide +kernel) rfl (Nat.le_of_ble_eq_true rfl) (by intro v hv; rcases List.mem_cons.mp hv with rfl | hv; rfl; rcases List.mem_cons.mp hv with rfl | hv; rfl; rcases List.mem_cons.mp hv with rfl | hv; rfl; rcases List.mem_cons.mp hv with rfl | hv; rfl; cases hv) ?_
  intro p e s m args below meth c A E hr hex
  refine z_aload_n E 3 d_L_again_0 rfl rfl ?_
  refine z_iconst E (v := nI 0) d_L_again_1 (by decide) ?_
  refine z_aload_n E 0 d_L_again_2 rfl rfl ?_
  refine z_iload_n E 1 d_L_again_3 rfl rfl ?_
  refine z_iload_n E 2 d_L_again_4 rfl rfl ?_
  refine zc_callv E [.int x, .int y] hC kv_L_20 (Wr := [(o, .inl (cA 3, 1, .inr (.inl f)))]) [0, 1, 2, 3, 4, 5, 6, 7, 8] [9] [1, 2, 3, 4, 5, 6, 7, 8, 9, 0] ⟨rfl, rfl, rfl, rfl, by decide⟩ ⟨rfl, rfl⟩ 13 (zc_f1 E hex ⟨by decide, by decide⟩ (by decide) cl_L_13 (by decide +kernel)) 0 rfl rfl rfl rfl ⟨by show d + 1 ≤ 9; omega, by show 8 + (8 + 11) + 40 * d ≤ 360; omega⟩ (Nat.le_of_ble_eq_true rfl) ⟨(Nat.le_of_ble_eq_true rfl), (Nat.le_of_ble_eq_true rfl)⟩ d_L_again_5 (fun q => ?_)
  refine z_astore E d_L_again_13 (by decide) ?_
  refine z_iconst E (v := nI 1) d_L_again_15 (by decide) ?_
  exact z_iret E hr ⟨rfl, rfl⟩ (Nat.le_of_ble_eq_true rfl) (Nat.le_of_ble_eq_true rfl) d_L_again_16
theorem w_again_2 (l : Launch) (D : va_G) (cA : Nat → ClassId) (a : Nat → Nat) (M : zmem) (o : Nat) (f : Nat → Int64) (x y : Int32) (d : Nat) (hd : d ≤ 8) (hC : zMt l y_Z_again b_Z_again 8 (some .int) (rmt d) D zcl (ztys cA) (zw a cA) [.ref (a 0), .int x, .int y] M "java/lang/IllegalStateException") : zMiW l y_L_again b_L_again 5 [(0, 10, 13, 13), (0, 10, 17, 18)] (rmt 9) D zcl (ztys cA) (ww a cA o) [.ref (a 0), .int x, .int y, .ref o] (M, f) (fun r S => r = nI 2 ∧ S = (M, f)) := by
  refine zMiW.of (own := "ZoneHeapLaw") (by decide +kernel) rfl (Nat.le_of_ble_eq_true rfl) (by intro v hv; rcases List.mem_cons.mp hv with rfl | hv; rfl; rcases List.mem_cons.mp hv with rfl | hv; rfl; rcases List.mem_cons.mp hv with rfl | hv; rfl; rcases List.mem_cons.mp hv with rfl | hv; rfl; cases hv) ?_
  intro p e s m args below meth c A E hr hex
  refine z_aload_n E 3 d_L_again_0 rfl rfl ?_
  refine z_iconst E (v := nI 0) d_L_again_1 (by decide) ?_
  refine z_aload_n E 0 d_L_again_2 rfl rfl ?_
  refine z_iload_n E 1 d_L_again_3 rfl rfl ?_
  refine z_iload_n E 2 d_L_again_4 rfl rfl ?_
  refine zc_callv E [.int x, .int y] hC kv_L_20 (Wr := [(o, .inl (cA 3, 1, .inr (.inl f)))]) [0, 1, 2, 3, 4, 5, 6, 7, 8] [9] [1, 2, 3, 4, 5, 6, 7, 8, 9, 0] ⟨rfl, rfl, rfl, rfl, by decide⟩ ⟨rfl, rfl⟩ 17 (zc_f2 E hex ⟨by decide, by decide⟩ (by decide) (by decide) cl_L_13 cl_L_18 (by decide +kernel) (by decide +kernel) (by decide +kernel)) 0 rfl rfl rfl rfl ⟨by show d + 1 ≤ 9; omega, by show 8 + (8 + 11) + 40 * d ≤ 360; omega⟩ (Nat.le_of_ble_eq_true rfl) ⟨(Nat.le_of_ble_eq_true rfl), (Nat.le_of_ble_eq_true rfl)⟩ d_L_again_5 (fun q => ?_)
  refine z_astore E d_L_again_17 (by decide) ?_
  refine z_iconst E (v := nI 2) d_L_again_19 (by decide) ?_
  exact z_iret E hr ⟨rfl, rfl⟩ (Nat.le_of_ble_eq_true rfl) (Nat.le_of_ble_eq_true rfl) d_L_again_20
theorem w_kind_r (l : Launch) (D : va_G) (cA : Nat → ClassId) (a : Nat → Nat) (M : zmem) (o : Nat) (f : Nat → Int64) (x : Int32) (d : Nat) (hd : d ≤ 8) {post : Int32 → zmem → Prop} (hC : zMi l y_Z_kind b_Z_kind 3 .int (rmk d) D zcl (ztys cA) (zw a cA) [.ref (a 0), .int x] M post) : zMiW l y_L_kind b_L_kind 4 [(0, 9, 12, 27)] (rmt 9) D zcl (ztys cA) (ww a cA o) [.ref (a 0), .int x, .ref o] (M, f) (fun r S => r = nI 0 ∧ ∃ v, S.2 0 = v.toInt64 ∧ post v S.1) := by
  refine zMiW.of (own := "ZoneHeapLaw") (by decide +kernel) rfl (Nat.le_of_ble_eq_true rfl) (by intro v hv; rcases List.mem_cons.mp hv with rfl | hv; rfl; rcases List.mem_cons.mp hv with rfl | hv; rfl; rcases List.mem_cons.mp hv with rfl | hv; rfl; cases hv) ?_
  intro p e s m args below meth c A E hr hex
  refine z_aload_n E 2 d_L_kind_0 rfl rfl ?_
  refine z_iconst E (v := nI 0) d_L_kind_1 (by decide) ?_
  refine z_aload_n E 0 d_L_kind_2 rfl rfl ?_
  refine z_iload_n E 1 d_L_kind_3 rfl rfl ?_
  refine zf_calli E [.int x] hC kv_L_24 (Wr := [(o, .inl (cA 3, 1, .inr (.inl f)))]) [0, 1, 2, 3, 4, 5, 6, 7, 8] [9] [1, 2, 3, 4, 5, 6, 7, 8, 9, 0] ⟨rfl, rfl, rfl, rfl, by decide⟩ (fun S => (S, f)) (fun S => ⟨rfl, rfl⟩) 0 rfl rfl rfl rfl ⟨by show d + 1 ≤ 9; omega, by show 8 + (3 + 11) + 40 * d ≤ 360; omega⟩ (Nat.le_of_ble_eq_true rfl) ⟨(Nat.le_of_ble_eq_true rfl), (Nat.le_of_ble_eq_true rfl)⟩ d_L_kind_4 (fun v S hp => ?_)
  refine z_i2l E d_L_kind_7 ?_
  refine z_last E 9 3 rfl rfl (vp_in_nI (by decide) (by decide)) (S, vp_updL f (nI 0).toNatClampNeg v.toInt64) rfl d_L_kind_8 ?_
  refine z_goto E 15 d_L_kind_9 (by decide) ?_
  refine z_iconst E (v := nI 0) d_L_kind_15 (by decide) ?_
  exact z_iret E hr ⟨rfl, v, vp_updL_0 f _, hp⟩ (Nat.le_of_ble_eq_true rfl) (Nat.le_of_ble_eq_true rfl) d_L_kind_16
theorem w_kind_1 (l : Launch) (D : va_G) (cA : Nat → ClassId) (a : Nat → Nat) (M : zmem) (o : Nat) (f : Nat → Int64) (x : Int32) (d : Nat) (hd : d ≤ 8) (hC : zMt l y_Z_kind b_Z_kind 3 (some .int) (rmt d) D zcl (ztys cA) (zw a cA) [.ref (a 0), .int x] M "java/lang/IndexOutOfBoundsException") : zMiW l y_L_kind b_L_kind 4 [(0, 9, 12, 27)] (rmt 9) D zcl (ztys cA) (ww a cA o) [.ref (a 0), .int x, .ref o] (M, f) (fun r S => r = nI 1 ∧ S = (M, f)) := by
  refine zMiW.of (own := "ZoneHeapLaw") (by decide +kernel) rfl (Nat.le_of_ble_eq_true rfl) (by intro v hv; rcases List.mem_cons.mp hv with rfl | hv; rfl; rcases List.mem_cons.mp hv with rfl | hv; rfl; rcases List.mem_cons.mp hv with rfl | hv; rfl; cases hv) ?_
  intro p e s m args below meth c A E hr hex
  refine z_aload_n E 2 d_L_kind_0 rfl rfl ?_
  refine z_iconst E (v := nI 0) d_L_kind_1 (by decide) ?_
  refine z_aload_n E 0 d_L_kind_2 rfl rfl ?_
  refine z_iload_n E 1 d_L_kind_3 rfl rfl ?_
  refine zc_callv E [.int x] hC kv_L_24 (Wr := [(o, .inl (cA 3, 1, .inr (.inl f)))]) [0, 1, 2, 3, 4, 5, 6, 7, 8] [9] [1, 2, 3, 4, 5, 6, 7, 8, 9, 0] ⟨rfl, rfl, rfl, rfl, by decide⟩ ⟨rfl, rfl⟩ 12 (zc_f1 E hex ⟨by decide, by decide⟩ (by decide) cl_L_27 (by decide +kernel)) 0 rfl rfl rfl rfl ⟨by show d + 1 ≤ 9; omega, by show 8 + (3 + 11) + 40 * d ≤ 360; omega⟩ (Nat.le_of_ble_eq_true rfl) ⟨(Nat.le_of_ble_eq_true rfl), (Nat.le_of_ble_eq_true rfl)⟩ d_L_kind_4 (fun q => ?_)
  refine z_astore_n E 3 d_L_kind_12 rfl (by decide) ?_
  refine z_iconst E (v := nI 1) d_L_kind_13 (by decide) ?_
  exact z_iret E hr ⟨rfl, rfl⟩ (Nat.le_of_ble_eq_true rfl) (Nat.le_of_ble_eq_true rfl) d_L_kind_14
theorem w_block_r (l : Launch) (D : va_G) (cA : Nat → ClassId) (a : Nat → Nat) (M : zmem) (o : Nat) (f : Nat → Int64) (x : Int32) (d : Nat) (hd : d ≤ 8) {post : Int32 → zmem → Prop} (hC : zMi l y_Z_block b_Z_block 2 .int (rmk d) D zcl (ztys cA) (zw a cA) [.ref (a 0), .int x] M post) : zMiW l y_L_block b_L_block 4 [(0, 9, 12, 27)] (rmt 9) D zcl (ztys cA) (ww a cA o) [.ref (a 0), .int x, .ref o] (M, f) (fun r S => r = nI 0 ∧ ∃ v, S.2 0 = v.toInt64 ∧ post v S.1) := by
  refine zMiW.of (own := "ZoneHeapLaw") (by decide +kernel) rfl (Nat.le_of_ble_eq_true rfl) (by intro v hv; rcases List.mem_cons.mp hv with rfl | hv; rfl; rcases List.mem_cons.mp hv with rfl | hv; rfl; rcases List.mem_cons.mp hv with rfl | hv; rfl; cases hv) ?_
  intro p e s m args below meth c A E hr hex
  refine z_aload_n E 2 d_L_block_0 rfl rfl ?_
  refine z_iconst E (v := nI 0) d_L_block_1 (by decide) ?_
  refine z_aload_n E 0 d_L_block_2 rfl rfl ?_
  refine z_iload_n E 1 d_L_block_3 rfl rfl ?_
  refine zf_calli E [.int x] hC kv_L_29 (Wr := [(o, .inl (cA 3, 1, .inr (.inl f)))]) [0, 1, 2, 3, 4, 5, 6, 7, 8] [9] [1, 2, 3, 4, 5, 6, 7, 8, 9, 0] ⟨rfl, rfl, rfl, rfl, by decide⟩ (fun S => (S, f)) (fun S => ⟨rfl, rfl⟩) 0 rfl rfl rfl rfl ⟨by show d + 1 ≤ 9; omega, by show 8 + (2 + 11) + 40 * d ≤ 360; omega⟩ (Nat.le_of_ble_eq_true rfl) ⟨(Nat.le_of_ble_eq_true rfl), (Nat.le_of_ble_eq_true rfl)⟩ d_L_block_4 (fun v S hp => ?_)
  refine z_i2l E d_L_block_7 ?_
  refine z_last E 9 3 rfl rfl (vp_in_nI (by decide) (by decide)) (S, vp_updL f (nI 0).toNatClampNeg v.toInt64) rfl d_L_block_8 ?_
  refine z_goto E 15 d_L_block_9 (by decide) ?_
  refine z_iconst E (v := nI 0) d_L_block_15 (by decide) ?_
  exact z_iret E hr ⟨rfl, v, vp_updL_0 f _, hp⟩ (Nat.le_of_ble_eq_true rfl) (Nat.le_of_ble_eq_true rfl) d_L_block_16
theorem w_block_1 (l : Launch) (D : va_G) (cA : Nat → ClassId) (a : Nat → Nat) (M : zmem) (o : Nat) (f : Nat → Int64) (x : Int32) (d : Nat) (hd : d ≤ 8) (hC : zMt l y_Z_block b_Z_block 2 (some .int) (rmt d) D zcl (ztys cA) (zw a cA) [.ref (a 0), .int x] M "java/lang/IndexOutOfBoundsException") : zMiW l y_L_block b_L_block 4 [(0, 9, 12, 27)] (rmt 9) D zcl (ztys cA) (ww a cA o) [.ref (a 0), .int x, .ref o] (M, f) (fun r S => r = nI 1 ∧ S = (M, f)) := by
  refine zMiW.of (own := "ZoneHeapLaw") (by decide +kernel) rfl (Nat.le_of_ble_eq_true rfl) (by intro v hv; rcases List.mem_cons.mp hv with rfl | hv; rfl; rcases List.mem_cons.mp hv with rfl | hv; rfl; rcases List.mem_cons.mp hv with rfl | hv; rfl; cases hv) ?_
  intro p e s m args below meth c A E hr hex
  refine z_aload_n E 2 d_L_block_0 rfl rfl ?_
  refine z_iconst E (v := nI 0) d_L_block_1 (by decide) ?_
  refine z_aload_n E 0 d_L_block_2 rfl rfl ?_
  refine z_iload_n E 1 d_L_block_3 rfl rfl ?_
  refine zc_callv E [.int x] hC kv_L_29 (Wr := [(o, .inl (cA 3, 1, .inr (.inl f)))]) [0, 1, 2, 3, 4, 5, 6, 7, 8] [9] [1, 2, 3, 4, 5, 6, 7, 8, 9, 0] ⟨rfl, rfl, rfl, rfl, by decide⟩ ⟨rfl, rfl⟩ 12 (zc_f1 E hex ⟨by decide, by decide⟩ (by decide) cl_L_27 (by decide +kernel)) 0 rfl rfl rfl rfl ⟨by show d + 1 ≤ 9; omega, by show 8 + (2 + 11) + 40 * d ≤ 360; omega⟩ (Nat.le_of_ble_eq_true rfl) ⟨(Nat.le_of_ble_eq_true rfl), (Nat.le_of_ble_eq_true rfl)⟩ d_L_block_4 (fun q => ?_)
  refine z_astore_n E 3 d_L_block_12 rfl (by decide) ?_
  refine z_iconst E (v := nI 1) d_L_block_13 (by decide) ?_
  exact z_iret E hr ⟨rfl, rfl⟩ (Nat.le_of_ble_eq_true rfl) (Nat.le_of_ble_eq_true rfl) d_L_block_14
theorem w_write_r (l : Launch) (D : va_G) (cA : Nat → ClassId) (a : Nat → Nat) (M : zmem) (x y : Int32) (d : Nat) (hd : d ≤ 8) {post : zmem → Prop} (hC : zMv l y_Z_write b_Z_write 4 (rmk d) D zcl (ztys cA) (zw a cA) [.ref (a 0), .int x, .int y] M post) : zMiW l y_L_write b_L_write 4 [(0, 6, 9, 27), (0, 6, 12, 18)] (rmt 9) D zcl (ztys cA) (zw a cA) [.ref (a 0), .int x, .int y] M (fun r S => r = nI 0 ∧ post S) := by
  refine zMiW.of (own := "ZoneHeapLaw") (by decide +kernel) rfl (Nat.le_of_ble_eq_true rfl) (by intro v hv; rcases List.mem_cons.mp hv with rfl | hv; rfl; rcases List.mem_cons.mp hv with rfl | hv; rfl; rcases List.mem_cons.mp hv with rfl | hv; rfl; cases hv) ?_
  intro p e s m args below meth c A E hr hex
  refine z_aload_n E 0 d_L_write_0 rfl rfl ?_
  refine z_iload_n E 1 d_L_write_1 rfl rfl ?_
  refine z_iload_n E 2 d_L_write_2 rfl rfl ?_
  refine zf_callv E [.int x, .int y] hC kv_L_32 (Wr := []) [0, 1, 2, 3, 4, 5, 6, 7, 8] [] [0, 1, 2, 3, 4, 5, 6, 7, 8] ⟨rfl, rfl, rfl, rfl, by decide⟩ (fun S => S) (fun S => ⟨rfl, rfl⟩) 0 rfl rfl rfl rfl ⟨by show d + 1 ≤ 9; omega, by show 8 + (4 + 11) + 40 * d ≤ 360; omega⟩ (Nat.le_of_ble_eq_true rfl) ⟨(Nat.le_of_ble_eq_true rfl), (Nat.le_of_ble_eq_true rfl)⟩ d_L_write_3 (fun S hp => ?_)
  refine z_goto E 15 d_L_write_6 (by decide) ?_
  refine z_iconst E (v := nI 0) d_L_write_15 (by decide) ?_
  exact z_iret E hr ⟨rfl, hp⟩ (Nat.le_of_ble_eq_true rfl) (Nat.le_of_ble_eq_true rfl) d_L_write_16
theorem w_write_1 (l : Launch) (D : va_G) (cA : Nat → ClassId) (a : Nat → Nat) (M : zmem) (x y : Int32) (d : Nat) (hd : d ≤ 8) (hC : zMt l y_Z_write b_Z_write 4 none (rmt d) D zcl (ztys cA) (zw a cA) [.ref (a 0), .int x, .int y] M "java/lang/IndexOutOfBoundsException") : zMiW l y_L_write b_L_write 4 [(0, 6, 9, 27), (0, 6, 12, 18)] (rmt 9) D zcl (ztys cA) (zw a cA) [.ref (a 0), .int x, .int y] M (fun r S => r = nI 1 ∧ S = M) := by
  refine zMiW.of (own := "ZoneHeapLaw") (by decide +kernel) rfl (Nat.le_of_ble_eq_true rfl) (by intro v hv; rcases List.mem_cons.mp hv with rfl | hv; rfl; rcases List.mem_cons.mp hv with rfl | hv; rfl; rcases List.mem_cons.mp hv with rfl | hv; rfl; cases hv) ?_
  intro p e s m args below meth c A E hr hex
  refine z_aload_n E 0 d_L_write_0 rfl rfl ?_
  refine z_iload_n E 1 d_L_write_1 rfl rfl ?_
  refine z_iload_n E 2 d_L_write_2 rfl rfl ?_
  refine zc_callv E [.int x, .int y] hC kv_L_32 (Wr := []) [0, 1, 2, 3, 4, 5, 6, 7, 8] [] [0, 1, 2, 3, 4, 5, 6, 7, 8] ⟨rfl, rfl, rfl, rfl, by decide⟩ ⟨rfl, rfl⟩ 9 (zc_f1 E hex ⟨by decide, by decide⟩ (by decide) cl_L_27 (by decide +kernel)) 0 rfl rfl rfl rfl ⟨by show d + 1 ≤ 9; omega, by show 8 + (4 + 11) + 40 * d ≤ 360; omega⟩ (Nat.le_of_ble_eq_true rfl) ⟨(Nat.le_of_ble_eq_true rfl), (Nat.le_of_ble_eq_true rfl)⟩ d_L_write_3 (fun q => ?_)
  refine z_astore_n E 3 d_L_write_9 rfl (by decide) ?_
  refine z_iconst E (v := nI 1) d_L_write_10 (by decide) ?_
  exact z_iret E hr ⟨rfl, rfl⟩ (Nat.le_of_ble_eq_true rfl) (Nat.le_of_ble_eq_true rfl) d_L_write_11
theorem w_write_2 (l : Launch) (D : va_G) (cA : Nat → ClassId) (a : Nat → Nat) (M : zmem) (x y : Int32) (d : Nat) (hd : d ≤ 8) (hC : zMt l y_Z_write b_Z_write 4 none (rmt d) D zcl (ztys cA) (zw a cA) [.ref (a 0), .int x, .int y] M "java/lang/IllegalStateException") : zMiW l y_L_write b_L_write 4 [(0, 6, 9, 27), (0, 6, 12, 18)] (rmt 9) D zcl (ztys cA) (zw a cA) [.ref (a 0), .int x, .int y] M (fun r S => r = nI 2 ∧ S = M) := by
  refine zMiW.of (own := "ZoneHeapLaw") (by decide +kernel) rfl (Nat.le_of_ble_eq_true rfl) (by intro v hv; rcases List.mem_cons.mp hv with rfl | hv; rfl; rcases List.mem_cons.mp hv with rfl | hv; rfl; rcases List.mem_cons.mp hv with rfl | hv; rfl; cases hv) ?_
  intro p e s m args below meth c A E hr hex
  refine z_aload_n E 0 d_L_write_0 rfl rfl ?_
  refine z_iload_n E 1 d_L_write_1 rfl rfl ?_
  refine z_iload_n E 2 d_L_write_2 rfl rfl ?_
  refine zc_callv E [.int x, .int y] hC kv_L_32 (Wr := []) [0, 1, 2, 3, 4, 5, 6, 7, 8] [] [0, 1, 2, 3, 4, 5, 6, 7, 8] ⟨rfl, rfl, rfl, rfl, by decide⟩ ⟨rfl, rfl⟩ 12 (zc_f2 E hex ⟨by decide, by decide⟩ (by decide) (by decide) cl_L_27 cl_L_18 (by decide +kernel) (by decide +kernel) (by decide +kernel)) 0 rfl rfl rfl rfl ⟨by show d + 1 ≤ 9; omega, by show 8 + (4 + 11) + 40 * d ≤ 360; omega⟩ (Nat.le_of_ble_eq_true rfl) ⟨(Nat.le_of_ble_eq_true rfl), (Nat.le_of_ble_eq_true rfl)⟩ d_L_write_3 (fun q => ?_)
  refine z_astore_n E 3 d_L_write_12 rfl (by decide) ?_
  refine z_iconst E (v := nI 2) d_L_write_13 (by decide) ?_
  exact z_iret E hr ⟨rfl, rfl⟩ (Nat.le_of_ble_eq_true rfl) (Nat.le_of_ble_eq_true rfl) d_L_write_14
theorem w_read_r (l : Launch) (D : va_G) (cA : Nat → ClassId) (a : Nat → Nat) (M : zmem) (o : Nat) (f : Nat → Int64) (x : Int32) (d : Nat) (hd : d ≤ 8) {post : Int32 → zmem → Prop} (hC : zMi l y_Z_read b_Z_read 2 .int (rmk d) D zcl (ztys cA) (zw a cA) [.ref (a 0), .int x] M post) : zMiW l y_L_read b_L_read 4 [(0, 9, 12, 27), (0, 9, 15, 18)] (rmt 9) D zcl (ztys cA) (ww a cA o) [.ref (a 0), .int x, .ref o] (M, f) (fun r S => r = nI 0 ∧ ∃ v, S.2 0 = v.toInt64 ∧ post v S.1) := by
  refine zMiW.of (own := "ZoneHeapLaw") (by decide +kernel) rfl (Nat.le_of_ble_eq_true rfl) (by intro v hv; rcases List.mem_cons.mp hv with rfl | hv; rfl; rcases List.mem_cons.mp hv with rfl | hv; rfl; rcases List.mem_cons.mp hv with rfl | hv; rfl; cases hv) ?_
  intro p e s m args below meth c A E hr hex
  refine z_aload_n E 2 d_L_read_0 rfl rfl ?_
  refine z_iconst E (v := nI 0) d_L_read_1 (by decide) ?_
  refine z_aload_n E 0 d_L_read_2 rfl rfl ?_
  refine z_iload_n E 1 d_L_read_3 rfl rfl ?_
  refine zf_calli E [.int x] hC kv_L_36 (Wr := [(o, .inl (cA 3, 1, .inr (.inl f)))]) [0, 1, 2, 3, 4, 5, 6, 7, 8] [9] [1, 2, 3, 4, 5, 6, 7, 8, 9, 0] ⟨rfl, rfl, rfl, rfl, by decide⟩ (fun S => (S, f)) (fun S => ⟨rfl, rfl⟩) 0 rfl rfl rfl rfl ⟨by show d + 1 ≤ 9; omega, by show 8 + (2 + 11) + 40 * d ≤ 360; omega⟩ (Nat.le_of_ble_eq_true rfl) ⟨(Nat.le_of_ble_eq_true rfl), (Nat.le_of_ble_eq_true rfl)⟩ d_L_read_4 (fun v S hp => ?_)
  refine z_i2l E d_L_read_7 ?_
  refine z_last E 9 3 rfl rfl (vp_in_nI (by decide) (by decide)) (S, vp_updL f (nI 0).toNatClampNeg v.toInt64) rfl d_L_read_8 ?_
  refine z_goto E 18 d_L_read_9 (by decide) ?_
  refine z_iconst E (v := nI 0) d_L_read_18 (by decide) ?_
  exact z_iret E hr ⟨rfl, v, vp_updL_0 f _, hp⟩ (Nat.le_of_ble_eq_true rfl) (Nat.le_of_ble_eq_true rfl) d_L_read_19
theorem w_read_1 (l : Launch) (D : va_G) (cA : Nat → ClassId) (a : Nat → Nat) (M : zmem) (o : Nat) (f : Nat → Int64) (x : Int32) (d : Nat) (hd : d ≤ 8) (hC : zMt l y_Z_read b_Z_read 2 (some .int) (rmt d) D zcl (ztys cA) (zw a cA) [.ref (a 0), .int x] M "java/lang/IndexOutOfBoundsException") : zMiW l y_L_read b_L_read 4 [(0, 9, 12, 27), (0, 9, 15, 18)] (rmt 9) D zcl (ztys cA) (ww a cA o) [.ref (a 0), .int x, .ref o] (M, f) (fun r S => r = nI 1 ∧ S = (M, f)) := by
  refine zMiW.of (own := "ZoneHeapLaw") (by decide +kernel) rfl (Nat.le_of_ble_eq_true rfl) (by intro v hv; rcases List.mem_cons.mp hv with rfl | hv; rfl; rcases List.mem_cons.mp hv with rfl | hv; rfl; rcases List.mem_cons.mp hv with rfl | hv; rfl; cases hv) ?_
  intro p e s m args below meth c A E hr hex
  refine z_aload_n E 2 d_L_read_0 rfl rfl ?_
  refine z_iconst E (v := nI 0) d_L_read_1 (by decide) ?_
  refine z_aload_n E 0 d_L_read_2 rfl rfl ?_
  refine z_iload_n E 1 d_L_read_3 rfl rfl ?_
  refine zc_callv E [.int x] hC kv_L_36 (Wr := [(o, .inl (cA 3, 1, .inr (.inl f)))]) [0, 1, 2, 3, 4, 5, 6, 7, 8] [9] [1, 2, 3, 4, 5, 6, 7, 8, 9, 0] ⟨rfl, rfl, rfl, rfl, by decide⟩ ⟨rfl, rfl⟩ 12 (zc_f1 E hex ⟨by decide, by decide⟩ (by decide) cl_L_27 (by decide +kernel)) 0 rfl rfl rfl rfl ⟨by show d + 1 ≤ 9; omega, by show 8 + (2 + 11) + 40 * d ≤ 360; omega⟩ (Nat.le_of_ble_eq_true rfl) ⟨(Nat.le_of_ble_eq_true rfl), (Nat.le_of_ble_eq_true rfl)⟩ d_L_read_4 (fun q => ?_)
  refine z_astore_n E 3 d_L_read_12 rfl (by decide) ?_
  refine z_iconst E (v := nI 1) d_L_read_13 (by decide) ?_
  exact z_iret E hr ⟨rfl, rfl⟩ (Nat.le_of_ble_eq_true rfl) (Nat.le_of_ble_eq_true rfl) d_L_read_14
theorem w_read_2 (l : Launch) (D : va_G) (cA : Nat → ClassId) (a : Nat → Nat) (M : zmem) (o : Nat) (f : Nat → Int64) (x : Int32) (d : Nat) (hd : d ≤ 8) (hC : zMt l y_Z_read b_Z_read 2 (some .int) (rmt d) D zcl (ztys cA) (zw a cA) [.ref (a 0), .int x] M "java/lang/IllegalStateException") : zMiW l y_L_read b_L_read 4 [(0, 9, 12, 27), (0, 9, 15, 18)] (rmt 9) D zcl (ztys cA) (ww a cA o) [.ref (a 0), .int x, .ref o] (M, f) (fun r S => r = nI 2 ∧ S = (M, f)) := by
  refine zMiW.of (own := "ZoneHeapLaw") (by decide +kernel) rfl (Nat.le_of_ble_eq_true rfl) (by intro v hv; rcases List.mem_cons.mp hv with rfl | hv; rfl; rcases List.mem_cons.mp hv with rfl | hv; rfl; rcases List.mem_cons.mp hv with rfl | hv; rfl; cases hv) ?_
  intro p e s m args below meth c A E hr hex
  refine z_aload_n E 2 d_L_read_0 rfl rfl ?_
  refine z_iconst E (v := nI 0) d_L_read_1 (by decide) ?_
  refine z_aload_n E 0 d_L_read_2 rfl rfl ?_
  refine z_iload_n E 1 d_L_read_3 rfl rfl ?_
  refine zc_callv E [.int x] hC kv_L_36 (Wr := [(o, .inl (cA 3, 1, .inr (.inl f)))]) [0, 1, 2, 3, 4, 5, 6, 7, 8] [9] [1, 2, 3, 4, 5, 6, 7, 8, 9, 0] ⟨rfl, rfl, rfl, rfl, by decide⟩ ⟨rfl, rfl⟩ 15 (zc_f2 E hex ⟨by decide, by decide⟩ (by decide) (by decide) cl_L_27 cl_L_18 (by decide +kernel) (by decide +kernel) (by decide +kernel)) 0 rfl rfl rfl rfl ⟨by show d + 1 ≤ 9; omega, by show 8 + (2 + 11) + 40 * d ≤ 360; omega⟩ (Nat.le_of_ble_eq_true rfl) ⟨(Nat.le_of_ble_eq_true rfl), (Nat.le_of_ble_eq_true rfl)⟩ d_L_read_4 (fun q => ?_)
  refine z_astore_n E 3 d_L_read_15 rfl (by decide) ?_
  refine z_iconst E (v := nI 2) d_L_read_16 (by decide) ?_
  exact z_iret E hr ⟨rfl, rfl⟩ (Nat.le_of_ble_eq_true rfl) (Nat.le_of_ble_eq_true rfl) d_L_read_17
theorem w_lostAt_r (l : Launch) (D : va_G) (cA : Nat → ClassId) (a : Nat → Nat) (M : zmem) (o : Nat) (f : Nat → Int64) (x : Int32) (d : Nat) (hd : d ≤ 8) {post : Int32 → zmem → Prop} (hC : zMi l y_Z_lostAt b_Z_lostAt 2 .int (rmk d) D zcl (ztys cA) (zw a cA) [.ref (a 0), .int x] M post) : zMiW l y_L_lostAt b_L_lostAt 4 [(0, 9, 12, 27)] (rmt 9) D zcl (ztys cA) (ww a cA o) [.ref (a 0), .int x, .ref o] (M, f) (fun r S => r = nI 0 ∧ ∃ v, S.2 0 = v.toInt64 ∧ post v S.1) := by
  refine zMiW.of (own := "ZoneHeapLaw") (by decide +kernel) rfl (Nat.le_of_ble_eq_true rfl) (by intro v hv; rcases List.mem_cons.mp hv with rfl | hv; rfl; rcases List.mem_cons.mp hv with rfl | hv; rfl; rcases List.mem_cons.mp hv with rfl | hv; rfl; cases hv) ?_
  intro p e s m args below meth c A E hr hex
  refine z_aload_n E 2 d_L_lostAt_0 rfl rfl ?_
  refine z_iconst E (v := nI 0) d_L_lostAt_1 (by decide) ?_
  refine z_aload_n E 0 d_L_lostAt_2 rfl rfl ?_
  refine z_iload_n E 1 d_L_lostAt_3 rfl rfl ?_
  refine zf_calli E [.int x] hC kv_L_39 (Wr := [(o, .inl (cA 3, 1, .inr (.inl f)))]) [0, 1, 2, 3, 4, 5, 6, 7, 8] [9] [1, 2, 3, 4, 5, 6, 7, 8, 9, 0] ⟨rfl, rfl, rfl, rfl, by decide⟩ (fun S => (S, f)) (fun S => ⟨rfl, rfl⟩) 0 rfl rfl rfl rfl ⟨by show d + 1 ≤ 9; omega, by show 8 + (2 + 11) + 40 * d ≤ 360; omega⟩ (Nat.le_of_ble_eq_true rfl) ⟨(Nat.le_of_ble_eq_true rfl), (Nat.le_of_ble_eq_true rfl)⟩ d_L_lostAt_4 (fun v S hp => ?_)
  refine z_i2l E d_L_lostAt_7 ?_
  refine z_last E 9 3 rfl rfl (vp_in_nI (by decide) (by decide)) (S, vp_updL f (nI 0).toNatClampNeg v.toInt64) rfl d_L_lostAt_8 ?_
  refine z_goto E 15 d_L_lostAt_9 (by decide) ?_
  refine z_iconst E (v := nI 0) d_L_lostAt_15 (by decide) ?_
  exact z_iret E hr ⟨rfl, v, vp_updL_0 f _, hp⟩ (Nat.le_of_ble_eq_true rfl) (Nat.le_of_ble_eq_true rfl) d_L_lostAt_16
theorem w_lostAt_1 (l : Launch) (D : va_G) (cA : Nat → ClassId) (a : Nat → Nat) (M : zmem) (o : Nat) (f : Nat → Int64) (x : Int32) (d : Nat) (hd : d ≤ 8) (hC : zMt l y_Z_lostAt b_Z_lostAt 2 (some .int) (rmt d) D zcl (ztys cA) (zw a cA) [.ref (a 0), .int x] M "java/lang/IndexOutOfBoundsException") : zMiW l y_L_lostAt b_L_lostAt 4 [(0, 9, 12, 27)] (rmt 9) D zcl (ztys cA) (ww a cA o) [.ref (a 0), .int x, .ref o] (M, f) (fun r S => r = nI 1 ∧ S = (M, f)) := by
  refine zMiW.of (own := "ZoneHeapLaw") (by decide +kernel) rfl (Nat.le_of_ble_eq_true rfl) (by intro v hv; rcases List.mem_cons.mp hv with rfl | hv; rfl; rcases List.mem_cons.mp hv with rfl | hv; rfl; rcases List.mem_cons.mp hv with rfl | hv; rfl; cases hv) ?_
  intro p e s m args below meth c A E hr hex
  refine z_aload_n E 2 d_L_lostAt_0 rfl rfl ?_
  refine z_iconst E (v := nI 0) d_L_lostAt_1 (by decide) ?_
  refine z_aload_n E 0 d_L_lostAt_2 rfl rfl ?_
  refine z_iload_n E 1 d_L_lostAt_3 rfl rfl ?_
  refine zc_callv E [.int x] hC kv_L_39 (Wr := [(o, .inl (cA 3, 1, .inr (.inl f)))]) [0, 1, 2, 3, 4, 5, 6, 7, 8] [9] [1, 2, 3, 4, 5, 6, 7, 8, 9, 0] ⟨rfl, rfl, rfl, rfl, by decide⟩ ⟨rfl, rfl⟩ 12 (zc_f1 E hex ⟨by decide, by decide⟩ (by decide) cl_L_27 (by decide +kernel)) 0 rfl rfl rfl rfl ⟨by show d + 1 ≤ 9; omega, by show 8 + (2 + 11) + 40 * d ≤ 360; omega⟩ (Nat.le_of_ble_eq_true rfl) ⟨(Nat.le_of_ble_eq_true rfl), (Nat.le_of_ble_eq_true rfl)⟩ d_L_lostAt_4 (fun q => ?_)
  refine z_astore_n E 3 d_L_lostAt_12 rfl (by decide) ?_
  refine z_iconst E (v := nI 1) d_L_lostAt_13 (by decide) ?_
  exact z_iret E hr ⟨rfl, rfl⟩ (Nat.le_of_ble_eq_true rfl) (Nat.le_of_ble_eq_true rfl) d_L_lostAt_14
theorem w_count_r (l : Launch) (D : va_G) (cA : Nat → ClassId) (a : Nat → Nat) (M : zmem) (o : Nat) (f : Nat → Int64) (x : Int32) (d : Nat) (hd : d ≤ 8) {post : Int32 → zmem → Prop} (hC : zMi l y_Z_count b_Z_count 4 .int (rmk d) D zcl (ztys cA) (zw a cA) [.ref (a 0), .int x] M post) : zMiW l y_L_count b_L_count 4 [(0, 9, 12, 13)] (rmt 9) D zcl (ztys cA) (ww a cA o) [.ref (a 0), .int x, .ref o] (M, f) (fun r S => r = nI 0 ∧ ∃ v, S.2 0 = v.toInt64 ∧ post v S.1) := by
  refine zMiW.of (own := "ZoneHeapLaw") (by decide +kernel) rfl (Nat.le_of_ble_eq_true rfl) (by intro v hv; rcases List.mem_cons.mp hv with rfl | hv; rfl; rcases List.mem_cons.mp hv with rfl | hv; rfl; rcases List.mem_cons.mp hv with rfl | hv; rfl; cases hv) ?_
  intro p e s m args below meth c A E hr hex
  refine z_aload_n E 2 d_L_count_0 rfl rfl ?_
  refine z_iconst E (v := nI 0) d_L_count_1 (by decide) ?_
  refine z_aload_n E 0 d_L_count_2 rfl rfl ?_
  refine z_iload_n E 1 d_L_count_3 rfl rfl ?_
  refine zf_calli E [.int x] hC kv_L_42 (Wr := [(o, .inl (cA 3, 1, .inr (.inl f)))]) [0, 1, 2, 3, 4, 5, 6, 7, 8] [9] [1, 2, 3, 4, 5, 6, 7, 8, 9, 0] ⟨rfl, rfl, rfl, rfl, by decide⟩ (fun S => (S, f)) (fun S => ⟨rfl, rfl⟩) 0 rfl rfl rfl rfl ⟨by show d + 1 ≤ 9; omega, by show 8 + (4 + 11) + 40 * d ≤ 360; omega⟩ (Nat.le_of_ble_eq_true rfl) ⟨(Nat.le_of_ble_eq_true rfl), (Nat.le_of_ble_eq_true rfl)⟩ d_L_count_4 (fun v S hp => ?_)
  refine z_i2l E d_L_count_7 ?_
  refine z_last E 9 3 rfl rfl (vp_in_nI (by decide) (by decide)) (S, vp_updL f (nI 0).toNatClampNeg v.toInt64) rfl d_L_count_8 ?_
  refine z_goto E 15 d_L_count_9 (by decide) ?_
  refine z_iconst E (v := nI 0) d_L_count_15 (by decide) ?_
  exact z_iret E hr ⟨rfl, v, vp_updL_0 f _, hp⟩ (Nat.le_of_ble_eq_true rfl) (Nat.le_of_ble_eq_true rfl) d_L_count_16
theorem w_count_1 (l : Launch) (D : va_G) (cA : Nat → ClassId) (a : Nat → Nat) (M : zmem) (o : Nat) (f : Nat → Int64) (x : Int32) (d : Nat) (hd : d ≤ 8) (hC : zMt l y_Z_count b_Z_count 4 (some .int) (rmt d) D zcl (ztys cA) (zw a cA) [.ref (a 0), .int x] M "java/lang/IllegalArgumentException") : zMiW l y_L_count b_L_count 4 [(0, 9, 12, 13)] (rmt 9) D zcl (ztys cA) (ww a cA o) [.ref (a 0), .int x, .ref o] (M, f) (fun r S => r = nI 1 ∧ S = (M, f)) := by
  refine zMiW.of (own := "ZoneHeapLaw") (by decide +kernel) rfl (Nat.le_of_ble_eq_true rfl) (by intro v hv; rcases List.mem_cons.mp hv with rfl | hv; rfl; rcases List.mem_cons.mp hv with rfl | hv; rfl; rcases List.mem_cons.mp hv with rfl | hv; rfl; cases hv) ?_
  intro p e s m args below meth c A E hr hex
  refine z_aload_n E 2 d_L_count_0 rfl rfl ?_
  refine z_iconst E (v := nI 0) d_L_count_1 (by decide) ?_
  refine z_aload_n E 0 d_L_count_2 rfl rfl ?_
  refine z_iload_n E 1 d_L_count_3 rfl rfl ?_
  refine zc_callv E [.int x] hC kv_L_42 (Wr := [(o, .inl (cA 3, 1, .inr (.inl f)))]) [0, 1, 2, 3, 4, 5, 6, 7, 8] [9] [1, 2, 3, 4, 5, 6, 7, 8, 9, 0] ⟨rfl, rfl, rfl, rfl, by decide⟩ ⟨rfl, rfl⟩ 12 (zc_f1 E hex ⟨by decide, by decide⟩ (by decide) cl_L_13 (by decide +kernel)) 0 rfl rfl rfl rfl ⟨by show d + 1 ≤ 9; omega, by show 8 + (4 + 11) + 40 * d ≤ 360; omega⟩ (Nat.le_of_ble_eq_true rfl) ⟨(Nat.le_of_ble_eq_true rfl), (Nat.le_of_ble_eq_true rfl)⟩ d_L_count_4 (fun q => ?_)
  refine z_astore_n E 3 d_L_count_12 rfl (by decide) ?_
  refine z_iconst E (v := nI 1) d_L_count_13 (by decide) ?_
  exact z_iret E hr ⟨rfl, rfl⟩ (Nat.le_of_ble_eq_true rfl) (Nat.le_of_ble_eq_true rfl) d_L_count_14
end
section
/-! The two sides answer alike: what ties them (LI), and for each operation the two contracts with what follows of them -/
def lt_b (x : Int32) (i : Nat) : Bool := x.toBitVec.getLsbD i
theorem lt_bext {x y : Int32} (h : ∀ i, i < 32 → lt_b x i = lt_b y i) : x = y := Int32.toBitVec_inj.mp (BitVec.eq_of_getLsbD_eq (fun i hi => h i hi))
theorem lt_band (x y : Int32) (i : Nat) : lt_b (x &&& y) i = (lt_b x i && lt_b y i) := by unfold lt_b; rw [Int32.toBitVec_and, BitVec.getLsbD_and]
theorem lt_b255 : ∀ i, i < 32 → lt_b (nI 255) i = decide (i < 8) := by decide +kernel
theorem lt_sl : ((nI 24 &&& 31).toBitVec.smod 32).toNat = 24 := by decide +kernel
theorem lt_bshl (x : Int32) {i : Nat} (hi : i < 32) : lt_b (x <<< (nI 24 &&& 31)) i = (decide (24 ≤ i) && lt_b x (i - 24)) := by
  unfold lt_b
  rw [Int32.toBitVec_shiftLeft]
  show (x.toBitVec <<< ((nI 24 &&& 31).toBitVec.smod 32).toNat).getLsbD i = _
  rw [lt_sl, BitVec.getLsbD_shiftLeft]
  rcases Nat.lt_or_ge i 24 with h | h
  · simp [h, Nat.not_le.mpr h]
  · simp [hi, h, Nat.not_lt.mpr h]
theorem lt_shl255 (x : Int32) : (x &&& nI 255) <<< (nI 24 &&& 31) = x <<< (nI 24 &&& 31) := by
  refine lt_bext fun i hi => ?_
  rw [lt_bshl _ hi, lt_bshl _ hi, lt_band]
  rcases Nat.lt_or_ge i 24 with h | h
  · rw [decide_eq_false (by omega)]; simp
  · rw [lt_b255 (i - 24) (by omega), decide_eq_true (show i - 24 < 8 by omega)]; simp
theorem lt_byte (y : Int32) : y.toInt8.toInt32 &&& nI 255 = y &&& nI 255 := by
  refine lt_bext fun i hi => ?_
  rw [lt_band, lt_band, lt_b255 i hi]
  rcases Nat.lt_or_ge i 8 with h | h
  · rw [decide_eq_true h]
    have e : lt_b y.toInt8.toInt32 i = lt_b y i := by
      unfold lt_b
      rw [Int8.toBitVec_toInt32, BitVec.getLsbD_signExtend, Int32.toBitVec_toInt8, BitVec.getLsbD_signExtend]
      simp [h, hi]
    rw [e]
  · rw [decide_eq_false (by omega)]; simp
theorem lt_wC {f g : Nat → Int32} {p : Nat} (h : ∀ j, j < 4 → g (p + j) = f (p + j) &&& nI 255) : wC f p = wMd g p := by
  unfold wC wMd
  rw [show g p = f p &&& nI 255 from h 0 (by omega), h 1 (by omega), h 2 (by omega), h 3 (by omega), lt_shl255]
theorem lt_wB (v : Int32) (j : Nat) : wB v j &&& nI 255 = wMb v j := lt_byte _
theorem lt_nar (y : Int32) : vp_nar .byte y.toInt8.toInt32 = y.toInt8.toInt32 := by
  show (y.toInt8.toInt32).toInt8.toInt32 = y.toInt8.toInt32
  rw [Int8.toInt8_toInt32]
theorem lt_64 {x y : Int32} (h : x = y) : x.toInt64 = y.toInt64 := by rw [h]
/-- an argument in its range -/
theorem lt_in {x : Int32} (B : Nat) (hB : B < 2 ^ 31) (h : ¬ (x.toInt < 0 ∨ (B : Int) < x.toInt)) : ∃ q : Nat, q ≤ B ∧ x = nI q := by
  refine ⟨x.toInt.toNat, by omega, Int32.toInt_inj.mp ?_⟩
  rw [nI_toInt (by omega)]
  omega
theorem hW_back {h : zmap} {g x q : Nat} (hw : hW h g) : hW (hst h x (q, some g)) (g + 1) := by
  constructor
  · intro y q' w hy
    unfold hst at hy
    split at hy
    · cases hy; omega
    · have := hw.1 y q' w hy; omega
  · intro y z q1 q2 w hy hz
    unfold hst at hy hz
    split at hy
    · split at hz
      · omega
      · cases hy
        have := hw.1 z q2 g hz; omega
    · split at hz
      · cases hz
        have := hw.1 y q1 g hy; omega
      · exact hw.2 y z q1 q2 w hy hz
theorem zInv.hO {M : zmem} {h : zmap} {g : Nat} (hi : zInv M h g) : hO h := by obtain ⟨n, ad, sz, st, hp⟩ := hi; exact hp.2.2.2.1
theorem zInv.hW {M : zmem} {h : zmap} {g : Nat} (hi : zInv M h g) : hW h g := by obtain ⟨n, ad, sz, st, hp⟩ := hi; exact hp.2.2.2.2.1
theorem zInv.same {M M' : zmem} {h : zmap} {g : Nat} (hi : zInv M h g) (he : ∀ q, q ≠ 0 → M' q = M q) : zInv M' h g := by obtain ⟨n, ad, sz, st, hp⟩ := hi; exact ⟨n, ad, sz, st, hp.congr he⟩
theorem mInv.same {N N' : zmem} {h : zmap} {g : Nat} {v : Int32} (hi : mInv N h g) (he : ∀ q, q ≠ 0 → N' q = (zu N 7 0 v) q) : mInv N' h g := by
  obtain ⟨n, ad, sz, st, hp⟩ := hi
  have h7 : N' 7 = upd (N 7) 0 v := by rw [he 7 (by decide)]; exact zu_same
  refine ⟨n, ad, sz, st, hp.congr ?_ ?_ ?_ ?_ ?_ ?_⟩
  · rw [he 1 (by decide)]; exact zu_ne (by decide)
  · rw [he 2 (by decide)]; exact zu_ne (by decide)
  · rw [he 3 (by decide)]; exact zu_ne (by decide)
  · rw [he 4 (by decide)]; exact zu_ne (by decide)
  · rw [h7]; exact upd_ne (by decide)
  · rw [h7]; exact upd_ne (by decide)
theorem mInv.err {N : zmem} {h : zmap} {g : Nat} {v : Int32} (hi : mInv N h g) : mInv (zu N 7 0 v) h g := hi.same (v := v) (fun _ _ => rfl)
/-- what ties the two sides together -/
def LJ (M N : zmem) (h : zmap) (g t k : Nat) : Prop := zInv M h g ∧ mInv N h g ∧ M 8 1 = N 7 2 ∧ (∀ i, i < 8192 → N 0 i = M 0 i &&& nI 255) ∧ zByte M ∧ M 8 5 = nI t ∧ N 7 4 = nI t ∧ t ≤ 256 ∧ (∀ i, i < t → M 7 i = N 6 i) ∧ ksum h ≤ 512 ∧ g ≤ k
def LI (M N : zmem) (k : Nat) : Prop := ∃ (h : zmap) (g t : Nat), LJ M N h g t k
theorem LI.more {M N : zmem} {k k' : Nat} (h : LI M N k) (hk : k ≤ k') : LI M N k' := by
  obtain ⟨h, g, t, j1, j2, j3, j4, j5, j6, j7, j8, j9, j10, j11⟩ := h
  exact ⟨h, g, t, j1, j2, j3, j4, j5, j6, j7, j8, j9, j10, by omega⟩
theorem LI.err {M N : zmem} {k : Nat} {v : Int32} (h : LI M N k) : LI M (zu N 7 0 v) (k + 1) := by
  obtain ⟨h, g, t, j1, j2, j3, j4, j5, j6, j7, j8, j9, j10, j11⟩ := h
  exact ⟨h, g, t, j1, j2.err, j3, j4, j5, j6, j7, j8, j9, j10, by omega⟩
/-- one operation: the wrapper's contract, the model's, and what follows of the two -/
def LOK (l : Launch) (D : va_G) (cA : Nat → ClassId) (a b : Nat → Nat) (o k : Nat) (f : Nat → Int64) (M N : zmem) (yW : MethodName) (bW : ByteArray) (nW : Nat) (hh : List (Nat × Nat × Nat × Nat)) (yM : MethodName) (bM : ByteArray) (nM : Nat) (xs : List Value) : Prop :=
  ∃ (d : Nat) (p1 : Int32 → zmem × (Nat → Int64) → Prop) (p2 : Int32 → zmem → Prop), d ≤ 8 ∧ zMiW l yW bW nW hh (rmt 9) D zcl (ztys cA) (ww a cA o) (.ref (a 0) :: xs ++ [.ref o]) (M, f) p1 ∧ zMi l yM bM nM .int (rmk d) D zcl (ztys cA) (mw b cA) (.ref (b 0) :: xs) N p2 ∧
    ∀ r S v N', p1 r S → p2 v N' → N' 7 0 = r ∧ (r = nI 0 → S.2 0 = v.toInt64) ∧ LI S.1 N' (k + 1)
/-- both refuse -/
theorem LOK.bad {l : Launch} {D : va_G} {cA : Nat → ClassId} {a b : Nat → Nat} {o k : Nat} {f : Nat → Int64} {M N : zmem} {yW : MethodName} {bW : ByteArray} {nW : Nat} {hh : List (Nat × Nat × Nat × Nat)} {yM : MethodName} {bM : ByteArray} {nM : Nat} {xs : List Value} (d i : Nat) (hd : d ≤ 8) (hi : i = 1 ∨ i = 2) (hL : LI M N k)
    (h1 : zMiW l yW bW nW hh (rmt 9) D zcl (ztys cA) (ww a cA o) (.ref (a 0) :: xs ++ [.ref o]) (M, f) (fun r S => r = nI i ∧ S = (M, f))) (h2 : zMi l yM bM nM .int (rmk d) D zcl (ztys cA) (mw b cA) (.ref (b 0) :: xs) N (fun r N' => N' = zu N 7 0 (nI i) ∧ r = nI 0)) : LOK l D cA a b o k f M N yW bW nW hh yM bM nM xs := by
  refine ⟨d, _, _, hd, h1, h2, ?_⟩
  rintro r S v N' ⟨rfl, rfl⟩ ⟨rfl, rfl⟩
  refine ⟨rfl, fun e => ?_, hL.err⟩
  rcases hi with rfl | rfl
  · exact absurd e (by decide)
  · exact absurd e (by decide)
theorem lt_kb (q : Nat) : kb (q, none) = 0 := rfl
theorem L_get {l : Launch} {D : va_G} {cA : Nat → ClassId} {a b : Nat → Nat} {o k : Nat} {f : Nat → Int64} {M N : zmem} (hfl : l.flags = flags0) (hL : LI M N k) (x : Int32) : LOK l D cA a b o k f M N y_L_get b_L_get 4 [(0, 9, 12, 13)] y_M_get b_M_get 2 [.int x] := by
  by_cases hx : x.toInt < 0 ∨ 2048 < x.toInt
  · exact LOK.bad 1 1 (by omega) (Or.inl rfl) hL (w_get_1 l D cA a M o f x 7 (by omega) (c_get_t l D cA a M hfl x hx)) (c_mget_t l D cA b N x hx)
  · obtain ⟨q, hq, rfl⟩ := lt_in 2048 (by omega) hx
    obtain ⟨h, g, t, j1, j2, j3, j4, j5, j6, j7, j8, j9, j10, j11⟩ := hL
    refine ⟨3, _, _, by omega, w_get_r l D cA a M o f (nI q) 5 (by omega) (c_get l D cA a M h g j1 q hq), c_mget l D cA b N h g j2 q hq, ?_⟩
    rintro r ⟨M', f'⟩ v N' ⟨rfl, v', hv', h1⟩ ⟨n0, n1, n2, n3, n4, h2⟩
    refine ⟨n0, fun _ => ?_, ?_⟩
    · rw [hv']
      apply lt_64
      rcases h1 with ⟨rfl, -, h1⟩ | ⟨x1, hx1, rfl, h1, -⟩
      · rcases h2 with ⟨rfl, -, -, h2⟩ | ⟨x2, hx2, rfl, h2, -⟩
        · rfl
        · exact (hff_not h2 h1).elim
      · rcases h2 with ⟨rfl, -, -, h2⟩ | ⟨x2, hx2, rfl, h2, -⟩
        · exact (hff_not h1 h2).elim
        · rw [hff_one h1 h2]
    · rcases h1 with ⟨-, h3, h1⟩ | ⟨x1, hx1, -, h1, i1, e1, ⟨z0, z5, z6, z7⟩, e5, e6⟩
      · rcases h2 with ⟨-, i2, e2, h2⟩ | ⟨x2, hx2, -, h2, -⟩
        · cases h3
          exact ⟨h, g, t, j1, i2, by rw [e2]; exact j3, by rw [n1]; exact j4, j5, j6, by rw [n4]; exact j7, j8, by rw [n3]; exact j9, j10, by omega⟩
        · exact (hff_not h2 h1).elim
      · rcases h2 with ⟨-, -, -, h2⟩ | ⟨x2, hx2, -, h2, i2, e2⟩
        · exact (hff_not h1 h2).elim
        · cases hff_one h1 h2
          have hk := ksum_st (h := h) (x := x1) (b := (q, none)) hx1
          rw [lt_kb] at hk
          exact ⟨hst h x1 (q, none), g, t, i1, i2, by rw [e1, e2, j3], by rw [n1, z0]; exact j4, by unfold zByte; rw [z0]; exact j5, by rw [e5]; exact j6, by rw [n4]; exact j7, j8, by rw [z7, n3]; exact j9, by omega, by omega⟩
/-- an address: of a live block, of a kept one, of none -/
theorem lt_adr (h : zmap) (x : Int32) : (∃ y q, h y = some (q, none) ∧ x = nI y) ∨ (∃ y q w, h y = some (q, some w) ∧ x = nI y) ∨ ∀ y b, h y = some b → x ≠ nI y := by
  by_cases e : ∃ y b, h y = some b ∧ x = nI y
  · obtain ⟨y, ⟨q, w⟩, h1, h2⟩ := e
    cases w with
    | none => exact Or.inl ⟨y, q, h1, h2⟩
    | some w => exact Or.inr (Or.inl ⟨y, q, w, h1, h2⟩)
  · exact Or.inr (Or.inr fun y b h1 h2 => e ⟨y, b, h1, h2⟩)
theorem L_back {l : Launch} {D : va_G} {cA : Nat → ClassId} {a b : Nat → Nat} {o k : Nat} {f : Nat → Int64} {M N : zmem} (hfl : l.flags = flags0) (hk : k < 2 ^ 30) (hL : LI M N k) (x : Int32) : LOK l D cA a b o k f M N y_L_back b_L_back 4 [(0, 9, 12, 13), (0, 9, 15, 18)] y_M_back b_M_back 4 [.int x] := by
  obtain ⟨h, g, t, j1, j2, j3, j4, j5, j6, j7, j8, j9, j10, j11⟩ := id hL
  rcases lt_adr h x with ⟨y, q, hy, rfl⟩ | ⟨y, q, w, hy, rfl⟩ | hn
  · refine ⟨2, _, _, by omega, w_back_r l D cA a M o f (nI y) 3 (by omega) (c_back l D cA a M h g j1 (by omega) j10 y q hy), c_mback l D cA b N h g j2 (by omega) j10 y q hy, ?_⟩
    rintro r ⟨M', f'⟩ v N' ⟨rfl, v', hv', rfl, h1, v1, i1, e1, ⟨z0, z5, z6, z7⟩, e5, e6⟩ ⟨n0, n1, n2, n3, n4, rfl, h2, v2, i2, e2⟩
    refine ⟨n0, fun _ => hv', ?_⟩
    cases evs_one (hW_back j1.hW) v1 v2
    exact ⟨h1, g + 1, t, i1, i2, by rw [e1, e2, j3], by rw [n1, z0]; exact j4, by unfold zByte; rw [z0]; exact j5, by rw [e5]; exact j6, by rw [n4]; exact j7, j8, by rw [z7, n3]; exact j9, by obtain ⟨_, _, h9⟩ := v1; exact h9, by omega⟩
  · exact LOK.bad 1 2 (by omega) (Or.inr rfl) hL (w_back_2 l D cA a M o f (nI y) 8 (by omega) (c_back_s l D cA a M hfl h g j1 y q w hy)) (c_mback_s l D cA b N h g j2 y q w hy)
  · exact LOK.bad 1 1 (by omega) (Or.inl rfl) hL (w_back_1 l D cA a M o f x 8 (by omega) (c_back_a l D cA a M hfl h g j1 x hn)) (c_mback_a l D cA b N h g j2 x hn)
theorem L_again {l : Launch} {D : va_G} {cA : Nat → ClassId} {a b : Nat → Nat} {o k : Nat} {f : Nat → Int64} {M N : zmem} (hfl : l.flags = flags0) (hk : k < 2 ^ 30) (hL : LI M N k) (x y : Int32) : LOK l D cA a b o k f M N y_L_again b_L_again 5 [(0, 10, 13, 13), (0, 10, 17, 18)] y_M_again b_M_again 6 [.int x, .int y] := by
  obtain ⟨h, g, t, j1, j2, j3, j4, j5, j6, j7, j8, j9, j10, j11⟩ := id hL
  by_cases hy : y.toInt < 0 ∨ 2048 < y.toInt
  · exact LOK.bad 1 1 (by omega) (Or.inl rfl) hL (w_again_1 l D cA a M o f x y 7 (by omega) (c_again_n l D cA a M hfl x y hy)) (c_magain_n l D cA b N x y hy)
  obtain ⟨q, hq, rfl⟩ := lt_in 2048 (by omega) hy
  rcases lt_adr h x with ⟨y, z, hy, rfl⟩ | ⟨y, z, w, hy, rfl⟩ | hn
  · refine ⟨3, _, _, by omega, w_again_r l D cA a M o f (nI y) (nI q) 5 (by omega) (c_again l D cA a M h g j1 (by omega) j10 j5 y z hy q hq), c_magain l D cA b N h g j2 (by omega) j10 y z hy q hq, ?_⟩
    rintro r ⟨M', f'⟩ v N' ⟨rfl, v', hv', h1⟩ ⟨n0, n2, n3, n4, h2⟩
    have hb := j1.hO.1 y _ hy
    have htz := tk_ge z
    refine ⟨n0, fun _ => ?_, ?_⟩
    · rw [hv']
      apply lt_64
      rcases h1 with ⟨rfl, -, h1⟩ | ⟨x1, hx1, rfl, h1, -⟩
      · rcases h2 with ⟨rfl, -, -, -, h2⟩ | ⟨x2, hx2, rfl, h2, -⟩
        · rfl
        · exact (hff_not h2 h1).elim
      · rcases h2 with ⟨rfl, -, -, -, h2⟩ | ⟨x2, hx2, rfl, h2, -⟩
        · exact (hff_not h1 h2).elim
        · rw [hff_one h1 h2]
    · rcases h1 with ⟨-, h3, h1⟩ | ⟨x1, hx1, -, h1, h', v1, i1, e1, z5, z6, z7, e5, e6, z0⟩
      · rcases h2 with ⟨-, i2, e2, n1, h2⟩ | ⟨x2, hx2, -, h2, -⟩
        · cases h3
          exact ⟨h, g, t, j1, i2, by rw [e2]; exact j3, by rw [n1]; exact j4, j5, j6, by rw [n4]; exact j7, j8, by rw [n3]; exact j9, j10, by omega⟩
        · exact (hff_not h2 h1).elim
      · rcases h2 with ⟨-, -, -, -, h2⟩ | ⟨x2, hx2, -, h2, h'', v2, i2, e2, n1⟩
        · exact (hff_not h1 h2).elim
        · cases hff_one h1 h2
          cases evs_one (hW_back (hW_new j1.hW)) v1 v2
          have hin : ∀ i, i < x1 + min q z → x1 ≤ i → y + (i - x1) < 8192 := fun i h1 h2 => by
            have := Nat.min_le_right q z
            simp only at hb
            omega
          refine ⟨h', g + 1, t, i1, i2, by rw [e1, e2, j3], fun i hi => ?_, fun i hi => ?_, by rw [e5]; exact j6, by rw [n4]; exact j7, j8, by rw [z7, n3]; exact j9, by obtain ⟨_, _, h9⟩ := v1; exact h9, by omega⟩
          · rw [n1 i hi, z0 i hi]
            split
            · rename_i hc
              exact j4 _ (hin i hc.2 hc.1)
            · exact j4 i hi
          · show vp_nar .byte ((M', f').1 0 i) = (M', f').1 0 i
            rw [z0 i hi]
            split
            · rename_i hc
              exact j5 _ (hin i hc.2 hc.1)
            · exact j5 i hi
  · exact LOK.bad 1 2 (by omega) (Or.inr rfl) hL (w_again_2 l D cA a M o f (nI y) (nI q) 8 (by omega) (c_again_s l D cA a M hfl h g j1 y z w hy q hq)) (c_magain_s l D cA b N h g j2 y z w hy q hq)
  · exact LOK.bad 1 1 (by omega) (Or.inl rfl) hL (w_again_1 l D cA a M o f x (nI q) 8 (by omega) (c_again_a l D cA a M hfl h g j1 x hn q hq)) (c_magain_a l D cA b N h g j2 x hn q hq)
theorem L_kind {l : Launch} {D : va_G} {cA : Nat → ClassId} {a b : Nat → Nat} {o k : Nat} {f : Nat → Int64} {M N : zmem} (hfl : l.flags = flags0) (hL : LI M N k) (x : Int32) : LOK l D cA a b o k f M N y_L_kind b_L_kind 4 [(0, 9, 12, 27)] y_M_kind b_M_kind 3 [.int x] := by
  by_cases hx : x.toInt < 0 ∨ 8191 < x.toInt
  · have hx' : x.toInt < 0 ∨ 8192 ≤ x.toInt := by omega
    exact LOK.bad 1 1 (by omega) (Or.inl rfl) hL (w_kind_1 l D cA a M o f x 7 (by omega) (c_kind_t l D cA a M hfl x hx')) (c_mkind_t l D cA b N x hx')
  · obtain ⟨X, hX, rfl⟩ := lt_in 8191 (by omega) hx
    obtain ⟨h, g, t, j1, j2, j3, j4, j5, j6, j7, j8, j9, j10, j11⟩ := id hL
    refine ⟨1, _, _, by omega, w_kind_r l D cA a M o f (nI X) 3 (by omega) (c_kind l D cA a M h g j1 X (by omega)), c_mkind l D cA b N h g j2 X (by omega), ?_⟩
    rintro r ⟨M', f'⟩ v N' ⟨rfl, v', hv', h0, h1⟩ ⟨rfl, h2⟩
    cases h0
    refine ⟨rfl, fun _ => ?_, hL.err⟩
    rw [hv']
    apply lt_64
    rcases h1 with ⟨rfl, h1⟩ | ⟨rfl, h1, h1'⟩ | ⟨rfl, h1, h1', h1''⟩ | ⟨rfl, h1, h1', h1''⟩ <;> rcases h2 with ⟨rfl, h2⟩ | ⟨rfl, h2, h2'⟩ | ⟨rfl, h2, h2', h2''⟩ | ⟨rfl, h2, h2', h2''⟩ <;> first | rfl | (exfalso; simp_all)
theorem L_block {l : Launch} {D : va_G} {cA : Nat → ClassId} {a b : Nat → Nat} {o k : Nat} {f : Nat → Int64} {M N : zmem} (hfl : l.flags = flags0) (hL : LI M N k) (x : Int32) : LOK l D cA a b o k f M N y_L_block b_L_block 4 [(0, 9, 12, 27)] y_M_block b_M_block 3 [.int x] := by
  by_cases hx : x.toInt < 0 ∨ 8191 < x.toInt
  · have hx' : x.toInt < 0 ∨ 8192 ≤ x.toInt := by omega
    exact LOK.bad 1 1 (by omega) (Or.inl rfl) hL (w_block_1 l D cA a M o f x 7 (by omega) (c_block_t l D cA a M hfl x hx')) (c_mblock_t l D cA b N x hx')
  · obtain ⟨X, hX, rfl⟩ := lt_in 8191 (by omega) hx
    obtain ⟨h, g, t, j1, j2, j3, j4, j5, j6, j7, j8, j9, j10, j11⟩ := id hL
    refine ⟨1, _, _, by omega, w_block_r l D cA a M o f (nI X) 2 (by omega) (c_block l D cA a M h g j1 X (by omega)), c_mblock l D cA b N h g j2 X (by omega), ?_⟩
    rintro r ⟨M', f'⟩ v N' ⟨rfl, v', hv', h0, h1⟩ ⟨rfl, h2⟩
    cases h0
    refine ⟨rfl, fun _ => ?_, hL.err⟩
    rw [hv']
    apply lt_64
    rcases h1 with ⟨y, q, rfl, h1, l1, l1'⟩ | ⟨rfl, h1⟩ <;> rcases h2 with ⟨y', q', rfl, h2, l2, l2'⟩ | ⟨rfl, h2⟩
    · have o1 := j1.hO.2 y y' _ _ h1 h2
      have o2 := j1.hO.2 y' y _ _ h2 h1
      have t1 := tk_ge q
      have t2 := tk_ge q'
      simp only at o1 o2
      rw [show y = y' by rcases Nat.lt_trichotomy y y' with h | h | h; (have := o1 h; omega); exact h; (have := o2 h; omega)]
    · exact (h2 ⟨y, q, h1, l1, l1'⟩).elim
    · exact (h1 ⟨y', q', h2, l2, l2'⟩).elim
    · rfl
theorem L_read {l : Launch} {D : va_G} {cA : Nat → ClassId} {a b : Nat → Nat} {o k : Nat} {f : Nat → Int64} {M N : zmem} (hfl : l.flags = flags0) (hL : LI M N k) (x : Int32) : LOK l D cA a b o k f M N y_L_read b_L_read 4 [(0, 9, 12, 27), (0, 9, 15, 18)] y_M_read b_M_read 2 [.int x] := by
  by_cases hx : x.toInt < 0 ∨ 8188 < x.toInt
  · exact LOK.bad 2 1 (by omega) (Or.inl rfl) hL (w_read_1 l D cA a M o f x 8 (by omega) (c_read_t l D cA a M hfl x hx)) (c_mread_t l D cA b N x hx)
  · obtain ⟨X, hX, rfl⟩ := lt_in 8188 (by omega) hx
    obtain ⟨h, g, t, j1, j2, j3, j4, j5, j6, j7, j8, j9, j10, j11⟩ := id hL
    by_cases hl : hlive h X ∧ hlive h (X + 3)
    · refine ⟨2, _, _, by omega, w_read_r l D cA a M o f (nI X) 3 (by omega) (c_read l D cA a M h g j1 X hX hl.1 hl.2), c_mread l D cA b N h g j2 X hX hl.1 hl.2, ?_⟩
      rintro r ⟨M', f'⟩ v N' ⟨rfl, v', hv', h0, rfl⟩ ⟨rfl, rfl⟩
      cases h0
      refine ⟨rfl, fun _ => ?_, hL.err⟩
      rw [hv']
      exact lt_64 (lt_wC (fun j hj => j4 _ (by omega)))
    · exact LOK.bad 2 2 (by omega) (Or.inr rfl) hL (w_read_2 l D cA a M o f (nI X) 8 (by omega) (c_read_s l D cA a M hfl h g j1 X hX hl)) (c_mread_s l D cA b N h g j2 X hX hl)
theorem L_lostAt {l : Launch} {D : va_G} {cA : Nat → ClassId} {a b : Nat → Nat} {o k : Nat} {f : Nat → Int64} {M N : zmem} (hfl : l.flags = flags0) (hL : LI M N k) (x : Int32) : LOK l D cA a b o k f M N y_L_lostAt b_L_lostAt 4 [(0, 9, 12, 27)] y_M_lostAt b_M_lostAt 2 [.int x] := by
  obtain ⟨h, g, t, j1, j2, j3, j4, j5, j6, j7, j8, j9, j10, j11⟩ := id hL
  by_cases hx : x.toInt < 0 ∨ (t : Int) ≤ x.toInt
  · exact LOK.bad 1 1 (by omega) (Or.inl rfl) hL (w_lostAt_1 l D cA a M o f x 7 (by omega) (c_lostAt_t l D cA a M hfl t x j6 j8 hx)) (c_mlostAt_t l D cA b N t x j7 j8 hx)
  · obtain ⟨X, hX, rfl⟩ := lt_in 256 (by omega) (x := x) (by omega)
    have hX' : X < t := by
      rw [nI_toInt (by omega)] at hx
      omega
    refine ⟨1, _, _, by omega, w_lostAt_r l D cA a M o f (nI X) 1 (by omega) (c_lostAt l D cA a M t X j6 j8 hX'), c_mlostAt l D cA b N t X j7 j8 hX', ?_⟩
    rintro r ⟨M', f'⟩ v N' ⟨rfl, v', hv', h0, rfl⟩ ⟨rfl, rfl⟩
    cases h0
    refine ⟨rfl, fun _ => ?_, hL.err⟩
    rw [hv']
    exact lt_64 (j9 X hX')
theorem L_count {l : Launch} {D : va_G} {cA : Nat → ClassId} {a b : Nat → Nat} {o k : Nat} {f : Nat → Int64} {M N : zmem} (hfl : l.flags = flags0) (hL : LI M N k) (x : Int32) : LOK l D cA a b o k f M N y_L_count b_L_count 4 [(0, 9, 12, 13)] y_M_count b_M_count 5 [.int x] := by
  obtain ⟨h, g, t, j1, j2, j3, j4, j5, j6, j7, j8, j9, j10, j11⟩ := id hL
  have key : ∀ (X : Nat) (V V' : Int32), V = V' → zMi l y_Z_count b_Z_count 4 .int (rmk 0) D zcl (ztys cA) (zw a cA) [.ref (a 0), .int (nI X)] M (fun r M' => M' = M ∧ r = V) → zMi l y_M_count b_M_count 5 .int (rmk 1) D zcl (ztys cA) (mw b cA) [.ref (b 0), .int (nI X)] N (fun r M' => M' = zu N 7 0 (nI 0) ∧ r = V') → LOK l D cA a b o k f M N y_L_count b_L_count 4 [(0, 9, 12, 13)] y_M_count b_M_count 5 [.int (nI X)] := by
    intro X V V' hV h1 h2
    refine ⟨1, _, _, by omega, w_count_r l D cA a M o f (nI X) 0 (by omega) h1, h2, ?_⟩
    rintro r ⟨M', f'⟩ v N' ⟨rfl, v', hv', h0, rfl⟩ ⟨rfl, rfl⟩
    cases h0
    exact ⟨rfl, fun _ => by rw [hv']; exact lt_64 hV, hL.err⟩
  by_cases hx : x.toInt < 0 ∨ 4 < x.toInt
  · exact LOK.bad 1 1 (by omega) (Or.inl rfl) hL (w_count_1 l D cA a M o f x 6 (by omega) (c_count_t l D cA a M hfl x hx)) (c_mcount_t l D cA b N x hx)
  · obtain ⟨X, hX, rfl⟩ := lt_in 4 (by omega) hx
    rcases (by omega : X = 0 ∨ X = 1 ∨ X = 2 ∨ X = 3 ∨ X = 4) with rfl | rfl | rfl | rfl | rfl
    · exact key 0 _ _ rfl (c_count0 l D cA a M h g j1) (c_mcount0 l D cA b N h g j2)
    · exact key 1 _ _ rfl (c_count1 l D cA a M h g j1) (c_mcount1 l D cA b N h g j2)
    · exact key 2 _ _ rfl (c_count2 l D cA a M h g j1) (c_mcount2 l D cA b N h g j2)
    · exact key 3 _ _ rfl (c_count3 l D cA a M h g j1) (c_mcount3 l D cA b N h g j2)
    · exact key 4 _ _ j3 (c_count4 l D cA a M h g j1) (c_mcount4 l D cA b N h g j2)
/-- write: no answer -/
def LOW (l : Launch) (D : va_G) (cA : Nat → ClassId) (a b : Nat → Nat) (k : Nat) (M N : zmem) (x y : Int32) : Prop :=
  ∃ (p1 : Int32 → zmem → Prop) (p2 : zmem → Prop), zMiW l y_L_write b_L_write 4 [(0, 6, 9, 27), (0, 6, 12, 18)] (rmt 9) D zcl (ztys cA) (zw a cA) [.ref (a 0), .int x, .int y] M p1 ∧ zMv l y_M_write b_M_write 4 (rmk 2) D zcl (ztys cA) (mw b cA) [.ref (b 0), .int x, .int y] N p2 ∧
    ∀ r M' N', p1 r M' → p2 N' → N' 7 0 = r ∧ LI M' N' (k + 1)
theorem L_write {l : Launch} {D : va_G} {cA : Nat → ClassId} {a b : Nat → Nat} {k : Nat} {M N : zmem} (hfl : l.flags = flags0) (hL : LI M N k) (x y : Int32) : LOW l D cA a b k M N x y := by
  obtain ⟨h, g, t, j1, j2, j3, j4, j5, j6, j7, j8, j9, j10, j11⟩ := id hL
  by_cases hx : x.toInt < 0 ∨ 8188 < x.toInt
  · refine ⟨_, _, w_write_1 l D cA a M x y 8 (by omega) (c_write_t l D cA a M hfl x y hx), c_mwrite_t l D cA b N x hx y, ?_⟩
    rintro r M' N' ⟨rfl, rfl⟩ rfl
    exact ⟨rfl, hL.err⟩
  · obtain ⟨X, hX, rfl⟩ := lt_in 8188 (by omega) hx
    by_cases hl : hlive h X ∧ hlive h (X + 3)
    · refine ⟨_, _, w_write_r l D cA a M (nI X) y 3 (by omega) (c_write l D cA a M h g j1 X hX hl.1 hl.2 y), c_mwrite l D cA b N h g j2 X hX hl.1 hl.2 y, ?_⟩
      rintro r M' N' ⟨rfl, h1, z0⟩ ⟨h2, n0⟩
      have h7 : N' 7 = upd (N 7) 0 (nI 0) := by rw [h2 7 (by decide)]; exact zu_same
      refine ⟨by rw [h7]; exact upd_same, h, g, t, j1.same h1, j2.same h2, by rw [h1 8 (by decide), h7]; exact j3, fun i hi => ?_, fun i hi => ?_, by rw [h1 8 (by decide)]; exact j6, by rw [h7]; exact j7, j8, ?_, j10, by omega⟩
      · rw [n0 i, z0 i]
        split
        · exact (lt_wB y _).symm
        · exact j4 i hi
      · rw [z0 i]
        split
        · exact lt_nar _
        · exact j5 i hi
      · rw [h1 7 (by decide), h2 6 (by decide), zu_ne (by decide)]; exact j9
    · refine ⟨_, _, w_write_2 l D cA a M (nI X) y 8 (by omega) (c_write_s l D cA a M hfl h g j1 X hX hl y), c_mwrite_s l D cA b N h g j2 X hX hl y, ?_⟩
      rintro r M' N' ⟨rfl, rfl⟩ rfl
      exact ⟨rfl, hL.err⟩
/-- lost: no throw -/
theorem lt_rch {h : zmap} {W1 W2 : Nat → Int32} {va vb : Int32} {x : Nat} (ho : hO h) (hw : ∀ p, p + 4 ≤ 8192 → W1 p = W2 p) (hr : rch h W1 va vb x) : rch h W2 va vb x := by
  intro S s1 s2 s3
  refine hr S s1 s2 (fun y q i z hy hq hi hz => s3 y q i z hy hq hi ?_)
  have hb := ho.1 y _ hq
  have ht := tk_ge q
  simp only at hb
  rw [← hw (y + 4 * i) (by omega)]
  exact hz
theorem L_lost {l : Launch} {D : va_G} {cA : Nat → ClassId} {a b : Nat → Nat} {k : Nat} {M N : zmem} (hL : LI M N k) (x y : Int32) :
    ∃ (p1 p2 : Int32 → zmem → Prop), zMi l y_Z_lost b_Z_lost 5 .int (rmk 2) D zcl (ztys cA) (zw a cA) [.ref (a 0), .int x, .int y] M p1 ∧ zMi l y_M_lost b_M_lost 6 .int (rmk 2) D zcl (ztys cA) (mw b cA) [.ref (b 0), .int x, .int y] N p2 ∧ ∀ r v M' N', p1 r M' → p2 v N' → r = v ∧ LI M' N' (k + 1) := by
  obtain ⟨h, g, t, j1, j2, j3, j4, j5, j6, j7, j8, j9, j10, j11⟩ := hL
  refine ⟨_, _, c_lost l D cA a M h g j1 x y, c_mlost l D cA b N h g j2 x y, ?_⟩
  rintro r v M' N' ⟨T, en, t1, rfl, e5, s1, i1, e1, z0⟩ ⟨T', en', t2, rfl, e4, s2, i2, n0, e2, nz⟩
  have hw : ∀ p, p + 4 ≤ 8192 → wC (M 0) p = wMd (N 0) p := fun p hp => lt_wC (fun j hj => j4 _ (by omega))
  have hS : ∀ z, lostSet h (wC (M 0)) x y z ↔ lostSet h (wMd (N 0)) x y z := fun z => ⟨fun q => ⟨q.1, fun r => q.2 (lt_rch j1.hO (fun p hp => (hw p hp).symm) r)⟩, fun q => ⟨q.1, fun r => q.2 (lt_rch j1.hO hw r)⟩⟩
  obtain ⟨c1, c2⟩ := enumS_one (enumS_congr s1 hS) s2
  subst c1
  exact ⟨rfl, h, g, T, i1, i2, by rw [e1, e2]; exact j3, by rw [nz, z0]; exact j4, by unfold zByte; rw [z0]; exact j5, e5, e4, t1, c2, j10, by omega⟩
end
section
/-! The start: the tables' numbers, what throwing needs, the two sides when they are new -/
theorem z_K0 {args : Array Value} {s : State} (hts : ∀ w ∈ zT, w.before args s = true) : ∃ (D : va_G) (cA : Nat → ClassId), va_K D zcl (ztys cA) s := by
  obtain ⟨cZ, iZ, hZ⟩ := u_known (C := "ZoneHeap") (T := F_Z) (N := 15) (n := 15) hts in_Z (hts _ (zT_in 35 (by decide +kernel) (by decide +kernel)))
  obtain ⟨cM, iM, hM⟩ := u_known (C := "ZoneHeapModel") (T := F_M) (N := 12) (n := 12) hts in_M (hts _ (zT_in 318 (by decide +kernel) (by decide +kernel)))
  obtain ⟨c0, k0, p0, a1, a2, a3⟩ := Cond.arrayClass_spec (hts _ ar_byte)
  obtain ⟨c1, k1, p1, b1, b2, b3⟩ := Cond.arrayClass_spec (hts _ ar_int)
  obtain ⟨c2, k2, p2, d1, d2, d3⟩ := Cond.arrayClass_spec (hts _ ar_boolean)
  obtain ⟨c3, k3, p3, e1, e2, e3⟩ := Cond.arrayClass_spec (hts _ ar_long)
  refine ⟨(fun c => if c = 0 then cZ else cM, fun c => if c = 0 then iZ else iM), fun k => match k with | 0 => c0 | 1 => c1 | 2 => c2 | _ => c3, fun c q hq => ?_, fun k q hq => ?_⟩
  · rcases (by omega : c = 0 ∨ c = 1 ∨ 2 ≤ c) with rfl | rfl | h
    · cases hq; exact hZ
    · cases hq; exact hM
    · have := (List.getElem?_eq_some_iff.mp hq).1
      simp only [List.length_cons, List.length_nil] at this
      omega
  · rcases (by omega : k = 0 ∨ k = 1 ∨ k = 2 ∨ k = 3 ∨ 4 ≤ k) with rfl | rfl | rfl | rfl | h
    · cases hq; exact ⟨fun n z => ⟨fun k h => (by cases h), k0, a2, p0, a3⟩, a1⟩
    · cases hq; exact ⟨fun n z => ⟨fun k h => (by cases h), k1, b2, p1, b3⟩, b1⟩
    · cases hq; exact ⟨fun n z => ⟨fun k h => (by cases h), k2, d2, p2, d3⟩, d1⟩
    · cases hq; exact ⟨fun n z => ⟨fun k h => (by cases h), k3, e2, p3, e3⟩, e1⟩
    · have := (List.getElem?_eq_some_iff.mp hq).1
      simp only [List.length_cons, List.length_nil] at this
      omega
theorem zst_cast {X Y : String} {args a' : Array Value} {s U : State} (hU : s.vm.Alike U.vm) (h : (Cond.castable X Y).before args s = true) : (Cond.castable X Y).before a' U = true := by
  obtain ⟨c, t, h1, h2, h3⟩ := Cond.castable_spec h
  simp [Cond.before, Cond.holds, Cond.value, hU.findClass, h1, h2, hU.assignable, h3]
theorem zst_not {X Y : String} {args a' : Array Value} {s U : State} (hU : s.vm.Alike U.vm) (h : (Cond.not (.castable X Y)).before args s = true) : (Cond.not (.castable X Y)).before a' U = true := by
  simp only [Cond.before, Cond.holds, Cond.value, hU.findClass] at h ⊢
  cases hx : s.vm.findClass X with
  | none => rw [hx] at h; simpa using h
  | some c =>
    cases hy : s.vm.findClass Y with
    | none => rw [hx, hy] at h; simpa using h
    | some d => rw [hx, hy] at h; simpa [hU.assignable] using h
theorem zst_decl {x : MethodName} {args a' : Array Value} {s U : State} (hU : s.vm.Alike U.vm) (h : (Cond.declares x).before args s = true) : (Cond.declares x).before a' U = true := by
  have e : (Cond.declares x).before a' U = (Cond.declares x).before args (s.setVm U.vm) := rfl
  rw [e]
  simp only [Cond.before, Cond.holds, Cond.value, State.methodNamed?_setVm hU, State.vm_setVm] at h ⊢
  cases hm : s.methodNamed? x with
  | none => rw [hm] at h; simpa using h
  | some m => rw [hm] at h; simpa [hU.method?] using h
theorem zst_lays {a' : Array Value} {s U : State} {n d : String} {c : ClassId} {k : Class} {i : Nat} {f : Field} {a : Nat} {cell : Cell} (hU : s.vm.Alike U.vm) (hc : s.vm.findClass "java/lang/Throwable" = some c) (hi : s.fieldFound? "java/lang/Throwable" n d = some (c, k, i, f)) (hst : f.isStatic = true) (ha : k.statics = some a) (hcell : U.heap[a]? = some cell) (hs : cell.vm.isStatics = true) (hcls : cell.cls = c) (hlt : f.slot < cell.slots.size) (hty : k.staticTypes[f.slot]? = some f.type) : (Cond.laysStatic "java/lang/Throwable" n d).before a' U = true := by
  obtain ⟨k', hi', he⟩ := State.fieldFound?_setVm hU hi
  have hi2 : U.fieldFound? "java/lang/Throwable" n d = some (c, k', i, f) := hi'
  have h1 : k'.statics = some a := by rw [he]; exact ha
  have h2 : k'.staticTypes[f.slot]? = some f.type := by rw [he]; exact hty
  simp [Cond.before, Cond.holds, Cond.value, hU.findClass, hc, hi2, h1, hcell, hst, hs, hcls, hlt, h2]
theorem zst_ref {a' : Array Value} {s U : State} {n d : String} {c : ClassId} {k : Class} {i : Nat} {f : Field} {a : Nat} {cell : Cell} {v : Value} (hU : s.vm.Alike U.vm) (hi : s.fieldFound? "java/lang/Throwable" n d = some (c, k, i, f)) (hst : f.isStatic = true) (ha : k.statics = some a) (hcell : U.heap[a]? = some cell) (hs : cell.vm.isStatics = true) (hv : cell.slots[f.slot]? = some v) (hr : v = .null ∨ ∃ t, v = .ref t) : (Cond.isRef (.static "java/lang/Throwable" n d)).before a' U = true := by
  obtain ⟨k', hi', he⟩ := State.fieldFound?_setVm hU hi
  have hi2 : U.fieldFound? "java/lang/Throwable" n d = some (c, k', i, f) := hi'
  have h1 : k'.statics = some a := by rw [he]; exact ha
  have ev : (Term.static "java/lang/Throwable" n d).eval a' U none [] U = some v := by
    simp [Term.eval, State.fieldNamed?, hi2, hst, h1, hcell, hs, hv]
  rcases hr with rfl | ⟨t, rfl⟩ <;> simp [Cond.before, Cond.holds, Cond.value, ev]
theorem zst_is {args : Array Value} {s : State} {n d : String} {c : ClassId} {k : Class} {i : Nat} {f : Field} {a : Nat} {cell : Cell} (hi : s.fieldFound? "java/lang/Throwable" n d = some (c, k, i, f)) (ha : k.statics = some a) (hcell : s.heap[a]? = some cell) (h : (Cond.isRef (.static "java/lang/Throwable" n d)).before args s = true) : ∃ v, cell.slots[f.slot]? = some v ∧ (v = .null ∨ ∃ t, v = .ref t) := by
  cases hv : (Term.static "java/lang/Throwable" n d).eval args s none [] s with
  | none => simp [Cond.before, Cond.holds, Cond.value, hv] at h
  | some w =>
    obtain ⟨-, a', cell', ha', hc', -, hw⟩ := Term.static_spec hi hv
    cases ha.symm.trans ha'
    cases hcell.symm.trans hc'
    simp only [Cond.before, Cond.holds, Cond.value, hv] at h
    cases w with
    | null => exact ⟨_, hw, Or.inl rfl⟩
    | ref t => exact ⟨_, hw, Or.inr ⟨t, rfl⟩⟩
    | _ => simp at h
theorem lw_in {w : Cond} (i : Nat) (h : lw_tbl[i]? = some w) : w ∈ lw_tbl := List.mem_of_getElem? h
theorem zZ_start {args : Array Value} {s : State} {A : Nat → Prop} (hts : ∀ w ∈ lw_tbl, w.before args s = true) (hn : (Jvm.Cond.and given_1 narrow_1).before args s = true) (hA : ∀ q : Nat, q < s.heap.size → ¬ A q) : zZ A s s.heap := by
  have hf := flat_of_before _ hn
  obtain ⟨c, k, i, f, a, cell, hc, hi, hst, ha, hcell, hs, hcls, hlt, hty⟩ := Cond.laysStatic_spec (hts (.laysStatic "java/lang/Throwable" "UNASSIGNED_STACK" "[Ljava/lang/StackTraceElement;") (lw_in 145 (by decide +kernel)))
  obtain ⟨c2, k2, i2, f2, a2, cell2, hc2, hi2, hst2, ha2, hcell2, hs2, hcls2, hlt2, hty2⟩ := Cond.laysStatic_spec (hts (.laysStatic "java/lang/Throwable" "SUPPRESSED_SENTINEL" "Ljava/util/List;") (lw_in 147 (by decide +kernel)))
  cases hc.symm.trans hc2
  cases (State.fieldFound?_spec hi).1.symm.trans (State.fieldFound?_spec hi2).1
  cases ha.symm.trans ha2
  cases hcell.symm.trans hcell2
  obtain ⟨v1, hv1, hr1⟩ := zst_is hi ha hcell (hf _ (by decide +kernel))
  obtain ⟨v2, hv2, hr2⟩ := zst_is hi2 ha hcell (hf _ (by decide +kernel))
  refine ⟨a, cell, hA a (Array.getElem?_eq_some_iff.mp hcell).1, hcell, fun U a' hU hcU w hw => ?_⟩
  simp only [zC, List.mem_cons, List.not_mem_nil, or_false] at hw
  rcases hw with rfl | rfl | rfl | rfl | rfl | rfl | rfl | rfl | rfl | rfl | rfl | rfl
  · exact zst_cast hU (hts _ (lw_in 120 (by decide +kernel)))
  · exact zst_cast hU (hts _ (lw_in 220 (by decide +kernel)))
  · exact zst_cast hU (hts _ (lw_in 261 (by decide +kernel)))
  · exact zst_decl hU (hts _ (lw_in 121 (by decide +kernel)))
  · exact zst_decl hU (hts _ (lw_in 123 (by decide +kernel)))
  · exact zst_decl hU (hts _ (lw_in 125 (by decide +kernel)))
  · exact zst_lays hU hc hi hst ha hcU hs hcls hlt hty
  · exact zst_lays hU hc hi2 hst2 ha hcU hs hcls hlt2 hty2
  · exact zst_ref hU hi hst ha hcU hs hv1 hr1
  · exact zst_ref hU hi2 hst2 ha hcU hs hv2 hr2
  · exact zst_not hU (hf _ (by decide +kernel))
  · exact zst_not hU (hf _ (by decide +kernel))
theorem LI_0 : LI zero zero 0 := by
  have hk : ksum (fun _ => none) = 0 := sumN_zero (fun x _ => rfl)
  have hk1 : kcnt (fun _ => none) = 0 := sumN_zero (fun x _ => rfl)
  have hO0 : hO (fun _ => none) := ⟨(fun x b h => by cases h), (fun x y b b' h => by cases h)⟩
  have hW0 : hW (fun _ => none) 0 := ⟨(fun x q w h => by cases h), (fun x y q q' w h => by cases h)⟩
  refine ⟨fun _ => none, 0, 0, ⟨0, fun _ => 0, fun _ => 0, fun _ => none, ⟨rfl, by omega, fun i hi => by omega⟩, ⟨fun i hi => by omega, fun i hi => by omega⟩, ⟨fun i hi => by omega, fun x b h => by cases h⟩, hO0, hW0, rfl, by rw [hk]; rfl, by rw [hk1]; rfl⟩,
    ⟨0, fun _ => 0, fun _ => 0, fun _ => none, ⟨rfl, fun i hi => by omega⟩, fun i j hi => by omega, ⟨fun i hi => by omega, fun x b h => by cases h⟩, hO0, hW0, rfl⟩, rfl, fun i _ => by show (0 : Int32) = 0 &&& nI 255; decide, fun i _ => rfl, rfl, rfl, by omega, fun i hi => by omega, by omega, by omega⟩
end
section
/-! the law's body: its arms (printed by program) -/
def wl (a b : Nat → Nat) (cA : Nat → ClassId) (o : Nat) (S : zmem × zmem × (Nat → Int64)) : va_W := zw a cA S.1 ++ (mw b cA S.2.1 ++ [(o, .inl (cA 3, 1, .inr (.inl S.2.2)))])
section ZA
variable {p : Program} {l : Launch} {e : Env} {R : Room} {s : State} {m : MethodId} {args : Array Value} {below : List Frame} {meth : Method} {c : Code} {cells slots : Nat} {Q : State → Prop}
variable {cc : ByteArray} {nL : Nat} {own : String} {D : va_G} {cl : List vw_C} {tys : List (ClassId × FieldType)} {A : Nat → Prop} {σ : Type} {w : σ → va_W} {pc : Nat} {L : List (Option Value)} {st : List Value} {M : σ}
theorem z_lcmp (E : zE p s m args meth c cc nL own D cl tys A) {x y : Int64} (hd : decode cc pc = .ok (.lcmp, 1)) (k : ZW p l e R s m args below meth c nL D cl A w cells slots Q (pc + 1) L (.int (lg_cmp x y) :: st) M) : ZW p l e R s m args below meth c nL D cl A w cells slots Q pc L (.long y :: .long x :: st) M :=
  fun H locs ls a1 a2 a3 a4 => W.lcmp E.1 E.2.1 hd (k H locs ls a1 a2 a3 a4)
theorem z_sld (E : zE p s m args meth c cc nL own D cl tys A) {bs n : Nat} {xs : Nat → Int32} (hX : va_X bs n xs s s.heap) (hb : bs < s.heap.size) (hbA : ¬ A bs) {i : Int32} (j : Nat) (hi : i = nI j) (hj : j < n) (hn : n ≤ 1536) (hd : decode cc pc = .ok (.iaload, 1)) (kk : ZW p l e R s m args below meth c nL D cl A w cells slots Q (pc + 1) L (.int (xs j) :: st) M) : ZW p l e R s m args below meth c nL D cl A w cells slots Q pc L (.int i :: .ref bs :: st) M := by
  subst hi
  intro H locs ls a1 a2 a3 a4
  refine va_sld E.1 E.2.1 hX hb hbA a3 (vp_in_nI hj (by omega)) hd ?_
  rw [nI_clamp (by omega)]
  exact kk H locs ls a1 a2 a3 a4
theorem z_slen (E : zE p s m args meth c cc nL own D cl tys A) {bs n : Nat} {xs : Nat → Int32} (hX : va_X bs n xs s s.heap) (hb : bs < s.heap.size) (hbA : ¬ A bs) (hd : decode cc pc = .ok (.arraylength, 1)) (kk : ZW p l e R s m args below meth c nL D cl A w cells slots Q (pc + 1) L (.int (nI n) :: st) M) : ZW p l e R s m args below meth c nL D cl A w cells slots Q pc L (.ref bs :: st) M :=
  fun H locs ls a1 a2 a3 a4 => va_slen E.1 E.2.1 hX hb hbA a3 hd (kk H locs ls a1 a2 a3 a4)
theorem lg_cmp_self (x : Int64) : lg_cmp x x = 0 := by simp [lg_cmp]
variable {a b : Nat → Nat} {cA : Nat → ClassId} {o bs n k : Nat} {xs : Nat → Int32} {M0 N0 : zmem} {f0 : Nat → Int64} {u5 u6 : Option Value}
theorem arm_get (E : zE p s m args meth c code 7 "ZoneHeapLaw" D zcl (ztys cA) A) (hX : va_X bs n xs s s.heap) (hb : bs < s.heap.size) (hbA : ¬ A bs) (hk : 3 * k + 3 ≤ n) (hn : n ≤ 1536) (hcf : cells + 1 ≤ 1046 ∧ slots + 6 ≤ 28220) (hJ : LOK l D cA a b o k f0 M0 N0 y_L_get b_L_get 4 [(0, 9, 12, 13)] y_M_get b_M_get 2 [.int (xs (3 * k + 1))]) (kk : ∀ (M' N' : zmem) (f' : Nat → Int64) (u5 u6 : Option Value), LI M' N' (k + 1) → ZW p l e room_1 s m args below meth c 7 D zcl A (wl a b cA o) (cells + 1) (slots + 6) Q 637 [some (.ref bs), some (.ref (a 0)), some (.ref (b 0)), some (.ref o), some (.int (nI (3 * k))), u5, u6] [] (M', N', f')) : ZW p l e room_1 s m args below meth c 7 D zcl A (wl a b cA o) cells slots Q 92 [some (.ref bs), some (.ref (a 0)), some (.ref (b 0)), some (.ref o), some (.int (nI (3 * k))), u5, u6] [] (M0, N0, f0) := by
  obtain ⟨d, p1, p2, hd, hW, hM, hj⟩ := hJ
  refine z_aload_n E 1 d_L_law_92 rfl rfl ?_
  refine z_aload_n E 0 d_L_law_93 rfl rfl ?_
  refine z_iload E d_L_law_94 rfl ?_
  refine z_iconst E (v := nI 1) d_L_law_96 (by decide) ?_
  refine z_iadd E d_L_law_97 ?_
  refine z_sld E hX hb hbA (3 * k + 1) (nI_add _ _) (by omega) hn d_L_law_98 ?_
  refine z_aload_n E 3 d_L_law_99 rfl rfl ?_
  refine zf_callW E (n := 3) [.ref (a 0), .int (xs (3 * k + 1)), .ref o] hW kw_L_49 ⟨by decide +kernel, by decide +kernel, by decide +kernel⟩ (Wr := mw b cA N0) [0, 1, 2, 3, 4, 5, 6, 7, 8, 17] [9, 10, 11, 12, 13, 14, 15, 16] [8, 9, 10, 11, 12, 13, 14, 15, 16, 0, 1, 2, 3, 4, 5, 6, 7, 17] ⟨rfl, rfl, rfl, rfl, by decide⟩ (fun S => (S.1, N0, S.2)) (fun S => ⟨rfl, rfl⟩) rfl rfl ⟨(Nat.le_of_ble_eq_true rfl), (Nat.le_of_ble_eq_true rfl)⟩ (Nat.le_of_ble_eq_true rfl) hcf d_L_law_100 (fun r S h1 => ?_)
  refine z_istore E d_L_law_103 (by decide) ?_
  refine z_aload_n E 2 d_L_law_105 rfl rfl ?_
  refine z_aload_n E 0 d_L_law_106 rfl rfl ?_
  refine z_iload E d_L_law_107 rfl ?_
  refine z_iconst E (v := nI 1) d_L_law_109 (by decide) ?_
  refine z_iadd E d_L_law_110 ?_
  refine z_sld E hX hb hbA (3 * k + 1) (nI_add _ _) (by omega) hn d_L_law_111 ?_
  refine zf_calli E [.int (xs (3 * k + 1))] hM kv_L_54 (Wr := zw a cA S.1 ++ [(o, .inl (cA 3, 1, .inr (.inl S.2)))]) [9, 10, 11, 12, 13, 14, 15, 16] [0, 1, 2, 3, 4, 5, 6, 7, 8, 17] [0, 1, 2, 3, 4, 5, 6, 7, 8, 10, 11, 12, 13, 14, 15, 16, 17, 9] ⟨rfl, rfl, rfl, rfl, by decide⟩ (fun N1 => (S.1, N1, S.2)) (fun N1 => ⟨rfl, rfl⟩) 9 rfl rfl rfl rfl ⟨by show d + 1 ≤ 12; omega, by show 8 + (2 + 11) + 40 * d ≤ 428; omega⟩ (Nat.le_of_ble_eq_true rfl) hcf d_L_law_112 (fun v N1 h2 => ?_)
  refine z_istore E d_L_law_115 (by decide) ?_
  refine z_aload_n E 2 d_L_law_117 rfl rfl ?_
  refine zf_calli E [] (c_thrown l D cA b N1) kv_L_55 (Wr := zw a cA S.1 ++ [(o, .inl (cA 3, 1, .inr (.inl S.2)))]) [9, 10, 11, 12, 13, 14, 15, 16] [0, 1, 2, 3, 4, 5, 6, 7, 8, 17] [0, 1, 2, 3, 4, 5, 6, 7, 8, 10, 11, 12, 13, 14, 15, 16, 17, 9] ⟨rfl, rfl, rfl, rfl, by decide⟩ (fun N1 => (S.1, N1, S.2)) (fun N1 => ⟨rfl, rfl⟩) 9 rfl rfl rfl rfl ⟨(Nat.le_of_ble_eq_true rfl), (Nat.le_of_ble_eq_true rfl)⟩ (Nat.le_of_ble_eq_true rfl) hcf d_L_law_118 (fun t N2 h3 => ?_)
  obtain ⟨rfl, rfl⟩ := h3
  obtain ⟨j1, j2, j3⟩ := hj r S v N2 h1 h2
  refine z_iload E d_L_law_121 rfl ?_
  refine z_icmp_eq E 128 d_L_law_123 (by decide) (fun _ => ?_) (fun hne => absurd j1 hne)
  refine z_iload E d_L_law_128 rfl ?_
  refine z_if_ne E 145 d_L_law_130 (by decide) (fun _ => ?_) (fun h0 => ?_)
  · refine z_goto E 637 d_L_law_145 (by decide) ?_
    exact kk S.1 N2 S.2 (some (.int r)) (some (.int v)) j3
  · refine z_aload_n E 3 d_L_law_133 rfl rfl ?_
    refine z_iconst E (v := nI 0) d_L_law_134 (by decide) ?_
    refine z_lald E 17 3 rfl rfl (vp_in_nI (by decide) (by decide)) d_L_law_135 ?_
    refine z_iload E d_L_law_136 rfl ?_
    refine z_i2l E d_L_law_138 ?_
    refine z_lcmp E d_L_law_139 ?_
    refine z_if_eq E 145 d_L_law_140 (by decide) (fun _ => ?_) (fun hne => absurd ((congrArg (fun z => lg_cmp z v.toInt64) (j2 h0)).trans (lg_cmp_self _)) hne)
    refine z_goto E 637 d_L_law_145 (by decide) ?_
    exact kk S.1 N2 S.2 (some (.int r)) (some (.int v)) j3
theorem arm_back (E : zE p s m args meth c code 7 "ZoneHeapLaw" D zcl (ztys cA) A) (hX : va_X bs n xs s s.heap) (hb : bs < s.heap.size) (hbA : ¬ A bs) (hk : 3 * k + 3 ≤ n) (hn : n ≤ 1536) (hcf : cells + 1 ≤ 1046 ∧ slots + 6 ≤ 28220) (hJ : LOK l D cA a b o k f0 M0 N0 y_L_back b_L_back 4 [(0, 9, 12, 13), (0, 9, 15, 18)] y_M_back b_M_back 4 [.int (xs (3 * k + 1))]) (kk : ∀ (M' N' : zmem) (f' : Nat → Int64) (u5 u6 : Option Value), LI M' N' (k + 1) → ZW p l e room_1 s m args below meth c 7 D zcl A (wl a b cA o) (cells + 1) (slots + 6) Q 637 [some (.ref bs), some (.ref (a 0)), some (.ref (b 0)), some (.ref o), some (.int (nI (3 * k))), u5, u6] [] (M', N', f')) : ZW p l e room_1 s m args below meth c 7 D zcl A (wl a b cA o) cells slots Q 148 [some (.ref bs), some (.ref (a 0)), some (.ref (b 0)), some (.ref o), some (.int (nI (3 * k))), u5, u6] [] (M0, N0, f0) := by
  obtain ⟨d, p1, p2, hd, hW, hM, hj⟩ := hJ
  refine z_aload_n E 1 d_L_law_148 rfl rfl ?_
  refine z_aload_n E 0 d_L_law_149 rfl rfl ?_
  refine z_iload E d_L_law_150 rfl ?_
  refine z_iconst E (v := nI 1) d_L_law_152 (by decide) ?_
  refine z_iadd E d_L_law_153 ?_
  refine z_sld E hX hb hbA (3 * k + 1) (nI_add _ _) (by omega) hn d_L_law_154 ?_
  refine z_aload_n E 3 d_L_law_155 rfl rfl ?_
  refine zf_callW E (n := 3) [.ref (a 0), .int (xs (3 * k + 1)), .ref o] hW kw_L_59 ⟨by decide +kernel, by decide +kernel, by decide +kernel⟩ (Wr := mw b cA N0) [0, 1, 2, 3, 4, 5, 6, 7, 8, 17] [9, 10, 11, 12, 13, 14, 15, 16] [8, 9, 10, 11, 12, 13, 14, 15, 16, 0, 1, 2, 3, 4, 5, 6, 7, 17] ⟨rfl, rfl, rfl, rfl, by decide⟩ (fun S => (S.1, N0, S.2)) (fun S => ⟨rfl, rfl⟩) rfl rfl ⟨(Nat.le_of_ble_eq_true rfl), (Nat.le_of_ble_eq_true rfl)⟩ (Nat.le_of_ble_eq_true rfl) hcf d_L_law_156 (fun r S h1 => ?_)
  refine z_istore E d_L_law_159 (by decide) ?_
  refine z_aload_n E 2 d_L_law_161 rfl rfl ?_
  refine z_aload_n E 0 d_L_law_162 rfl rfl ?_
  refine z_iload E d_L_law_163 rfl ?_
  refine z_iconst E (v := nI 1) d_L_law_165 (by decide) ?_
  refine z_iadd E d_L_law_166 ?_
  refine z_sld E hX hb hbA (3 * k + 1) (nI_add _ _) (by omega) hn d_L_law_167 ?_
  refine zf_calli E [.int (xs (3 * k + 1))] hM kv_L_61 (Wr := zw a cA S.1 ++ [(o, .inl (cA 3, 1, .inr (.inl S.2)))]) [9, 10, 11, 12, 13, 14, 15, 16] [0, 1, 2, 3, 4, 5, 6, 7, 8, 17] [0, 1, 2, 3, 4, 5, 6, 7, 8, 10, 11, 12, 13, 14, 15, 16, 17, 9] ⟨rfl, rfl, rfl, rfl, by decide⟩ (fun N1 => (S.1, N1, S.2)) (fun N1 => ⟨rfl, rfl⟩) 9 rfl rfl rfl rfl ⟨by show d + 1 ≤ 12; omega, by show 8 + (4 + 11) + 40 * d ≤ 428; omega⟩ (Nat.le_of_ble_eq_true rfl) hcf d_L_law_168 (fun v N1 h2 => ?_)
  refine z_istore E d_L_law_171 (by decide) ?_
  refine z_aload_n E 2 d_L_law_173 rfl rfl ?_
  refine zf_calli E [] (c_thrown l D cA b N1) kv_L_55 (Wr := zw a cA S.1 ++ [(o, .inl (cA 3, 1, .inr (.inl S.2)))]) [9, 10, 11, 12, 13, 14, 15, 16] [0, 1, 2, 3, 4, 5, 6, 7, 8, 17] [0, 1, 2, 3, 4, 5, 6, 7, 8, 10, 11, 12, 13, 14, 15, 16, 17, 9] ⟨rfl, rfl, rfl, rfl, by decide⟩ (fun N1 => (S.1, N1, S.2)) (fun N1 => ⟨rfl, rfl⟩) 9 rfl rfl rfl rfl ⟨(Nat.le_of_ble_eq_true rfl), (Nat.le_of_ble_eq_true rfl)⟩ (Nat.le_of_ble_eq_true rfl) hcf d_L_law_174 (fun t N2 h3 => ?_)
  obtain ⟨rfl, rfl⟩ := h3
  obtain ⟨j1, j2, j3⟩ := hj r S v N2 h1 h2
  refine z_iload E d_L_law_177 rfl ?_
  refine z_icmp_eq E 184 d_L_law_179 (by decide) (fun _ => ?_) (fun hne => absurd j1 hne)
  refine z_iload E d_L_law_184 rfl ?_
  refine z_if_ne E 201 d_L_law_186 (by decide) (fun _ => ?_) (fun h0 => ?_)
  · refine z_goto E 637 d_L_law_201 (by decide) ?_
    exact kk S.1 N2 S.2 (some (.int r)) (some (.int v)) j3
  · refine z_aload_n E 3 d_L_law_189 rfl rfl ?_
    refine z_iconst E (v := nI 0) d_L_law_190 (by decide) ?_
    refine z_lald E 17 3 rfl rfl (vp_in_nI (by decide) (by decide)) d_L_law_191 ?_
    refine z_iload E d_L_law_192 rfl ?_
    refine z_i2l E d_L_law_194 ?_
    refine z_lcmp E d_L_law_195 ?_
    refine z_if_eq E 201 d_L_law_196 (by decide) (fun _ => ?_) (fun hne => absurd ((congrArg (fun z => lg_cmp z v.toInt64) (j2 h0)).trans (lg_cmp_self _)) hne)
    refine z_goto E 637 d_L_law_201 (by decide) ?_
    exact kk S.1 N2 S.2 (some (.int r)) (some (.int v)) j3
theorem arm_again (E : zE p s m args meth c code 7 "ZoneHeapLaw" D zcl (ztys cA) A) (hX : va_X bs n xs s s.heap) (hb : bs < s.heap.size) (hbA : ¬ A bs) (hk : 3 * k + 3 ≤ n) (hn : n ≤ 1536) (hcf : cells + 1 ≤ 1046 ∧ slots + 6 ≤ 28220) (hJ : LOK l D cA a b o k f0 M0 N0 y_L_again b_L_again 5 [(0, 10, 13, 13), (0, 10, 17, 18)] y_M_again b_M_again 6 [.int (xs (3 * k + 1)), .int (xs (3 * k + 2))]) (kk : ∀ (M' N' : zmem) (f' : Nat → Int64) (u5 u6 : Option Value), LI M' N' (k + 1) → ZW p l e room_1 s m args below meth c 7 D zcl A (wl a b cA o) (cells + 1) (slots + 6) Q 637 [some (.ref bs), some (.ref (a 0)), some (.ref (b 0)), some (.ref o), some (.int (nI (3 * k))), u5, u6] [] (M', N', f')) : ZW p l e room_1 s m args below meth c 7 D zcl A (wl a b cA o) cells slots Q 204 [some (.ref bs), some (.ref (a 0)), some (.ref (b 0)), some (.ref o), some (.int (nI (3 * k))), u5, u6] [] (M0, N0, f0) := by
  obtain ⟨d, p1, p2, hd, hW, hM, hj⟩ := hJ
  refine z_aload_n E 1 d_L_law_204 rfl rfl ?_
  refine z_aload_n E 0 d_L_law_205 rfl rfl ?_
  refine z_iload E d_L_law_206 rfl ?_
  refine z_iconst E (v := nI 1) d_L_law_208 (by decide) ?_
  refine z_iadd E d_L_law_209 ?_
  refine z_sld E hX hb hbA (3 * k + 1) (nI_add _ _) (by omega) hn d_L_law_210 ?_
  refine z_aload_n E 0 d_L_law_211 rfl rfl ?_
  refine z_iload E d_L_law_212 rfl ?_
  refine z_iconst E (v := nI 2) d_L_law_214 (by decide) ?_
  refine z_iadd E d_L_law_215 ?_
  refine z_sld E hX hb hbA (3 * k + 2) (nI_add _ _) (by omega) hn d_L_law_216 ?_
  refine z_aload_n E 3 d_L_law_217 rfl rfl ?_
  refine zf_callW E (n := 4) [.ref (a 0), .int (xs (3 * k + 1)), .int (xs (3 * k + 2)), .ref o] hW kw_L_62 ⟨by decide +kernel, by decide +kernel, by decide +kernel⟩ (Wr := mw b cA N0) [0, 1, 2, 3, 4, 5, 6, 7, 8, 17] [9, 10, 11, 12, 13, 14, 15, 16] [8, 9, 10, 11, 12, 13, 14, 15, 16, 0, 1, 2, 3, 4, 5, 6, 7, 17] ⟨rfl, rfl, rfl, rfl, by decide⟩ (fun S => (S.1, N0, S.2)) (fun S => ⟨rfl, rfl⟩) rfl rfl ⟨(Nat.le_of_ble_eq_true rfl), (Nat.le_of_ble_eq_true rfl)⟩ (Nat.le_of_ble_eq_true rfl) hcf d_L_law_218 (fun r S h1 => ?_)
  refine z_istore E d_L_law_221 (by decide) ?_
  refine z_aload_n E 2 d_L_law_223 rfl rfl ?_
  refine z_aload_n E 0 d_L_law_224 rfl rfl ?_
  refine z_iload E d_L_law_225 rfl ?_
  refine z_iconst E (v := nI 1) d_L_law_227 (by decide) ?_
  refine z_iadd E d_L_law_228 ?_
  refine z_sld E hX hb hbA (3 * k + 1) (nI_add _ _) (by omega) hn d_L_law_229 ?_
  refine z_aload_n E 0 d_L_law_230 rfl rfl ?_
  refine z_iload E d_L_law_231 rfl ?_
  refine z_iconst E (v := nI 2) d_L_law_233 (by decide) ?_
  refine z_iadd E d_L_law_234 ?_
  refine z_sld E hX hb hbA (3 * k + 2) (nI_add _ _) (by omega) hn d_L_law_235 ?_
  refine zf_calli E [.int (xs (3 * k + 1)), .int (xs (3 * k + 2))] hM kv_L_65 (Wr := zw a cA S.1 ++ [(o, .inl (cA 3, 1, .inr (.inl S.2)))]) [9, 10, 11, 12, 13, 14, 15, 16] [0, 1, 2, 3, 4, 5, 6, 7, 8, 17] [0, 1, 2, 3, 4, 5, 6, 7, 8, 10, 11, 12, 13, 14, 15, 16, 17, 9] ⟨rfl, rfl, rfl, rfl, by decide⟩ (fun N1 => (S.1, N1, S.2)) (fun N1 => ⟨rfl, rfl⟩) 9 rfl rfl rfl rfl ⟨by show d + 1 ≤ 12; omega, by show 8 + (6 + 11) + 40 * d ≤ 428; omega⟩ (Nat.le_of_ble_eq_true rfl) hcf d_L_law_236 (fun v N1 h2 => ?_)
  refine z_istore E d_L_law_239 (by decide) ?_
  refine z_aload_n E 2 d_L_law_241 rfl rfl ?_
  refine zf_calli E [] (c_thrown l D cA b N1) kv_L_55 (Wr := zw a cA S.1 ++ [(o, .inl (cA 3, 1, .inr (.inl S.2)))]) [9, 10, 11, 12, 13, 14, 15, 16] [0, 1, 2, 3, 4, 5, 6, 7, 8, 17] [0, 1, 2, 3, 4, 5, 6, 7, 8, 10, 11, 12, 13, 14, 15, 16, 17, 9] ⟨rfl, rfl, rfl, rfl, by decide⟩ (fun N1 => (S.1, N1, S.2)) (fun N1 => ⟨rfl, rfl⟩) 9 rfl rfl rfl rfl ⟨(Nat.le_of_ble_eq_true rfl), (Nat.le_of_ble_eq_true rfl)⟩ (Nat.le_of_ble_eq_true rfl) hcf d_L_law_242 (fun t N2 h3 => ?_)
  obtain ⟨rfl, rfl⟩ := h3
  obtain ⟨j1, j2, j3⟩ := hj r S v N2 h1 h2
  refine z_iload E d_L_law_245 rfl ?_
  refine z_icmp_eq E 252 d_L_law_247 (by decide) (fun _ => ?_) (fun hne => absurd j1 hne)
  refine z_iload E d_L_law_252 rfl ?_
  refine z_if_ne E 269 d_L_law_254 (by decide) (fun _ => ?_) (fun h0 => ?_)
  · refine z_goto E 637 d_L_law_269 (by decide) ?_
    exact kk S.1 N2 S.2 (some (.int r)) (some (.int v)) j3
  · refine z_aload_n E 3 d_L_law_257 rfl rfl ?_
    refine z_iconst E (v := nI 0) d_L_law_258 (by decide) ?_
    refine z_lald E 17 3 rfl rfl (vp_in_nI (by decide) (by decide)) d_L_law_259 ?_
    refine z_iload E d_L_law_260 rfl ?_
    refine z_i2l E d_L_law_262 ?_
    refine z_lcmp E d_L_law_263 ?_
    refine z_if_eq E 269 d_L_law_264 (by decide) (fun _ => ?_) (fun hne => absurd ((congrArg (fun z => lg_cmp z v.toInt64) (j2 h0)).trans (lg_cmp_self _)) hne)
    refine z_goto E 637 d_L_law_269 (by decide) ?_
    exact kk S.1 N2 S.2 (some (.int r)) (some (.int v)) j3
theorem arm_kind (E : zE p s m args meth c code 7 "ZoneHeapLaw" D zcl (ztys cA) A) (hX : va_X bs n xs s s.heap) (hb : bs < s.heap.size) (hbA : ¬ A bs) (hk : 3 * k + 3 ≤ n) (hn : n ≤ 1536) (hcf : cells + 1 ≤ 1046 ∧ slots + 6 ≤ 28220) (hJ : LOK l D cA a b o k f0 M0 N0 y_L_kind b_L_kind 4 [(0, 9, 12, 27)] y_M_kind b_M_kind 3 [.int (xs (3 * k + 1))]) (kk : ∀ (M' N' : zmem) (f' : Nat → Int64) (u5 u6 : Option Value), LI M' N' (k + 1) → ZW p l e room_1 s m args below meth c 7 D zcl A (wl a b cA o) (cells + 1) (slots + 6) Q 637 [some (.ref bs), some (.ref (a 0)), some (.ref (b 0)), some (.ref o), some (.int (nI (3 * k))), u5, u6] [] (M', N', f')) : ZW p l e room_1 s m args below meth c 7 D zcl A (wl a b cA o) cells slots Q 272 [some (.ref bs), some (.ref (a 0)), some (.ref (b 0)), some (.ref o), some (.int (nI (3 * k))), u5, u6] [] (M0, N0, f0) := by
  obtain ⟨d, p1, p2, hd, hW, hM, hj⟩ := hJ
  refine z_aload_n E 1 d_L_law_272 rfl rfl ?_
  refine z_aload_n E 0 d_L_law_273 rfl rfl ?_
  refine z_iload E d_L_law_274 rfl ?_
  refine z_iconst E (v := nI 1) d_L_law_276 (by decide) ?_
  refine z_iadd E d_L_law_277 ?_
  refine z_sld E hX hb hbA (3 * k + 1) (nI_add _ _) (by omega) hn d_L_law_278 ?_
  refine z_aload_n E 3 d_L_law_279 rfl rfl ?_
  refine zf_callW E (n := 3) [.ref (a 0), .int (xs (3 * k + 1)), .ref o] hW kw_L_66 ⟨by decide +kernel, by decide +kernel, by decide +kernel⟩ (Wr := mw b cA N0) [0, 1, 2, 3, 4, 5, 6, 7, 8, 17] [9, 10, 11, 12, 13, 14, 15, 16] [8, 9, 10, 11, 12, 13, 14, 15, 16, 0, 1, 2, 3, 4, 5, 6, 7, 17] ⟨rfl, rfl, rfl, rfl, by decide⟩ (fun S => (S.1, N0, S.2)) (fun S => ⟨rfl, rfl⟩) rfl rfl ⟨(Nat.le_of_ble_eq_true rfl), (Nat.le_of_ble_eq_true rfl)⟩ (Nat.le_of_ble_eq_true rfl) hcf d_L_law_280 (fun r S h1 => ?_)
  refine z_istore E d_L_law_283 (by decide) ?_
  refine z_aload_n E 2 d_L_law_285 rfl rfl ?_
  refine z_aload_n E 0 d_L_law_286 rfl rfl ?_
  refine z_iload E d_L_law_287 rfl ?_
  refine z_iconst E (v := nI 1) d_L_law_289 (by decide) ?_
  refine z_iadd E d_L_law_290 ?_
  refine z_sld E hX hb hbA (3 * k + 1) (nI_add _ _) (by omega) hn d_L_law_291 ?_
  refine zf_calli E [.int (xs (3 * k + 1))] hM kv_L_68 (Wr := zw a cA S.1 ++ [(o, .inl (cA 3, 1, .inr (.inl S.2)))]) [9, 10, 11, 12, 13, 14, 15, 16] [0, 1, 2, 3, 4, 5, 6, 7, 8, 17] [0, 1, 2, 3, 4, 5, 6, 7, 8, 10, 11, 12, 13, 14, 15, 16, 17, 9] ⟨rfl, rfl, rfl, rfl, by decide⟩ (fun N1 => (S.1, N1, S.2)) (fun N1 => ⟨rfl, rfl⟩) 9 rfl rfl rfl rfl ⟨by show d + 1 ≤ 12; omega, by show 8 + (3 + 11) + 40 * d ≤ 428; omega⟩ (Nat.le_of_ble_eq_true rfl) hcf d_L_law_292 (fun v N1 h2 => ?_)
  refine z_istore E d_L_law_295 (by decide) ?_
  refine z_aload_n E 2 d_L_law_297 rfl rfl ?_
  refine zf_calli E [] (c_thrown l D cA b N1) kv_L_55 (Wr := zw a cA S.1 ++ [(o, .inl (cA 3, 1, .inr (.inl S.2)))]) [9, 10, 11, 12, 13, 14, 15, 16] [0, 1, 2, 3, 4, 5, 6, 7, 8, 17] [0, 1, 2, 3, 4, 5, 6, 7, 8, 10, 11, 12, 13, 14, 15, 16, 17, 9] ⟨rfl, rfl, rfl, rfl, by decide⟩ (fun N1 => (S.1, N1, S.2)) (fun N1 => ⟨rfl, rfl⟩) 9 rfl rfl rfl rfl ⟨(Nat.le_of_ble_eq_true rfl), (Nat.le_of_ble_eq_true rfl)⟩ (Nat.le_of_ble_eq_true rfl) hcf d_L_law_298 (fun t N2 h3 => ?_)
  obtain ⟨rfl, rfl⟩ := h3
  obtain ⟨j1, j2, j3⟩ := hj r S v N2 h1 h2
  refine z_iload E d_L_law_301 rfl ?_
  refine z_icmp_eq E 308 d_L_law_303 (by decide) (fun _ => ?_) (fun hne => absurd j1 hne)
  refine z_iload E d_L_law_308 rfl ?_
  refine z_if_ne E 325 d_L_law_310 (by decide) (fun _ => ?_) (fun h0 => ?_)
  · refine z_goto E 637 d_L_law_325 (by decide) ?_
    exact kk S.1 N2 S.2 (some (.int r)) (some (.int v)) j3
  · refine z_aload_n E 3 d_L_law_313 rfl rfl ?_
    refine z_iconst E (v := nI 0) d_L_law_314 (by decide) ?_
    refine z_lald E 17 3 rfl rfl (vp_in_nI (by decide) (by decide)) d_L_law_315 ?_
    refine z_iload E d_L_law_316 rfl ?_
    refine z_i2l E d_L_law_318 ?_
    refine z_lcmp E d_L_law_319 ?_
    refine z_if_eq E 325 d_L_law_320 (by decide) (fun _ => ?_) (fun hne => absurd ((congrArg (fun z => lg_cmp z v.toInt64) (j2 h0)).trans (lg_cmp_self _)) hne)
    refine z_goto E 637 d_L_law_325 (by decide) ?_
    exact kk S.1 N2 S.2 (some (.int r)) (some (.int v)) j3
theorem arm_block (E : zE p s m args meth c code 7 "ZoneHeapLaw" D zcl (ztys cA) A) (hX : va_X bs n xs s s.heap) (hb : bs < s.heap.size) (hbA : ¬ A bs) (hk : 3 * k + 3 ≤ n) (hn : n ≤ 1536) (hcf : cells + 1 ≤ 1046 ∧ slots + 6 ≤ 28220) (hJ : LOK l D cA a b o k f0 M0 N0 y_L_block b_L_block 4 [(0, 9, 12, 27)] y_M_block b_M_block 3 [.int (xs (3 * k + 1))]) (kk : ∀ (M' N' : zmem) (f' : Nat → Int64) (u5 u6 : Option Value), LI M' N' (k + 1) → ZW p l e room_1 s m args below meth c 7 D zcl A (wl a b cA o) (cells + 1) (slots + 6) Q 637 [some (.ref bs), some (.ref (a 0)), some (.ref (b 0)), some (.ref o), some (.int (nI (3 * k))), u5, u6] [] (M', N', f')) : ZW p l e room_1 s m args below meth c 7 D zcl A (wl a b cA o) cells slots Q 328 [some (.ref bs), some (.ref (a 0)), some (.ref (b 0)), some (.ref o), some (.int (nI (3 * k))), u5, u6] [] (M0, N0, f0) := by
  obtain ⟨d, p1, p2, hd, hW, hM, hj⟩ := hJ
  refine z_aload_n E 1 d_L_law_328 rfl rfl ?_
  refine z_aload_n E 0 d_L_law_329 rfl rfl ?_
  refine z_iload E d_L_law_330 rfl ?_
  refine z_iconst E (v := nI 1) d_L_law_332 (by decide) ?_
  refine z_iadd E d_L_law_333 ?_
  refine z_sld E hX hb hbA (3 * k + 1) (nI_add _ _) (by omega) hn d_L_law_334 ?_
  refine z_aload_n E 3 d_L_law_335 rfl rfl ?_
  refine zf_callW E (n := 3) [.ref (a 0), .int (xs (3 * k + 1)), .ref o] hW kw_L_69 ⟨by decide +kernel, by decide +kernel, by decide +kernel⟩ (Wr := mw b cA N0) [0, 1, 2, 3, 4, 5, 6, 7, 8, 17] [9, 10, 11, 12, 13, 14, 15, 16] [8, 9, 10, 11, 12, 13, 14, 15, 16, 0, 1, 2, 3, 4, 5, 6, 7, 17] ⟨rfl, rfl, rfl, rfl, by decide⟩ (fun S => (S.1, N0, S.2)) (fun S => ⟨rfl, rfl⟩) rfl rfl ⟨(Nat.le_of_ble_eq_true rfl), (Nat.le_of_ble_eq_true rfl)⟩ (Nat.le_of_ble_eq_true rfl) hcf d_L_law_336 (fun r S h1 => ?_)
  refine z_istore E d_L_law_339 (by decide) ?_
  refine z_aload_n E 2 d_L_law_341 rfl rfl ?_
  refine z_aload_n E 0 d_L_law_342 rfl rfl ?_
  refine z_iload E d_L_law_343 rfl ?_
  refine z_iconst E (v := nI 1) d_L_law_345 (by decide) ?_
  refine z_iadd E d_L_law_346 ?_
  refine z_sld E hX hb hbA (3 * k + 1) (nI_add _ _) (by omega) hn d_L_law_347 ?_
  refine zf_calli E [.int (xs (3 * k + 1))] hM kv_L_71 (Wr := zw a cA S.1 ++ [(o, .inl (cA 3, 1, .inr (.inl S.2)))]) [9, 10, 11, 12, 13, 14, 15, 16] [0, 1, 2, 3, 4, 5, 6, 7, 8, 17] [0, 1, 2, 3, 4, 5, 6, 7, 8, 10, 11, 12, 13, 14, 15, 16, 17, 9] ⟨rfl, rfl, rfl, rfl, by decide⟩ (fun N1 => (S.1, N1, S.2)) (fun N1 => ⟨rfl, rfl⟩) 9 rfl rfl rfl rfl ⟨by show d + 1 ≤ 12; omega, by show 8 + (3 + 11) + 40 * d ≤ 428; omega⟩ (Nat.le_of_ble_eq_true rfl) hcf d_L_law_348 (fun v N1 h2 => ?_)
  refine z_istore E d_L_law_351 (by decide) ?_
  refine z_aload_n E 2 d_L_law_353 rfl rfl ?_
  refine zf_calli E [] (c_thrown l D cA b N1) kv_L_55 (Wr := zw a cA S.1 ++ [(o, .inl (cA 3, 1, .inr (.inl S.2)))]) [9, 10, 11, 12, 13, 14, 15, 16] [0, 1, 2, 3, 4, 5, 6, 7, 8, 17] [0, 1, 2, 3, 4, 5, 6, 7, 8, 10, 11, 12, 13, 14, 15, 16, 17, 9] ⟨rfl, rfl, rfl, rfl, by decide⟩ (fun N1 => (S.1, N1, S.2)) (fun N1 => ⟨rfl, rfl⟩) 9 rfl rfl rfl rfl ⟨(Nat.le_of_ble_eq_true rfl), (Nat.le_of_ble_eq_true rfl)⟩ (Nat.le_of_ble_eq_true rfl) hcf d_L_law_354 (fun t N2 h3 => ?_)
  obtain ⟨rfl, rfl⟩ := h3
  obtain ⟨j1, j2, j3⟩ := hj r S v N2 h1 h2
  refine z_iload E d_L_law_357 rfl ?_
  refine z_icmp_eq E 364 d_L_law_359 (by decide) (fun _ => ?_) (fun hne => absurd j1 hne)
  refine z_iload E d_L_law_364 rfl ?_
  refine z_if_ne E 381 d_L_law_366 (by decide) (fun _ => ?_) (fun h0 => ?_)
  · refine z_goto E 637 d_L_law_381 (by decide) ?_
    exact kk S.1 N2 S.2 (some (.int r)) (some (.int v)) j3
  · refine z_aload_n E 3 d_L_law_369 rfl rfl ?_
    refine z_iconst E (v := nI 0) d_L_law_370 (by decide) ?_
    refine z_lald E 17 3 rfl rfl (vp_in_nI (by decide) (by decide)) d_L_law_371 ?_
    refine z_iload E d_L_law_372 rfl ?_
    refine z_i2l E d_L_law_374 ?_
    refine z_lcmp E d_L_law_375 ?_
    refine z_if_eq E 381 d_L_law_376 (by decide) (fun _ => ?_) (fun hne => absurd ((congrArg (fun z => lg_cmp z v.toInt64) (j2 h0)).trans (lg_cmp_self _)) hne)
    refine z_goto E 637 d_L_law_381 (by decide) ?_
    exact kk S.1 N2 S.2 (some (.int r)) (some (.int v)) j3
theorem arm_read (E : zE p s m args meth c code 7 "ZoneHeapLaw" D zcl (ztys cA) A) (hX : va_X bs n xs s s.heap) (hb : bs < s.heap.size) (hbA : ¬ A bs) (hk : 3 * k + 3 ≤ n) (hn : n ≤ 1536) (hcf : cells + 1 ≤ 1046 ∧ slots + 6 ≤ 28220) (hJ : LOK l D cA a b o k f0 M0 N0 y_L_read b_L_read 4 [(0, 9, 12, 27), (0, 9, 15, 18)] y_M_read b_M_read 2 [.int (xs (3 * k + 1))]) (kk : ∀ (M' N' : zmem) (f' : Nat → Int64) (u5 u6 : Option Value), LI M' N' (k + 1) → ZW p l e room_1 s m args below meth c 7 D zcl A (wl a b cA o) (cells + 1) (slots + 6) Q 637 [some (.ref bs), some (.ref (a 0)), some (.ref (b 0)), some (.ref o), some (.int (nI (3 * k))), u5, u6] [] (M', N', f')) : ZW p l e room_1 s m args below meth c 7 D zcl A (wl a b cA o) cells slots Q 432 [some (.ref bs), some (.ref (a 0)), some (.ref (b 0)), some (.ref o), some (.int (nI (3 * k))), u5, u6] [] (M0, N0, f0) := by
  obtain ⟨d, p1, p2, hd, hW, hM, hj⟩ := hJ
  refine z_aload_n E 1 d_L_law_432 rfl rfl ?_
  refine z_aload_n E 0 d_L_law_433 rfl rfl ?_
  refine z_iload E d_L_law_434 rfl ?_
  refine z_iconst E (v := nI 1) d_L_law_436 (by decide) ?_
  refine z_iadd E d_L_law_437 ?_
  refine z_sld E hX hb hbA (3 * k + 1) (nI_add _ _) (by omega) hn d_L_law_438 ?_
  refine z_aload_n E 3 d_L_law_439 rfl rfl ?_
  refine zf_callW E (n := 3) [.ref (a 0), .int (xs (3 * k + 1)), .ref o] hW kw_L_76 ⟨by decide +kernel, by decide +kernel, by decide +kernel⟩ (Wr := mw b cA N0) [0, 1, 2, 3, 4, 5, 6, 7, 8, 17] [9, 10, 11, 12, 13, 14, 15, 16] [8, 9, 10, 11, 12, 13, 14, 15, 16, 0, 1, 2, 3, 4, 5, 6, 7, 17] ⟨rfl, rfl, rfl, rfl, by decide⟩ (fun S => (S.1, N0, S.2)) (fun S => ⟨rfl, rfl⟩) rfl rfl ⟨(Nat.le_of_ble_eq_true rfl), (Nat.le_of_ble_eq_true rfl)⟩ (Nat.le_of_ble_eq_true rfl) hcf d_L_law_440 (fun r S h1 => ?_)
  refine z_istore E d_L_law_443 (by decide) ?_
  refine z_aload_n E 2 d_L_law_445 rfl rfl ?_
  refine z_aload_n E 0 d_L_law_446 rfl rfl ?_
  refine z_iload E d_L_law_447 rfl ?_
  refine z_iconst E (v := nI 1) d_L_law_449 (by decide) ?_
  refine z_iadd E d_L_law_450 ?_
  refine z_sld E hX hb hbA (3 * k + 1) (nI_add _ _) (by omega) hn d_L_law_451 ?_
  refine zf_calli E [.int (xs (3 * k + 1))] hM kv_L_78 (Wr := zw a cA S.1 ++ [(o, .inl (cA 3, 1, .inr (.inl S.2)))]) [9, 10, 11, 12, 13, 14, 15, 16] [0, 1, 2, 3, 4, 5, 6, 7, 8, 17] [0, 1, 2, 3, 4, 5, 6, 7, 8, 10, 11, 12, 13, 14, 15, 16, 17, 9] ⟨rfl, rfl, rfl, rfl, by decide⟩ (fun N1 => (S.1, N1, S.2)) (fun N1 => ⟨rfl, rfl⟩) 9 rfl rfl rfl rfl ⟨by show d + 1 ≤ 12; omega, by show 8 + (2 + 11) + 40 * d ≤ 428; omega⟩ (Nat.le_of_ble_eq_true rfl) hcf d_L_law_452 (fun v N1 h2 => ?_)
  refine z_istore E d_L_law_455 (by decide) ?_
  refine z_aload_n E 2 d_L_law_457 rfl rfl ?_
  refine zf_calli E [] (c_thrown l D cA b N1) kv_L_55 (Wr := zw a cA S.1 ++ [(o, .inl (cA 3, 1, .inr (.inl S.2)))]) [9, 10, 11, 12, 13, 14, 15, 16] [0, 1, 2, 3, 4, 5, 6, 7, 8, 17] [0, 1, 2, 3, 4, 5, 6, 7, 8, 10, 11, 12, 13, 14, 15, 16, 17, 9] ⟨rfl, rfl, rfl, rfl, by decide⟩ (fun N1 => (S.1, N1, S.2)) (fun N1 => ⟨rfl, rfl⟩) 9 rfl rfl rfl rfl ⟨(Nat.le_of_ble_eq_true rfl), (Nat.le_of_ble_eq_true rfl)⟩ (Nat.le_of_ble_eq_true rfl) hcf d_L_law_458 (fun t N2 h3 => ?_)
  obtain ⟨rfl, rfl⟩ := h3
  obtain ⟨j1, j2, j3⟩ := hj r S v N2 h1 h2
  refine z_iload E d_L_law_461 rfl ?_
  refine z_icmp_eq E 468 d_L_law_463 (by decide) (fun _ => ?_) (fun hne => absurd j1 hne)
  refine z_iload E d_L_law_468 rfl ?_
  refine z_if_ne E 485 d_L_law_470 (by decide) (fun _ => ?_) (fun h0 => ?_)
  · refine z_goto E 637 d_L_law_485 (by decide) ?_
    exact kk S.1 N2 S.2 (some (.int r)) (some (.int v)) j3
  · refine z_aload_n E 3 d_L_law_473 rfl rfl ?_
    refine z_iconst E (v := nI 0) d_L_law_474 (by decide) ?_
    refine z_lald E 17 3 rfl rfl (vp_in_nI (by decide) (by decide)) d_L_law_475 ?_
    refine z_iload E d_L_law_476 rfl ?_
    refine z_i2l E d_L_law_478 ?_
    refine z_lcmp E d_L_law_479 ?_
    refine z_if_eq E 485 d_L_law_480 (by decide) (fun _ => ?_) (fun hne => absurd ((congrArg (fun z => lg_cmp z v.toInt64) (j2 h0)).trans (lg_cmp_self _)) hne)
    refine z_goto E 637 d_L_law_485 (by decide) ?_
    exact kk S.1 N2 S.2 (some (.int r)) (some (.int v)) j3
theorem arm_lostAt (E : zE p s m args meth c code 7 "ZoneHeapLaw" D zcl (ztys cA) A) (hX : va_X bs n xs s s.heap) (hb : bs < s.heap.size) (hbA : ¬ A bs) (hk : 3 * k + 3 ≤ n) (hn : n ≤ 1536) (hcf : cells + 1 ≤ 1046 ∧ slots + 6 ≤ 28220) (hJ : LOK l D cA a b o k f0 M0 N0 y_L_lostAt b_L_lostAt 4 [(0, 9, 12, 27)] y_M_lostAt b_M_lostAt 2 [.int (xs (3 * k + 1))]) (kk : ∀ (M' N' : zmem) (f' : Nat → Int64) (u5 u6 : Option Value), LI M' N' (k + 1) → ZW p l e room_1 s m args below meth c 7 D zcl A (wl a b cA o) (cells + 1) (slots + 6) Q 637 [some (.ref bs), some (.ref (a 0)), some (.ref (b 0)), some (.ref o), some (.int (nI (3 * k))), u5, u6] [] (M', N', f')) : ZW p l e room_1 s m args below meth c 7 D zcl A (wl a b cA o) cells slots Q 525 [some (.ref bs), some (.ref (a 0)), some (.ref (b 0)), some (.ref o), some (.int (nI (3 * k))), u5, u6] [] (M0, N0, f0) := by
  obtain ⟨d, p1, p2, hd, hW, hM, hj⟩ := hJ
  refine z_aload_n E 1 d_L_law_525 rfl rfl ?_
  refine z_aload_n E 0 d_L_law_526 rfl rfl ?_
  refine z_iload E d_L_law_527 rfl ?_
  refine z_iconst E (v := nI 1) d_L_law_529 (by decide) ?_
  refine z_iadd E d_L_law_530 ?_
  refine z_sld E hX hb hbA (3 * k + 1) (nI_add _ _) (by omega) hn d_L_law_531 ?_
  refine z_aload_n E 3 d_L_law_532 rfl rfl ?_
  refine zf_callW E (n := 3) [.ref (a 0), .int (xs (3 * k + 1)), .ref o] hW kw_L_83 ⟨by decide +kernel, by decide +kernel, by decide +kernel⟩ (Wr := mw b cA N0) [0, 1, 2, 3, 4, 5, 6, 7, 8, 17] [9, 10, 11, 12, 13, 14, 15, 16] [8, 9, 10, 11, 12, 13, 14, 15, 16, 0, 1, 2, 3, 4, 5, 6, 7, 17] ⟨rfl, rfl, rfl, rfl, by decide⟩ (fun S => (S.1, N0, S.2)) (fun S => ⟨rfl, rfl⟩) rfl rfl ⟨(Nat.le_of_ble_eq_true rfl), (Nat.le_of_ble_eq_true rfl)⟩ (Nat.le_of_ble_eq_true rfl) hcf d_L_law_533 (fun r S h1 => ?_)
  refine z_istore E d_L_law_536 (by decide) ?_
  refine z_aload_n E 2 d_L_law_538 rfl rfl ?_
  refine z_aload_n E 0 d_L_law_539 rfl rfl ?_
  refine z_iload E d_L_law_540 rfl ?_
  refine z_iconst E (v := nI 1) d_L_law_542 (by decide) ?_
  refine z_iadd E d_L_law_543 ?_
  refine z_sld E hX hb hbA (3 * k + 1) (nI_add _ _) (by omega) hn d_L_law_544 ?_
  refine zf_calli E [.int (xs (3 * k + 1))] hM kv_L_85 (Wr := zw a cA S.1 ++ [(o, .inl (cA 3, 1, .inr (.inl S.2)))]) [9, 10, 11, 12, 13, 14, 15, 16] [0, 1, 2, 3, 4, 5, 6, 7, 8, 17] [0, 1, 2, 3, 4, 5, 6, 7, 8, 10, 11, 12, 13, 14, 15, 16, 17, 9] ⟨rfl, rfl, rfl, rfl, by decide⟩ (fun N1 => (S.1, N1, S.2)) (fun N1 => ⟨rfl, rfl⟩) 9 rfl rfl rfl rfl ⟨by show d + 1 ≤ 12; omega, by show 8 + (2 + 11) + 40 * d ≤ 428; omega⟩ (Nat.le_of_ble_eq_true rfl) hcf d_L_law_545 (fun v N1 h2 => ?_)
  refine z_istore E d_L_law_548 (by decide) ?_
  refine z_aload_n E 2 d_L_law_550 rfl rfl ?_
  refine zf_calli E [] (c_thrown l D cA b N1) kv_L_55 (Wr := zw a cA S.1 ++ [(o, .inl (cA 3, 1, .inr (.inl S.2)))]) [9, 10, 11, 12, 13, 14, 15, 16] [0, 1, 2, 3, 4, 5, 6, 7, 8, 17] [0, 1, 2, 3, 4, 5, 6, 7, 8, 10, 11, 12, 13, 14, 15, 16, 17, 9] ⟨rfl, rfl, rfl, rfl, by decide⟩ (fun N1 => (S.1, N1, S.2)) (fun N1 => ⟨rfl, rfl⟩) 9 rfl rfl rfl rfl ⟨(Nat.le_of_ble_eq_true rfl), (Nat.le_of_ble_eq_true rfl)⟩ (Nat.le_of_ble_eq_true rfl) hcf d_L_law_551 (fun t N2 h3 => ?_)
  obtain ⟨rfl, rfl⟩ := h3
  obtain ⟨j1, j2, j3⟩ := hj r S v N2 h1 h2
  refine z_iload E d_L_law_554 rfl ?_
  refine z_icmp_eq E 561 d_L_law_556 (by decide) (fun _ => ?_) (fun hne => absurd j1 hne)
  refine z_iload E d_L_law_561 rfl ?_
  refine z_if_ne E 578 d_L_law_563 (by decide) (fun _ => ?_) (fun h0 => ?_)
  · refine z_goto E 637 d_L_law_578 (by decide) ?_
    exact kk S.1 N2 S.2 (some (.int r)) (some (.int v)) j3
  · refine z_aload_n E 3 d_L_law_566 rfl rfl ?_
    refine z_iconst E (v := nI 0) d_L_law_567 (by decide) ?_
    refine z_lald E 17 3 rfl rfl (vp_in_nI (by decide) (by decide)) d_L_law_568 ?_
    refine z_iload E d_L_law_569 rfl ?_
    refine z_i2l E d_L_law_571 ?_
    refine z_lcmp E d_L_law_572 ?_
    refine z_if_eq E 578 d_L_law_573 (by decide) (fun _ => ?_) (fun hne => absurd ((congrArg (fun z => lg_cmp z v.toInt64) (j2 h0)).trans (lg_cmp_self _)) hne)
    refine z_goto E 637 d_L_law_578 (by decide) ?_
    exact kk S.1 N2 S.2 (some (.int r)) (some (.int v)) j3
theorem arm_count (E : zE p s m args meth c code 7 "ZoneHeapLaw" D zcl (ztys cA) A) (hX : va_X bs n xs s s.heap) (hb : bs < s.heap.size) (hbA : ¬ A bs) (hk : 3 * k + 3 ≤ n) (hn : n ≤ 1536) (hcf : cells + 1 ≤ 1046 ∧ slots + 6 ≤ 28220) (hJ : LOK l D cA a b o k f0 M0 N0 y_L_count b_L_count 4 [(0, 9, 12, 13)] y_M_count b_M_count 5 [.int (xs (3 * k + 1))]) (kk : ∀ (M' N' : zmem) (f' : Nat → Int64) (u5 u6 : Option Value), LI M' N' (k + 1) → ZW p l e room_1 s m args below meth c 7 D zcl A (wl a b cA o) (cells + 1) (slots + 6) Q 637 [some (.ref bs), some (.ref (a 0)), some (.ref (b 0)), some (.ref o), some (.int (nI (3 * k))), u5, u6] [] (M', N', f')) : ZW p l e room_1 s m args below meth c 7 D zcl A (wl a b cA o) cells slots Q 581 [some (.ref bs), some (.ref (a 0)), some (.ref (b 0)), some (.ref o), some (.int (nI (3 * k))), u5, u6] [] (M0, N0, f0) := by
  obtain ⟨d, p1, p2, hd, hW, hM, hj⟩ := hJ
  refine z_aload_n E 1 d_L_law_581 rfl rfl ?_
  refine z_aload_n E 0 d_L_law_582 rfl rfl ?_
  refine z_iload E d_L_law_583 rfl ?_
  refine z_iconst E (v := nI 1) d_L_law_585 (by decide) ?_
  refine z_iadd E d_L_law_586 ?_
  refine z_sld E hX hb hbA (3 * k + 1) (nI_add _ _) (by omega) hn d_L_law_587 ?_
  refine z_aload_n E 3 d_L_law_588 rfl rfl ?_
  refine zf_callW E (n := 3) [.ref (a 0), .int (xs (3 * k + 1)), .ref o] hW kw_L_86 ⟨by decide +kernel, by decide +kernel, by decide +kernel⟩ (Wr := mw b cA N0) [0, 1, 2, 3, 4, 5, 6, 7, 8, 17] [9, 10, 11, 12, 13, 14, 15, 16] [8, 9, 10, 11, 12, 13, 14, 15, 16, 0, 1, 2, 3, 4, 5, 6, 7, 17] ⟨rfl, rfl, rfl, rfl, by decide⟩ (fun S => (S.1, N0, S.2)) (fun S => ⟨rfl, rfl⟩) rfl rfl ⟨(Nat.le_of_ble_eq_true rfl), (Nat.le_of_ble_eq_true rfl)⟩ (Nat.le_of_ble_eq_true rfl) hcf d_L_law_589 (fun r S h1 => ?_)
  refine z_istore E d_L_law_592 (by decide) ?_
  refine z_aload_n E 2 d_L_law_594 rfl rfl ?_
  refine z_aload_n E 0 d_L_law_595 rfl rfl ?_
  refine z_iload E d_L_law_596 rfl ?_
  refine z_iconst E (v := nI 1) d_L_law_598 (by decide) ?_
  refine z_iadd E d_L_law_599 ?_
  refine z_sld E hX hb hbA (3 * k + 1) (nI_add _ _) (by omega) hn d_L_law_600 ?_
  refine zf_calli E [.int (xs (3 * k + 1))] hM kv_L_88 (Wr := zw a cA S.1 ++ [(o, .inl (cA 3, 1, .inr (.inl S.2)))]) [9, 10, 11, 12, 13, 14, 15, 16] [0, 1, 2, 3, 4, 5, 6, 7, 8, 17] [0, 1, 2, 3, 4, 5, 6, 7, 8, 10, 11, 12, 13, 14, 15, 16, 17, 9] ⟨rfl, rfl, rfl, rfl, by decide⟩ (fun N1 => (S.1, N1, S.2)) (fun N1 => ⟨rfl, rfl⟩) 9 rfl rfl rfl rfl ⟨by show d + 1 ≤ 12; omega, by show 8 + (5 + 11) + 40 * d ≤ 428; omega⟩ (Nat.le_of_ble_eq_true rfl) hcf d_L_law_601 (fun v N1 h2 => ?_)
  refine z_istore E d_L_law_604 (by decide) ?_
  refine z_aload_n E 2 d_L_law_606 rfl rfl ?_
  refine zf_calli E [] (c_thrown l D cA b N1) kv_L_55 (Wr := zw a cA S.1 ++ [(o, .inl (cA 3, 1, .inr (.inl S.2)))]) [9, 10, 11, 12, 13, 14, 15, 16] [0, 1, 2, 3, 4, 5, 6, 7, 8, 17] [0, 1, 2, 3, 4, 5, 6, 7, 8, 10, 11, 12, 13, 14, 15, 16, 17, 9] ⟨rfl, rfl, rfl, rfl, by decide⟩ (fun N1 => (S.1, N1, S.2)) (fun N1 => ⟨rfl, rfl⟩) 9 rfl rfl rfl rfl ⟨(Nat.le_of_ble_eq_true rfl), (Nat.le_of_ble_eq_true rfl)⟩ (Nat.le_of_ble_eq_true rfl) hcf d_L_law_607 (fun t N2 h3 => ?_)
  obtain ⟨rfl, rfl⟩ := h3
  obtain ⟨j1, j2, j3⟩ := hj r S v N2 h1 h2
  refine z_iload E d_L_law_610 rfl ?_
  refine z_icmp_eq E 617 d_L_law_612 (by decide) (fun _ => ?_) (fun hne => absurd j1 hne)
  refine z_iload E d_L_law_617 rfl ?_
  refine z_if_ne E 634 d_L_law_619 (by decide) (fun _ => ?_) (fun h0 => ?_)
  · refine z_goto E 637 d_L_law_634 (by decide) ?_
    exact kk S.1 N2 S.2 (some (.int r)) (some (.int v)) j3
  · refine z_aload_n E 3 d_L_law_622 rfl rfl ?_
    refine z_iconst E (v := nI 0) d_L_law_623 (by decide) ?_
    refine z_lald E 17 3 rfl rfl (vp_in_nI (by decide) (by decide)) d_L_law_624 ?_
    refine z_iload E d_L_law_625 rfl ?_
    refine z_i2l E d_L_law_627 ?_
    refine z_lcmp E d_L_law_628 ?_
    refine z_if_eq E 634 d_L_law_629 (by decide) (fun _ => ?_) (fun hne => absurd ((congrArg (fun z => lg_cmp z v.toInt64) (j2 h0)).trans (lg_cmp_self _)) hne)
    refine z_goto E 637 d_L_law_634 (by decide) ?_
    exact kk S.1 N2 S.2 (some (.int r)) (some (.int v)) j3
theorem arm_write (E : zE p s m args meth c code 7 "ZoneHeapLaw" D zcl (ztys cA) A) (hX : va_X bs n xs s s.heap) (hb : bs < s.heap.size) (hbA : ¬ A bs) (hk : 3 * k + 3 ≤ n) (hn : n ≤ 1536) (hcf : cells + 1 ≤ 1046 ∧ slots + 6 ≤ 28220) (hJ : LOW l D cA a b k M0 N0 (xs (3 * k + 1)) (xs (3 * k + 2))) (kk : ∀ (M' N' : zmem) (f' : Nat → Int64) (u5 u6 : Option Value), LI M' N' (k + 1) → ZW p l e room_1 s m args below meth c 7 D zcl A (wl a b cA o) (cells + 1) (slots + 6) Q 637 [some (.ref bs), some (.ref (a 0)), some (.ref (b 0)), some (.ref o), some (.int (nI (3 * k))), u5, u6] [] (M', N', f')) : ZW p l e room_1 s m args below meth c 7 D zcl A (wl a b cA o) cells slots Q 384 [some (.ref bs), some (.ref (a 0)), some (.ref (b 0)), some (.ref o), some (.int (nI (3 * k))), u5, u6] [] (M0, N0, f0) := by
  obtain ⟨p1, p2, hW, hM, hj⟩ := hJ
  refine z_aload_n E 1 d_L_law_384 rfl rfl ?_
  refine z_aload_n E 0 d_L_law_385 rfl rfl ?_
  refine z_iload E d_L_law_386 rfl ?_
  refine z_iconst E (v := nI 1) d_L_law_388 (by decide) ?_
  refine z_iadd E d_L_law_389 ?_
  refine z_sld E hX hb hbA (3 * k + 1) (nI_add _ _) (by omega) hn d_L_law_390 ?_
  refine z_aload_n E 0 d_L_law_391 rfl rfl ?_
  refine z_iload E d_L_law_392 rfl ?_
  refine z_iconst E (v := nI 2) d_L_law_394 (by decide) ?_
  refine z_iadd E d_L_law_395 ?_
  refine z_sld E hX hb hbA (3 * k + 2) (nI_add _ _) (by omega) hn d_L_law_396 ?_
  refine zf_callW E (n := 3) [.ref (a 0), .int (xs (3 * k + 1)), .int (xs (3 * k + 2))] hW kw_L_72 ⟨by decide +kernel, by decide +kernel, by decide +kernel⟩ (Wr := mw b cA N0 ++ [(o, .inl (cA 3, 1, .inr (.inl f0)))]) [0, 1, 2, 3, 4, 5, 6, 7, 8] [9, 10, 11, 12, 13, 14, 15, 16, 17] [9, 10, 11, 12, 13, 14, 15, 16, 17, 0, 1, 2, 3, 4, 5, 6, 7, 8] ⟨rfl, rfl, rfl, rfl, by decide⟩ (fun S => (S, N0, f0)) (fun S => ⟨rfl, rfl⟩) rfl rfl ⟨(Nat.le_of_ble_eq_true rfl), (Nat.le_of_ble_eq_true rfl)⟩ (Nat.le_of_ble_eq_true rfl) hcf d_L_law_397 (fun r S h1 => ?_)
  refine z_istore E d_L_law_400 (by decide) ?_
  refine z_aload_n E 2 d_L_law_402 rfl rfl ?_
  refine z_aload_n E 0 d_L_law_403 rfl rfl ?_
  refine z_iload E d_L_law_404 rfl ?_
  refine z_iconst E (v := nI 1) d_L_law_406 (by decide) ?_
  refine z_iadd E d_L_law_407 ?_
  refine z_sld E hX hb hbA (3 * k + 1) (nI_add _ _) (by omega) hn d_L_law_408 ?_
  refine z_aload_n E 0 d_L_law_409 rfl rfl ?_
  refine z_iload E d_L_law_410 rfl ?_
  refine z_iconst E (v := nI 2) d_L_law_412 (by decide) ?_
  refine z_iadd E d_L_law_413 ?_
  refine z_sld E hX hb hbA (3 * k + 2) (nI_add _ _) (by omega) hn d_L_law_414 ?_
  refine zf_callv E [.int (xs (3 * k + 1)), .int (xs (3 * k + 2))] hM kv_L_75 (Wr := zw a cA S ++ [(o, .inl (cA 3, 1, .inr (.inl f0)))]) [9, 10, 11, 12, 13, 14, 15, 16] [0, 1, 2, 3, 4, 5, 6, 7, 8, 17] [0, 1, 2, 3, 4, 5, 6, 7, 8, 10, 11, 12, 13, 14, 15, 16, 17, 9] ⟨rfl, rfl, rfl, rfl, by decide⟩ (fun N1 => (S, N1, f0)) (fun N1 => ⟨rfl, rfl⟩) 9 rfl rfl rfl rfl ⟨(Nat.le_of_ble_eq_true rfl), (Nat.le_of_ble_eq_true rfl)⟩ (Nat.le_of_ble_eq_true rfl) hcf d_L_law_415 (fun N1 h2 => ?_)
  refine z_aload_n E 2 d_L_law_418 rfl rfl ?_
  refine zf_calli E [] (c_thrown l D cA b N1) kv_L_55 (Wr := zw a cA S ++ [(o, .inl (cA 3, 1, .inr (.inl f0)))]) [9, 10, 11, 12, 13, 14, 15, 16] [0, 1, 2, 3, 4, 5, 6, 7, 8, 17] [0, 1, 2, 3, 4, 5, 6, 7, 8, 10, 11, 12, 13, 14, 15, 16, 17, 9] ⟨rfl, rfl, rfl, rfl, by decide⟩ (fun N1 => (S, N1, f0)) (fun N1 => ⟨rfl, rfl⟩) 9 rfl rfl rfl rfl ⟨(Nat.le_of_ble_eq_true rfl), (Nat.le_of_ble_eq_true rfl)⟩ (Nat.le_of_ble_eq_true rfl) hcf d_L_law_419 (fun t N2 h3 => ?_)
  obtain ⟨rfl, rfl⟩ := h3
  obtain ⟨j1, j3⟩ := hj r S N2 h1 h2
  refine z_iload E d_L_law_422 rfl ?_
  refine z_icmp_eq E 429 d_L_law_424 (by decide) (fun _ => ?_) (fun hne => absurd j1 hne)
  refine z_goto E 637 d_L_law_429 (by decide) ?_
  exact kk S N2 f0 (some (.int r)) u6 j3
theorem arm_lost (E : zE p s m args meth c code 7 "ZoneHeapLaw" D zcl (ztys cA) A) (hX : va_X bs n xs s s.heap) (hb : bs < s.heap.size) (hbA : ¬ A bs) (hk : 3 * k + 3 ≤ n) (hn : n ≤ 1536) (hcf : cells + 1 ≤ 1046 ∧ slots + 6 ≤ 28220) (hL : LI M0 N0 k) (kk : ∀ (M' N' : zmem) (f' : Nat → Int64) (u5 u6 : Option Value), LI M' N' (k + 1) → ZW p l e room_1 s m args below meth c 7 D zcl A (wl a b cA o) (cells + 1) (slots + 6) Q 637 [some (.ref bs), some (.ref (a 0)), some (.ref (b 0)), some (.ref o), some (.int (nI (3 * k))), u5, u6] [] (M', N', f')) : ZW p l e room_1 s m args below meth c 7 D zcl A (wl a b cA o) cells slots Q 488 [some (.ref bs), some (.ref (a 0)), some (.ref (b 0)), some (.ref o), some (.int (nI (3 * k))), u5, u6] [] (M0, N0, f0) := by
  obtain ⟨p1, p2, hW, hM, hj⟩ := L_lost (l := l) (D := D) (cA := cA) (a := a) (b := b) hL (xs (3 * k + 1)) (xs (3 * k + 2))
  refine z_aload_n E 1 d_L_law_488 rfl rfl ?_
  refine z_aload_n E 0 d_L_law_489 rfl rfl ?_
  refine z_iload E d_L_law_490 rfl ?_
  refine z_iconst E (v := nI 1) d_L_law_492 (by decide) ?_
  refine z_iadd E d_L_law_493 ?_
  refine z_sld E hX hb hbA (3 * k + 1) (nI_add _ _) (by omega) hn d_L_law_494 ?_
  refine z_aload_n E 0 d_L_law_495 rfl rfl ?_
  refine z_iload E d_L_law_496 rfl ?_
  refine z_iconst E (v := nI 2) d_L_law_498 (by decide) ?_
  refine z_iadd E d_L_law_499 ?_
  refine z_sld E hX hb hbA (3 * k + 2) (nI_add _ _) (by omega) hn d_L_law_500 ?_
  refine zf_calli E [.int (xs (3 * k + 1)), .int (xs (3 * k + 2))] hW kv_L_79 (Wr := mw b cA N0 ++ [(o, .inl (cA 3, 1, .inr (.inl f0)))]) [0, 1, 2, 3, 4, 5, 6, 7, 8] [9, 10, 11, 12, 13, 14, 15, 16, 17] [9, 10, 11, 12, 13, 14, 15, 16, 17, 0, 1, 2, 3, 4, 5, 6, 7, 8] ⟨rfl, rfl, rfl, rfl, by decide⟩ (fun S => (S, N0, f0)) (fun S => ⟨rfl, rfl⟩) 0 rfl rfl rfl rfl ⟨(Nat.le_of_ble_eq_true rfl), (Nat.le_of_ble_eq_true rfl)⟩ (Nat.le_of_ble_eq_true rfl) ⟨by show cells + 0 ≤ 1046; omega, by show slots + 0 ≤ 28220; omega⟩ d_L_law_501 (fun r S h1 => ?_)
  refine z_aload_n E 2 d_L_law_504 rfl rfl ?_
  refine z_aload_n E 0 d_L_law_505 rfl rfl ?_
  refine z_iload E d_L_law_506 rfl ?_
  refine z_iconst E (v := nI 1) d_L_law_508 (by decide) ?_
  refine z_iadd E d_L_law_509 ?_
  refine z_sld E hX hb hbA (3 * k + 1) (nI_add _ _) (by omega) hn d_L_law_510 ?_
  refine z_aload_n E 0 d_L_law_511 rfl rfl ?_
  refine z_iload E d_L_law_512 rfl ?_
  refine z_iconst E (v := nI 2) d_L_law_514 (by decide) ?_
  refine z_iadd E d_L_law_515 ?_
  refine z_sld E hX hb hbA (3 * k + 2) (nI_add _ _) (by omega) hn d_L_law_516 ?_
  refine zf_calli E [.int (xs (3 * k + 1)), .int (xs (3 * k + 2))] hM kv_L_82 (Wr := zw a cA S ++ [(o, .inl (cA 3, 1, .inr (.inl f0)))]) [9, 10, 11, 12, 13, 14, 15, 16] [0, 1, 2, 3, 4, 5, 6, 7, 8, 17] [0, 1, 2, 3, 4, 5, 6, 7, 8, 10, 11, 12, 13, 14, 15, 16, 17, 9] ⟨rfl, rfl, rfl, rfl, by decide⟩ (fun N1 => (S, N1, f0)) (fun N1 => ⟨rfl, rfl⟩) 9 rfl rfl rfl rfl ⟨(Nat.le_of_ble_eq_true rfl), (Nat.le_of_ble_eq_true rfl)⟩ (Nat.le_of_ble_eq_true rfl) ⟨by show cells + 0 + 0 ≤ 1046; omega, by show slots + 0 + 0 ≤ 28220; omega⟩ d_L_law_517 (fun v N1 h2 => ?_)
  obtain ⟨j1, j3⟩ := hj r v S N1 h1 h2
  refine z_icmp_eq E 637 d_L_law_520 (by decide) (fun _ => ?_) (fun hne => absurd j1 hne)
  exact z_widen (k := cells + 1) (n := slots + 6) (by show cells + 0 + 0 ≤ cells + 1; omega) (by show slots + 0 + 0 ≤ slots + 6; omega) (kk S N1 f0 u5 u6 j3)
end ZA
end
section
/-! THE CLAIM OUT OF ONE WALK OF THE LAW'S BODY. Your part is whole_start (and what it stands on); all else here is the same for every law, but numbers. -/
def R_law : String := "ZoneHeapLaw"
def lw_P (b : Addr) (xs : List Int32) (args : Array Value) (s : State) : Prop := args = #[.ref b] ∧ s.IntsAt b xs ∧ xs.length ≤ 1536 ∧ (Jvm.Cond.and given_1 narrow_1).before args s = true
def lw_Q (_ : Array Value) (s : State) (o : Outcome) (t : State) : Prop := o = .returned (some (.int 1)) ∧ Framed s o t [] 1046 28220
def lw_Z (below : List Frame) (a : Array Value) (s : State) : State → Prop := fun t => ∃ o, t.status = .running ∧ Ended t below o ∧ lw_Q a s o t
/-- the law's own end, with 1 on the stack, nothing written that was there before, its room as the claim has it -/
theorem lw_ret {p : Program} {l : Launch} {e : Env} {s : State} {m : MethodId} {below : List Frame} {meth : Method} {c : Code} {b : Nat} (hx : p.tables.exec = Jvm.exec) (hb : c.code = code) (hr : meth.sig.returnType = ret) (hlocks : meth.locks = false) {pc : Nat} {H : Heap} {ls : Array Slot} (hdg : decode code pc = .ok (.ireturn, 1)) : W p l e room_1 s m #[Value.ref b] below meth c H [] 1046 28220 (lw_Z below #[Value.ref b] s) (F0 m pc ls [.int 1]) := by
  intro T hT X
  obtain ⟨fs, hret, hrun, hended, hW, hframe⟩ := X.leave (v := some (.int 1)) (hlocks := hlocks) (fun h => by rw [hr] at h; cases h)
  have hmeth' : T.vm.method? m = some meth := X.method'
  refine ⟨T.setFrames fs, ?_, .returned (some (.int 1)), hrun, hended, rfl, ⟨_, rfl⟩, hW, hframe⟩
  jvm_step X.here [X.here.top, hx, hb, hdg, hmeth', hr, ret, narrow_b1]
  (try refine ⟨rfl, ?_⟩); (try refine ⟨rfl, ?_⟩)
  first | (intro acts; rw [hret _ acts rfl rfl rfl]) | rw [hret _ _ rfl rfl rfl]
  exact Steps.refl _
/-- what holds at the law's entry: the machine, the code, the tables' words (any of lw_tbl by 'hts w (by decide +kernel)'), the script of L ints xs at the cell b, what the Statement gives of the start (any of its parts by flat_of_before) -/
def lw_At (p : Program) (s : State) (m : MethodId) (meth : Method) (c : Code) (b L : Nat) (xs : Nat → Int32) : Prop :=
  p.tables.exec = Jvm.exec ∧ c.code = code ∧ meth.sig.returnType = ret ∧ c.maxLocals = 7 ∧ s.vm.findClass R_law = some m.cls ∧ (∀ w ∈ lw_tbl, w.before #[Value.ref b] s = true) ∧ va_X b L xs s s.heap ∧ b < s.heap.size ∧ meth.locks = false ∧ (Jvm.Cond.and given_1 narrow_1).before #[Value.ref b] s = true
section ZLaw
variable {p : Program} {l : Launch} {e : Env} {s : State} {m : MethodId} {below : List Frame} {meth : Method} {c : Code} {cells slots : Nat}
variable {D : va_G} {cl : List vw_C} {A : Nat → Prop} {σ : Type} {w : σ → va_W} {pc : Nat} {L : List (Option Value)} {M : σ}
variable {a b : Nat → Nat} {cA : Nat → ClassId} {o bs n : Nat} {xs : Nat → Int32}
theorem z_lret (hx : p.tables.exec = Jvm.exec) (hb : c.code = code) (hr : meth.sig.returnType = ret) (hlocks : meth.locks = false) (hA : ∀ q : Nat, A q → s.heap.size ≤ q) (h1 : cells ≤ 1046) (h2 : slots ≤ 28220) (hd : decode code pc = .ok (.ireturn, 1)) : ZW p l e room_1 s m #[Value.ref bs] below meth c 7 D cl A w cells slots (lw_Z below #[Value.ref bs] s) pc L [.int 1] M :=
  fun H locs ls a1 a2 a3 a4 => va_forget (fun q hq => hA _ (a3.2.2 q hq)) (W.widen h1 h2 (lw_ret hx hb hr hlocks hd))
/-- one turn of the law's loop -/
theorem law_step (E : zE p s m #[Value.ref bs] meth c code 7 "ZoneHeapLaw" D zcl (ztys cA) A) (hfl : l.flags = flags0) (hr : meth.sig.returnType = ret) (hA : ∀ q : Nat, A q → s.heap.size ≤ q) (hX : va_X bs n xs s s.heap) (hb : bs < s.heap.size) (hbA : ¬ A bs) (hn : n ≤ 1536) (k : Nat) (hk3 : 3 * k ≤ n) (M N : zmem) (f : Nat → Int64) (u5 u6 : Option Value) (hL : LI M N k)
    (IH : 3 * k + 3 ≤ n → ∀ (M' N' : zmem) (f' : Nat → Int64) (u5 u6 : Option Value), LI M' N' (k + 1) → ZW p l e room_1 s m #[Value.ref bs] below meth c 7 D zcl A (wl a b cA o) (18 + (k + 1)) (20004 + 6 * (k + 1)) (lw_Z below #[Value.ref bs] s) 23 [some (.ref bs), some (.ref (a 0)), some (.ref (b 0)), some (.ref o), some (.int (nI (3 * (k + 1)))), u5, u6] [] (M', N', f')) :
    ZW p l e room_1 s m #[Value.ref bs] below meth c 7 D zcl A (wl a b cA o) (18 + k) (20004 + 6 * k) (lw_Z below #[Value.ref bs] s) 23 [some (.ref bs), some (.ref (a 0)), some (.ref (b 0)), some (.ref o), some (.int (nI (3 * k))), u5, u6] [] (M, N, f) := by
  refine z_iload E d_L_law_23 rfl ?_
  refine z_aload_n E 0 d_L_law_25 rfl rfl ?_
  refine z_slen E hX hb hbA d_L_law_26 ?_
  refine z_iconst E (v := nI 3) d_L_law_27 (by decide) ?_
  refine z_isub E d_L_law_28 ?_
  refine z_icmp_gt E 643 d_L_law_29 (by decide) (fun _ => ?_) (fun h29 => ?_)
  · refine z_iconst E (v := (1 : Int32)) d_L_law_643 (by decide) ?_
    exact z_lret E.1 E.2.1 hr E.2.2.2.2.2.2.2.1 hA (by omega) (by omega) d_L_law_644
  rw [Int32.lt_iff_toInt_lt, pk_sub_toInt (by omega) (by omega), nI_toInt (by omega)] at h29
  have hk : 3 * k + 3 ≤ n := by omega
  have NX : ∀ (M' N' : zmem) (f' : Nat → Int64) (u5 u6 : Option Value), LI M' N' (k + 1) → ZW p l e room_1 s m #[Value.ref bs] below meth c 7 D zcl A (wl a b cA o) (18 + k + 1) (20004 + 6 * k + 6) (lw_Z below #[Value.ref bs] s) 637 [some (.ref bs), some (.ref (a 0)), some (.ref (b 0)), some (.ref o), some (.int (nI (3 * k))), u5, u6] [] (M', N', f') := by
    intro M' N' f' u5 u6 hL'
    refine z_iinc E (v := nI (3 * (k + 1))) d_L_law_637 rfl (nI_add (3 * k) 3) (by decide) ?_
    refine z_goto E 23 d_L_law_640 (by decide) ?_
    exact IH hk M' N' f' u5 u6 hL'
  have hcf : 18 + k + 1 ≤ 1046 ∧ 20004 + 6 * k + 6 ≤ 28220 := by omega
  refine z_aload_n E 0 d_L_law_32 rfl rfl ?_
  refine z_iload E d_L_law_33 rfl ?_
  refine z_sld E hX hb hbA (3 * k) rfl (by omega) hn d_L_law_35 ?_
  refine z_bipush E (v := nI 15) d_L_law_36 (by decide) ?_
  refine z_iand E d_L_law_38 ?_
  obtain ⟨j, hj, ej⟩ := pk_andE (xs (3 * k)) (m := nI 15) 4 (by decide)
  refine z_top ej ?_
  rcases (by omega : j = 0 ∨ j = 1 ∨ j = 2 ∨ j = 3 ∨ j = 4 ∨ j = 5 ∨ j = 6 ∨ j = 7 ∨ j = 8 ∨ j = 9 ∨ 10 ≤ j) with rfl | rfl | rfl | rfl | rfl | rfl | rfl | rfl | rfl | rfl | hj10
  · refine z_tableIn E (off := 53) 92 d_L_law_39 (by decide) (by decide) (by decide) (by decide) ?_
    exact arm_get E hX hb hbA hk hn hcf (L_get hfl hL _) NX
  · refine z_tableIn E (off := 109) 148 d_L_law_39 (by decide) (by decide) (by decide) (by decide) ?_
    exact arm_back E hX hb hbA hk hn hcf (L_back hfl (by omega) hL _) NX
  · refine z_tableIn E (off := 165) 204 d_L_law_39 (by decide) (by decide) (by decide) (by decide) ?_
    exact arm_again E hX hb hbA hk hn hcf (L_again hfl (by omega) hL _ _) NX
  · refine z_tableIn E (off := 233) 272 d_L_law_39 (by decide) (by decide) (by decide) (by decide) ?_
    exact arm_kind E hX hb hbA hk hn hcf (L_kind hfl hL _) NX
  · refine z_tableIn E (off := 289) 328 d_L_law_39 (by decide) (by decide) (by decide) (by decide) ?_
    exact arm_block E hX hb hbA hk hn hcf (L_block hfl hL _) NX
  · refine z_tableIn E (off := 345) 384 d_L_law_39 (by decide) (by decide) (by decide) (by decide) ?_
    exact arm_write E hX hb hbA hk hn hcf (L_write hfl hL _ _) NX
  · refine z_tableIn E (off := 393) 432 d_L_law_39 (by decide) (by decide) (by decide) (by decide) ?_
    exact arm_read E hX hb hbA hk hn hcf (L_read hfl hL _) NX
  · refine z_tableIn E (off := 449) 488 d_L_law_39 (by decide) (by decide) (by decide) (by decide) ?_
    exact arm_lost E hX hb hbA hk hn hcf hL NX
  · refine z_tableIn E (off := 486) 525 d_L_law_39 (by decide) (by decide) (by decide) (by decide) ?_
    exact arm_lostAt E hX hb hbA hk hn hcf (L_lostAt hfl hL _) NX
  · refine z_tableIn E (off := 542) 581 d_L_law_39 (by decide) (by decide) (by decide) (by decide) ?_
    exact arm_count E hX hb hbA hk hn hcf (L_count hfl hL _) NX
  · refine z_tableOut E 637 d_L_law_39 (Or.inr (by rw [nI_toInt (by omega)]; omega)) (by decide) ?_
    exact z_widen (k := 18 + k + 1) (n := 20004 + 6 * k + 6) (by omega) (by omega) (NX M N f u5 u6 (hL.more (by omega)))
theorem law_loop (E : zE p s m #[Value.ref bs] meth c code 7 "ZoneHeapLaw" D zcl (ztys cA) A) (hfl : l.flags = flags0) (hr : meth.sig.returnType = ret) (hA : ∀ q : Nat, A q → s.heap.size ≤ q) (hX : va_X bs n xs s s.heap) (hb : bs < s.heap.size) (hbA : ¬ A bs) (hn : n ≤ 1536) : ∀ (F k : Nat), n ≤ 3 * k + F → 3 * k ≤ n → ∀ (M N : zmem) (f : Nat → Int64) (u5 u6 : Option Value), LI M N k →
    ZW p l e room_1 s m #[Value.ref bs] below meth c 7 D zcl A (wl a b cA o) (18 + k) (20004 + 6 * k) (lw_Z below #[Value.ref bs] s) 23 [some (.ref bs), some (.ref (a 0)), some (.ref (b 0)), some (.ref o), some (.int (nI (3 * k))), u5, u6] [] (M, N, f) := by
  intro F
  induction F with
  | zero => exact fun k h1 h2 M N f u5 u6 hL => law_step E hfl hr hA hX hb hbA hn k h2 M N f u5 u6 hL (fun h3 => by omega)
  | succ F ih => exact fun k h1 h2 M N f u5 u6 hL => law_step E hfl hr hA hX hb hbA hn k h2 M N f u5 u6 hL (fun h3 => ih (k + 1) (by omega) (by omega))
theorem z_conv {W0 : va_W} {Q : State → Prop} {st : List Value} (h : W0 = w M) (k : ZW p l e room_1 s m #[Value.ref bs] below meth c 7 D cl A w cells slots Q pc L st M) : ZW p l e room_1 s m #[Value.ref bs] below meth c 7 D cl A (fun x : va_W => x) cells slots Q pc L st W0 := by
  subst h
  exact k
end ZLaw
/-- from the entry, for every script of at most 1536 ints, the law comes to its end with true -/
theorem whole_start {p : Program} {e : Env} {s : State} {m : MethodId} {below : List Frame} {meth : Method} {c : Code} (l : Launch) (hfl : l.flags = flags0) {b L : Nat} {xs : Nat → Int32} (hL : L ≤ 1536) (C0 : lw_At p s m meth c b L xs) : W p l e room_1 s m #[Value.ref b] below meth c s.heap [] 0 0 (lw_Z below #[Value.ref b] s) (entryFrame m ([Value.ref b] : List Value).toArray 7) := by
  obtain ⟨hx, hb, hr, hml, hown, hts, hX, hbl, hlocks, hgv⟩ := C0
  have htz : ∀ w ∈ zT, w.before #[Value.ref b] s = true := fun w hw => hts w (List.mem_filter.mp hw).1
  obtain ⟨D, cA, hK⟩ := z_K0 htz
  have E : zE p s m #[Value.ref b] meth c code 7 "ZoneHeapLaw" D zcl (ztys cA) (fun q => s.heap.size ≤ q) := ⟨hx, hb, hml, hown, htz, hK, fun q h => h, hlocks, zZ_start hts hgv (fun q h h2 => by omega), fun q cell h hc => absurd (Array.getElem?_eq_some_iff.mp hc).1 (by omega)⟩
  rw [lg_entry_eq]
  refine (?_ : ZW p l e room_1 s m #[Value.ref b] below meth c 7 D zcl (fun q => s.heap.size ≤ q) (fun x : va_W => x) 0 0 (lw_Z below #[Value.ref b] s) 0 [some (.ref b), none, none, none, none, none, none] [] []) s.heap [] _ (fun k q hk => by simp at hk) ⟨(fun i j x y hi => by simp at hi), (fun k q hk => by simp at hk)⟩ va_S.rf (zl.entry [.ref b] (Nat.le_of_ble_eq_true rfl) (by intro v hv; rcases List.mem_cons.mp hv with rfl | hv; rfl; cases hv))
  refine z_new E in_Z t_Z t_Z_ok (zT_in 34 (by decide +kernel) (by decide +kernel)) (zT_in 35 (by decide +kernel) (by decide +kernel)) (in_init _ (Or.inl rfl)) (ci := 0) rfl zf0 (by decide) (Nat.le_of_ble_eq_true rfl) (Nat.le_of_ble_eq_true rfl) d_L_law_0 (fun q => ⟨_, rfl, ?_⟩)
  refine z_dup E d_L_law_3 rfl ?_
  refine zf_callI E [] (c_Z_init l D cA q) ki_L_45 (Wr := []) [0] [] ⟨rfl, rfl, rfl, rfl, by decide⟩ rfl rfl ⟨Nat.le_of_ble_eq_true rfl, Nat.le_of_ble_eq_true rfl⟩ (Nat.le_of_ble_eq_true rfl) ⟨Nat.le_of_ble_eq_true rfl, Nat.le_of_ble_eq_true rfl⟩ d_L_law_4 (fun W1 h1 => ?_)
  obtain ⟨a, rfl, rfl⟩ := h1
  refine ⟨zw a cA zero, [0, 1, 2, 3, 4, 5, 6, 7, 8], ⟨rfl, rfl⟩, ?_⟩
  refine z_astore_n E 1 d_L_law_7 rfl (by decide) ?_
  refine z_new E in_M t_M t_M_ok (zT_in 317 (by decide +kernel) (by decide +kernel)) (zT_in 318 (by decide +kernel) (by decide +kernel)) (in_init _ (Or.inr (Or.inl rfl))) (ci := 1) rfl mf0 (by decide) (Nat.le_of_ble_eq_true rfl) (Nat.le_of_ble_eq_true rfl) d_L_law_8 (fun q => ⟨_, rfl, ?_⟩)
  refine z_dup E d_L_law_11 rfl ?_
  refine zf_callI E [] (c_M_init l D cA q) ki_L_48 (Wr := zw a cA zero) [9] [0, 1, 2, 3, 4, 5, 6, 7, 8] ⟨rfl, rfl, rfl, rfl, by decide⟩ rfl rfl ⟨Nat.le_of_ble_eq_true rfl, Nat.le_of_ble_eq_true rfl⟩ (Nat.le_of_ble_eq_true rfl) ⟨Nat.le_of_ble_eq_true rfl, Nat.le_of_ble_eq_true rfl⟩ d_L_law_12 (fun W1 h1 => ?_)
  obtain ⟨a2, rfl, rfl⟩ := h1
  refine ⟨zw a cA zero ++ mw a2 cA zero, [0, 1, 2, 3, 4, 5, 6, 7, 8, 9, 10, 11, 12, 13, 14, 15, 16], ⟨rfl, rfl⟩, ?_⟩
  refine z_astore_n E 2 d_L_law_15 rfl (by decide) ?_
  refine z_iconst E (v := nI 1) d_L_law_16 (by decide) ?_
  refine z_newa E (atype := .long) rfl ar_long 3 rfl (fun _ _ => rfl) 1 (1, .inr (.inl (fun _ => 0))) (ce_long 1) (by decide) (by decide) (by decide) (Nat.le_of_ble_eq_true rfl) (Nat.le_of_ble_eq_true rfl) d_L_law_17 (fun o => ⟨_, rfl, ?_⟩)
  refine z_astore_n E 3 d_L_law_19 rfl (by decide) ?_
  refine z_iconst E (v := nI (3 * 0)) d_L_law_20 (by decide) ?_
  refine z_istore E d_L_law_21 (by decide) ?_
  refine z_conv (w := wl a a2 cA o) (M := (zero, zero, fun _ => 0)) rfl ?_
  exact law_loop E hfl hr (fun q h => h) hX hbl (fun h => by omega) hL L 0 (by omega) (by omega) zero zero (fun _ => 0) none none LI_0
set_option maxHeartbeats 4000000 in
theorem lw_walk (l : Launch) (hfl : l.flags = flags0) (b : Addr) (xs : List Int32) : MetFree l x (headSpec (Jvm.Cond.code x code maxLocals ret :: tables_1) room_1) (lw_P b xs) (fun _ _ _ _ _ => True) lw_Q := by
  refine MetFree.of_bodyS (code := code) (maxLocals := maxLocals) (ret := ret) (by decide) ?_ ?_
  · intro args s m h hn
    obtain ⟨meth, c, h1, h2, h3, h4, h5, h6, -, -⟩ := Cond.code_spec hn (atoms_spec (ws := Jvm.Cond.code x code maxLocals ret :: tables_1) h _ List.mem_cons_self)
    exact ⟨meth, c, h1, h2, h3, h4, h5, h6⟩
  · intro p e s m args below meth c s₁ B hml0 hP _
    obtain ⟨rfl, hx, hbd, hgv⟩ := hP
    obtain ⟨scr, harrAt, hlist, hof, hsmall⟩ := hx
    obtain ⟨hcb, hkn, -, -⟩ := State.arrayAt?_spec harrAt
    have hown : s.vm.findClass R_law = some m.cls := findClass_of_methodNamed B.named
    have hts0 : ∀ c ∈ (Jvm.Cond.code x code maxLocals ret :: tables_1), c.before #[Value.ref b] s = true := atoms_spec (ws := Jvm.Cond.code x code maxLocals ret :: tables_1) B.pre
    have hts : ∀ w ∈ lw_tbl, w.before #[Value.ref b] s = true := k2_hts_sels lw_privs (fun w hw => hts0 w (List.mem_cons_of_mem _ hw)) lw_privs_ok
    have hml : c.maxLocals = 7 := B.maxLocals_eq (hts0 _ List.mem_cons_self)
    have X₀ : Stand p l e room_1 s m #[Value.ref b] below meth c s₁ [] 0 0 := Stand.of_body B
    have hh0 : s₁.heap = s.heap := by rw [B.state]; rfl
    have hsz : scr.slots.size = xs.length := by rw [← Array.length_toList, hlist, List.length_map]
    have hval : ∀ j : Nat, j < xs.length → scr.slots[j]? = some (.int (xs.getD j 0)) := fun j hj => by
      rw [← Array.getElem?_toList, hlist]
      simp [hj]
    have hbl : b < s.heap.size := (Array.getElem?_eq_some_iff.mp hcb).1
    have hX : va_X b xs.length (fun j => xs.getD j 0) s s.heap := ⟨scr, hcb, hof, hkn, hsz, hval⟩
    have K : W p l e room_1 s m #[Value.ref b] below meth c s₁.heap [] 0 0 (lw_Z below #[Value.ref b] s) (entryFrame m ([Value.ref b] : List Value).toArray 7) := by
      rw [hh0]
      exact whole_start l hfl hbd ⟨B.exec, B.bytes, B.returns, hml, hown, hts, hX, hbl, B.notSynchronized, hgv⟩
    obtain ⟨t, a1, o, b1, b2, b3⟩ := K s₁ rfl X₀
    exact ⟨t, o, a1, b1, b2, b3⟩
theorem lw_pre_spec {args : Array Value} {s : State} (h : (Jvm.Cond.and given_1 narrow_1).before args s = true) (hr : rest_1_c.before args s = true) : ∃ (b : Addr) (xs : List Int32), lw_P b xs args s := by
  have hs := flat_of_before _ h
  have hq := flat_of_before _ hr
  have hc : (Cond.count 1).before args s = true := hs _ (by decide +kernel)
  have harr : (Cond.arrayOf (.arg 0) .int).before args s = true := hs _ (by decide +kernel)
  have hle : (Cond.le (.length (.arg 0)) (.int 1536)).before args s = true := hs _ (by decide +kernel)
  have hlen : (Cond.isInt (.length (.arg 0))).before args s = true := hq _ (by decide +kernel)
  have hall : (Cond.all (.arg 0) (.isInt (.elem (.arg 0) (.index 0)))).before args s = true := hq _ (by decide +kernel)
  obtain ⟨b, xs, hb, hx⟩ := State.ints_of_pre rfl harr hlen hall
  have hsm : xs.length < 2 ^ 31 := hx.choose_spec.2.2.2
  have hev : (Term.length (.arg 0)).eval args s none [] s = some (.int xs.length.toInt32) := hx.length_eval hb
  have hv := Cond.le_ints hev (show (Term.int 1536).eval args s none [] s = some (.int 1536) from rfl)
  have hd : xs.length.toInt32 ≤ 1536 := by
    simpa [Cond.before, Cond.holds, hv] using hle
  have hN : xs.length ≤ 1536 := (Int32.ofNat_le_ofNat hsm (by decide)).mp (show Int32.ofNat xs.length ≤ Int32.ofNat 1536 from hd)
  exact ⟨b, xs, Cond.one_arg hc (show args[0]? = some (.ref b) from hb), hx, hN, h⟩
theorem lw_comes (l : Launch) (hfl : l.flags = flags0) : Comes l x (Jvm.Cond.code x code maxLocals ret :: tables_1) room_1 (fun tb e args s => Calls_1 tb e args s ∧ rest_1 tb e args s ∧ Pre_1 tb e args s)
    (fun _ _ args s o t => lw_Q args s o t) := by
  intro p e ha hc hk s m args below hf hfit hheap happ hpre
  obtain ⟨b, xs, hP⟩ := lw_pre_spec hpre.2.2 hpre.2.1
  obtain ⟨k, o, h1, h2, h3, hQ⟩ := lw_walk l hfl b xs p e ha hc hk s m args below hf ((Spec.applies_iff_loose hf).mp happ).1 hP trivial
  exact ⟨k, o, h1, h2, h3, hQ⟩
theorem lw_frame {s t : State} {o : Outcome} {args : Array Value} (h : Framed s o t [] 1046 28220) :
    Framed s o t (fieldLocs frame_1_writes args s ++ arrayLocs frame_1_arrays args s ++ staticLocs frame_1_statics s) 1046 28220 := h
theorem lw_limb (L : Cond) (hL : ∀ (args : Array Value) (s t : State), L.after args s (.returned (some (.int 1))) t = true) :
    ArmFor flags0 classFile x code maxLocals ret World_1 tables_1 room_1 Calls_1 rest_1 Pre_1
      (fun tb e a s o t => postC L tb e a s o t ∧ Framed s o t (fieldLocs frame_1_writes a s ++ arrayLocs frame_1_arrays a s ++ staticLocs frame_1_statics s) 1046 28220) := by
  intro l hfl _ _ p e ha hc hk s m args below hf hfit hheap happ hpre
  obtain ⟨k, o, h1, h2, h3, rfl, hF⟩ := lw_comes l hfl p e ha hc hk s m args below hf hfit hheap happ hpre
  exact ⟨k, _, h1, h2, h3, hL args s _, lw_frame hF⟩
theorem i_vc : Claimed_1_1 ∧ Claimed_1_2 := ⟨lw_limb limb_1_1 (fun args s t => by simp [limb_1_1, Cond.after, Cond.holds, Cond.value]), lw_limb limb_1_2 (fun args s t => Cond.after_iff.mpr (by
  first | (rw [show limb_1_2 = Cond.eq .result (.int 1) from rfl, Cond.eq_ints (x := 1) (y := 1) rfl rfl]; simp; done) | (simp [limb_1_2, Cond.value, Term.eval]; done)))⟩
end
