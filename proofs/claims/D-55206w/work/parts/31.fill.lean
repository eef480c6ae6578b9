/-! EXCEPTIONS OF OUR OWN: fillInStackTrace on an object of ours (no traces kept) -/
set_option maxRecDepth 100000
section GFILL
variable {p : Program} {l : Launch} {e : Env} {k B : Nat} {s : State} {m : MethodId} {args : Array Value} {below : List Frame} {meth : Method} {c : Code} {D : gD} {cc : ByteArray} {own : String} {nL : Nat} {rt : Option FieldType} {H : Heap} {locs : List Loc} {b : Nat} {Q : State → Prop} {G : gH} {n pc : Nat} {ls : Array Slot} {rest : List Value} {lv : List (Nat × Value)}
/-- what the bundle of Throwable asks for, out of the list -/
def gThW : List Cond := Bundle.throwableAtoms.filter vx_no
theorem g_slot {U : State} {C f d : String} {i : Nat} {cf : ClassId} {kf : Class} {fi : Nat} {fd : Field} (h : SlotIs U C f d i) (h2 : U.fieldFound? C f d = some (cf, kf, fi, fd)) : fd.slot = i := by
  obtain ⟨cf', kf', fi', fd', h3, h4⟩ := h
  cases h2.symm.trans h3
  exact h4
theorem g_thA : ∀ w ∈ gThW, w ∈ lw_all := by
  intro w hw
  obtain ⟨h1, h2⟩ := List.mem_filter.mp hw
  simp only [Bundle.throwableAtoms, List.mem_cons, List.not_mem_nil, or_false] at h1
  rcases h1 with h | h | h | h | h | h | h | h | h | h | h | h | h | h | h | h | h | h | h | h | h | h | h | h
  · rw [h]; exact q95
  · rw [h]; exact q521
  · rw [h]; exact q469
  · rw [h]; exact q481
  · rw [h]; exact q484
  · rw [h]; exact q486
  · rw [h]; exact q522
  · rw [h]; exact q523
  · rw [h]; exact q135
  · rw [h]; exact q136
  · rw [h]; exact q463
  · rw [h]; exact q468
  · rw [h]; exact q482
  · rw [h]; exact q489
  · rw [h]; exact q515
  · rw [h]; exact q490
  · rw [h]; exact q516
  · rw [h]; exact q491
  · rw [h]; exact q517
  · rw [h]; exact q464
  · rw [h] at h2; exact absurd h2 (by decide)
  · rw [h]; exact q466
  · rw [h] at h2; exact absurd h2 (by decide)
  · rw [h]; exact q518
theorem g_thr (C : gB p l s m args meth c D cc own nL rt) (hv0 : gv D 0 = .null ∨ ∃ t, gv D 0 = .ref t) (hv1 : gv D 1 = .null ∨ ∃ t, gv D 1 = .ref t) : ∀ w ∈ Bundle.throwableAtoms, w.before args s = true :=
  vx_own (fun w h => C.ts _ (g_thA w h)) (vx_isRefq (g_zq (i := 0) C.w (List.mem_of_getElem? (i := 12) rfl) hv0)) (vx_isRefq (g_zq (i := 0) C.w (List.mem_of_getElem? (i := 13) rfl) hv1)) C.w.2.2.2.2.2.1.1.word C.w.2.2.2.2.2.1.2.word
theorem g_fillRooms {V : State} {g : JFrame} {mF : MethodId} {a : Addr} {cell : Cell} (htop : V.topJava?.isSome) (hframes : V.frames.length + 2 < (e.platform.stackLimits V.me).1) (hwords : (stackUse (.java g :: V.frames.tail)).2 + 41 ≤ (e.platform.stackLimits V.me).2) :
    e.platform.stackFull (((V.setTop g).threads[(V.setTop g).cur]?).getD { frames := [] }) (V.setTop g).frames (1 + 2) = false ∧
    ∀ vm, e.platform.stackFull ((((fillInside (V.setVm vm) g mF a cell).setTop (fillJ mF a 16 [])).threads[((fillInside (V.setVm vm) g mF a cell).setTop (fillJ mF a 16 [])).cur]?).getD { frames := [] }) ((fillInside (V.setVm vm) g mF a cell).setTop (fillJ mF a 16 [])).frames (nativeFrameWords "java/lang/Throwable" "fillInStackTrace" 2) = false := by
  obtain ⟨g₀, hg⟩ := Option.isSome_iff_exists.mp htop
  obtain ⟨tl, htl⟩ := State.topJava?_eq_some.mp hg
  have hlen : V.frames.length = (Frame.java g :: V.frames.tail).length := by rw [htl]; rfl
  have hfg : (V.setTop g).frames = .java g :: V.frames.tail := by rw [State.frames_setTop _ htl, htl]; rfl
  have hlimg : e.platform.stackLimits (V.setTop g).me = e.platform.stackLimits V.me := State.stackLimits_setTop _ htop _
  refine ⟨roomAbove (pushed := []) (base := .java g :: V.frames.tail) (free := 41) hfg hlimg (by rw [← hlen]; simp only [List.length_nil]; omega) hwords (by simp only [stackUse_nil]; omega), fun vm => ?_⟩
  have htopE : ((V.setVm vm).setCell a (cell.withEntry (V.setVm vm).cur)).topJava?.isSome := htop
  have hfF : (fillInside (V.setVm vm) g mF a cell).frames = .java (entryFrameSync mF #[.ref a] 1 a) :: .java g :: V.frames.tail := frames_entered (g := g) htopE _
  have htopF : (fillInside (V.setVm vm) g mF a cell).topJava?.isSome := by rw [State.topJava?_of_frames hfF]; rfl
  have hlimF : e.platform.stackLimits (fillInside (V.setVm vm) g mF a cell).me = e.platform.stackLimits V.me := by
    rw [State.stackLimits_pushFrame, State.stackLimits_setTop _ htopE]; rfl
  have hw14 : (stackUse [Frame.java (fillJ mF a 16 [])]).2 = 14 := by
    rw [stackUse_java, stackUse_nil]
    simp [operandWords]
  exact roomAbove (pl := e.platform) (u := (fillInside (V.setVm vm) g mF a cell).setTop (fillJ mF a 16 [])) (vars := (nativeFrameWords "java/lang/Throwable" "fillInStackTrace" 2))
      (pushed := [.java (fillJ mF a 16 [])]) (base := .java g :: V.frames.tail) (free := 41) (State.frames_setTop _ hfF) (by rw [State.stackLimits_setTop _ htopF]; exact hlimF)
      (by rw [← hlen]; simp only [List.length_cons, List.length_nil]; omega) hwords (by rw [hw14]; decide)
set_option maxHeartbeats 2000000 in
theorem g_fill (C : gB p l s m args meth c D cc "java/lang/Throwable" nL rt) (hlt : l.stackTraces = false) (hv0 : gv D 0 = .null ∨ ∃ t, gv D 0 = .ref t) (hv1 : gv D 1 = .null ∨ ∃ t, gv D 1 = .ref t)
    (hI : gI D G n H) (hS : va_S (gA D) s.heap H locs) {a ci : Nat} {fs : List Value} {r : vw_C} (hq : G a = some (.inl (ci, fs))) (hc : gC[ci]? = some r) (ha : gz D ≤ a) (hl : lv_has ls nL lv)
    (hN : 5 < r.2.2) (hT1 : r.2.1 1 = ("java/lang/Throwable", "stackTrace", Bundle.steD, false)) (hT4 : r.2.1 4 = ("java/lang/Throwable", "backtrace", "Ljava/lang/Object;", false)) (hf1 : fs[1]? = some (gv D 0)) (hf4 : fs[4]? = some .null)
    (hsA : Cond.selects r.1 Bundle.tFill0 Bundle.tFill0 ∈ lw_all) (hsB : Cond.selects r.1 Bundle.tFill Bundle.tFill ∈ lw_all) (hlS : Cond.lays r.1 Bundle.tN "stackTrace" Bundle.steD ∈ lw_all)
    (hl198 : Cond.fieldLink Bundle.tN 198 Bundle.tN "backtrace" "Ljava/lang/Object;" ∈ lw_all) (hlB : Cond.lays r.1 Bundle.tN "backtrace" "Ljava/lang/Object;" ∈ lw_all) (hlB2 : Cond.lays Bundle.tN Bundle.tN "backtrace" "Ljava/lang/Object;" ∈ lw_all)
    (hdg : decode cc pc = .ok (.invokevirtual 27, 3)) (hk : 12 ≤ k) (hr : rest.length ≤ 8)
    (kk : ∀ (H1 : Heap) (locs1 : List Loc), gI D G n H1 → va_S (gA D) s.heap H1 locs1 → W p l e (gR k B) s m args below meth c H1 locs1 b (200 * b) Q (F0 m (pc + 3) ls (.ref a :: rest))) :
    W p l e (gR k B) s m args below meth c H locs b (200 * b) Q (F0 m pc ls (.ref a :: rest)) := by
  intro W0 hW0 X
  have htr : e.platform.stackTraces = false := (show e.platform.stackTraces = l.stackTraces by rw [X.admits.platform]).trans hlt
  have howns : e.platform.frameOwnsMonitors = true := by rw [X.admits.platform]
  have hfin : e.platform.finalization = false := by rw [X.admits.platform]
  have hpl : e.platform.magicAccessors = ({} : Platform).magicAccessors := by rw [X.admits.platform]
  have hat := g_thr C hv0 hv1
  obtain ⟨T, Z, L, LZ, Y⟩ := ThrowableC.of_atoms (args := args) howns hfin hpl hat
  obtain ⟨r', cell, g1, g2, g3, g4, g5, g6, g7, g8⟩ := hI.2.2.2 _ _ hq
  cases g1.symm.trans hc
  obtain ⟨g6a, g6b, g6c⟩ := g6 ha
  have hfound : s.vm.findClass r.1 = some cell.cls := by rw [g3]; exact C.w.cls hc
  have hsel0 : selectMethod e.platform s.vm cell.cls T.fill0 = .method T.fill0 := by
    obtain ⟨c2, r2, m2, q1, q2, q3, q4, -⟩ := Cond.selects_spec (C.ts _ hsA)
    cases Option.some.inj (q1.symm.trans hfound)
    cases Option.some.inj (q2.symm.trans (State.methodFound?_of_named Y.fill0 (by decide)))
    cases Option.some.inj (q3.symm.trans Y.fill0)
    rw [Launch.admits_selectMethod X.admits]; exact q4
  have hselF : selectMethod e.platform s.vm cell.cls T.fill = .method T.fill := by
    obtain ⟨c2, r2, m2, q1, q2, q3, q4, -⟩ := Cond.selects_spec (C.ts _ hsB)
    cases Option.some.inj (q1.symm.trans hfound)
    cases Option.some.inj (q2.symm.trans (State.methodFound?_of_named Y.fill (by decide)))
    cases Option.some.inj (q3.symm.trans Y.fill)
    rw [Launch.admits_selectMethod X.admits]; exact q4
  obtain ⟨cellS0, hcS0, hiss⟩ := Y.statics
  have hu0 : cellS0.slots[T.fUnassigned.slot]? = some (gv D 0) ∧ ¬ gA D T.aS := by
    obtain ⟨cf, kf, fi, f, aZ, cZ, z1, z2, z3, z4, z5, z6, z7, z8⟩ := C.w.st (st_UNASSIGNED_STACK D)
    cases z1.symm.trans Y.unassigned
    cases z4.symm.trans L.statics
    cases z5.symm.trans hcS0
    exact ⟨z7, z8⟩
  have hcell : W0.heap[a]? = some cell := by rw [hW0]; exact g2
  have hcellS : W0.heap[T.aS]? = some cellS0 := by rw [hW0, hS.2.1 _ (Array.getElem?_eq_some_iff.mp hcS0).1 hu0.2]; exact hcS0
  have hneS : T.aS ≠ a := fun h => hu0.2 (by rw [h]; exact ha)
  have hknownS : cellS0.vm ≠ .unknown := by intro hu; rw [hu] at hiss; cases hiss
  have kn := C.w.kn hc (by omega)
  have s1 : T.fStack.slot = gslo D ci 1 := by
    have := kn.1 1 (by omega)
    rw [hT1] at this
    exact g_slot this Y.stack
  obtain ⟨ci198, i198, fB, hk198, hg198, ha198, hsB9, -, hnB, htB, hffB⟩ := Cond.ownField (t := .object "java/lang/Object") Y.found L.cls (by decide +kernel) (C.ts _ hl198) (C.ts _ hlB2) e.platform hpl
  have s4 : fB.slot = gslo D ci 4 := by
    have := kn.1 4 (by omega)
    rw [hT4] at this
    exact g_slot this hffB
  have hvS : cell.slots[T.fStack.slot]? = some (gv D 0) := by rw [s1]; exact g8 1 _ hf1
  have hvB : cell.slots[fB.slot]? = some .null := by rw [s4]; exact g8 4 _ hf4
  have hisr : (gv D 0).isRef = true := by rcases hv0 with h | ⟨t, h⟩ <;> rw [h] <;> rfl
  obtain ⟨-, kX, hkX, hord⟩ := kn.2
  have hkX' : s.vm.classes[cell.cls]? = some kX := by rw [g3]; exact hkX
  obtain ⟨tyS, dS, hdS, hdnS⟩ := Cond.laysAt hfound hkX' Y.stack (C.ts _ hlS)
  have hTk : Takes s cell T.fStack (gv D 0) := by
    refine ⟨(Array.getElem?_eq_some_iff.mp hvS).1, ?_⟩
    rw [State.fitsSlot]
    simp [State.slotType?, hkX', hord, tyS, g6a]
    rw [Y.stackType]
    exact fits_refV_array _ ⟨gv D 0, hisr⟩
  obtain ⟨mk, methM, hnamed, hmethM, hstM, habM⟩ := Cond.instanceMethod_spec (hat (.instanceMethod Bundle.tFill) (by simp [Bundle.throwableAtoms]))
  cases Option.some.inj (hnamed.symm.trans Y.fill)
  obtain ⟨c2, r2, m2, q1, q2, q3, q4, kP, hkP, hkPi⟩ := Cond.selects_spec (C.ts _ hsB)
  cases q3.symm.trans Y.fill
  have hlen : ([] : List Value).length = methM.sig.parameters.length := by
    obtain ⟨meth9, c9, hm9, -, -, -, -, -, -, h10⟩ := Cond.codeSync_spec Y.fill (hat (.codeSync Bundle.tFill LibCode.Throwable.Fill.code 1 (some (.object Bundle.tN))) (by simp [Bundle.throwableAtoms]))
    cases hm9.symm.trans hmethM
    have h11 : parseMethodDescriptor Bundle.tFill.desc = some { parameters := [], returnType := some (.object "java/lang/Throwable") } := by decide +kernel
    rw [← Option.some.inj (h11.symm.trans h10)]
    rfl
  have hlink : (Cond.methodLink Bundle.tN 27 Bundle.tFill).before args s = true := hat _ (by simp [Bundle.throwableAtoms])
  obtain ⟨vm₁, X₁, hstep₁⟩ := X.invokevirtual C.x (own := Bundle.tN) (index := 27) C.ow hlink Y.fill hmethM hstM hkP hkPi (by decide) (a := a) (cell := cell) hcell
    (fun z h => by rw [h] at g4; cases g4) hselF hmethM habM hkP hkPi (g := F0 m pc ls (.ref a :: rest)) rfl (argsL := []) (rest := rest) hlen rfl (by rw [C.b]; exact hdg)
  have htop := X₁.here.top
  have hroomF := (g_fillRooms (e := e) (a := a) (mF := T.fill) (cell := cell) htop (g := F0 m pc ls rest) (X₁.framesAbove (n := 2) (by show 2 < k; omega)) (X₁.stackAbove (g := F0 m pc ls rest) (K := 41) (by rw [C.ml]; exact hl.1) (by
    have := g_cat rest
    show 2 * 0 + (rest.map fun v => v.category).sum + 41 ≤ 60 * k
    omega)))
  have hV : ((W0.setVm vm₁).heap)[a]? = some cell := hcell
  obtain ⟨vm₂, hW2, st2⟩ := Steps.fillColdAnyV p (s₀ := s) (V := W0.setVm vm₁) (g := F0 m pc ls rest) (c := c) (self := a) X₁.here C.x T L X₁.warmed (Nn := fun u => u) heapOnly_id (fun _ _ => rfl) (fun _ => rfl) (fun u x y => setCell_twice _ _ _ _)
    (cell := cell) (cellS := cellS0) (cN := cell.withEntry (W0.setVm vm₁).cur) (u0 := ⟨gv D 0, hisr⟩) (ig := .invokevirtual 27) (len := 3) [] hV (fun z h => by rw [h] at g4; cases g4) (by rw [g6a]; simp) (Or.inl g6b) hvS hsel0 hcellS hneS hknownS hu0.1 (fun _ h => h) (fun _ h => h) rfl rfl rfl rfl hTk (by rw [C.b]; exact hdg)
    (fun _ vm1 hW1 hAt t' hs => L.nativeOff p htr hAt hW1 (hroomF.2 vm1) hs) hroomF.1 ⟨{ ci198 := ci198, i198 := i198, fBack := fB }, ⟨hk198, hg198, ha198, hsB9⟩, hvB, fun _ _ => rfl⟩
  have hbk : ((cell.withEntry (W0.setVm vm₁).cur).setSlot T.fStack.slot (gv D 0)).left = cell := by
    rw [show (cell.withEntry (W0.setVm vm₁).cur).setSlot T.fStack.slot (gv D 0) = cell.withEntry (W0.setVm vm₁).cur from Cell.setSlot_same hvS]
    exact Cell.left_withEntry _ g6b g6c
  have hheap : (((W0.setVm vm₁).setVm vm₂).setCell a cell).heap = H := by
    show W0.heap.setIfInBounds a cell = H
    rw [hW0]
    apply Array.ext_getElem?
    intro q
    by_cases h : a = q
    · subst h
      rw [Array.getElem?_setIfInBounds_self_of_lt (Array.getElem?_eq_some_iff.mp g2).1, g2]
    · rw [Array.getElem?_setIfInBounds_ne h]
  have X3 := (X₁.noted hW2).stored (a := a) hcell T.fStack.slot (gv D 0)
  rw [Cell.setSlot_same hvS] at X3
  obtain ⟨t, a1, b1⟩ := kk H (locs ++ [⟨a, T.fStack.slot⟩]) hI (gS.put hS rfl (fun _ _ => rfl) ha) (((W0.setVm vm₁).setVm vm₂).setCell a cell) hheap X3
  exact ⟨t, hstep₁ _ (fun acts => by rw [doInvoke_state]; exact st2 _ (by rw [hbk]; exact a1)), b1⟩

theorem g_fill8 (C : gB p l s m args meth c D cc "java/lang/Throwable" nL rt) (hlt : l.stackTraces = false) (hB : gBs D) (hI : gI D G n H) (hS : va_S (gA D) s.heap H locs) {a : Nat} {fs : List Value} (hq : G a = some (.inl (8, fs))) (ha : gz D ≤ a) (hl : lv_has ls nL lv) (hf1 : fs[1]? = some (gv D 0)) (hf4 : fs[4]? = some .null)
    (hdg : decode cc pc = .ok (.invokevirtual 27, 3)) (hk : 12 ≤ k) (hr : rest.length ≤ 8)
    (kk : ∀ (H1 : Heap) (locs1 : List Loc), gI D G n H1 → va_S (gA D) s.heap H1 locs1 → W p l e (gR k B) s m args below meth c H1 locs1 b (200 * b) Q (F0 m (pc + 3) ls (.ref a :: rest))) :
    W p l e (gR k B) s m args below meth c H locs b (200 * b) Q (F0 m pc ls (.ref a :: rest)) :=
  g_fill C hlt hB.v0 hB.v1 hI hS hq (r := (RX10, TX10, 8)) rfl ha hl (by decide) rfl rfl hf1 hf4 q1329 q471 q1331 q487 q1334 q519 hdg hk hr kk
theorem g_fill11 (C : gB p l s m args meth c D cc "java/lang/Throwable" nL rt) (hlt : l.stackTraces = false) (hB : gBs D) (hI : gI D G n H) (hS : va_S (gA D) s.heap H locs) {a : Nat} {fs : List Value} (hq : G a = some (.inl (11, fs))) (ha : gz D ≤ a) (hl : lv_has ls nL lv) (hf1 : fs[1]? = some (gv D 0)) (hf4 : fs[4]? = some .null)
    (hdg : decode cc pc = .ok (.invokevirtual 27, 3)) (hk : 12 ≤ k) (hr : rest.length ≤ 8)
    (kk : ∀ (H1 : Heap) (locs1 : List Loc), gI D G n H1 → va_S (gA D) s.heap H1 locs1 → W p l e (gR k B) s m args below meth c H1 locs1 b (200 * b) Q (F0 m (pc + 3) ls (.ref a :: rest))) :
    W p l e (gR k B) s m args below meth c H locs b (200 * b) Q (F0 m pc ls (.ref a :: rest)) :=
  g_fill C hlt hB.v0 hB.v1 hI hS hq (r := (RX15, TX15, 7)) rfl ha hl (by decide) rfl rfl hf1 hf4 q2236 q472 q2238 q487 q2241 q519 hdg hk hr kk
end GFILL
