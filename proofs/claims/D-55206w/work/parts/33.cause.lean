/-! getCause: synchronized, reads -/
set_option maxRecDepth 100000
def gcB : ByteArray := prog_46_method_8_code
theorem gc0 : decode gcB 0 = .ok (.aload_n 0, 1) := by decide +kernel
theorem gc1 : decode gcB 1 = .ok (.getfield 7, 3) := by decide +kernel
theorem gc4 : decode gcB 4 = .ok (.aload_n 0, 1) := by decide +kernel
theorem gc5 : decode gcB 5 = .ok (.if_acmp .ne 7, 3) := by decide +kernel
theorem gc8 : decode gcB 8 = .ok (.aconst_null, 1) := by decide +kernel
theorem gc9 : decode gcB 9 = .ok (.goto 7, 3) := by decide +kernel
theorem gc12 : decode gcB 12 = .ok (.aload_n 0, 1) := by decide +kernel
theorem gc13 : decode gcB 13 = .ok (.getfield 7, 3) := by decide +kernel
theorem gc16 : decode gcB 16 = .ok (.areturn, 1) := by decide +kernel
section GCAUSE
variable {p : Program} {l : Launch} {e : Env} {below : List Frame} {s₀ V : State} {g : JFrame} {c : Code} {mG : MethodId} {methG : Method} {cG : Code} {self : Addr} {cell : Cell}
set_option maxHeartbeats 2000000 in
theorem g_leave (h : At V g.method c below) (hexec : p.tables.exec = Jvm.exec) (howns : e.platform.frameOwnsMonitors = true) (hm : V.vm.method? mG = some methG) (hA : At (fillInside V g mG self cell) mG cG below) (hb : cG.code = gcB) (hlocks : methG.locks = true) (hret : methG.sig.returnType = some (.object "java/lang/Throwable"))
    (hcell : V.heap[self]? = some cell) (hfree : cell.monitor.owner = none) (hcount : cell.monitor.count = 0) {v : Value} (hv : v.isRef = true) {ig : Instr} {len : Nat} (hdg : decode c.code g.pc = .ok (ig, len)) {target : State}
    (hrest : Steps p.tables e below (V.setTop { g with pc := g.pc + len, stack := v :: g.stack }) target) :
    Steps p.tables e below ((fillInside V g mG self cell).setTop (fillJ mG self 16 [v])) target := by
  have hlt : self < V.heap.size := (Array.getElem?_eq_some_iff.mp hcell).1
  have hcellU : (fillInside V g mG self cell).heap[self]? = some (cell.withEntry V.cur) := by
    show (V.heap.setIfInBounds self (cell.withEntry V.cur))[self]? = _
    simp [hlt]
  have hfr : (fillInside V g mG self cell).frames = .java (entryFrameSync mG #[.ref self] 1 self) :: .java g :: V.frames.tail := frames_entered (g := g) (show (V.setCell self (cell.withEntry V.cur)).topJava?.isSome from h.top) _
  have hcode : (fillInside V g mG self cell).code? g.method = some c := by
    have := h.code
    rw [State.code?_eq] at this ⊢
    exact this
  have hmine : (cell.withEntry V.cur).monitor.owner = some (fillInside V g mG self cell).cur := rfl
  have hwr : v = .null ∨ ∃ b, v = .ref b := by cases v <;> simp_all [Value.isRef]
  have key : ∀ acts', Steps p.tables e below (doReturn e ((fillInside V g mG self cell).setTop (fillJ mG self 16 [])) acts' (some v)).1 target := by
    intro acts'
    rw [doReturn_leave_sync (u := fillInside V g mG self cell) (g := g) (meth := methG) (cg := c) (ig := ig) (len := len) (a := self) (cell := cell.withEntry V.cur) (f := fillJ mG self 16 []) (f₀ := entryFrameSync mG #[.ref self] 1 self) (r := V.frames.tail) acts' howns hfr hm hlocks rfl rfl hcellU hmine hcode hdg, Cell.left_withEntry _ hfree hcount]
    have e1 : ((fillInside V g mG self cell).setCell self cell).setFrames (.java g :: V.frames.tail) = V.setTop g := by
      show (((fillInside V g mG self cell).setFrames (.java g :: (V.setCell self (cell.withEntry V.cur)).frames.tail))).setCell self cell = _
      rw [setFrames_entered (s := V.setCell self (cell.withEntry V.cur)) h.top]
      show ((V.setCell self (cell.withEntry V.cur)).setCell self cell).setTop g = _
      rw [setCell_twice, State.setCell_asItLies hcell]
    rw [e1, heapOnly_id.setTop_setTop (s := V) h.top]
    exact hrest
  rcases hwr with rfl | ⟨b, rfl⟩
  · jvm_step hA [hA.top, hexec, hb, gc16, Op.areturn.wp_sem, Value.isRef, FieldType.isReference]
    exact ⟨methG, hm, ⟨_, hret, rfl⟩, key⟩
  · jvm_step hA [hA.top, hexec, hb, gc16, Op.areturn.wp_sem, Value.isRef, FieldType.isReference]
    exact ⟨methG, hm, ⟨_, hret, rfl⟩, key⟩
def gcV (a : Addr) (c0 : Value) : Value := if c0 = .ref a then .null else c0
theorem gcV_ref {a : Addr} {c0 : Value} (h : c0.isRef = true) : (gcV a c0).isRef = true := by unfold gcV; split; rfl; exact h
set_option maxHeartbeats 2000000 in
theorem g_gcSteps (h : At V g.method c below) (hexec : p.tables.exec = Jvm.exec) (howns : e.platform.frameOwnsMonitors = true) (hW : s₀.WarmedH V.vm) (hm0 : s₀.vm.method? mG = some methG) (hcG : methG.code = some cG) (hb : cG.code = gcB) (hml : cG.maxLocals = 1) (hlocks : methG.locks = true) (hstat : methG.isStatic = false) (hret : methG.sig.returnType = some (.object "java/lang/Throwable"))
    (hplain : ∀ k, s₀.vm.classes[mG.cls]? = some k → plainName k.name = true) (hcell : V.heap[self]? = some cell) (hknown : cell.vm ≠ .unknown) (hfree : cell.monitor.owner = none) (hcount : cell.monitor.count = 0)
    {ci owner i : Nat} {kT : Class} {fC : Field} (hl : s₀.vm.FieldLinks e.platform mG.cls 7 ci owner i) (hright : s₀.rightAt mG.cls 7 (.field owner i) = true) (hk : s₀.vm.classes[owner]? = some kT) (hf : kT.fields[i]? = some fC) (hst : fC.isStatic = false) {c0 : Value} (hv : cell.slots[fC.slot]? = some c0) (hc0 : c0.isRef = true)
    {ig : Instr} {len : Nat} (hdg : decode c.code g.pc = .ok (ig, len)) (acts : List Action) (hroom : e.platform.stackFull (((V.setTop g).threads[(V.setTop g).cur]?).getD { frames := [] }) (V.setTop g).frames (1 + 2) = false) :
    ∃ vm', s₀.WarmedH vm' ∧ ∀ target, Steps p.tables e below ((V.setVm vm').setTop { g with pc := g.pc + len, stack := gcV self c0 :: g.stack }) target → Steps p.tables e below (doInvoke e (V.setTop g) acts mG #[.ref self]).1 target := by
  have hlt : self < V.heap.size := (Array.getElem?_eq_some_iff.mp hcell).1
  have hAof : ∀ vm, s₀.WarmedH vm → At (fillInside (V.setVm vm) g mG self cell) mG cG below := fun vm hWv => by
    have := At.enter_sync (g := g) (h.setVm (hW.alike.symm.trans hWv.alike)) #[.ref self] self (cell.withEntry V.cur) (hWv.methodAt hm0) hcG (hWv.plainAt (m := mG) hplain)
    rw [hml] at this
    exact this
  have hA : At (fillInside V g mG self cell) mG cG below := hAof V.vm hW
  have hcellU : ∀ vm, (fillInside (V.setVm vm) g mG self cell).heap[self]? = some (cell.withEntry V.cur) := fun vm => by
    show (V.heap.setIfInBounds self (cell.withEntry V.cur))[self]? = _
    simp [hlt]
  have hwr : c0 = .null ∨ ∃ b, c0 = .ref b := by cases c0 <;> simp_all [Value.isRef]
  obtain ⟨vm1, hW1, st1⟩ := Steps.getfieldCold (tb := p.tables) (s₀ := s₀) (U := fillInside V g mG self cell) (f := fillJ mG self 1 [.ref self]) (a := self) (rest := []) (cell := cell.withEntry V.cur) (v := c0) hA hexec (by rw [hb]; exact gc1) hW hl hright hk hf hst rfl (hcellU V.vm) hknown hv
  by_cases q : c0 = .ref self
  · refine ⟨vm1, hW1, fun target hrest => ?_⟩
    rw [doInvoke_enter_sync h.top acts (hW.methodAt hm0) hcG hlocks hstat rfl hcell (Or.inl hfree) (by rw [hml]; exact hroom), hml]
    show Steps p.tables e below ((fillInside V g mG self cell).setTop (fillJ mG self 0 [])) target
    jvm_step hA [hexec, hb, gc0, Value.isRef]
    refine st1 target ?_
    show Steps p.tables e below ((fillInside (V.setVm vm1) g mG self cell).setTop (fillJ mG self 4 [c0])) target
    subst q
    jvm_step (hAof vm1 hW1) [hexec, hb, gc4, Value.isRef]
    jvm_step (hAof vm1 hW1) [hexec, hb, gc5, Value.asRef?, Op.if_acmp.holds]
    jvm_step (hAof vm1 hW1) [hexec, hb, gc8]
    jvm_step (hAof vm1 hW1) [hexec, hb, gc9]
    refine g_leave (V := V.setVm vm1) (g := g) (h.setVm (hW.alike.symm.trans hW1.alike)) hexec howns (hW1.methodAt hm0) (hAof vm1 hW1) hb hlocks hret hcell hfree hcount (v := .null) rfl hdg ?_
    rw [gcV, if_pos rfl] at hrest
    exact hrest
  · obtain ⟨vm2, hW2, st2⟩ := Steps.getfieldCold (tb := p.tables) (s₀ := s₀) (U := fillInside (V.setVm vm1) g mG self cell) (f := fillJ mG self 13 [.ref self]) (a := self) (rest := []) (cell := cell.withEntry V.cur) (v := c0) (hAof vm1 hW1) hexec (by rw [hb]; exact gc13) hW1 hl hright hk hf hst rfl (hcellU vm1) hknown hv
    refine ⟨vm2, hW2, fun target hrest => ?_⟩
    rw [doInvoke_enter_sync h.top acts (hW.methodAt hm0) hcG hlocks hstat rfl hcell (Or.inl hfree) (by rw [hml]; exact hroom), hml]
    show Steps p.tables e below ((fillInside V g mG self cell).setTop (fillJ mG self 0 [])) target
    jvm_step hA [hexec, hb, gc0, Value.isRef]
    refine st1 target ?_
    show Steps p.tables e below ((fillInside (V.setVm vm1) g mG self cell).setTop (fillJ mG self 4 [c0])) target
    have h12 : Steps p.tables e below ((fillInside (V.setVm vm1) g mG self cell).setTop (fillJ mG self 12 [])) target := by
      jvm_step (hAof vm1 hW1) [hexec, hb, gc12, Value.isRef]
      refine st2 target ?_
      show Steps p.tables e below ((fillInside (V.setVm vm2) g mG self cell).setTop (fillJ mG self 16 [c0])) target
      refine g_leave (V := V.setVm vm2) (g := g) (h.setVm (hW.alike.symm.trans hW2.alike)) hexec howns (hW2.methodAt hm0) (hAof vm2 hW2) hb hlocks hret hcell hfree hcount (v := c0) hc0 hdg ?_
      rw [gcV, if_neg q] at hrest
      exact hrest
    rcases hwr with rfl | ⟨b, rfl⟩
    · jvm_step (hAof vm1 hW1) [hexec, hb, gc4, Value.isRef]
      jvm_step (hAof vm1 hW1) [hexec, hb, gc5, Value.asRef?, Op.if_acmp.holds]
      exact h12
    · have hne : ¬ b = self := fun z => q (by rw [z])
      jvm_step (hAof vm1 hW1) [hexec, hb, gc4, Value.isRef]
      jvm_step (hAof vm1 hW1) [hexec, hb, gc5, Value.asRef?, Op.if_acmp.holds, hne]
      exact h12
end GCAUSE
section GCAUSE2
variable {p : Program} {l : Launch} {e : Env} {k B : Nat} {s : State} {m : MethodId} {args : Array Value} {below : List Frame} {meth : Method} {c : Code} {D : gD} {cc : ByteArray} {own : String} {nL : Nat} {rt : Option FieldType} {H : Heap} {locs : List Loc} {b : Nat} {Q : State → Prop} {G : gH} {n pc : Nat} {ls : Array Slot} {rest : List Value} {lv : List (Nat × Value)}
def gcN : MethodName := ⟨"java/lang/Throwable", "getCause", "()Ljava/lang/Throwable;"⟩
set_option maxHeartbeats 2000000 in
theorem g_getCause (C : gB p l s m args meth c D cc own nL rt) (hI : gI D G n H) (hS : va_S (gA D) s.heap H locs) {a : Nat} {fs : List Value} (hq : G a = some (.inl (8, fs))) (ha : gz D ≤ a) (hl : lv_has ls nL lv) {c0 : Value} (hf0 : fs[0]? = some c0) (hc0 : c0.isRef = true)
    {index : Nat} (hlink : Cond.methodLink own index gcN ∈ lw_all) (hdg : decode cc pc = .ok (.invokevirtual index, 3)) (hk : 12 ≤ k) (hr : rest.length ≤ 8)
    (kk : W p l e (gR k B) s m args below meth c H locs b (200 * b) Q (F0 m (pc + 3) ls (gcV a c0 :: rest))) :
    W p l e (gR k B) s m args below meth c H locs b (200 * b) Q (F0 m pc ls (.ref a :: rest)) := by
  intro W0 hW0 X
  have howns : e.platform.frameOwnsMonitors = true := by rw [X.admits.platform]
  have hpl : e.platform.magicAccessors = ({} : Platform).magicAccessors := by rw [X.admits.platform]
  obtain ⟨r', cell, g1, g2, g3, g4, g5, g6, g7, g8⟩ := hI.2.2.2 _ _ hq
  have hr8 : gC[8]? = some (RX10, TX10, 8) := rfl
  cases g1.symm.trans hr8
  obtain ⟨g6a, g6b, g6c⟩ := g6 ha
  dsimp only at g3 g7 g8
  have hfound : s.vm.findClass RX10 = some cell.cls := by rw [g3]; exact C.w.cls hr8
  obtain ⟨mk, methM, hnamed, hmethM, hstM, habM⟩ := Cond.instanceMethod_spec (C.ts (Cond.instanceMethod gcN) q2402)
  obtain ⟨methM', cG, hm9, hcG, hbG, hmlG, hretG, hlkG, -, hsg⟩ := Cond.codeSync_spec hnamed (C.ts (Cond.codeSync gcN gcB 1 (some (.object "java/lang/Throwable"))) q2414)
  cases hm9.symm.trans hmethM
  obtain ⟨c2, r2, m2, q1, q2, q3, q4, kP, hkP, hkPi⟩ := Cond.selects_spec (C.ts (Cond.selects RX10 gcN gcN) q2404)
  cases hfound.symm.trans q1
  cases (State.methodFound?_of_named hnamed (by decide)).symm.trans q2
  cases hnamed.symm.trans q3
  have hsel : selectMethod e.platform s.vm cell.cls mk = .method mk := by rw [Launch.admits_selectMethod X.admits]; exact q4
  have hlen : ([] : List Value).length = methM.sig.parameters.length := by
    have h11 : parseMethodDescriptor gcN.desc = some { parameters := [], returnType := some (.object "java/lang/Throwable") } := by decide +kernel
    rw [← Option.some.inj (h11.symm.trans hsg)]
    rfl
  obtain ⟨kT, hkT, hkTn⟩ := className_of_methodNamed hnamed
  have hfT : s.vm.findClass Bundle.tN = some mk.cls := findClass_of_methodNamed hnamed
  obtain ⟨ci7, i7, fC, hk7, hg7, ha7, hs7, -, hn7, ht7, hff7⟩ := Cond.ownField (t := .object "java/lang/Throwable") hfT hkT (by decide +kernel) (C.ts _ q489) (C.ts _ q515) e.platform hpl
  have s0 : fC.slot = gslo D 8 0 := by
    have := (C.w.kn hr8 (by decide)).1 0 (by decide)
    exact g_slot this hff7
  have hv : cell.slots[fC.slot]? = some c0 := by rw [s0]; exact g8 0 _ hf0
  have hcell : W0.heap[a]? = some cell := by rw [hW0]; exact g2
  obtain ⟨vm₁, X₁, hstep₁⟩ := X.invokevirtual C.x (own := own) (index := index) C.ow (C.ts _ hlink) hnamed hmethM hstM hkP hkPi (by decide) (a := a) (cell := cell) hcell
    (fun z h => by rw [h] at g4; cases g4) hsel hmethM habM hkP hkPi (g := F0 m pc ls (.ref a :: rest)) rfl (argsL := []) (rest := rest) hlen rfl (by rw [C.b]; exact hdg)
  have hroomF := (g_fillRooms (e := e) (a := a) (mF := mk) (cell := cell) X₁.here.top (g := F0 m pc ls rest) (X₁.framesAbove (n := 2) (by show 2 < k; omega)) (X₁.stackAbove (g := F0 m pc ls rest) (K := 41) (by rw [C.ml]; exact hl.1) (by
    have := g_cat rest
    show 2 * 0 + (rest.map fun v => v.category).sum + 41 ≤ 60 * k
    omega)))
  obtain ⟨vm₂, hW2, st2⟩ := g_gcSteps (p := p) (e := e) (s₀ := s) (V := W0.setVm vm₁) (g := F0 m pc ls rest) (c := c) (mG := mk) (self := a) (cell := cell) X₁.here C.x howns X₁.warmed hmethM hcG hbG hmlG hlkG hstM hretG
    (fun k9 hk9 => by cases hk9.symm.trans hkT; rw [hkTn]; decide) hcell (by rw [g6a]; simp) g6b g6c hk7 hg7 hkT ha7 hs7 hv hc0 (ig := .invokevirtual index) (len := 3) (by rw [C.b]; exact hdg) [] hroomF.1
  obtain ⟨t, a1, b1⟩ := kk ((W0.setVm vm₁).setVm vm₂) hW0 (X₁.noted hW2)
  exact ⟨t, hstep₁ _ (fun acts => by rw [doInvoke_state]; exact st2 _ a1), b1⟩
end GCAUSE2
