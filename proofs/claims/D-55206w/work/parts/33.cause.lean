/-! getCause: synchronized, reads -/
set_option maxRecDepth 100000
def gcB : ByteArray := prog_46_method_8_code
theorem gc0 : decode gcB 0 = .ok (.aload_n 0, 1) := by decide +kernel
theorem gc1 : decode gcB 1 = .ok (.getfield 7, 3) := by decide +kernel
theorem gc4 : decode gcB 4 = .ok (.aload_n 0, 1) := by decide +kernel
theorem gc5 : decode gcB 5 = .ok (.if_acmp .ne 7, 3) := by decide +kernel
theorem gc8 : decode gcB 8 = .ok (.aconst_null, 1) := by decide +kernel
theorem gc9 : decode gcB 9 = .ok (.goto 7, 3) := by decide +kernel
theorem gc12 : decode gcB 12 = .ok (.aload_n 0, 1) := by decide +kernel
theorem gc13 : decode gcB 13 = .ok (.getfield 7, 3) := by decide +kernel
theorem gc16 : decode gcB 16 = .ok (.areturn, 1) := by decide +kernel
section GCAUSE
variable {p : Program} {l : Launch} {e : Env} {below : List Frame} {s₀ V : State} {g : JFrame} {c : Code} {mG : MethodId} {methG : Method} {cG : Code} {self : Addr} {cell : Cell}
set_option maxHeartbeats 2000000 in
theorem g_leave (h : At V g.method c below) (hexec : p.tables.exec = Jvm.exec) (howns : e.platform.frameOwnsMonitors = true) (hm : V.vm.method? mG = some methG) (hA : At (fillInside V g mG self cell) mG cG below) (hb : cG.code = gcB) (hlocks : methG.locks = true) (hret : methG.sig.returnType = some (.object "java/lang/Throwable"))
    (hcell : V.heap[self]? = some cell) (hfree : cell.monitor.owner = none) (hcount : cell.monitor.count = 0) {v : Value} (hv : v.isRef = true) {ig : Instr} {len : Nat} (hdg : decode c.code g.pc = .ok (ig, len)) {target : State}
    (hrest : Steps p.tables e below (V.setTop { g with pc := g.pc + len, stack := v :: g.stack }) target) :
    Steps p.tables e below ((fillInside V g mG self cell).setTop (fillJ mG self 16 [v])) target := by
  have hlt : self < V.heap.size := (Array.getElem?_eq_some_iff.mp hcell).1
  have hcellU : (fillInside V g mG self cell).heap[self]? = some (cell.withEntry V.cur) := by
    show (V.heap.setIfInBounds self (cell.withEntry V.cur))[self]? = _
    simp [hlt]
  have hfr : (fillInside V g mG self cell).frames = .java (entryFrameSync mG #[.ref self] 1 self) :: .java g :: V.frames.tail := frames_entered (g := g) (show (V.setCell self (cell.withEntry V.cur)).topJava?.isSome from h.top) _
  have hcode : (fillInside V g mG self cell).code? g.method = some c := by
    have := h.code
    rw [State.code?_eq] at this ⊢
    exact this
  have hmine : (cell.withEntry V.cur).monitor.owner = some (fillInside V g mG self cell).cur := rfl
  have hwr : v = .null ∨ ∃ b, v = .ref b := by cases v <;> simp_all [Value.isRef]
  have key : ∀ acts', Steps p.tables e below (doReturn e ((fillInside V g mG self cell).setTop (fillJ mG self 16 [])) acts' (some v)).1 target := by
    intro acts'
    rw [doReturn_leave_sync (u := fillInside V g mG self cell) (g := g) (meth := methG) (cg := c) (ig := ig) (len := len) (a := self) (cell := cell.withEntry V.cur) (f := fillJ mG self 16 []) (f₀ := entryFrameSync mG #[.ref self] 1 self) (r := V.frames.tail) acts' howns hfr hm hlocks rfl rfl hcellU hmine hcode hdg, Cell.left_withEntry _ hfree hcount]
    have e1 : ((fillInside V g mG self cell).setCell self cell).setFrames (.java g :: V.frames.tail) = V.setTop g := by
      show (((fillInside V g mG self cell).setFrames (.java g :: (V.setCell self (cell.withEntry V.cur)).frames.tail))).setCell self cell = _
      rw [setFrames_entered (s := V.setCell self (cell.withEntry V.cur)) h.top]
      show ((V.setCell self (cell.withEntry V.cur)).setCell self cell).setTop g = _
      rw [setCell_twice, State.setCell_asItLies hcell]
    rw [e1, heapOnly_id.setTop_setTop (s := V) h.top]
    exact hrest
  rcases hwr with rfl | ⟨b, rfl⟩
  · jvm_step hA [hA.top, hexec, hb, gc16, Op.areturn.wp_sem, Value.isRef, FieldType.isReference]
    exact ⟨methG, hm, ⟨_, hret, rfl⟩, key⟩
  · jvm_step hA [hA.top, hexec, hb, gc16, Op.areturn.wp_sem, Value.isRef, FieldType.isReference]
    exact ⟨methG, hm, ⟨_, hret, rfl⟩, key⟩
end GCAUSE
