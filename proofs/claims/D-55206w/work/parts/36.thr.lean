/-! PLAIN EXCEPTIONS: the words that their throwing asks for -/
set_option maxRecDepth 100000
section THROW1
variable {p : Program} {l : Launch} {e : Env} {k B : Nat} {s : State} {m : MethodId} {args : Array Value} {below : List Frame} {meth : Method} {c : Code} {D : gD} {cc : ByteArray} {own : String} {nL : Nat} {rt : Option FieldType} {H : Heap} {locs : List Loc} {b : Nat} {G : gH} {n pc : Nat} {ls : Array Slot} {rest : List Value} {lv : List (Nat × Value)} {post : Option Value → gH → Nat → Prop} {xp : String → Nat → gH → Nat → Prop}
theorem g_throw1 (C : gB p l s m args meth c D cc own nL rt) (hxt : ∀ x ∈ c.exceptionTable.toList, covers x (pc + 7) = false) (hl : l.stackTraces = false) (hB : gBs D) (hI : gI D G n H) (hS : va_S (gA D) s.heap H locs) {cls : String} {names : List String} {ik ic : Nat} (hcls : Bundle.fit cls = true) (hnames : ∀ n ∈ names, Bundle.fit n = true)
    (w1 : Cond.classLink own ik cls ∈ lw_all) (w2 : Cond.initialized cls ∈ lw_all) (hg : ∀ w ∈ vx_at0 own ic cls names, w ∈ lw_all ∨ w ∈ gNw) (hgood : ∀ w ∈ Cond.classLink own ik cls :: Cond.initialized cls :: vx_at0 own ic cls names, vx_ot w = true) (hlv : lv_has ls nL lv)
    (d0 : decode cc pc = .ok (.new ik, 3)) (d3 : decode cc (pc + 3) = .ok (.dup, 1)) (d4 : decode cc (pc + 4) = .ok (.invokespecial ic, 3)) (d7 : decode cc (pc + 7) = .ok (.athrow, 1))
    (hk : names.length + 12 ≤ k) (hr : rest.length ≤ 4) (hb : b + 1 ≤ B) (hx : ∀ n1 : Nat, n ≤ n1 → xp cls n G n1) :
    W p l e (gR k B) s m args below meth c H locs b (200 * b) (gM below D post xp args s B) (F0 m pc ls rest) := by
  have hz := hI.1
  have := g_cat rest
  refine vx_throw0 C.x C.b hl C.ow hcls hnames (C.ts _ w1) (C.ts _ w2) (fun w hw => (hg w hw).elim (fun h => C.ts _ h) (fun h => va_Nw.use (by
      have h9 := (List.mem_filter.mp h).2
      cases w <;> first | rfl | (simp [gNk] at h9)) (C.w.nw h))) hgood ⟨g_zq (i := 0) C.w (List.mem_of_getElem? (i := 12) rfl) hB.v0, C.w.2.2.2.2.2.1.1⟩ ⟨g_zq (i := 0) C.w (List.mem_of_getElem? (i := 13) rfl) hB.v1, C.w.2.2.2.2.2.1.2⟩ hS (hlv.1.trans C.ml.symm) d0 d3 d4 d7 hxt (show names.length + 3 < k by omega) (show _ ≤ 60 * k by omega) (show b + 1 ≤ B from hb) (show 200 * b + 6 ≤ 200 * B by omega) C.lk (fun t hal h1 h2 => ?_) hS.2.2 hb (by omega)
  refine ⟨⟨G, t.heap.size, ?_, hI.grow h1 h2⟩, ⟨Nat.le_trans hS.1 h1, fun q h3 h4 => ?_⟩⟩
  · rw [hz]
    exact hx _ (by omega)
  · have := hS.1
    rw [h2 q (by omega)]
    exact hS.2.1 q h3 h4
end THROW1
theorem at_WhelkFleet_63 : ∀ w ∈ vx_at0 "WhelkFleet" 63 "java/lang/IndexOutOfBoundsException" ["java/lang/RuntimeException", "java/lang/Exception"], w ∈ lw_all ∨ w ∈ gNw := by
  intro w hw
  obtain ⟨h1, h2⟩ := List.mem_filter.mp hw
  simp only [Bundle.ownAtoms0, Bundle.throwableAtoms, Bundle.chain0Atoms, Bundle.passAtoms, List.cons_append, List.nil_append, List.append_assoc, List.mem_cons, List.not_mem_nil, or_false] at h1
  rcases h1 with h | h | h | h | h | h | h | h | h | h | h | h | h | h | h | h | h | h | h | h | h | h | h | h | h | h | h | h | h | h | h | h | h | h | h | h | h | h | h | h | h | h | h | h | h | h | h | h | h | h | h | h | h
  · rw [h]; exact Or.inl q95
  · rw [h]; exact Or.inl q521
  · rw [h]; exact Or.inl q469
  · rw [h]; exact Or.inl q481
  · rw [h]; exact Or.inl q484
  · rw [h]; exact Or.inl q486
  · rw [h]; exact Or.inl q522
  · rw [h]; exact Or.inl q523
  · rw [h]; exact Or.inl q135
  · rw [h]; exact Or.inl q136
  · rw [h]; exact Or.inl q463
  · rw [h]; exact Or.inl q468
  · rw [h]; exact Or.inl q482
  · rw [h]; exact Or.inl q489
  · rw [h]; exact Or.inl q515
  · rw [h]; exact Or.inl q490
  · rw [h]; exact Or.inl q516
  · rw [h]; exact Or.inl q491
  · rw [h]; exact Or.inl q517
  · rw [h]; exact Or.inl q464
  · rw [h] at h2; exact absurd h2 (by decide)
  · rw [h]; exact Or.inl q466
  · rw [h] at h2; exact absurd h2 (by decide)
  · rw [h]; exact Or.inl q518
  · rw [h]; exact Or.inl q553
  · rw [h]; exact Or.inl q554
  · rw [h]; exact Or.inl q555
  · rw [h]; exact Or.inl q556
  · rw [h]; exact Or.inr (gNw_in q508 rfl)
  · rw [h]; exact Or.inl q556
  · rw [h]; exact Or.inl q557
  · rw [h]; exact Or.inl q558
  · rw [h]; exact Or.inl q559
  · rw [h]; exact Or.inr (gNw_in q510 rfl)
  · rw [h]; exact Or.inl q559
  · rw [h]; exact Or.inl q560
  · rw [h]; exact Or.inl q561
  · rw [h]; exact Or.inl q522
  · rw [h]; exact Or.inr (gNw_in q512 rfl)
  · rw [h]; exact Or.inl q552
  · rw [h]; exact Or.inl q544
  · rw [h]; exact Or.inr (gNw_in q545 rfl)
  · rw [h]; exact Or.inl q546
  · rw [h]; exact Or.inl q477
  · rw [h]; exact Or.inl q547
  · rw [h]; exact Or.inl q548
  · rw [h]; exact Or.inl q549
  · rw [h]; exact Or.inl q550
  · rw [h] at h2; exact absurd h2 (by decide)
  · rw [h] at h2; exact absurd h2 (by decide)
  · rw [h]; exact Or.inl q487
  · rw [h]; exact Or.inl q519
  · rw [h]; exact Or.inl q551
theorem at_WhelkFleet_60 : ∀ w ∈ vx_at0 "WhelkFleet" 60 "java/lang/IllegalArgumentException" ["java/lang/RuntimeException", "java/lang/Exception"], w ∈ lw_all ∨ w ∈ gNw := by
  intro w hw
  obtain ⟨h1, h2⟩ := List.mem_filter.mp hw
  simp only [Bundle.ownAtoms0, Bundle.throwableAtoms, Bundle.chain0Atoms, Bundle.passAtoms, List.cons_append, List.nil_append, List.append_assoc, List.mem_cons, List.not_mem_nil, or_false] at h1
  rcases h1 with h | h | h | h | h | h | h | h | h | h | h | h | h | h | h | h | h | h | h | h | h | h | h | h | h | h | h | h | h | h | h | h | h | h | h | h | h | h | h | h | h | h | h | h | h | h | h | h | h | h | h | h | h
  · rw [h]; exact Or.inl q95
  · rw [h]; exact Or.inl q521
  · rw [h]; exact Or.inl q469
  · rw [h]; exact Or.inl q481
  · rw [h]; exact Or.inl q484
  · rw [h]; exact Or.inl q486
  · rw [h]; exact Or.inl q522
  · rw [h]; exact Or.inl q523
  · rw [h]; exact Or.inl q135
  · rw [h]; exact Or.inl q136
  · rw [h]; exact Or.inl q463
  · rw [h]; exact Or.inl q468
  · rw [h]; exact Or.inl q482
  · rw [h]; exact Or.inl q489
  · rw [h]; exact Or.inl q515
  · rw [h]; exact Or.inl q490
  · rw [h]; exact Or.inl q516
  · rw [h]; exact Or.inl q491
  · rw [h]; exact Or.inl q517
  · rw [h]; exact Or.inl q464
  · rw [h] at h2; exact absurd h2 (by decide)
  · rw [h]; exact Or.inl q466
  · rw [h] at h2; exact absurd h2 (by decide)
  · rw [h]; exact Or.inl q518
  · rw [h]; exact Or.inl q580
  · rw [h]; exact Or.inl q581
  · rw [h]; exact Or.inl q582
  · rw [h]; exact Or.inl q556
  · rw [h]; exact Or.inr (gNw_in q508 rfl)
  · rw [h]; exact Or.inl q556
  · rw [h]; exact Or.inl q557
  · rw [h]; exact Or.inl q558
  · rw [h]; exact Or.inl q559
  · rw [h]; exact Or.inr (gNw_in q510 rfl)
  · rw [h]; exact Or.inl q559
  · rw [h]; exact Or.inl q560
  · rw [h]; exact Or.inl q561
  · rw [h]; exact Or.inl q522
  · rw [h]; exact Or.inr (gNw_in q512 rfl)
  · rw [h]; exact Or.inl q579
  · rw [h]; exact Or.inl q571
  · rw [h]; exact Or.inr (gNw_in q572 rfl)
  · rw [h]; exact Or.inl q573
  · rw [h]; exact Or.inl q475
  · rw [h]; exact Or.inl q574
  · rw [h]; exact Or.inl q575
  · rw [h]; exact Or.inl q576
  · rw [h]; exact Or.inl q577
  · rw [h] at h2; exact absurd h2 (by decide)
  · rw [h] at h2; exact absurd h2 (by decide)
  · rw [h]; exact Or.inl q487
  · rw [h]; exact Or.inl q519
  · rw [h]; exact Or.inl q578
theorem at_WhelkFleet_69 : ∀ w ∈ vx_at0 "WhelkFleet" 69 "java/util/NoSuchElementException" ["java/lang/RuntimeException", "java/lang/Exception"], w ∈ lw_all ∨ w ∈ gNw := by
  intro w hw
  obtain ⟨h1, h2⟩ := List.mem_filter.mp hw
  simp only [Bundle.ownAtoms0, Bundle.throwableAtoms, Bundle.chain0Atoms, Bundle.passAtoms, List.cons_append, List.nil_append, List.append_assoc, List.mem_cons, List.not_mem_nil, or_false] at h1
  rcases h1 with h | h | h | h | h | h | h | h | h | h | h | h | h | h | h | h | h | h | h | h | h | h | h | h | h | h | h | h | h | h | h | h | h | h | h | h | h | h | h | h | h | h | h | h | h | h | h | h | h | h | h | h | h
  · rw [h]; exact Or.inl q95
  · rw [h]; exact Or.inl q521
  · rw [h]; exact Or.inl q469
  · rw [h]; exact Or.inl q481
  · rw [h]; exact Or.inl q484
  · rw [h]; exact Or.inl q486
  · rw [h]; exact Or.inl q522
  · rw [h]; exact Or.inl q523
  · rw [h]; exact Or.inl q135
  · rw [h]; exact Or.inl q136
  · rw [h]; exact Or.inl q463
  · rw [h]; exact Or.inl q468
  · rw [h]; exact Or.inl q482
  · rw [h]; exact Or.inl q489
  · rw [h]; exact Or.inl q515
  · rw [h]; exact Or.inl q490
  · rw [h]; exact Or.inl q516
  · rw [h]; exact Or.inl q491
  · rw [h]; exact Or.inl q517
  · rw [h]; exact Or.inl q464
  · rw [h] at h2; exact absurd h2 (by decide)
  · rw [h]; exact Or.inl q466
  · rw [h] at h2; exact absurd h2 (by decide)
  · rw [h]; exact Or.inl q518
  · rw [h]; exact Or.inl q1104
  · rw [h]; exact Or.inl q1105
  · rw [h]; exact Or.inl q1106
  · rw [h]; exact Or.inl q556
  · rw [h]; exact Or.inr (gNw_in q508 rfl)
  · rw [h]; exact Or.inl q556
  · rw [h]; exact Or.inl q557
  · rw [h]; exact Or.inl q558
  · rw [h]; exact Or.inl q559
  · rw [h]; exact Or.inr (gNw_in q510 rfl)
  · rw [h]; exact Or.inl q559
  · rw [h]; exact Or.inl q560
  · rw [h]; exact Or.inl q561
  · rw [h]; exact Or.inl q522
  · rw [h]; exact Or.inr (gNw_in q512 rfl)
  · rw [h]; exact Or.inl q1953
  · rw [h]; exact Or.inl q1021
  · rw [h]; exact Or.inr (gNw_in q1022 rfl)
  · rw [h]; exact Or.inl q1023
  · rw [h]; exact Or.inl q480
  · rw [h]; exact Or.inl q1024
  · rw [h]; exact Or.inl q1025
  · rw [h]; exact Or.inl q1026
  · rw [h]; exact Or.inl q1027
  · rw [h] at h2; exact absurd h2 (by decide)
  · rw [h] at h2; exact absurd h2 (by decide)
  · rw [h]; exact Or.inl q487
  · rw [h]; exact Or.inl q519
  · rw [h]; exact Or.inl q1028
theorem at_WhelkFleet_66 : ∀ w ∈ vx_at0 "WhelkFleet" 66 "java/lang/IllegalStateException" ["java/lang/RuntimeException", "java/lang/Exception"], w ∈ lw_all ∨ w ∈ gNw := by
  intro w hw
  obtain ⟨h1, h2⟩ := List.mem_filter.mp hw
  simp only [Bundle.ownAtoms0, Bundle.throwableAtoms, Bundle.chain0Atoms, Bundle.passAtoms, List.cons_append, List.nil_append, List.append_assoc, List.mem_cons, List.not_mem_nil, or_false] at h1
  rcases h1 with h | h | h | h | h | h | h | h | h | h | h | h | h | h | h | h | h | h | h | h | h | h | h | h | h | h | h | h | h | h | h | h | h | h | h | h | h | h | h | h | h | h | h | h | h | h | h | h | h | h | h | h | h
  · rw [h]; exact Or.inl q95
  · rw [h]; exact Or.inl q521
  · rw [h]; exact Or.inl q469
  · rw [h]; exact Or.inl q481
  · rw [h]; exact Or.inl q484
  · rw [h]; exact Or.inl q486
  · rw [h]; exact Or.inl q522
  · rw [h]; exact Or.inl q523
  · rw [h]; exact Or.inl q135
  · rw [h]; exact Or.inl q136
  · rw [h]; exact Or.inl q463
  · rw [h]; exact Or.inl q468
  · rw [h]; exact Or.inl q482
  · rw [h]; exact Or.inl q489
  · rw [h]; exact Or.inl q515
  · rw [h]; exact Or.inl q490
  · rw [h]; exact Or.inl q516
  · rw [h]; exact Or.inl q491
  · rw [h]; exact Or.inl q517
  · rw [h]; exact Or.inl q464
  · rw [h] at h2; exact absurd h2 (by decide)
  · rw [h]; exact Or.inl q466
  · rw [h] at h2; exact absurd h2 (by decide)
  · rw [h]; exact Or.inl q518
  · rw [h]; exact Or.inl q2068
  · rw [h]; exact Or.inl q2069
  · rw [h]; exact Or.inl q2070
  · rw [h]; exact Or.inl q556
  · rw [h]; exact Or.inr (gNw_in q508 rfl)
  · rw [h]; exact Or.inl q556
  · rw [h]; exact Or.inl q557
  · rw [h]; exact Or.inl q558
  · rw [h]; exact Or.inl q559
  · rw [h]; exact Or.inr (gNw_in q510 rfl)
  · rw [h]; exact Or.inl q559
  · rw [h]; exact Or.inl q560
  · rw [h]; exact Or.inl q561
  · rw [h]; exact Or.inl q522
  · rw [h]; exact Or.inr (gNw_in q512 rfl)
  · rw [h]; exact Or.inl q2067
  · rw [h]; exact Or.inl q1458
  · rw [h]; exact Or.inr (gNw_in q1459 rfl)
  · rw [h]; exact Or.inl q1460
  · rw [h]; exact Or.inl q476
  · rw [h]; exact Or.inl q1461
  · rw [h]; exact Or.inl q1462
  · rw [h]; exact Or.inl q1463
  · rw [h]; exact Or.inl q1464
  · rw [h] at h2; exact absurd h2 (by decide)
  · rw [h] at h2; exact absurd h2 (by decide)
  · rw [h]; exact Or.inl q487
  · rw [h]; exact Or.inl q519
  · rw [h]; exact Or.inl q1465
theorem at_WhelkFleet_392 : ∀ w ∈ vx_at0 "WhelkFleet" 392 "java/lang/ArithmeticException" ["java/lang/RuntimeException", "java/lang/Exception"], w ∈ lw_all ∨ w ∈ gNw := by
  intro w hw
  obtain ⟨h1, h2⟩ := List.mem_filter.mp hw
  simp only [Bundle.ownAtoms0, Bundle.throwableAtoms, Bundle.chain0Atoms, Bundle.passAtoms, List.cons_append, List.nil_append, List.append_assoc, List.mem_cons, List.not_mem_nil, or_false] at h1
  rcases h1 with h | h | h | h | h | h | h | h | h | h | h | h | h | h | h | h | h | h | h | h | h | h | h | h | h | h | h | h | h | h | h | h | h | h | h | h | h | h | h | h | h | h | h | h | h | h | h | h | h | h | h | h | h
  · rw [h]; exact Or.inl q95
  · rw [h]; exact Or.inl q521
  · rw [h]; exact Or.inl q469
  · rw [h]; exact Or.inl q481
  · rw [h]; exact Or.inl q484
  · rw [h]; exact Or.inl q486
  · rw [h]; exact Or.inl q522
  · rw [h]; exact Or.inl q523
  · rw [h]; exact Or.inl q135
  · rw [h]; exact Or.inl q136
  · rw [h]; exact Or.inl q463
  · rw [h]; exact Or.inl q468
  · rw [h]; exact Or.inl q482
  · rw [h]; exact Or.inl q489
  · rw [h]; exact Or.inl q515
  · rw [h]; exact Or.inl q490
  · rw [h]; exact Or.inl q516
  · rw [h]; exact Or.inl q491
  · rw [h]; exact Or.inl q517
  · rw [h]; exact Or.inl q464
  · rw [h] at h2; exact absurd h2 (by decide)
  · rw [h]; exact Or.inl q466
  · rw [h] at h2; exact absurd h2 (by decide)
  · rw [h]; exact Or.inl q518
  · rw [h]; exact Or.inl q2517
  · rw [h]; exact Or.inl q2518
  · rw [h]; exact Or.inl q2519
  · rw [h]; exact Or.inl q556
  · rw [h]; exact Or.inr (gNw_in q508 rfl)
  · rw [h]; exact Or.inl q556
  · rw [h]; exact Or.inl q557
  · rw [h]; exact Or.inl q558
  · rw [h]; exact Or.inl q559
  · rw [h]; exact Or.inr (gNw_in q510 rfl)
  · rw [h]; exact Or.inl q559
  · rw [h]; exact Or.inl q560
  · rw [h]; exact Or.inl q561
  · rw [h]; exact Or.inl q522
  · rw [h]; exact Or.inr (gNw_in q512 rfl)
  · rw [h]; exact Or.inl q2516
  · rw [h]; exact Or.inl q2498
  · rw [h]; exact Or.inr (gNw_in q2509 rfl)
  · rw [h]; exact Or.inl q2510
  · rw [h]; exact Or.inl q473
  · rw [h]; exact Or.inl q2504
  · rw [h]; exact Or.inl q2505
  · rw [h]; exact Or.inl q2507
  · rw [h]; exact Or.inl q2503
  · rw [h] at h2; exact absurd h2 (by decide)
  · rw [h] at h2; exact absurd h2 (by decide)
  · rw [h]; exact Or.inl q487
  · rw [h]; exact Or.inl q519
  · rw [h]; exact Or.inl q2502
/-- thrown: a plain exception of the library, all else as it was -/
def xPl (cls : String) (P : Prop) (G : gH) (n : Nat) : String → Nat → gH → Nat → Prop := fun E _ G1 n1 => P ∧ E = cls ∧ n ≤ n1 ∧ G1 = G
/-- a refusal at q without a cause -/
def rfO (D : gD) (q : Nat) (re de : Int32) : gE := .inl (8, [.ref q, gv D 0, gv D 1, .null, .null, .int 0, .int re, .int de])
/-- a refusal at q with its cause -/
def rfC (D : gD) (c : Nat) (re de : Int32) : gE := .inl (8, [.ref c, gv D 0, gv D 1, .null, .null, .int 0, .int re, .int de])
/-- thrown: a refusal without a cause, made just now -/
def xRf (D : gD) (re de : Int32) (P : Prop) (ms : Nat → Prop) (G : gH) (n : Nat) : String → Nat → gH → Nat → Prop := fun E q G1 n1 => P ∧ E = "WhelkFleet$Refusal" ∧ n ≤ q ∧ n ≤ n1 ∧ gF G G1 n ms ∧ G1 q = some (rfO D q re de)
set_option maxHeartbeats 4000000 in
set_option maxRecDepth 100000 in
theorem c_X1_require (l : Launch) {D : gD} (hB : gBs D) (hfl : l.stackTraces = false) (G : gH) (n : Nat) (h0 : Int32) : gMet l D yX1_require (ws_ yX1_require cX1_require 1 none) 14 1 G n [.int h0] (fun (v : Option Value) (G1 : gH) (n1 : Nat) => v = none ∧ G1 = G ∧ n1 = n ∧ ¬ h0 = 0) (xPl "java/lang/IllegalArgumentException" (h0 = 0) G n) := by
  refine g_start (by decide) (Nat.le_of_ble_eq_true rfl) ?_
  intro p e s m below meth c ls C hnm hxt hI hl
  have hx := C.x
  have hb := C.b
  have hS : va_S (gA D) s.heap s.heap [] := va_S.rf
  have hz0 := hI.z
  have hF : gF G G n gNone := gF.rf _ _ _
  have hl : lv_has ls 1 [(0, .int h0)] := hl
  refine lv_iload_n hx hb dX1_require_0 rfl (lv_at hl 0 rfl) ?_
  refine lv_if_ne (tgt := 12) hx hb dX1_require_1 (by decide) (fun c_5464 => ?_) (fun c_5464 => ?_)
  · skip
    exact g_vret C hI hS (by omega) ⟨rfl, rfl, rfl, c_5464⟩ dX1_require_12
  · skip
    exact g_throw1 (cls := "java/lang/IllegalArgumentException") (names := ["java/lang/RuntimeException", "java/lang/Exception"]) (ik := 58) (ic := 60) C (fun x h => (hxt x h).elim) hfl hB hI hS (by decide) (by decide) q570 q100 at_WhelkFleet_60 (by decide +kernel) hl dX1_require_4 dX1_require_7 dX1_require_8 dX1_require_11 (by decide) (Nat.le_of_ble_eq_true rfl) (by omega) (fun n1 hn1 => ⟨c_5464, rfl, hn1, rfl⟩)
set_option maxHeartbeats 4000000 in
set_option maxRecDepth 100000 in
theorem c_X1_requireIndex (l : Launch) {D : gD} (hB : gBs D) (hfl : l.stackTraces = false) (G : gH) (n : Nat) (h0 : Int32) : gMet l D yX1_requireIndex (ws_ yX1_requireIndex cX1_requireIndex 1 none) 14 1 G n [.int h0] (fun (v : Option Value) (G1 : gH) (n1 : Nat) => v = none ∧ G1 = G ∧ n1 = n ∧ ¬ h0 = 0) (xPl "java/lang/IndexOutOfBoundsException" (h0 = 0) G n) := by
  refine g_start (by decide) (Nat.le_of_ble_eq_true rfl) ?_
  intro p e s m below meth c ls C hnm hxt hI hl
  have hx := C.x
  have hb := C.b
  have hS : va_S (gA D) s.heap s.heap [] := va_S.rf
  have hz0 := hI.z
  have hF : gF G G n gNone := gF.rf _ _ _
  have hl : lv_has ls 1 [(0, .int h0)] := hl
  refine lv_iload_n hx hb dX1_requireIndex_0 rfl (lv_at hl 0 rfl) ?_
  refine lv_if_ne (tgt := 12) hx hb dX1_requireIndex_1 (by decide) (fun c_5465 => ?_) (fun c_5465 => ?_)
  · skip
    exact g_vret C hI hS (by omega) ⟨rfl, rfl, rfl, c_5465⟩ dX1_requireIndex_12
  · skip
    exact g_throw1 (cls := "java/lang/IndexOutOfBoundsException") (names := ["java/lang/RuntimeException", "java/lang/Exception"]) (ik := 61) (ic := 63) C (fun x h => (hxt x h).elim) hfl hB hI hS (by decide) (by decide) q543 q98 at_WhelkFleet_63 (by decide +kernel) hl dX1_requireIndex_4 dX1_requireIndex_7 dX1_requireIndex_8 dX1_requireIndex_11 (by decide) (Nat.le_of_ble_eq_true rfl) (by omega) (fun n1 hn1 => ⟨c_5465, rfl, hn1, rfl⟩)
set_option maxHeartbeats 4000000 in
set_option maxRecDepth 100000 in
theorem c_X1_requireState (l : Launch) {D : gD} (hB : gBs D) (hfl : l.stackTraces = false) (G : gH) (n : Nat) (h0 : Int32) : gMet l D yX1_requireState (ws_ yX1_requireState cX1_requireState 1 none) 14 1 G n [.int h0] (fun (v : Option Value) (G1 : gH) (n1 : Nat) => v = none ∧ G1 = G ∧ n1 = n ∧ ¬ h0 = 0) (xPl "java/lang/IllegalStateException" (h0 = 0) G n) := by
  refine g_start (by decide) (Nat.le_of_ble_eq_true rfl) ?_
  intro p e s m below meth c ls C hnm hxt hI hl
  have hx := C.x
  have hb := C.b
  have hS : va_S (gA D) s.heap s.heap [] := va_S.rf
  have hz0 := hI.z
  have hF : gF G G n gNone := gF.rf _ _ _
  have hl : lv_has ls 1 [(0, .int h0)] := hl
  refine lv_iload_n hx hb dX1_requireState_0 rfl (lv_at hl 0 rfl) ?_
  refine lv_if_ne (tgt := 12) hx hb dX1_requireState_1 (by decide) (fun c_5466 => ?_) (fun c_5466 => ?_)
  · skip
    exact g_vret C hI hS (by omega) ⟨rfl, rfl, rfl, c_5466⟩ dX1_requireState_12
  · skip
    exact g_throw1 (cls := "java/lang/IllegalStateException") (names := ["java/lang/RuntimeException", "java/lang/Exception"]) (ik := 64) (ic := 66) C (fun x h => (hxt x h).elim) hfl hB hI hS (by decide) (by decide) q2066 q119 at_WhelkFleet_66 (by decide +kernel) hl dX1_requireState_4 dX1_requireState_7 dX1_requireState_8 dX1_requireState_11 (by decide) (Nat.le_of_ble_eq_true rfl) (by omega) (fun n1 hn1 => ⟨c_5466, rfl, hn1, rfl⟩)
set_option maxHeartbeats 4000000 in
set_option maxRecDepth 100000 in
theorem c_X1_requireElement (l : Launch) {D : gD} (hB : gBs D) (hfl : l.stackTraces = false) (G : gH) (n : Nat) (h0 : Int32) : gMet l D yX1_requireElement (ws_ yX1_requireElement cX1_requireElement 1 none) 14 1 G n [.int h0] (fun (v : Option Value) (G1 : gH) (n1 : Nat) => v = none ∧ G1 = G ∧ n1 = n ∧ ¬ h0 = 0) (xPl "java/util/NoSuchElementException" (h0 = 0) G n) := by
  refine g_start (by decide) (Nat.le_of_ble_eq_true rfl) ?_
  intro p e s m below meth c ls C hnm hxt hI hl
  have hx := C.x
  have hb := C.b
  have hS : va_S (gA D) s.heap s.heap [] := va_S.rf
  have hz0 := hI.z
  have hF : gF G G n gNone := gF.rf _ _ _
  have hl : lv_has ls 1 [(0, .int h0)] := hl
  refine lv_iload_n hx hb dX1_requireElement_0 rfl (lv_at hl 0 rfl) ?_
  refine lv_if_ne (tgt := 12) hx hb dX1_requireElement_1 (by decide) (fun c_5467 => ?_) (fun c_5467 => ?_)
  · skip
    exact g_vret C hI hS (by omega) ⟨rfl, rfl, rfl, c_5467⟩ dX1_requireElement_12
  · skip
    exact g_throw1 (cls := "java/util/NoSuchElementException") (names := ["java/lang/RuntimeException", "java/lang/Exception"]) (ik := 67) (ic := 69) C (fun x h => (hxt x h).elim) hfl hB hI hS (by decide) (by decide) q1952 q111 at_WhelkFleet_69 (by decide +kernel) hl dX1_requireElement_4 dX1_requireElement_7 dX1_requireElement_8 dX1_requireElement_11 (by decide) (Nat.le_of_ble_eq_true rfl) (by omega) (fun n1 hn1 => ⟨c_5467, rfl, hn1, rfl⟩)
set_option maxHeartbeats 4000000 in
set_option maxRecDepth 100000 in
theorem c_X1_meet (l : Launch) {D : gD} (hB : gBs D) (hfl : l.stackTraces = false) (G : gH) (n : Nat) (h0 : Int32) (re : Int32) (de : Int32) : gMet l D yX1_meet (ws_ yX1_meet cX1_meet 3 none) 15 1 G n [.int h0, .int re, .int de] (fun (v : Option Value) (G1 : gH) (n1 : Nat) => v = none ∧ G1 = G ∧ n1 = n ∧ ¬ h0 = 0) (xRf D re de (h0 = 0) gNone G n) := by
  refine g_start (by decide) (Nat.le_of_ble_eq_true rfl) ?_
  intro p e s m below meth c ls C hnm hxt hI hl
  have hx := C.x
  have hb := C.b
  have hS : va_S (gA D) s.heap s.heap [] := va_S.rf
  have hz0 := hI.z
  have hF : gF G G n gNone := gF.rf _ _ _
  have hl : lv_has ls 3 [(0, .int h0), (1, .int re), (2, .int de)] := hl
  refine lv_iload_n hx hb dX1_meet_0 rfl (lv_at hl 0 rfl) ?_
  refine lv_if_ne (tgt := 14) hx hb dX1_meet_1 (by decide) (fun c_5468 => ?_) (fun c_5468 => ?_)
  · skip
    exact g_vret C hI hS (by omega) ⟨rfl, rfl, rfl, c_5468⟩ dX1_meet_14
  · skip
    refine g_new (fs := [.null, .null, .null, .null, .null, .int 0, .int 0, .int 0]) C hI hS kc8 rfl q849 q1327 q117 (by decide) (by omega) dX1_meet_4 (fun G5469 H e5470 hI hS => ?_)
    have c5471 : G5469 n = some (.inl (8, [.null, .null, .null, .null, .null, .int 0, .int 0, .int 0])) := gE_s e5470
    have hF := gE_F e5470 hF (Or.inl (by omega))
    refine lv_dup hx hb dX1_meet_7 rfl ?_
    refine lv_iload_n hx hb dX1_meet_8 rfl (lv_at hl 1 rfl) ?_
    refine lv_iload_n hx hb dX1_meet_9 rfl (lv_at hl 2 rfl) ?_
    refine g_I (As := [.int re, .int de]) (rest := [.ref n]) (lv := [(0, .int h0), (1, .int re), (2, .int de)]) C hI hS (c_X10_init l hB hfl G5469 (n + 1) n re de c5471 (by omega)) rfl q1358 q1340 q117 q1341 (⟨by decide, by decide, by decide⟩ : gArg _ 2) rfl ⟨by decide, by decide⟩ (by omega) hl rfl (Nat.le_of_ble_eq_true rfl) dX1_meet_10 (fun v5472 G5473 n5474 H locs hp5475 hI hS => ?_) gKx.no
    obtain ⟨rfl, hn5476, hF5477, c5478⟩ := hp5475
    refine W.widen (k := 1) (n := 200 * (1)) (by omega) (by omega) ?_
    have hF := hF.trans hF5477 (by omega) (fun q hq => (fun h => by exfalso; omega))
    exact g_athrow C hI c5478 (r := (RX10, TX10, 8)) rfl (by omega) dX1_meet_13 (g_out0 C hxt hI hS (by omega) ⟨c_5468, rfl, Nat.le_refl _, by omega, hF, c5478⟩)
