/-! THE G-LAYER 6: Math.min and max, String constants by ldc_w, System.arraycopy -/
set_option maxRecDepth 100000
section G6
variable {p : Program} {l : Launch} {e : Env} {k B : Nat} {s : State} {m : MethodId} {args : Array Value} {below : List Frame} {meth : Method} {c : Code} {D : gD} {cc : ByteArray} {own : String} {nL : Nat} {rt : Option FieldType} {H : Heap} {locs : List Loc} {b : Nat} {Q : State → Prop} {G : gH} {n pc : Nat} {ls : Array Slot} {rest : List Value} {lv : List (Nat × Value)}
theorem g_cat (rest : List Value) : (rest.map fun v => v.category).sum ≤ 2 * rest.length := by
  induction rest with
  | nil => exact Nat.le_refl _
  | cons v r ih =>
    have hc : v.category ≤ 2 := by cases v <;> simp [Value.category]
    simp only [List.map_cons, List.sum_cons, List.length_cons]
    omega
def sMin (a b : Int32) : Int32 := if b < a then b else a
def sMax (a b : Int32) : Int32 := if a < b then b else a
theorem g_min (C : gB p l s m args meth c D cc own nL rt) (hl : lv_has ls nL lv) {index : Nat} (hlink : Cond.methodLink own index ⟨"java/lang/Math", "min", "(II)I"⟩ ∈ lw_all) (hk : 1 ≤ k) (hb : b ≤ B) (hr : rest.length ≤ 20) {x y : Int32} (hdg : decode cc pc = .ok (.invokestatic index, 3))
    (kk : W p l e (gR k B) s m args below meth c H locs b (200 * b) Q (F0 m (pc + 3) ls (.int (sMin x y) :: rest))) : W p l e (gR k B) s m args below meth c H locs b (200 * b) Q (F0 m pc ls (.int y :: .int x :: rest)) :=
  va_mmin C.x C.b (by rw [C.ml]; first | exact hl.1 | exact hl.1.symm) C.ow (C.ts _ hlink) (C.ts _ q305) (C.ts _ q84) (C.ts _ q306) hk (by have := g_cat rest; show _ ≤ 60 * k; omega) hb (show 200 * b ≤ 200 * B by omega) hdg kk
theorem g_max (C : gB p l s m args meth c D cc own nL rt) (hl : lv_has ls nL lv) {index : Nat} (hlink : Cond.methodLink own index ⟨"java/lang/Math", "max", "(II)I"⟩ ∈ lw_all) (hk : 1 ≤ k) (hb : b ≤ B) (hr : rest.length ≤ 20) {x y : Int32} (hdg : decode cc pc = .ok (.invokestatic index, 3))
    (kk : W p l e (gR k B) s m args below meth c H locs b (200 * b) Q (F0 m (pc + 3) ls (.int (sMax x y) :: rest))) : W p l e (gR k B) s m args below meth c H locs b (200 * b) Q (F0 m pc ls (.int y :: .int x :: rest)) :=
  va_mmax C.x C.b (by rw [C.ml]; first | exact hl.1 | exact hl.1.symm) C.ow (C.ts _ hlink) (C.ts _ q250) (C.ts _ q84) (C.ts _ q251) hk (by have := g_cat rest; show _ ≤ 60 * k; omega) hb (show 200 * b ≤ 200 * B by omega) hdg kk
theorem g_ldcSW (C : gB p l s m args meth c D cc own nL rt) {tx : String} {index q : Nat} (hZ : (own, index, tx, q) ∈ gSr D) (hdg : decode cc pc = .ok (.ldc_w index, 3)) {R : Room} {cells slots : Nat}
    (kk : W p l e R s m args below meth c H locs cells slots Q (F0 m (pc + 3) ls (.ref q :: rest))) : W p l e R s m args below meth c H locs cells slots Q (F0 m pc ls rest) := by
  intro T hT X
  obtain ⟨t, a1, b1⟩ := kk T hT X
  have hZ2 := C.w.sr hZ
  exact ⟨t, X.ldcStringW C.x C.ow (text := tx) (a := q) hZ2.1 hZ2.2 (g := F0 m pc ls rest) rfl (by rw [C.b]; exact hdg) t a1, b1⟩
/-- arrays of numbers that one another hold -/
theorem g_copy {t : Nat} (C : gB p l s m args meth c D cc own nL rt) (hl : lv_has ls nL lv) (hI : gI D G n H) (hS : va_S (gA D) s.heap H locs) {index : Nat} (hlink : Cond.methodLink own index arraycopyName ∈ lw_all) {a0 a N0 N1 : Nat} {f g : Nat → Int32} (hq0 : G a0 = some (.inr (t, N0, fun j => .int (f j)))) (hq1 : G a = some (.inr (t, N1, fun j => .int (g j)))) (hprim : refKind (gTy t) = false) (ha : gz D ≤ a)
    {vs vd vn : Int32} {sp dp nn : Nat} (e1 : vs = nI sp) (e2 : vd = nI dp) (e3 : vn = nI nn) (h4 : sp + nn ≤ N0) (h5 : dp + nn ≤ N1) (hN0 : N0 < 2 ^ 31) (hN1 : N1 < 2 ^ 31) (hfit : ∀ i, i < nn → fits (gTy t) (.int (f (sp + i))) = true)
    (hk : 1 ≤ k) (hr : rest.length ≤ 5) (hdg : decode cc pc = .ok (.invokestatic index, 3))
    (kk : ∀ (G1 : gH) (H1 : Heap) (locs1 : List Loc), G1 = gu G a (.inr (t, N1, fun j => .int (va_cpy f g sp dp nn j))) → gI D G1 n H1 → va_S (gA D) s.heap H1 locs1 → W p l e (gR k B) s m args below meth c H1 locs1 b (200 * b) Q (F0 m (pc + 3) ls rest)) : W p l e (gR k B) s m args below meth c H locs b (200 * b) Q (F0 m pc ls (.int vn :: .int vd :: .ref a :: .int vs :: .ref a0 :: rest)) := by
  subst e1 e2 e3
  obtain ⟨c0, p1, p2, p3, p4, p5, p6, p7, p8⟩ := hI.2.2.2 _ _ hq0
  obtain ⟨c1, q1, q2, q3, q4, q5, q6, q7, q8⟩ := hI.2.2.2 _ _ hq1
  obtain ⟨k0, cm0, hk0, hkk0⟩ := C.w.2.1 t _ p2
  obtain ⟨k1, cm1, hk1, hkk1⟩ := C.w.2.1 t _ q2
  dsimp only at p6 p7 p8 q6 q7 q8
  have cS : (nI sp).toNatClampNeg = sp := nI_clamp (by omega)
  have cD : (nI dp).toNatClampNeg = dp := nI_clamp (by omega)
  have cN : (nI nn).toNatClampNeg = nn := nI_clamp (by omega)
  have tS : (nI sp).toInt = sp := nI_toInt (by omega)
  have tD : (nI dp).toInt = dp := nI_toInt (by omega)
  have tN : (nI nn).toInt = nn := nI_toInt (by omega)
  intro T hT X
  obtain ⟨vm', X', step⟩ := X.arraycopy C.x C.ow (C.ts _ hlink) (C.ts _ q309) (C.ts _ q308) (C.ts _ q86) (src := a0) (dst := a) (cs := c0) (cd := c1) (srcPos := nI sp) (destPos := nI dp) (n := nI nn) (by rw [hT]; exact p1) (by rw [hT]; exact q1)
    (fun _ h => by rw [h] at p3; cases p3) (fun _ h => by rw [h] at q3; cases q3) p4 q4 hk0 hk1 hkk0 hkk1 (by simp [hprim]) (nI_pos (by omega)) (nI_pos (by omega)) (nI_pos (by omega))
    (by rw [tS, tN, p6]; omega) (by rw [tD, tN, q6]; omega)
    (fun vm₁ _ i hi => by
      rw [cN] at hi
      have e : c0.slots.getD ((nI sp).toNatClampNeg + i) .null = .int (f (sp + i)) := by
        rw [cS, Array.getD_eq_getD_getElem?, p8 _ (by omega)]
        rfl
      refine ⟨?_, ?_⟩
      · rw [e]
        exact hfit i hi
      · rw [e]
        exact trivial)
    (g := F0 m pc ls (.int (nI nn) :: .int (nI dp) :: .ref a :: .int (nI sp) :: .ref a0 :: rest)) rfl (by rw [C.ml]; exact hl.1) (rest := rest) rfl (by rw [C.b]; exact hdg) hk (by
      have := g_cat rest
      have e9 : nativeFrameWords "java/lang/System" "arraycopy" 5 ≤ 30 := by decide
      show 2 * 0 + _ + _ ≤ 60 * k
      omega)
  have hl1 : a < H.size := (Array.getElem?_eq_some_iff.mp q1).1
  have hheap : ((T.setVm vm').setCell a (copied c0 c1 (nI sp) (nI dp) (nI nn))).heap = H.setIfInBounds a (copied c0 c1 (nI sp) (nI dp) (nI nn)) := by rw [← hT]; rfl
  have oq : ∀ q : Nat, q ≠ a → (H.setIfInBounds a (copied c0 c1 (nI sp) (nI dp) (nI nn)))[q]? = H[q]? := fun q hq => by simp [Array.getElem?_setIfInBounds, Ne.symm hq]
  have hsz : (H.setIfInBounds a (copied c0 c1 (nI sp) (nI dp) (nI nn))).size = H.size := by simp
  have fc := Cell.storeRun_facts c1 (nI dp).toNatClampNeg (c0.stretch (nI sp).toNatClampNeg (nI nn).toNatClampNeg)
  have hat : g_at D a (.inr (t, N1, fun j => .int (va_cpy f g sp dp nn j))) (H.setIfInBounds a (copied c0 c1 (nI sp) (nI dp) (nI nn))) := by
    refine ⟨copied c0 c1 (nI sp) (nI dp) (nI nn), show (H.setIfInBounds a _)[a]? = some _ by simp [Array.getElem?_setIfInBounds, hl1], by rw [fc.1]; exact q2, by rw [fc.2.1]; exact q3, by rw [fc.2.1]; exact q4, fun h => by rw [fc.1, fc.2.1]; exact q5 h, by rw [fc.2.2.1]; exact q6, q7, fun j hj => ?_⟩
    show (c1.storeRun (nI dp).toNatClampNeg (c0.stretch (nI sp).toNatClampNeg (nI nn).toNatClampNeg)).slots[j]? = _
    rw [cS, cD, cN, Cell.storeRun_get _ _ _ _ (by rw [Cell.stretch_length]; omega), Cell.stretch_length]
    show _ = some (Value.int (va_cpy f g sp dp nn j))
    unfold va_cpy
    by_cases h : dp ≤ j ∧ j < dp + nn
    · rw [if_pos h, if_pos h]
      unfold Cell.stretch
      rw [List.getElem?_map, List.getElem?_range (by omega)]
      show some (c0.slots.getD (sp + (j - dp)) .null) = _
      rw [Array.getD_eq_getD_getElem?, p8 _ (by omega)]
      rfl
    · rw [if_neg h, if_neg h]
      exact q8 j hj
  obtain ⟨t1, a1, b1⟩ := kk _ _ _ rfl (hI.put ha hat hsz oq) ⟨by rw [hsz]; exact hS.1, fun q g1 g2 => by
      rw [oq q (fun e => g2 (by rw [e]; exact ha))]
      exact hS.2.1 q g1 g2, fun q hq => by
      rcases List.mem_append.mp hq with h | h
      · exact hS.2.2 q h
      · obtain ⟨z, -, hz⟩ := List.mem_map.mp h
        rw [← hz]
        exact ha⟩ _ hheap X'
  exact ⟨t1, step t1 a1, b1⟩
end G6
theorem gBs.tx {D : gD} (h : gBs D) {j : Nat} {q : List Nat × Int32 × Int32} (hj : gTx[j]? = some q) : gk D (100 + j) < gz D ∧ gk D (200 + j) < gz D ∧ gbase D (gk D (100 + j)) = some (.inl (21, [.ref (gk D (200 + j)), .int 0, .int q.2.1, .int q.2.2])) ∧ gbase D (gk D (200 + j)) = some (aB q.1.length (fun i => nI (q.1.getD i 0))) := h.2.2.2.2.2.2.2.2.2 j q hj
theorem gdiv {x y : Int32} {a b : Nat} (h : x = nI a) (k : y = nI b) (ha : a < 2 ^ 31) (hb : 0 < b ∧ b < 2 ^ 31) : x / y = nI (a / b) := by rw [h, k, pk_div ha hb.1 hb.2]
theorem grem {x y : Int32} {a b : Nat} (h : x = nI a) (k : y = nI b) (ha : a < 2 ^ 31) (hb : 0 < b ∧ b < 2 ^ 31) : x - x / y * y = nI (a % b) := by rw [h, k, pk_rem ha hb.1 hb.2]
theorem nl10000 : (10000 : Int32) = nI 10000 := rfl
theorem nl100000 : (100000 : Int32) = nI 100000 := rfl
