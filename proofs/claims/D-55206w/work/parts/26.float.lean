/-! NO NaN -/
set_option maxRecDepth 100000
/-- a number within the format, or an infinity -/
def flG (f : FP.Core.Fmt) (d : FP.Core.Datum) : Prop := (∃ s, d = .inf s) ∨ ∃ s c q, d = .fin s c q ∧ c < 2 ^ f.p ∧ q ≤ f.qmax
def flF (f : FP.Core.Fmt) : Prop := f = FP.Core.b32 ∨ f = FP.Core.b64
theorem flG_settle {f : FP.Core.Fmt} (hf : flF f) (s : Bool) (c : Nat) (q : Int) : flG f (FP.Core.settle f s c q) := by
  have ht : f.tails < 2 ^ f.p := by rcases hf with h | h <;> subst h <;> decide
  unfold FP.Core.settle FP.Core.bound
  split
  · next h =>
    split
    · next h2 => exact .inr ⟨_, _, _, rfl, h, h2⟩
    · exact .inl ⟨_, rfl⟩
  · split
    · next h2 => exact .inr ⟨_, _, _, rfl, ht, h2⟩
    · exact .inl ⟨_, rfl⟩
theorem flG_ratio {f : FP.Core.Fmt} (hf : flF f) (s : Bool) (n d : Nat) (e : Int) : flG f (FP.Core.roundRatio f s n d e) := by
  unfold FP.Core.roundRatio FP.Core.roundAt
  split
  · exact .inr ⟨_, _, _, rfl, Nat.two_pow_pos _, by rcases hf with h | h <;> subst h <;> decide⟩
  · exact flG_settle hf _ _ _
/-- the fields of what is encoded -/
theorem fl_enc {f : FP.Core.Fmt} (hf : flF f) {d : FP.Core.Datum} (hd : flG f d) : ∃ s e t, FP.Core.encode f d = FP.Core.assemble f s e t ∧ e < f.exps ∧ t < f.tails ∧ (e + 1 < f.exps ∨ t = 0) ∧ ((∃ s c q, d = .fin s c q ∧ c ≠ 0) → e + 1 < f.exps ∧ ¬ (e = 0 ∧ t = 0)) ∧ ((∃ s c q, d = .fin s c q) → e + 1 < f.exps) := by
  have k : 1 < f.exps ∧ 2 ^ f.p = 2 * f.tails ∧ 0 < f.tails ∧ (∀ q : Int, q ≤ f.qmax → (q - f.qmin).toNat + 1 + 1 < f.exps) := by
    rcases hf with h | h <;> subst h
    · refine ⟨by decide, by decide, by decide, fun q h => ?_⟩
      have e1 : FP.Core.b32.qmax = 104 := by decide
      have e2 : FP.Core.b32.qmin = -149 := by decide
      have e3 : FP.Core.b32.exps = 256 := by decide
      omega
    · refine ⟨by decide, by decide, by decide, fun q h => ?_⟩
      have e1 : FP.Core.b64.qmax = 971 := by decide
      have e2 : FP.Core.b64.qmin = -1074 := by decide
      have e3 : FP.Core.b64.exps = 2048 := by decide
      omega
  obtain ⟨k1, k2, k3, k4⟩ := k
  rcases hd with ⟨s, rfl⟩ | ⟨s, c, q, rfl, hc, hq⟩
  · exact ⟨s, f.exps - 1, 0, rfl, by omega, k3, .inr rfl, fun ⟨_, _, _, h, _⟩ => (by cases h), fun ⟨_, _, _, h⟩ => (by cases h)⟩
  · unfold FP.Core.encode
    by_cases h : c < f.tails
    · dsimp only
      rw [if_pos h]
      exact ⟨s, 0, c, rfl, by omega, h, .inl (by omega), fun ⟨_, _, _, g, g2⟩ => by cases g; exact ⟨by omega, fun z => g2 z.2⟩, fun _ => by omega⟩
    · dsimp only
      rw [if_neg h]
      have := k4 q hq
      exact ⟨s, (q - f.qmin).toNat + 1, c - f.tails, rfl, by omega, by omega, .inl (by omega), fun _ => ⟨by omega, by omega⟩, fun _ => by omega⟩
theorem fl_n64 {d : FP.Core.Datum} (hd : flG FP.Core.b64 d) : vf_n64 (.ofNat (FP.Core.encode FP.Core.b64 d)) := by
  obtain ⟨s, e, t, h, he, ht, h3, -⟩ := fl_enc (.inr rfl) hd
  have e1 : FP.Core.b64.tails = 4503599627370496 := by decide
  have e2 : FP.Core.b64.exps = 2048 := by decide
  unfold vf_n64
  rw [h, UInt64.le_iff_toNat_le, UInt64.toNat_and, show (0x7fffffffffffffff : UInt64).toNat = 2 ^ 63 - 1 from rfl, Nat.and_two_pow_sub_one_eq_mod, show (0x7ff0000000000000 : UInt64).toNat = 9218868437227405312 from rfl]
  unfold FP.Core.assemble
  rw [e2] at he h3
  rw [e1] at ht
  rw [e1, e2]
  have hs : s.toNat ≤ 1 := Bool.toNat_le s
  rw [UInt64.toNat_ofNat_of_lt' (by show _ < 2 ^ 64; omega)]
  omega
theorem fl_n32 {d : FP.Core.Datum} (hd : flG FP.Core.b32 d) : vf_n32 (.ofNat (FP.Core.encode FP.Core.b32 d)) := by
  obtain ⟨s, e, t, h, he, ht, h3, -⟩ := fl_enc (.inl rfl) hd
  have e1 : FP.Core.b32.tails = 8388608 := by decide
  have e2 : FP.Core.b32.exps = 256 := by decide
  unfold vf_n32
  rw [h, UInt32.le_iff_toNat_le, UInt32.toNat_and, show (0x7fffffff : UInt32).toNat = 2 ^ 31 - 1 from rfl, Nat.and_two_pow_sub_one_eq_mod, show (0x7f800000 : UInt32).toNat = 2139095040 from rfl]
  unfold FP.Core.assemble
  rw [e2] at he h3
  rw [e1] at ht
  rw [e1, e2]
  have hs : s.toNat ≤ 1 := Bool.toNat_le s
  rw [UInt32.toNat_ofNat_of_lt' (by show _ < 2 ^ 32; omega)]
  omega
/-- decoded again, a number is one -/
theorem fl_dec64 {d : FP.Core.Datum} (hd : flG FP.Core.b64 d) : (∀ s c q, d = .fin s c q → ∃ s c2 q, FP.Core.decode FP.Core.b64 (UInt64.ofNat (FP.Core.encode FP.Core.b64 d)).toNat = .fin s c2 q ∧ (c ≠ 0 → c2 ≠ 0)) := by
  intro s0 c0 q0 hd0
  obtain ⟨s, e, t, h, he, ht, h3, h4, h5⟩ := fl_enc (.inr rfl) hd
  have g5 := h5 ⟨_, _, _, hd0⟩
  have g4 : c0 ≠ 0 → _ := fun z => h4 ⟨_, _, _, hd0, z⟩
  have e1 : FP.Core.b64.tails = 4503599627370496 := by decide
  have e2 : FP.Core.b64.exps = 2048 := by decide
  rw [h]
  unfold FP.Core.assemble FP.Core.decode FP.Core.fieldE FP.Core.fieldT
  rw [e2] at he g5
  rw [e1] at ht
  rw [e1, e2]
  have hs : s.toNat ≤ 1 := Bool.toNat_le s
  rw [UInt64.toNat_ofNat_of_lt' (by show _ < 2 ^ 64; omega), if_neg (by omega)]
  split
  · next z => exact ⟨_, _, _, rfl, fun y => by have := g4 y; omega⟩
  · next z => exact ⟨_, _, _, rfl, fun y => by omega⟩
theorem fl_dec32 {d : FP.Core.Datum} (hd : flG FP.Core.b32 d) : (∀ s c q, d = .fin s c q → ∃ s c2 q, FP.Core.decode FP.Core.b32 (UInt32.ofNat (FP.Core.encode FP.Core.b32 d)).toNat = .fin s c2 q ∧ (c ≠ 0 → c2 ≠ 0)) := by
  intro s0 c0 q0 hd0
  obtain ⟨s, e, t, h, he, ht, h3, h4, h5⟩ := fl_enc (.inl rfl) hd
  have g5 := h5 ⟨_, _, _, hd0⟩
  have g4 : c0 ≠ 0 → _ := fun z => h4 ⟨_, _, _, hd0, z⟩
  have e1 : FP.Core.b32.tails = 8388608 := by decide
  have e2 : FP.Core.b32.exps = 256 := by decide
  rw [h]
  unfold FP.Core.assemble FP.Core.decode FP.Core.fieldE FP.Core.fieldT
  rw [e2] at he g5
  rw [e1] at ht
  rw [e1, e2]
  have hs : s.toNat ≤ 1 := Bool.toNat_le s
  rw [UInt32.toNat_ofNat_of_lt' (by show _ < 2 ^ 32; omega), if_neg (by omega)]
  split
  · next z => exact ⟨_, _, _, rfl, fun y => by have := g4 y; omega⟩
  · next z => exact ⟨_, _, _, rfl, fun y => by omega⟩
theorem fl_near {a b : Nat} (hb : 0 < b) (h : b ≤ a) : 1 ≤ FP.Core.nearest a b := by
  have : 1 ≤ a / b := (Nat.one_le_div_iff hb).mpr h
  unfold FP.Core.nearest
  (repeat' split) <;> omega
/-- a whole number is a number of the format, zero for zero alone -/
theorem fl_fin {f : FP.Core.Fmt} (hf : flF f) (s : Bool) {n : Nat} (h0 : 0 < n) (hn : n ≤ 2 ^ 31) : ∃ c q, FP.Core.roundRatio f s n 1 0 = .fin s c q ∧ c ≠ 0 := by
  have hp : 24 ≤ f.p ∧ f.qmin ≤ -100 ∧ 100 ≤ f.qmax ∧ 0 < f.tails := by rcases hf with h | h <;> subst h <;> decide
  have hl0 := Nat.log2_self_le (n := n) (by omega)
  have hl : n.log2 ≤ 31 := by
    apply Nat.le_of_not_lt
    intro c
    have : 2 ^ 32 ≤ 2 ^ n.log2 := Nat.pow_le_pow_right (by decide) c
    omega
  have hld : FP.Core.leading n 1 = n.log2 := by
    unfold FP.Core.leading
    have e1 : Nat.log2 1 = 0 := by decide
    rw [e1]
    have e2 : ((n.log2 : Int) - ((0 : Nat) : Int)).toNat = n.log2 := by omega
    have e3 : (-((n.log2 : Int) - ((0 : Nat) : Int))).toNat = 0 := by omega
    dsimp only
    rw [e2, e3, if_pos (by omega)]
    omega
  unfold FP.Core.roundRatio
  rw [if_neg (by omega)]
  have hq : FP.Core.quantum f n 1 0 ≤ 8 ∧ (∀ z : Nat, FP.Core.quantum f n 1 0 = (z : Int) → z ≤ n.log2) := by
    unfold FP.Core.quantum
    rw [hld]
    have := hp.1
    have := hp.2.1
    constructor
    · omega
    · intro z hz; omega
  generalize FP.Core.quantum f n 1 0 = q at hq ⊢
  unfold FP.Core.roundAt FP.Core.settle FP.Core.bound
  have hge : 1 ≤ FP.Core.nearest (FP.Core.unitsNum n 0 q) (FP.Core.unitsDen 1 0 q) := by
    unfold FP.Core.unitsNum FP.Core.unitsDen
    apply fl_near (by have := Nat.two_pow_pos (q - 0).toNat; omega)
    by_cases c : q ≤ 0
    · have e1 : (q - 0).toNat = 0 := by omega
      rw [e1]
      have := Nat.two_pow_pos (0 - q).toNat
      have : 1 * 1 ≤ n * 2 ^ (0 - q).toNat := Nat.mul_le_mul h0 this
      omega
    · have e1 : (0 - q).toNat = 0 := by omega
      rw [e1]
      have h1 := hq.2 q.toNat (by omega)
      have h2 : (q - 0).toNat = q.toNat := by omega
      rw [h2]
      have h3 : 2 ^ q.toNat ≤ 2 ^ n.log2 := Nat.pow_le_pow_right (by decide) h1
      omega
  split
  · rw [if_pos (by have := hp.2.2.1; omega)]
    exact ⟨_, _, rfl, by omega⟩
  · rw [if_pos (by have := hp.2.2.1; omega)]
    exact ⟨_, _, rfl, by have := hp.2.2.2; omega⟩
theorem fl_abs {a : Int32} : a.toInt.natAbs ≤ 2 ^ 31 := by
  have h1 := Int32.toInt_lt a
  have h2 := Int32.le_toInt a
  omega
theorem fl_abs0 {a : Int32} (h : a ≠ 0) : 0 < a.toInt.natAbs := by
  have : a.toInt ≠ 0 := fun c => h (Int32.toInt_inj.mp (by rw [c]; rfl))
  omega
theorem fl_i {f : FP.Core.Fmt} (hf : flF f) (a : Int32) : flG f (FP.Core.round f (FP.Core.ofInt a.toInt)) ∧ ∃ s c q, FP.Core.round f (FP.Core.ofInt a.toInt) = .fin s c q ∧ (a ≠ 0 → c ≠ 0) := by
  unfold FP.Core.round FP.Core.ofInt
  dsimp only
  refine ⟨flG_ratio hf _ _ _ _, ?_⟩
  by_cases h : a = 0
  · subst h
    refine ⟨decide ((0 : Int32).toInt < 0), 0, f.qmin, ?_, fun c => absurd rfl c⟩
    unfold FP.Core.roundRatio
    rw [if_pos (by rfl)]
  · obtain ⟨c, q, e, hc⟩ := fl_fin hf (decide (a.toInt < 0)) (fl_abs0 h) fl_abs
    exact ⟨_, c, q, e, fun _ => hc⟩
theorem flG_quot {f : FP.Core.Fmt} (hf : flF f) {s s' : Bool} {c c' : Nat} {q q' : Int} (h : c' ≠ 0) : flG f (FP.Core.quotient f (.fin s c q) (.fin s' c' q')) := by
  unfold FP.Core.quotient
  dsimp only
  rw [if_neg h]
  exact flG_ratio hf _ _ _ _
theorem fl_ddiv (a : Int32) {b : Int32} (hb : ¬ b = 0) : vf_n64 (FP.ddiv (FP.i2d a) (FP.i2d b)) := by
  obtain ⟨g1, s, c, q, e, -⟩ := fl_i (.inr rfl) a
  obtain ⟨g2, s', c', q', e', h'⟩ := fl_i (.inr rfl) b
  obtain ⟨t1, t2, t3, t4, -⟩ := fl_dec64 g1 _ _ _ e
  obtain ⟨u1, u2, u3, u4, u5⟩ := fl_dec64 g2 _ _ _ e'
  show vf_n64 (.ofNat (FP.Core.encode FP.Core.b64 (FP.Core.quotient FP.Core.b64 (FP.Core.decode FP.Core.b64 (UInt64.ofNat (FP.Core.encode FP.Core.b64 (FP.Core.round FP.Core.b64 (FP.Core.ofInt a.toInt)))).toNat) (FP.Core.decode FP.Core.b64 (UInt64.ofNat (FP.Core.encode FP.Core.b64 (FP.Core.round FP.Core.b64 (FP.Core.ofInt b.toInt)))).toNat))))
  rw [t4, u4]
  exact fl_n64 (flG_quot (.inr rfl) (u5 (h' hb)))
theorem fl_fdivG (a : Int32) {b : Int32} (hb : ¬ b = 0) : ∃ d, flG FP.Core.b32 d ∧ FP.fdiv (FP.i2f a) (FP.i2f b) = .ofNat (FP.Core.encode FP.Core.b32 d) := by
  obtain ⟨g1, s, c, q, e, -⟩ := fl_i (.inl rfl) a
  obtain ⟨g2, s', c', q', e', h'⟩ := fl_i (.inl rfl) b
  obtain ⟨t1, t2, t3, t4, -⟩ := fl_dec32 g1 _ _ _ e
  obtain ⟨u1, u2, u3, u4, u5⟩ := fl_dec32 g2 _ _ _ e'
  refine ⟨_, flG_quot (.inl rfl) (s := t1) (c := t2) (q := t3) (s' := u1) (q' := u3) (u5 (h' hb)), ?_⟩
  rw [← t4, ← u4]
  rfl
theorem fl_fdiv (a : Int32) {b : Int32} (hb : ¬ b = 0) : vf_n32 (FP.fdiv (FP.i2f a) (FP.i2f b)) := by
  obtain ⟨d, h1, h2⟩ := fl_fdivG a hb
  rw [h2]
  exact fl_n32 h1
theorem fl_f2dG {x : UInt32} {s : Bool} {c : Nat} {q : Int} (h : FP.Core.decode FP.Core.b32 x.toNat = .fin s c q) : vf_n64 (FP.f2d x) := by
  have e : FP.f2d x = .ofNat (FP.Core.encode FP.Core.b64 (FP.Core.round FP.Core.b64 (FP.Core.decode FP.Core.b32 x.toNat))) := by
    unfold FP.f2d
    rw [if_neg]
    · rfl
    · unfold FP.Core.fIsNaN FP.Core.isNaN
      rw [h]
      simp
  rw [e, h]
  exact fl_n64 (flG_ratio (.inr rfl) _ _ _ _)
theorem fl_f2d (a : Int32) {b : Int32} (hb : ¬ b = 0) : vf_n64 (FP.f2d (FP.fdiv (FP.i2f a) (FP.i2f b))) := by
  obtain ⟨d, h1, h2⟩ := fl_fdivG a hb
  rw [h2]
  rcases h1 with ⟨s, rfl⟩ | ⟨s, c, q, rfl, hc, hq⟩
  · unfold vf_n64
    cases s <;> decide +kernel
  · obtain ⟨t1, t2, t3, t4, -⟩ := fl_dec32 (.inr ⟨s, c, q, rfl, hc, hq⟩) _ _ _ rfl
    exact fl_f2dG t4
