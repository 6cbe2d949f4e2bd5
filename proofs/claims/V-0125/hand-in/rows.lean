section
/-! rows of kit/rows (pk_..) that this claim takes, then sets of cells as bits of a long -/
theorem pk_us {f : Nat → Int32} {k : Nat} {x : Int32} : upd f k x k = x := if_pos rfl
theorem pk_un {f : Nat → Int32} {k j : Nat} {x : Int32} (h : j ≠ k) : upd f k x j = f j := if_neg h
theorem pk_sub {a b : Nat} (h : b ≤ a) : nI a - nI b = nI (a - b) := by
  obtain ⟨c, rfl⟩ : ∃ c, a = c + b := ⟨a - b, by omega⟩
  rw [← nI_add, Int32.add_sub_cancel, Nat.add_sub_cancel]
theorem pk_m1 (n : Nat) : nI (n + 1) + (-1) = nI n := by
  rw [← nI_1, Int32.add_assoc, show (1 : Int32) + (-1) = 0 from rfl, Int32.add_zero]
theorem pk_mul (a b : Nat) : nI a * nI b = nI (a * b) := (Int32.ofNat_mul a b).symm
theorem pk_ix (x : Int32) {n : Nat} (hn : n < 2 ^ 31) : x < 0 ∨ nI n ≤ x ∨ ∃ j : Nat, j < n ∧ x = nI j := by
  by_cases h : x < 0
  · exact Or.inl h
  · obtain ⟨j, hj, rfl⟩ := nI_of h
    by_cases h2 : j < n
    · exact Or.inr (Or.inr ⟨j, h2, rfl⟩)
    · exact Or.inr (Or.inl (nI_le (by omega) hj))
theorem pk_le {x y : Int32} {A B : Prop} (a b : Nat) (f : a ≤ b → A) (g : b < a → B) (hx : x = nI a := by rfl) (hy : y = nI b := by rfl) (ha : a < 2 ^ 31 := by omega) (hb : b < 2 ^ 31 := by omega) : (x ≤ y → A) ∧ (¬ x ≤ y → B) := by
  subst hx hy
  rw [nI_leI ha hb]
  exact ⟨f, fun z => g (by omega)⟩
theorem pk_lt {x y : Int32} {A B : Prop} (a b : Nat) (f : a < b → A) (g : b ≤ a → B) (hx : x = nI a := by rfl) (hy : y = nI b := by rfl) (ha : a < 2 ^ 31 := by omega) (hb : b < 2 ^ 31 := by omega) : (x < y → A) ∧ (¬ x < y → B) := by
  subst hx hy
  rw [nI_ltI ha hb]
  exact ⟨f, fun z => g (by omega)⟩
theorem pk_eq {x y : Int32} {A B : Prop} (a b : Nat) (f : a = b → A) (g : a ≠ b → B) (hx : x = nI a := by rfl) (hy : y = nI b := by rfl) (ha : a < 2 ^ 31 := by omega) (hb : b < 2 ^ 31 := by omega) : (x = y → A) ∧ (¬ x = y → B) := by
  subst hx hy
  rw [nI_eq ha hb]
  exact ⟨f, g⟩
theorem pk_in {x : Int32} (n N : Nat) (h : n < N) (hx : x = nI n := by rfl) (hN : N < 2 ^ 31 := by omega) : vp_in x N := by
  subst hx
  exact vp_in_nI h hN
theorem pk_cl {x : Int32} (n : Nat) (hx : x = nI n := by rfl) (h : n < 2 ^ 31 := by omega) : x.toNatClampNeg = n := by
  subst hx
  exact nI_clamp h
/-! own rows -/
theorem gb_least (P : Nat → Prop) : ∀ k, P k → ∃ k, P k ∧ ∀ j, j < k → ¬ P j := by
  intro k
  induction k using Nat.strongRecOn with
  | _ k ih =>
    intro h
    by_cases e : ∃ j, j < k ∧ P j
    · obtain ⟨j, hj, pj⟩ := e
      exact ih j hj pj
    · exact ⟨k, h, fun j hj pj => e ⟨j, hj, pj⟩⟩
theorem gb_n1 (c : Nat) (h : c < 2 ^ 31) : ¬ nI c = (-1 : Int32) := by
  intro e
  have t := congrArg Int32.toInt e
  rw [nI_toInt h, show (-1 : Int32).toInt = -1 from by decide] at t
  omega
theorem gb_i {a b : Nat} (ha : a < 64) (hb : b < 64) (e : nI a = nI b) : a = b := (nI_eq (by omega) (by omega)).mp e
/-- bit i of the set s -/
def gb_t (s : Int64) (i : Nat) : Bool := s.toBitVec.getLsbD i
/-- the set with the one cell c -/
abbrev gb_1 (c : Nat) : Int64 := (1 : Int64) <<< ((nI c).toInt64 &&& 63)
theorem gb_ext {x y : Int64} (h : ∀ i, i < 64 → gb_t x i = gb_t y i) : x = y := Int64.toBitVec_inj.mp (BitVec.eq_of_getLsbD_eq (fun i hi => h i hi))
theorem gb_or (x y : Int64) (i : Nat) : gb_t (x ||| y) i = (gb_t x i || gb_t y i) := by unfold gb_t; rw [Int64.toBitVec_or, BitVec.getLsbD_or]
theorem gb_and (x y : Int64) (i : Nat) : gb_t (x &&& y) i = (gb_t x i && gb_t y i) := by unfold gb_t; rw [Int64.toBitVec_and, BitVec.getLsbD_and]
theorem gb_xor (x y : Int64) (i : Nat) : gb_t (x ^^^ y) i = (gb_t x i ^^ gb_t y i) := by unfold gb_t; rw [Int64.toBitVec_xor, BitVec.getLsbD_xor]
theorem gb_big {x : Int64} {i : Nat} (h : 64 ≤ i) : gb_t x i = false := BitVec.getLsbD_of_ge _ _ h
theorem gb_lt {x : Int64} {i : Nat} (h : gb_t x i = true) : i < 64 := by
  rcases Nat.lt_or_ge i 64 with z | z
  · exact z
  · rw [gb_big z] at h
    exact absurd h (by decide)
theorem gb_0 (i : Nat) : gb_t 0 i = false := BitVec.getLsbD_zero
theorem gb_m1 : ∀ i, i < 64 → gb_t (-1) i = true := by decide +kernel
theorem gb_one0 : ∀ c, c < 64 → ∀ i, i < 64 → gb_t (gb_1 c) i = decide (i = c) := by decide +kernel
theorem gb_one {c : Nat} (hc : c < 64) (i : Nat) : gb_t (gb_1 c) i = decide (i = c) := by
  rcases Nat.lt_or_ge i 64 with h | h
  · exact gb_one0 c hc i h
  · rw [gb_big h, decide_eq_false (by omega)]
theorem gb_test {s : Int64} {c : Nat} (hc : c < 64) : (s &&& gb_1 c) = 0 ↔ gb_t s c = false := by
  constructor
  · intro h
    have t : gb_t (s &&& gb_1 c) c = gb_t 0 c := by rw [h]
    rw [gb_and, gb_one hc, gb_0, decide_eq_true rfl, Bool.and_true] at t
    exact t
  · intro h
    apply gb_ext
    intro i hi
    rw [gb_and, gb_one hc, gb_0]
    by_cases e : i = c
    · subst e
      rw [h]
      rfl
    · rw [decide_eq_false e, Bool.and_false]
theorem gb_ntest {s : Int64} {c : Nat} (hc : c < 64) : ¬ (s &&& gb_1 c) = 0 ↔ gb_t s c = true := by
  rw [gb_test hc]
  cases gb_t s c <;> simp
theorem gb_z {s : Int64} : s = 0 ↔ ∀ i, gb_t s i = false := by
  constructor
  · intro h i
    rw [h, gb_0]
  · intro h
    apply gb_ext
    intro i hi
    rw [h i, gb_0]
/-- c is the lowest bit of s -/
def gb_low (s : Int64) (c : Nat) : Prop := gb_t s c = true ∧ ∀ j, j < c → gb_t s j = false
theorem gb_nz {s : Int64} (h : ¬ s = 0) : ∃ c, c < 64 ∧ gb_low s c := by
  have e : ∃ c, gb_t s c = true := by
    apply Classical.byContradiction
    intro z
    apply h
    apply gb_z.mpr
    intro i
    cases hi : gb_t s i with
    | false => rfl
    | true => exact absurd ⟨i, hi⟩ z
  obtain ⟨c, hc⟩ := e
  obtain ⟨k, hk, hl⟩ := gb_least (fun i => gb_t s i = true) c hc
  refine ⟨k, gb_lt hk, hk, fun j hj => ?_⟩
  have t := hl j hj
  cases hi : gb_t s j with
  | false => rfl
  | true => exact absurd hi t
theorem gb_or1 {c : Nat} (hc : c < 64) (s : Int64) (i : Nat) : gb_t (s ||| gb_1 c) i = true ↔ gb_t s i = true ∨ i = c := by
  rw [gb_or, gb_one hc, Bool.or_eq_true, decide_eq_true_eq]
theorem gb_an1 {c : Nat} (hc : c < 64) (s : Int64) (i : Nat) : gb_t (s &&& (gb_1 c ^^^ (-1))) i = true ↔ gb_t s i = true ∧ i ≠ c := by
  rcases Nat.lt_or_ge i 64 with h | h
  · rw [gb_and, gb_xor, gb_one hc, gb_m1 i h]
    by_cases e : i = c
    · simp [e]
    · simp [e]
  · rw [gb_big h, gb_big h]
    simp
theorem gb_ann (s t : Int64) (i : Nat) : gb_t (s &&& (t ^^^ (-1))) i = true ↔ gb_t s i = true ∧ gb_t t i = false := by
  rcases Nat.lt_or_ge i 64 with h | h
  · rw [gb_and, gb_xor, gb_m1 i h]
    cases gb_t s i <;> cases gb_t t i <;> decide
  · rw [gb_big h, gb_big h]
    simp
theorem gb_shr {x : Int64} {s : UInt64} {k : Nat} (hk : k < 64) (hs : s.toNat = k) (i : Nat) : gb_t ((x.toUInt64 >>> s).toInt64) i = gb_t x (k + i) := by
  have e : (x.toUInt64 >>> s).toInt64.toBitVec = x.toBitVec >>> k := by
    apply BitVec.eq_of_toNat_eq
    show (x.toUInt64 >>> s).toNat = _
    rw [UInt64.toNat_shiftRight, hs, Nat.mod_eq_of_lt hk, BitVec.toNat_ushiftRight]
    rfl
  unfold gb_t
  rw [e, BitVec.getLsbD_ushiftRight]
/-- x - 1 takes the lowest bit away -/
theorem gb_clr {s : Int64} {c : Nat} (hc : c < 64) (h : gb_low s c) (i : Nat) : gb_t (s &&& (s - 1)) i = true ↔ gb_t s i = true ∧ i ≠ c := by
  obtain ⟨h1, h2⟩ := h
  generalize hm : s.toBitVec.toNat = m
  have tb : ∀ j, gb_t s j = m.testBit j := by intro j; rw [← hm]; rfl
  have hlt : m < 2 ^ 64 := by rw [← hm]; exact s.toBitVec.isLt
  have hmod : m % 2 ^ (c + 1) = 2 ^ c := by
    apply Nat.eq_of_testBit_eq
    intro j
    rw [Nat.testBit_mod_two_pow, Nat.testBit_two_pow]
    rcases Nat.lt_trichotomy j c with e | e | e
    · rw [← tb, h2 j e, Bool.and_false, decide_eq_false (by omega)]
    · subst e
      rw [← tb, h1, Bool.and_true, decide_eq_true (by omega), decide_eq_true rfl]
    · rw [decide_eq_false (by omega), Bool.false_and, decide_eq_false (by omega)]
  have hq : m = 2 ^ (c + 1) * (m / 2 ^ (c + 1)) + 2 ^ c := by
    have t := Nat.div_add_mod m (2 ^ (c + 1))
    rw [hmod] at t
    exact t.symm
  generalize m / 2 ^ (c + 1) = q at hq
  have hp : 0 < 2 ^ c := Nat.two_pow_pos c
  have hpp : 2 ^ (c + 1) = 2 ^ c * 2 := Nat.pow_succ 2 c
  have hm1 : m - 1 = 2 ^ (c + 1) * q + (2 ^ c - 1) := by omega
  have tb1 : ∀ j, gb_t (s - 1) j = (m - 1).testBit j := by
    intro j
    have e : (s - 1).toBitVec.toNat = m - 1 := by
      rw [Int64.toBitVec_sub, BitVec.toNat_sub, hm]
      show (2 ^ 64 - 1 + m) % 2 ^ 64 = m - 1
      omega
    rw [← e]
    rfl
  rw [gb_and, Bool.and_eq_true, tb1]
  constructor
  · rintro ⟨a, b⟩
    refine ⟨a, fun e => ?_⟩
    subst e
    rw [hm1, Nat.testBit_two_pow_mul_add _ (by omega), if_pos (by omega), Nat.testBit_two_pow_sub_one, decide_eq_false (by omega)] at b
    exact absurd b (by decide)
  · rintro ⟨a, b⟩
    refine ⟨a, ?_⟩
    rcases Nat.lt_trichotomy i c with e | e | e
    · rw [h2 i e] at a
      exact absurd a (by decide)
    · exact absurd e b
    · rw [tb, hq, Nat.testBit_two_pow_mul_add _ (by omega), if_neg (by omega)] at a
      rw [hm1, Nat.testBit_two_pow_mul_add _ (by omega), if_neg (by omega)]
      exact a
theorem gb_mask {x k : Int64} {v : Nat} (hv : v ≤ 64) (hM : ∀ i, i < 64 → gb_t k i = decide (i < v)) : (x &&& k) = 0 ↔ ∀ j, j < v → gb_t x j = false := by
  constructor
  · intro h j hj
    have t : gb_t (x &&& k) j = gb_t 0 j := by rw [h]
    rw [gb_and, hM j (by omega), gb_0, decide_eq_true hj, Bool.and_true] at t
    exact t
  · intro h
    apply gb_ext
    intro i hi
    rw [gb_and, hM i hi, gb_0]
    by_cases e : i < v
    · rw [h i e]
      rfl
    · rw [decide_eq_false e, Bool.and_false]
theorem gb_st {x k : Int64} {v d : Nat} {A B : Prop} (hv : v ≤ 64) (hM : ∀ i, i < 64 → gb_t k i = decide (i < v)) (h : gb_low x d) (f : v ≤ d → A) (g : d < v → B) : ((x &&& k) = 0 → A) ∧ (¬ (x &&& k) = 0 → B) := by
  rw [gb_mask hv hM]
  constructor
  · intro z
    apply f
    rcases Nat.lt_or_ge d v with e | e
    · have t := z d e
      rw [h.1] at t
      exact absurd t (by decide)
    · exact e
  · intro z
    apply g
    rcases Nat.lt_or_ge d v with e | e
    · exact e
    · exact absurd (fun j hj => h.2 j (by omega)) z
theorem gb_lsh {x : Int64} {s : UInt64} {v d : Nat} (hv : v < 64) (hs : s.toNat = v) (h : gb_low x d) (hd : v ≤ d) : gb_low ((x.toUInt64 >>> s).toInt64) (d - v) := by
  constructor
  · rw [gb_shr hv hs, show v + (d - v) = d by omega]
    exact h.1
  · intro j hj
    rw [gb_shr hv hs]
    exact h.2 _ (by omega)
theorem gb_k1 : ∀ i, i < 64 → gb_t 1 i = decide (i < 1) := by decide +kernel
theorem gb_k3 : ∀ i, i < 64 → gb_t 3 i = decide (i < 2) := by decide +kernel
theorem gb_k15 : ∀ i, i < 64 → gb_t 15 i = decide (i < 4) := by decide +kernel
theorem gb_k255 : ∀ i, i < 64 → gb_t 255 i = decide (i < 8) := by decide +kernel
theorem gb_k16 : ∀ i, i < 64 → gb_t 65535 i = decide (i < 16) := by decide +kernel
theorem gb_k32 : ∀ i, i < 64 → gb_t 4294967295 i = decide (i < 32) := by decide +kernel
theorem gb_s2 : ((2 : Int32).toInt64.toUInt64 &&& Int64.toUInt64 63).toNat = 2 := by decide +kernel
theorem gb_s4 : ((4 : Int32).toInt64.toUInt64 &&& Int64.toUInt64 63).toNat = 4 := by decide +kernel
theorem gb_s8 : ((8 : Int32).toInt64.toUInt64 &&& Int64.toUInt64 63).toNat = 8 := by decide +kernel
theorem gb_s16 : ((16 : Int32).toInt64.toUInt64 &&& Int64.toUInt64 63).toNat = 16 := by decide +kernel
theorem gb_s32 : ((32 : Int32).toInt64.toUInt64 &&& Int64.toUInt64 63).toNat = 32 := by decide +kernel
theorem gb_full0 : ∀ k, k < 61 → ((64 - nI (k + 4)).toInt64.toUInt64 &&& Int64.toUInt64 63).toNat = 60 - k := by decide +kernel
theorem gb_full {n : Nat} (h4 : 4 ≤ n) (h64 : n ≤ 64) (i : Nat) : gb_t ((-1 : Int64).toUInt64 >>> ((64 - nI n).toInt64.toUInt64 &&& Int64.toUInt64 63)).toInt64 i = true ↔ i < n := by
  have t := gb_full0 (n - 4) (by omega)
  rw [show n - 4 + 4 = n by omega] at t
  rw [gb_shr (by omega) t]
  rcases Nat.lt_or_ge i n with e | e
  · rw [gb_m1 _ (by omega)]
    simp [e]
  · rw [gb_big (by omega)]
    simp
    omega
section
variable {post : Int32 → Prop} {n m p : Nat} {tr : Int32} {F : Int64} {fc ph mL sp cy fr ns : Int32} {M G : Int64} {st : Int32} {shx da se li ro wx : Nat → Int32}
theorem gb_93 {x : Int64} {k d : Nat} (h : gb_low x d) (hd : d < 2) (hp : post (nI (k + d))) : wX_lowest_93 post x (nI k) (nI n) (nI m) tr (nI p) F fc ph mL sp cy fr ns M G st shx da se li ro wx := by
  refine gb_st (v := 1) (by omega) gb_k1 h (fun e => ?_) (fun e => ?_)
  · obtain rfl : d = 1 := by omega
    exact nm_r (nI_1 k) hp
  · obtain rfl : d = 0 := by omega
    exact hp
theorem gb_76 {x : Int64} {k d : Nat} (h : gb_low x d) (hd : d < 4) (hp : post (nI (k + d))) : wX_lowest_76 post x (nI k) (nI n) (nI m) tr (nI p) F fc ph mL sp cy fr ns M G st shx da se li ro wx := by
  refine gb_st (v := 2) (by omega) gb_k3 h (fun e => ?_) (fun e => ?_)
  · exact nm_r (nI_add k 2) (nm_e (gb_93 (gb_lsh (by omega) gb_s2 h e) (by omega) (by rw [show k + 2 + (d - 2) = k + d by omega]; exact hp)))
  · exact gb_93 h e hp
theorem gb_59 {x : Int64} {k d : Nat} (h : gb_low x d) (hd : d < 8) (hp : post (nI (k + d))) : wX_lowest_59 post x (nI k) (nI n) (nI m) tr (nI p) F fc ph mL sp cy fr ns M G st shx da se li ro wx := by
  refine gb_st (v := 4) (by omega) gb_k15 h (fun e => ?_) (fun e => ?_)
  · exact nm_r (nI_add k 4) (nm_e (gb_76 (gb_lsh (by omega) gb_s4 h e) (by omega) (by rw [show k + 4 + (d - 4) = k + d by omega]; exact hp)))
  · exact gb_76 h e hp
theorem gb_41 {x : Int64} {k d : Nat} (h : gb_low x d) (hd : d < 16) (hp : post (nI (k + d))) : wX_lowest_41 post x (nI k) (nI n) (nI m) tr (nI p) F fc ph mL sp cy fr ns M G st shx da se li ro wx := by
  refine gb_st (v := 8) (by omega) gb_k255 h (fun e => ?_) (fun e => ?_)
  · exact nm_r (nI_add k 8) (nm_e (gb_59 (gb_lsh (by omega) gb_s8 h e) (by omega) (by rw [show k + 8 + (d - 8) = k + d by omega]; exact hp)))
  · exact gb_59 h e hp
theorem gb_23 {x : Int64} {k d : Nat} (h : gb_low x d) (hd : d < 32) (hp : post (nI (k + d))) : wX_lowest_23 post x (nI k) (nI n) (nI m) tr (nI p) F fc ph mL sp cy fr ns M G st shx da se li ro wx := by
  refine gb_st (v := 16) (by omega) gb_k16 h (fun e => ?_) (fun e => ?_)
  · exact nm_r (nI_add k 16) (nm_e (gb_41 (gb_lsh (by omega) gb_s16 h e) (by omega) (by rw [show k + 16 + (d - 16) = k + d by omega]; exact hp)))
  · exact gb_41 h e hp
theorem gb_lowest {x : Int64} {d : Nat} (h : gb_low x d) (hd : d < 64) (hp : post (nI d)) : wpX_lowest post (nI n, nI m, tr, nI p, F, fc, ph, mL, sp, cy, fr, ns, M, G, st, shx, da, se, li, ro, wx) x := by
  refine gb_st (v := 32) (by omega) gb_k32 h (fun e => ?_) (fun e => ?_)
  · exact nm_r (nI_add 0 32) (nm_e (gb_23 (gb_lsh (by omega) gb_s32 h e) (by omega) (by rw [show 0 + 32 + (d - 32) = d by omega]; exact hp)))
  · exact gb_23 (k := 0) h e (by rw [Nat.zero_add]; exact hp)
end
end
section
/-! the mathematics: counts, edges, live cells, the marking's invariant; no program in sight -/
def cn_c (q : Nat → Bool) : Nat → Nat
  | 0 => 0
  | k + 1 => cn_c q k + (if q k = true then 1 else 0)
theorem cn_le (q : Nat → Bool) : ∀ k, cn_c q k ≤ k := by
  intro k
  induction k with
  | zero => exact Nat.le_refl 0
  | succ k ih =>
    show cn_c q k + _ ≤ k + 1
    split <;> omega
theorem cn_mono {q r : Nat → Bool} : ∀ k, (∀ i, i < k → q i = true → r i = true) → cn_c q k ≤ cn_c r k := by
  intro k
  induction k with
  | zero => intro _; exact Nat.le_refl 0
  | succ k ih =>
    intro h
    have t := ih (fun i hi => h i (by omega))
    have e := h k (by omega)
    show cn_c q k + _ ≤ cn_c r k + _
    by_cases z : q k = true
    · rw [if_pos z, if_pos (e z)]; omega
    · rw [if_neg z]; omega
theorem cn_congr {q r : Nat → Bool} : ∀ k, (∀ i, i < k → q i = r i) → cn_c q k = cn_c r k := by
  intro k h
  apply Nat.le_antisymm
  · exact cn_mono k (fun i hi z => by rw [← h i hi]; exact z)
  · exact cn_mono k (fun i hi z => by rw [h i hi]; exact z)
/-- one more -/
theorem cn_more {q r : Nat → Bool} {j : Nat} : ∀ k, j < k → (∀ i, i < k → i ≠ j → q i = r i) → q j = false → r j = true → cn_c r k = cn_c q k + 1 := by
  intro k
  induction k with
  | zero => intro h; omega
  | succ k ih =>
    intro hj h hq hr
    show cn_c r k + _ = cn_c q k + _ + 1
    by_cases e : j = k
    · subst e
      rw [cn_congr j (q := q) (r := r) (fun i hi => h i (by omega) (by omega)), hq, hr]
      simp
    · have t := ih (by omega) (fun i hi => h i (by omega)) hq hr
      rw [t, h k (by omega) (fun z => e z.symm)]
      omega
theorem cn_lt {q r : Nat → Bool} {j k : Nat} (hj : j < k) (h : ∀ i, i < k → q i = true → r i = true) (hq : q j = false) (hr : r j = true) : cn_c q k < cn_c r k := by
  have t := cn_more (q := fun i => if i = j then false else r i) (r := r) (j := j) k hj (fun i hi z => by simp [z]) (by simp) hr
  have u := cn_mono (q := q) (r := fun i => if i = j then false else r i) k (fun i hi z => by
    have z2 := h i hi z
    by_cases e : i = j
    · subst e
      rw [hq] at z
      exact absurd z (by decide)
    · simp [e, z2])
  omega
theorem cn_pos {q : Nat → Bool} {j k : Nat} (hj : j < k) (h : q j = true) : 0 < cn_c q k := by
  have t := cn_lt (q := fun _ => false) (r := q) hj (fun i hi z => absurd z (by decide)) rfl h
  omega
theorem cn_0 {q : Nat → Bool} : ∀ k, cn_c q k = 0 → ∀ i, i < k → q i = false := by
  intro k h i hi
  cases e : q i with
  | false => rfl
  | true => have t := cn_pos hi e; omega
theorem cn_z {q : Nat → Bool} (k : Nat) (h : ∀ i, i < k → q i = false) : cn_c q k = 0 := by
  have t := cn_mono (q := q) (r := fun _ => false) k (fun i hi z => by rw [h i hi] at z; exact absurd z (by decide))
  have u : ∀ k, cn_c (fun _ => false) k = 0 := by
    intro k
    induction k with
    | zero => rfl
    | succ k ih => show cn_c (fun _ => false) k + _ = 0; rw [ih]; rfl
  rw [u k] at t
  omega
theorem cn_all {q : Nat → Bool} : ∀ k, k ≤ cn_c q k → ∀ i, i < k → q i = true := by
  intro k
  induction k with
  | zero => intro _ i hi; omega
  | succ k ih =>
    intro h i hi
    have t := cn_le q k
    have e : cn_c q (k + 1) = cn_c q k + (if q k = true then 1 else 0) := rfl
    by_cases z : q k = true
    · rw [if_pos z] at e
      by_cases y : i = k
      · rw [y]; exact z
      · exact ih (by omega) i (by omega)
    · rw [if_neg z] at e
      omega
/-- how many of the first n cells are free -/
def cn_f (n : Nat) (sh : Nat → Int32) : Nat := cn_c (fun c => decide (sh c = -1)) n

/-! the heap -/
def hp_sz (sh : Nat → Int32) (c : Nat) : Nat := (sh c).toNatClampNeg
/-- cell c, with a link to cell d -/
def hp_E (n : Nat) (sh li : Nat → Int32) (c d : Nat) : Prop := c < n ∧ d < n ∧ ∃ f, f < 4 ∧ f < hp_sz sh c ∧ li (4 * c + f) = nI d
/-- not free, not doomed -/
def hp_L (n : Nat) (sh dm : Nat → Int32) (c : Nat) : Prop := c < n ∧ ¬ sh c = -1 ∧ dm c = 0
/-- not free, doomed -/
def hp_D (n : Nat) (sh dm : Nat → Int32) (c : Nat) : Prop := c < n ∧ ¬ sh c = -1 ∧ ¬ dm c = 0
/-- nothing, or a cell that is not doomed -/
def hp_V (n : Nat) (sh dm : Nat → Int32) (x : Int32) : Prop := x = -1 ∨ ∃ c, x = nI c ∧ hp_L n sh dm c
/-- what the roots hold -/
def hp_R (n m : Nat) (ro : Nat → Int32) (c : Nat) : Prop := c < n ∧ ∃ r, r < m ∧ ro r = nI c
/-- what is reachable -/
def hp_Re (n m : Nat) (sh li ro : Nat → Int32) (c : Nat) : Prop := ∀ T : Nat → Prop, (∀ c, hp_R n m ro c → T c) → (∀ c d, T c → hp_E n sh li c d → T d) → T c
/-- shapes -/
def hp_S (n : Nat) (sh : Nat → Int32) : Prop := ∀ c, c < n → sh c = -1 ∨ ∃ s, s ≤ 4 ∧ sh c = nI s
/-- the reference's own invariant -/
def hp_Y (n m : Nat) (shy dm li ro wy : Nat → Int32) : Prop :=
  hp_S n shy ∧ (∀ r, r < m → hp_V n shy dm (ro r)) ∧ (∀ c, hp_L n shy dm c → ∀ f, f < 4 → f < hp_sz shy c → hp_V n shy dm (li (4 * c + f))) ∧ (∀ w, w < 8 → hp_V n shy dm (wy w))
/-- free cells and shapes of the component against those of the reference -/
def hp_F (n : Nat) (shx shy : Nat → Int32) (F : Int64) (fc : Int32) : Prop :=
  (∀ c, gb_t F c = true ↔ c < n ∧ shy c = -1) ∧ (∀ c, c < n → ¬ shy c = -1 → shx c = shy c) ∧ fc = nI (cn_f n shy)
/-- every live cell is marked or met from a grey one (B: cells still counted among the grey) -/
def mk_T (n : Nat) (shy dm li : Nat → Int32) (B : Nat → Prop) (M G : Int64) : Prop :=
  ∀ T : Nat → Prop, (∀ c, gb_t M c = true → T c) → (∀ c d, T c → (gb_t M c = false ∨ gb_t G c = true ∨ B c) → hp_E n shy li c d → T d) → ∀ c, hp_L n shy dm c → T c
def mk_K (n : Nat) (shy dm li : Nat → Int32) (B : Nat → Prop) (M G : Int64) : Prop :=
  (∀ c, gb_t M c = true → hp_L n shy dm c) ∧ (∀ c, gb_t G c = true → gb_t M c = true) ∧ mk_T n shy dm li B M G
/-- the component's weak handles against the reference's while marking goes on -/
def mk_W (n : Nat) (shy dm wx wy : Nat → Int32) : Prop := ∀ w, w < 8 → wx w = wy w ∨ (wy w = -1 ∧ ∃ c, wx w = nI c ∧ hp_D n shy dm c)
def mk_0 : Nat → Prop := fun _ => False
def mk_I (n : Nat) (shy dm li wy : Nat → Int32) (M G : Int64) (st : Int32) (wx : Nat → Int32) : Prop :=
  mk_K n shy dm li mk_0 M G ∧ ((st = 1 ∧ G = 0 ∧ ∀ w, w < 8 → wx w = wy w) ∨ (st = 0 ∧ ¬ G = 0 ∧ mk_W n shy dm wx wy))
def hp_P (n : Nat) (ph mL sp po st : Int32) : Prop :=
  (ph = 0 ∧ st = 1) ∨ (ph = 1 ∧ ∃ q, mL = nI q ∧ 1 ≤ q ∧ q ≤ n + 1) ∨ (ph = 2 ∧ st = 1 ∧ ∃ q, sp = nI q ∧ po = nI q ∧ q < n)
def hp_N (n m p : Nat) : Prop := 4 ≤ n ∧ n ≤ 64 ∧ 2 ≤ m ∧ m ≤ 16 ∧ p ≤ 16
/-- the whole -/
def hp_A (n m p : Nat) (F : Int64) (fc ph mL sp : Int32) (M G : Int64) (st : Int32) (shx li ro wx : Nat → Int32) (po : Int32) (shy dm wy : Nat → Int32) : Prop :=
  hp_N n m p ∧ hp_Y n m shy dm li ro wy ∧ hp_F n shx shy F fc ∧ mk_I n shy dm li wy M G st wx ∧ hp_P n ph mL sp po st

theorem hp_ne {c : Nat} (h : c < 64) : ¬ nI c = (-1 : Int32) := gb_n1 c (by omega)
theorem hp_szn {sh : Nat → Int32} {c s : Nat} (hs : s ≤ 4) (e : sh c = nI s) : hp_sz sh c = s := by
  unfold hp_sz
  rw [e]
  exact nI_clamp (by omega)
theorem hp_szf {sh : Nat → Int32} {c : Nat} (e : sh c = -1) : hp_sz sh c = 0 := by
  unfold hp_sz
  rw [e]
  decide
theorem hp_LD {n : Nat} {sh dm : Nat → Int32} {c : Nat} (h : hp_L n sh dm c) (d : hp_D n sh dm c) : False := d.2.2 h.2.2
theorem hp_Vc {n : Nat} {sh dm : Nat → Int32} {c : Nat} (hn : n ≤ 64) (hc : c < 64) (h : hp_V n sh dm (nI c)) : hp_L n sh dm c := by
  rcases h with h | ⟨d, e, h⟩
  · exact absurd h (hp_ne hc)
  · have hd := h.1
    have := gb_i hc (by omega) e
    subst this
    exact h
/-- live cells hold live cells -/
theorem hp_LE {n m : Nat} {shy dm li ro wy : Nat → Int32} (hn : n ≤ 64) (h : hp_Y n m shy dm li ro wy) {c d : Nat} (hc : hp_L n shy dm c) (e : hp_E n shy li c d) : hp_L n shy dm d := by
  obtain ⟨_, hd, f, f4, fs, e⟩ := e
  have t := h.2.2.1 c hc f f4 fs
  rw [e] at t
  exact hp_Vc hn (by omega) t
theorem hp_LR {n m : Nat} {shy dm li ro wy : Nat → Int32} (hn : n ≤ 64) (h : hp_Y n m shy dm li ro wy) {c : Nat} (e : hp_R n m ro c) : hp_L n shy dm c := by
  obtain ⟨hd, r, hr, e⟩ := e
  have t := h.2.1 r hr
  rw [e] at t
  exact hp_Vc hn (by omega) t
theorem hp_ReL {n m : Nat} {shy dm li ro wy : Nat → Int32} (hn : n ≤ 64) (h : hp_Y n m shy dm li ro wy) {c : Nat} (e : hp_Re n m shy li ro c) : hp_L n shy dm c :=
  e (hp_L n shy dm) (fun _ r => hp_LR hn h r) (fun _ _ a b => hp_LE hn h a b)
theorem hp_ReR {n m : Nat} {shy li ro : Nat → Int32} {c : Nat} (e : hp_R n m ro c) : hp_Re n m shy li ro c := fun _ a _ => a c e
theorem hp_ReE {n m : Nat} {shy li ro : Nat → Int32} {c d : Nat} (h : hp_Re n m shy li ro c) (e : hp_E n shy li c d) : hp_Re n m shy li ro d := fun T a b => b c d (h T a b) e
/-- the shape of a cell that is not free -/
theorem hp_Ls {n : Nat} {sh : Nat → Int32} (h : hp_S n sh) {c : Nat} (hc : c < n) (hl : ¬ sh c = -1) : ∃ s, s ≤ 4 ∧ sh c = nI s ∧ hp_sz sh c = s := by
  rcases h c hc with e | ⟨s, hs, e⟩
  · exact absurd e hl
  · exact ⟨s, hs, e, hp_szn hs e⟩
/-- marks cover all live cells when no cell is grey -/
theorem mk_full {n : Nat} {shy dm li : Nat → Int32} {M G : Int64} (h : mk_K n shy dm li mk_0 M G) (hG : G = 0) {c : Nat} (hc : hp_L n shy dm c) : gb_t M c = true := by
  refine h.2.2 (fun c => gb_t M c = true) (fun c h => h) ?_ c hc
  intro a b ha hb _
  rcases hb with z | z | z
  · rw [ha] at z
    exact absurd z (by decide)
  · rw [hG, gb_0] at z
    exact absurd z (by decide)
  · exact z.elim
theorem mk_Tf {n : Nat} {shy dm li : Nat → Int32} {B : Nat → Prop} {M G : Int64} (h : ∀ c, hp_L n shy dm c → gb_t M c = true) : mk_T n shy dm li B M G :=
  fun _ a _ c hc => a c (h c hc)
/-- shading a live cell -/
theorem mk_shade {n : Nat} {shy dm li : Nat → Int32} {B : Nat → Prop} {M G : Int64} {d : Nat} (hd : d < 64) (h : mk_K n shy dm li B M G) (hl : hp_L n shy dm d) : mk_K n shy dm li B (M ||| gb_1 d) (G ||| gb_1 d) := by
  obtain ⟨h1, h2, h3⟩ := h
  refine ⟨fun c hc => ?_, fun c hc => ?_, ?_⟩
  · rcases (gb_or1 hd M c).mp hc with z | rfl
    · exact h1 c z
    · exact hl
  · rcases (gb_or1 hd G c).mp hc with z | z
    · exact (gb_or1 hd M c).mpr (Or.inl (h2 c z))
    · exact (gb_or1 hd M c).mpr (Or.inr z)
  · intro T a b c hc
    refine h3 T (fun c z => a c ((gb_or1 hd M c).mpr (Or.inl z))) ?_ c hc
    intro x y hx hb e
    refine b x y hx ?_ e
    by_cases xd : x = d
    · exact Or.inr (Or.inl ((gb_or1 hd G x).mpr (Or.inr xd)))
    · rcases hb with z | z | z
      · left
        cases q : gb_t (M ||| gb_1 d) x with
        | false => rfl
        | true =>
          rcases (gb_or1 hd M x).mp q with w | w
          · rw [z] at w
            exact absurd w (by decide)
          · exact absurd w xd
      · exact Or.inr (Or.inl ((gb_or1 hd G x).mpr (Or.inl z)))
      · exact Or.inr (Or.inr z)
/-- taking a cell off the grey ones leaves it counted there -/
theorem mk_take {n : Nat} {shy dm li : Nat → Int32} {M G G' : Int64} {c0 : Nat} (h : mk_K n shy dm li mk_0 M G) (hG : ∀ i, gb_t G' i = true ↔ gb_t G i = true ∧ i ≠ c0) : mk_K n shy dm li (fun c => c = c0) M G' := by
  obtain ⟨h1, h2, h3⟩ := h
  refine ⟨h1, fun c hc => h2 c ((hG c).mp hc).1, ?_⟩
  intro T a b c hc
  refine h3 T a ?_ c hc
  intro x y hx hb e
  refine b x y hx ?_ e
  by_cases xd : x = c0
  · exact Or.inr (Or.inr xd)
  · rcases hb with z | z | z
    · exact Or.inl z
    · exact Or.inr (Or.inl ((hG x).mpr ⟨z, xd⟩))
    · exact z.elim
/-- when all it holds is marked it counts no more -/
theorem mk_drop {n : Nat} {shy dm li : Nat → Int32} {M G : Int64} {c0 : Nat} (h : mk_K n shy dm li (fun c => c = c0) M G) (hl : ∀ d, hp_E n shy li c0 d → gb_t M d = true) : mk_K n shy dm li mk_0 M G := by
  obtain ⟨h1, h2, h3⟩ := h
  refine ⟨h1, h2, ?_⟩
  intro T a b c hc
  refine h3 T a ?_ c hc
  intro x y hx hb e
  rcases hb with z | z | z
  · exact b x y hx (Or.inl z) e
  · exact b x y hx (Or.inr (Or.inl z)) e
  · subst z
    exact a y (hl y e)
/-- the cells that are not black, counted -/
def mk_nb (M G : Int64) : Nat := cn_c (fun c => !(gb_t M c) || gb_t G c) 64
theorem mk_nb_le (M G : Int64) : mk_nb M G ≤ 64 := cn_le _ 64
theorem mk_nb_pos {M G : Int64} (h : ¬ G = 0) : 0 < mk_nb M G := by
  obtain ⟨c, hc, hl⟩ := gb_nz h
  exact cn_pos hc (by show (!(gb_t M c) || gb_t G c) = true; rw [hl.1, Bool.or_true])
theorem mk_nb_lt {M G M' G' : Int64} {c0 : Nat} (hc : c0 < 64) (g : gb_t G c0 = true) (h : ∀ c, (gb_t M' c = false ∨ gb_t G' c = true) → (gb_t M c = false ∨ gb_t G c = true)) (h1 : gb_t M' c0 = true) (h2 : gb_t G' c0 = false) : mk_nb M' G' < mk_nb M G := by
  refine cn_lt (j := c0) hc ?_ ?_ ?_
  · intro i hi z
    have z' : (!(gb_t M' i) || gb_t G' i) = true := z
    show (!(gb_t M i) || gb_t G i) = true
    have t := h i (by cases a : gb_t M' i <;> cases b : gb_t G' i <;> simp_all)
    rcases t with t | t <;> rw [t] <;> simp
  · show (!(gb_t M' c0) || gb_t G' c0) = false
    rw [h1, h2]
    rfl
  · show (!(gb_t M c0) || gb_t G c0) = true
    rw [g, Bool.or_true]
/-- the weak handles when the marking is complete -/
theorem mk_weak {n m : Nat} {shy dm li ro wx wx' wy : Nat → Int32} {M G : Int64} (hn : n ≤ 64) (hY : hp_Y n m shy dm li ro wy) (h : mk_K n shy dm li mk_0 M G) (hG : G = 0) (hW : mk_W n shy dm wx wy)
    (h0 : ∀ w, w < 8 → wx w = -1 → wx' w = -1) (h1 : ∀ w c, w < 8 → c < 64 → wx w = nI c → wx' w = if gb_t M c = true then nI c else -1) : ∀ w, w < 8 → wx' w = wy w := by
  intro w hw
  rcases hW w hw with e | ⟨e, c, ec, hD⟩
  · rcases hY.2.2.2 w hw with v | ⟨c, v, hL⟩
    · rw [h0 w hw (by rw [e, v]), v]
    · have hc := hL.1
      rw [h1 w c hw (by omega) (by rw [e, v]), if_pos (mk_full h hG hL), v]
  · have hc := hD.1
    rw [h1 w c hw (by omega) ec, if_neg (fun z => hp_LD (h.1 c z) hD), e]
/-- a weak handle of the component holds nothing or a cell -/
theorem mk_Wv {n m : Nat} {shy dm li ro wx wy : Nat → Int32} (hY : hp_Y n m shy dm li ro wy) (hW : mk_W n shy dm wx wy) : ∀ w, w < 8 → wx w = -1 ∨ ∃ c, c < n ∧ ¬ shy c = -1 ∧ wx w = nI c := by
  intro w hw
  rcases hW w hw with e | ⟨_, c, ec, hD⟩
  · rcases hY.2.2.2 w hw with v | ⟨c, v, hL⟩
    · exact Or.inl (by rw [e, v])
    · exact Or.inr ⟨c, hL.1, hL.2.1, by rw [e, v]⟩
  · exact Or.inr ⟨c, hD.1, hD.2.1, ec⟩
theorem mk_IW {n : Nat} {shy dm li wy wx : Nat → Int32} {M G : Int64} {st : Int32} (h : mk_I n shy dm li wy M G st wx) : mk_W n shy dm wx wy := by
  rcases h.2 with ⟨_, _, z⟩ | ⟨_, _, z⟩
  · exact fun w hw => Or.inl (z w hw)
  · exact z
end
section
/-! the component's marking: shade, settle, scanOne, finishMarking, provenLive, resolveWeak, each with one outcome for every post -/
theorem xs_10 : ¬ (1 : Int32) = 0 := by decide
theorem xs_v {α : Type} {P : α → Prop} {a b : α} (e : a = b) (h : P b) : P a := by rw [e]; exact h
theorem xs_ix (c f : Nat) : nI c * 4 + nI f = nI (4 * c + f) := by
  have e : (4 : Int32) = nI 4 := rfl
  rw [e, pk_mul, nI_add, Nat.mul_comm]
theorem xs_iy (c f : Nat) : 4 * nI c + nI f = nI (4 * c + f) := by
  have e : (4 : Int32) = nI 4 := rfl
  rw [e, pk_mul, nI_add]
section
variable {n m p : Nat} {tr : Int32} {F : Int64} {fc ph mL sp cy fr ns : Int32} {M G : Int64} {st : Int32} {shx da se li ro wx : Nat → Int32} {shy dm wy : Nat → Int32}
theorem xs_sh0 {post : SX → Prop} {x : Int32} (hx : x = -1) (hp : post (nI n, nI m, tr, nI p, F, fc, ph, mL, sp, cy, fr, ns, M, G, st, shx, da, se, li, ro, wx)) : wpX_shade post (nI n, nI m, tr, nI p, F, fc, ph, mL, sp, cy, fr, ns, M, G, st, shx, da, se, li, ro, wx) x := br_t hx hp
theorem xs_sh1 {post : SX → Prop} {x : Int32} {d : Nat} (hd : d < 64) (hx : x = nI d) (hm : gb_t M d = true) (hp : post (nI n, nI m, tr, nI p, F, fc, ph, mL, sp, cy, fr, ns, M, G, st, shx, da, se, li, ro, wx)) : wpX_shade post (nI n, nI m, tr, nI p, F, fc, ph, mL, sp, cy, fr, ns, M, G, st, shx, da, se, li, ro, wx) x := by
  subst hx
  exact br_f (hp_ne hd) (nm_e (br_f ((gb_ntest hd).mpr hm) hp))
theorem xs_sh2 {post : SX → Prop} {x : Int32} {d : Nat} (hd : d < 64) (hx : x = nI d) (hm : gb_t M d = false) (hp : post (nI n, nI m, tr, nI p, F, fc, ph, mL, sp, cy, fr, ns, M ||| gb_1 d, G ||| gb_1 d, st, shx, da, se, li, ro, wx)) : wpX_shade post (nI n, nI m, tr, nI p, F, fc, ph, mL, sp, cy, fr, ns, M, G, st, shx, da, se, li, ro, wx) x := by
  subst hx
  exact br_f (hp_ne hd) (nm_e (br_t ((gb_test hd).mpr hm) (nm_e (nm_e hp))))
theorem xs_settle7 : ∀ (d i : Nat) (wx : Nat → Int32), i + d = 8 → (∀ w, w < 8 → wx w = -1 ∨ ∃ c, c < 64 ∧ wx w = nI c) →
    ∃ wx' : Nat → Int32, (∀ w, w < i → wx' w = wx w) ∧ (∀ w, i ≤ w → w < 8 → wx w = -1 → wx' w = -1) ∧ (∀ w c, i ≤ w → w < 8 → c < 64 → wx w = nI c → wx' w = if gb_t M c = true then nI c else -1) ∧
      ∀ (post : SX → Prop) (N : Nat), d < N → post (nI n, nI m, tr, nI p, F, fc, ph, mL, sp, cy, fr, ns, M, G, st, shx, da, se, li, ro, wx') → wX_settle_7 post (nI n) (nI m) tr (nI p) F fc ph mL sp cy fr ns M G st N (nI i) shx da se li ro wx := by
  intro d
  induction d with
  | zero =>
    intro i wx hi hv
    refine ⟨wx, fun _ _ => rfl, fun w a b => by omega, fun w c a b => by omega, fun post N hN hp => ?_⟩
    obtain ⟨N, rfl⟩ : ∃ k, N = k + 1 := ⟨N - 1, by omega⟩
    exact br_t (nI_le (a := 8) (by omega) (by omega)) hp
  | succ d ih =>
    intro i wx hi hv
    have h8 : ¬ (8 : Int32) ≤ nI i := nI_ge (b := 8) (by omega) (by omega)
    have hin : vp_in (nI i) 8 := vp_in_nI (by omega) (by omega)
    have hcl : (nI i).toNatClampNeg = i := nI_clamp (by omega)
    rcases hv i (by omega) with e | ⟨c, hc, e⟩
    · obtain ⟨wx', a, b, g, hw⟩ := ih (i + 1) wx (by omega) hv
      refine ⟨wx', fun w hw => a w (by omega), fun w h1 h2 h3 => ?_, fun w x h1 h2 h3 h4 => ?_, fun post N hN hp => ?_⟩
      · by_cases z : w = i
        · rw [z, a i (by omega), e]
        · exact b w (by omega) h2 h3
      · by_cases z : w = i
        · rw [z, e] at h4
          exact absurd h4.symm (hp_ne h3)
        · exact g w x (by omega) h2 h3 h4
      · obtain ⟨N, rfl⟩ : ∃ k, N = k + 1 := ⟨N - 1, by omega⟩
        exact br_f h8 ⟨hin, nm_r (e' := -1) (by rw [hcl, e]) (br_t rfl (nm_r (nI_1 i) (hw post N (by omega) hp)))⟩
    · by_cases hm : gb_t M c = true
      · obtain ⟨wx', a, b, g, hw⟩ := ih (i + 1) wx (by omega) hv
        refine ⟨wx', fun w hw => a w (by omega), fun w h1 h2 h3 => ?_, fun w x h1 h2 h3 h4 => ?_, fun post N hN hp => ?_⟩
        · by_cases z : w = i
          · rw [z, e] at h3
            exact absurd h3 (hp_ne hc)
          · exact b w (by omega) h2 h3
        · by_cases z : w = i
          · rw [z, e] at h4
            have t := gb_i hc h3 h4
            subst t
            rw [z, a i (by omega), e, if_pos hm]
          · exact g w x (by omega) h2 h3 h4
        · obtain ⟨N, rfl⟩ : ∃ k, N = k + 1 := ⟨N - 1, by omega⟩
          exact br_f h8 ⟨hin, nm_r (e' := nI c) (by rw [hcl, e]) (br_f (hp_ne hc) (br_f ((gb_ntest hc).mpr hm) (nm_r (nI_1 i) (hw post N (by omega) hp))))⟩
      · have hm0 : gb_t M c = false := by cases q : gb_t M c with | false => rfl | true => exact absurd q hm
        obtain ⟨wx', a, b, g, hw⟩ := ih (i + 1) (upd wx i (-1)) (by omega) (fun w hw => by
          by_cases z : w = i
          · left; rw [z]; exact pk_us
          · rw [pk_un z]; exact hv w hw)
        refine ⟨wx', fun w hw => by rw [a w (by omega), pk_un (by omega)], fun w h1 h2 h3 => ?_, fun w x h1 h2 h3 h4 => ?_, fun post N hN hp => ?_⟩
        · by_cases z : w = i
          · rw [z, a i (by omega)]; exact pk_us
          · exact b w (by omega) h2 (by rw [pk_un z]; exact h3)
        · by_cases z : w = i
          · rw [z, e] at h4
            have t := gb_i hc h3 h4
            subst t
            rw [z, a i (by omega), if_neg hm]
            exact pk_us
          · exact g w x (by omega) h2 h3 (by rw [pk_un z]; exact h4)
        · obtain ⟨N, rfl⟩ : ∃ k, N = k + 1 := ⟨N - 1, by omega⟩
          exact br_f h8 ⟨hin, nm_r (e' := nI c) (by rw [hcl, e]) (br_f (hp_ne hc) (br_t ((gb_test hc).mpr hm0) ⟨hin, nm_r (e' := upd wx i (-1)) (by rw [hcl]) (nm_r (nI_1 i) (hw post N (by omega) hp))⟩))⟩
theorem xs_settle (h : ∀ w, w < 8 → wx w = -1 ∨ ∃ c, c < 64 ∧ wx w = nI c) : ∃ wx' : Nat → Int32, (∀ w, w < 8 → wx w = -1 → wx' w = -1) ∧ (∀ w c, w < 8 → c < 64 → wx w = nI c → wx' w = if gb_t M c = true then nI c else -1) ∧ ∀ post : SX → Prop, post (nI n, nI m, tr, nI p, F, fc, ph, mL, sp, cy, fr, ns, M, G, 1, shx, da, se, li, ro, wx') → wpX_settle post (nI n, nI m, tr, nI p, F, fc, ph, mL, sp, cy, fr, ns, M, G, st, shx, da, se, li, ro, wx) := by
  obtain ⟨wx', _, a, b, hw⟩ := xs_settle7 (n := n) (m := m) (p := p) (tr := tr) (F := F) (fc := fc) (ph := ph) (mL := mL) (sp := sp) (cy := cy) (fr := fr) (ns := ns) (M := M) (G := G) (st := 1) (shx := shx) (da := da) (se := se) (li := li) (ro := ro) 8 0 wx rfl h
  exact ⟨wx', fun w => a w (Nat.zero_le w), fun w c => b w c (Nat.zero_le w), fun post hp => ⟨9, hw post 9 (by omega) hp⟩⟩
theorem xs_scan43 (hn : n ≤ 64) (hY : hp_Y n m shy dm li ro wy) {c s : Nat} (hc : hp_L n shy dm c) (hs : s ≤ 4) (hsz : hp_sz shy c = s) : ∀ (d i : Nat) (M G : Int64), i + d = s → mk_K n shy dm li (fun x => x = c) M G →
    ∃ M' G' : Int64, mk_K n shy dm li (fun x => x = c) M' G' ∧ (∀ x, gb_t M x = true → gb_t M' x = true) ∧ (∀ f e, i ≤ f → f < s → e < n → li (4 * c + f) = nI e → gb_t M' e = true) ∧ (∀ x, (gb_t M' x = false ∨ gb_t G' x = true) → (gb_t M x = false ∨ gb_t G x = true)) ∧
      ∀ (post : SX → Prop) (N : Nat), d < N → wX_scanOne_73 post (nI n) (nI m) tr (nI p) F fc ph mL sp cy fr ns M' G' st shx da se li ro wx → wX_scanOne_43 post (nI c) (nI s) N (nI i) (nI n) (nI m) tr (nI p) F fc ph mL sp cy fr ns M G st shx da se li ro wx := by
  intro d
  induction d with
  | zero =>
    intro i M G hi hK
    refine ⟨M, G, hK, fun _ h => h, fun f e a b => by omega, fun _ h => h, fun post N hN hp => ?_⟩
    obtain ⟨N, rfl⟩ : ∃ k, N = k + 1 := ⟨N - 1, by omega⟩
    exact br_c (fun _ => hp) (fun _ => br_t (nI_le (by omega) (by omega)) hp)
  | succ d ih =>
    intro i M G hi hK
    have hcn := hc.1
    have h4 : ¬ (4 : Int32) ≤ nI i := nI_ge (b := 4) (by omega) (by omega)
    have hsi : ¬ nI s ≤ nI i := nI_ge (by omega) (by omega)
    have hin : vp_in (nI c * 4 + nI i) 256 := pk_in (4 * c + i) 256 (by omega) (xs_ix c i)
    have hcl : (nI c * 4 + nI i).toNatClampNeg = 4 * c + i := pk_cl (4 * c + i) (xs_ix c i)
    rcases hY.2.2.1 c hc i (by omega) (by omega) with e | ⟨x, e, hx⟩
    · obtain ⟨M', G', a, b, g, z, hw⟩ := ih (i + 1) M G (by omega) hK
      refine ⟨M', G', a, b, fun f y h1 h2 h3 h4 => ?_, z, fun post N hN hp => ?_⟩
      · by_cases q : f = i
        · rw [q, e] at h4
          exact absurd h4.symm (hp_ne (by omega))
        · exact g f y (by omega) h2 h3 h4
      · obtain ⟨N, rfl⟩ : ∃ k, N = k + 1 := ⟨N - 1, by omega⟩
        exact br_f h4 (br_f hsi ⟨hin, xs_sh0 (by rw [hcl, e]) (nm_r (nI_1 i) (hw post N (by omega) hp))⟩)
    · have hxn := hx.1
      by_cases hm : gb_t M x = true
      · obtain ⟨M', G', a, b, g, z, hw⟩ := ih (i + 1) M G (by omega) hK
        refine ⟨M', G', a, b, fun f y h1 h2 h3 h4 => ?_, z, fun post N hN hp => ?_⟩
        · by_cases q : f = i
          · rw [q, e] at h4
            have t := gb_i (by omega) (by omega) h4
            subst t
            exact b x hm
          · exact g f y (by omega) h2 h3 h4
        · obtain ⟨N, rfl⟩ : ∃ k, N = k + 1 := ⟨N - 1, by omega⟩
          exact br_f h4 (br_f hsi ⟨hin, xs_sh1 (d := x) (by omega) (by rw [hcl, e]) hm (nm_r (nI_1 i) (hw post N (by omega) hp))⟩)
      · have hm0 : gb_t M x = false := by cases q : gb_t M x with | false => rfl | true => exact absurd q hm
        have hx64 : x < 64 := by omega
        obtain ⟨M', G', a, b, g, z, hw⟩ := ih (i + 1) (M ||| gb_1 x) (G ||| gb_1 x) (by omega) (mk_shade hx64 hK hx)
        refine ⟨M', G', a, fun y h => b y ((gb_or1 hx64 M y).mpr (Or.inl h)), fun f y h1 h2 h3 h4 => ?_, fun y h => ?_, fun post N hN hp => ?_⟩
        · by_cases q : f = i
          · rw [q, e] at h4
            have t := gb_i hx64 (by omega) h4
            subst t
            exact b x ((gb_or1 hx64 M x).mpr (Or.inr rfl))
          · exact g f y (by omega) h2 h3 h4
        · by_cases q : y = x
          · left; rw [q]; exact hm0
          · rcases z y h with w | w
            · left
              cases v : gb_t M y with
              | false => rfl
              | true => rw [(gb_or1 hx64 M y).mpr (Or.inl v)] at w; exact absurd w (by decide)
            · rcases (gb_or1 hx64 G y).mp w with v | v
              · exact Or.inr v
              · exact absurd v q
        · obtain ⟨N, rfl⟩ : ∃ k, N = k + 1 := ⟨N - 1, by omega⟩
          exact br_f h4 (br_f hsi ⟨hin, xs_sh2 (d := x) hx64 (by rw [hcl, e]) hm0 (nm_r (nI_1 i) (hw post N (by omega) hp))⟩)
theorem xs_scanOne (hn : n ≤ 64) (hY : hp_Y n m shy dm li ro wy) (hF : ∀ c, c < n → ¬ shy c = -1 → shx c = shy c) (h : mk_I n shy dm li wy M G st wx) :
    ∃ (M' G' : Int64) (st' : Int32) (wx' : Nat → Int32), mk_I n shy dm li wy M' G' st' wx' ∧ (¬ G = 0 → mk_nb M' G' < mk_nb M G) ∧ (st = 1 → st' = 1) ∧
      ∀ post : SX → Prop, post (nI n, nI m, tr, nI p, F, fc, ph, mL, sp, cy, fr, ns, M', G', st', shx, da, se, li, ro, wx') → wpX_scanOne post (nI n, nI m, tr, nI p, F, fc, ph, mL, sp, cy, fr, ns, M, G, st, shx, da, se, li, ro, wx) := by
  by_cases hG : G = 0
  · exact ⟨M, G, st, wx, h, fun z => absurd hG z, fun z => z, fun post hp => br_t hG hp⟩
  · have hW := mk_IW h
    have hst : st = 0 := by
      rcases h.2 with ⟨_, z, _⟩ | ⟨z, _, _⟩
      · exact absurd z hG
      · exact z
    obtain ⟨c, hc, hl⟩ := gb_nz hG
    have hMc : gb_t M c = true := h.1.2.1 c hl.1
    have hL := h.1.1 c hMc
    obtain ⟨s, hs, es, hsz⟩ := hp_Ls hY.1 hL.1 hL.2.1
    have hclr := gb_clr hc hl
    have hK1 := mk_take h.1 hclr
    obtain ⟨M', G', hK2, hmo, hli, hnb, hw⟩ := xs_scan43 (n := n) (m := m) (p := p) (tr := tr) (F := F) (fc := fc) (ph := ph) (mL := mL) (sp := sp) (cy := cy) (fr := fr) (ns := ns) (st := st) (shx := shx) (da := da) (se := se) (li := li) (ro := ro) (wx := wx) hn hY hL hs hsz s 0 M (G &&& (G - 1)) (by omega) hK1
    have hK3 : mk_K n shy dm li mk_0 M' G' := mk_drop hK2 (fun d hE => by
      obtain ⟨_, hd, f, f4, fs, e⟩ := hE
      exact hli f d (Nat.zero_le f) (by omega) hd e)
    have hG1 : ∀ x, gb_t (G &&& (G - 1)) x = true → gb_t G x = true := fun x z => ((hclr x).mp z).1
    have hlt : mk_nb M' G' < mk_nb M G := by
      refine mk_nb_lt hc hl.1 (fun x z => ?_) (hmo c hMc) ?_
      · rcases hnb x z with w | w
        · exact Or.inl w
        · exact Or.inr (hG1 x w)
      · cases q : gb_t G' c with
        | false => rfl
        | true =>
          rcases hnb c (Or.inr q) with w | w
          · rw [hMc] at w
            exact absurd w (by decide)
          · exact absurd rfl ((hclr c).mp w).2
    have hcl : (nI c).toNatClampNeg = c := nI_clamp (by omega)
    have hsx : shx (nI c).toNatClampNeg = nI s := by rw [hcl, hF c hL.1 hL.2.1, es]
    have hin : vp_in (nI c) 64 := vp_in_nI hc (by omega)
    by_cases hG' : G' = 0
    · obtain ⟨wx', a, b, hset⟩ := xs_settle (n := n) (m := m) (p := p) (tr := tr) (F := F) (fc := fc) (ph := ph) (mL := mL) (sp := sp) (cy := cy) (fr := fr) (ns := ns) (M := M') (G := G') (st := st) (shx := shx) (da := da) (se := se) (li := li) (ro := ro) (wx := wx) (fun w hw => by
        rcases mk_Wv hY hW w hw with e | ⟨x, hx, _, e⟩
        · exact Or.inl e
        · exact Or.inr ⟨x, by omega, e⟩)
      have hww := mk_weak hn hY hK3 hG' hW a b
      refine ⟨M', G', 1, wx', ⟨hK3, Or.inl ⟨rfl, hG', hww⟩⟩, fun _ => hlt, fun _ => rfl, fun post hp => ?_⟩
      exact br_f hG (gb_lowest hl hc (nm_e ⟨hin, nm_r hsx ⟨5, hw post 5 (by omega) (br_t hG' (hset _ hp))⟩⟩))
    · refine ⟨M', G', st, wx, ⟨hK3, Or.inr ⟨hst, hG', hW⟩⟩, fun _ => hlt, fun z => z, fun post hp => ?_⟩
      exact br_f hG (gb_lowest hl hc (nm_e ⟨hin, nm_r hsx ⟨5, hw post 5 (by omega) (br_f hG' hp)⟩⟩))
theorem xs_finish2 (hn : n ≤ 64) (hY : hp_Y n m shy dm li ro wy) (hF : ∀ c, c < n → ¬ shy c = -1 → shx c = shy c) : ∀ (d k : Nat) (M G : Int64) (st : Int32) (wx : Nat → Int32), k + d = 64 → mk_I n shy dm li wy M G st wx → mk_nb M G ≤ d →
    ∃ (M' G' : Int64) (wx' : Nat → Int32), mk_I n shy dm li wy M' G' 1 wx' ∧
      ∀ (post : SX → Prop) (N : Nat), d < N → post (nI n, nI m, tr, nI p, F, fc, ph, mL, sp, cy, fr, ns, M', G', 1, shx, da, se, li, ro, wx') → wX_finishMarking_2 post N (nI k) (nI n) (nI m) tr (nI p) F fc ph mL sp cy fr ns M G st shx da se li ro wx := by
  intro d
  induction d with
  | zero =>
    intro k M G st wx hk h hb
    have hG : G = 0 := Classical.byContradiction (fun z => by have t := mk_nb_pos (M := M) z; omega)
    have hst : st = 1 := by
      rcases h.2 with ⟨z, _, _⟩ | ⟨_, z, _⟩
      · exact z
      · exact absurd hG z
    subst hst
    refine ⟨M, G, wx, h, fun post N hN hp => ?_⟩
    obtain ⟨N, rfl⟩ : ∃ k, N = k + 1 := ⟨N - 1, by omega⟩
    exact br_t (nI_le (a := 64) (by omega) (by omega)) (br_f xs_10 hp)
  | succ d ih =>
    intro k M G st wx hk h hb
    have h64 : ¬ (64 : Int32) ≤ nI k := nI_ge (b := 64) (by omega) (by omega)
    by_cases hG : G = 0
    · have hst : st = 1 := by
        rcases h.2 with ⟨z, _, _⟩ | ⟨_, z, _⟩
        · exact z
        · exact absurd hG z
      subst hst
      refine ⟨M, G, wx, h, fun post N hN hp => ?_⟩
      obtain ⟨N, rfl⟩ : ∃ k, N = k + 1 := ⟨N - 1, by omega⟩
      exact br_f h64 (br_t hG (br_f xs_10 hp))
    · obtain ⟨M1, G1, st1, wx1, h1, hlt, _, hw1⟩ := xs_scanOne (n := n) (m := m) (p := p) (tr := tr) (F := F) (fc := fc) (ph := ph) (mL := mL) (sp := sp) (cy := cy) (fr := fr) (ns := ns) (M := M) (G := G) (st := st) (shx := shx) (da := da) (se := se) (li := li) (ro := ro) (wx := wx) hn hY hF h
      have t := hlt hG
      obtain ⟨M', G', wx', h', hw⟩ := ih (k + 1) M1 G1 st1 wx1 (by omega) h1 (by omega)
      refine ⟨M', G', wx', h', fun post N hN hp => ?_⟩
      obtain ⟨N, rfl⟩ : ∃ k, N = k + 1 := ⟨N - 1, by omega⟩
      exact br_f h64 (br_f hG (hw1 _ (nm_r (nI_1 k) (hw post N (by omega) hp))))
theorem xs_finish (hn : n ≤ 64) (hY : hp_Y n m shy dm li ro wy) (hF : ∀ c, c < n → ¬ shy c = -1 → shx c = shy c) (h : mk_I n shy dm li wy M G st wx) :
    ∃ (M' G' : Int64) (wx' : Nat → Int32), mk_I n shy dm li wy M' G' 1 wx' ∧ ∀ post : SX → Prop, post (nI n, nI m, tr, nI p, F, fc, ph, mL, sp, cy, fr, ns, M', G', 1, shx, da, se, li, ro, wx') → wpX_finishMarking post (nI n, nI m, tr, nI p, F, fc, ph, mL, sp, cy, fr, ns, M, G, st, shx, da, se, li, ro, wx) := by
  obtain ⟨M', G', wx', h', hw⟩ := xs_finish2 (n := n) (m := m) (p := p) (tr := tr) (F := F) (fc := fc) (ph := ph) (mL := mL) (sp := sp) (cy := cy) (fr := fr) (ns := ns) (shx := shx) (da := da) (se := se) (li := li) (ro := ro) hn hY hF 64 0 M G st wx rfl h (mk_nb_le M G)
  exact ⟨M', G', wx', h', fun post hp => ⟨65, hw post 65 (by omega) hp⟩⟩
theorem xs_I1 (h : mk_I n shy dm li wy M G 1 wx) : G = 0 ∧ ∀ w, w < 8 → wx w = wy w := by
  rcases h.2 with ⟨_, z, y⟩ | ⟨z, _, _⟩
  · exact ⟨z, y⟩
  · exact absurd z (by decide)
theorem xs_proven (hn : n ≤ 64) (hY : hp_Y n m shy dm li ro wy) (hF : ∀ c, c < n → ¬ shy c = -1 → shx c = shy c) (h : mk_I n shy dm li wy M G st wx) {c : Nat} (hc : c < n) :
    ∃ (M' G' : Int64) (st' : Int32) (wx' : Nat → Int32) (r : Int32), mk_I n shy dm li wy M' G' st' wx' ∧ ((r = 1 ∧ hp_L n shy dm c) ∨ (r = 0 ∧ st' = 1 ∧ ¬ hp_L n shy dm c)) ∧ (st = 1 → st' = 1) ∧
      ∀ post : Int32 → SX → Prop, post r (nI n, nI m, tr, nI p, F, fc, ph, mL, sp, cy, fr, ns, M', G', st', shx, da, se, li, ro, wx') → wpX_provenLive post (nI n, nI m, tr, nI p, F, fc, ph, mL, sp, cy, fr, ns, M, G, st, shx, da, se, li, ro, wx) (nI c) := by
  have hc64 : c < 64 := by omega
  by_cases hm : gb_t M c = true
  · have t := (gb_ntest hc64).mpr hm
    exact ⟨M, G, st, wx, 1, h, Or.inl ⟨rfl, h.1.1 c hm⟩, fun z => z, fun post hp => nm_e (br_f t (br_f t hp))⟩
  · have hm0 : gb_t M c = false := by cases q : gb_t M c with | false => rfl | true => exact absurd q hm
    have t := (gb_test hc64).mpr hm0
    by_cases hst : st = 0
    · obtain ⟨M', G', wx', h', hw⟩ := xs_finish (n := n) (m := m) (p := p) (tr := tr) (F := F) (fc := fc) (ph := ph) (mL := mL) (sp := sp) (cy := cy) (fr := fr) (ns := ns) (M := M) (G := G) (st := st) (shx := shx) (da := da) (se := se) (li := li) (ro := ro) (wx := wx) hn hY hF h
      by_cases hm' : gb_t M' c = true
      · exact ⟨M', G', 1, wx', 1, h', Or.inl ⟨rfl, h'.1.1 c hm'⟩, fun _ => rfl, fun post hp => nm_e (br_t t (br_t hst (hw _ (br_f ((gb_ntest hc64).mpr hm') hp))))⟩
      · have hm1 : gb_t M' c = false := by cases q : gb_t M' c with | false => rfl | true => exact absurd q hm'
        exact ⟨M', G', 1, wx', 0, h', Or.inr ⟨rfl, rfl, fun z => hm' (mk_full h'.1 (xs_I1 h').1 z)⟩, fun _ => rfl, fun post hp => nm_e (br_t t (br_t hst (hw _ (br_t ((gb_test hc64).mpr hm1) hp))))⟩
    · have h1 : st = 1 ∧ G = 0 := by
        rcases h.2 with ⟨a, b, _⟩ | ⟨a, _, _⟩
        · exact ⟨a, b⟩
        · exact absurd a hst
      exact ⟨M, G, st, wx, 0, h, Or.inr ⟨rfl, h1.1, fun z => hm (mk_full h.1 h1.2 z)⟩, fun z => z, fun post hp => nm_e (br_t t (br_f hst (br_t t hp)))⟩
theorem xs_resolve (hn : n ≤ 64) (hY : hp_Y n m shy dm li ro wy) (hF : ∀ c, c < n → ¬ shy c = -1 → shx c = shy c) (h : mk_I n shy dm li wy M G st wx) {w : Nat} (hw : w < 8) :
    ∃ (M' G' : Int64) (st' : Int32) (wx' : Nat → Int32), mk_I n shy dm li wy M' G' st' wx' ∧ (st = 1 → st' = 1) ∧
      ∀ post : Int32 → SX → Prop, post (wy w) (nI n, nI m, tr, nI p, F, fc, ph, mL, sp, cy, fr, ns, M', G', st', shx, da, se, li, ro, wx') → wpX_resolveWeak post (nI n, nI m, tr, nI p, F, fc, ph, mL, sp, cy, fr, ns, M, G, st, shx, da, se, li, ro, wx) (nI w) := by
  have hW := mk_IW h
  have hin : vp_in (nI w) 8 := vp_in_nI hw (by omega)
  have hcl : (nI w).toNatClampNeg = w := nI_clamp (by omega)
  rcases mk_Wv hY hW w hw with e | ⟨c, hc, hnf, e⟩
  · have ey : wy w = -1 := by
      rcases hW w hw with z | ⟨z, _⟩
      · rw [← z, e]
      · exact z
    rw [ey]
    exact ⟨M, G, st, wx, h, fun z => z, fun post hp => ⟨hin, nm_r (e' := -1) (by rw [hcl, e]) (br_t rfl hp)⟩⟩
  · obtain ⟨M', G', st', wx', r, h', hr, hs, hp⟩ := xs_proven (n := n) (m := m) (p := p) (tr := tr) (F := F) (fc := fc) (ph := ph) (mL := mL) (sp := sp) (cy := cy) (fr := fr) (ns := ns) (M := M) (G := G) (st := st) (shx := shx) (da := da) (se := se) (li := li) (ro := ro) (wx := wx) hn hY hF h hc
    have hx : wx (nI w).toNatClampNeg = nI c := by rw [hcl, e]
    refine ⟨M', G', st', wx', h', hs, fun post hq => ⟨hin, nm_r hx (br_f (hp_ne (by omega)) (hp _ ?_))⟩⟩
    rcases hr with ⟨r1, hL⟩ | ⟨r0, s1, hL⟩
    · have ey : wy w = nI c := by
        rcases hW w hw with z | ⟨_, x, ex, hD⟩
        · rw [← z, e]
        · have hxn := hD.1
          have t := gb_i (by omega) (by omega) (ex.symm.trans e)
          subst t
          exact (hp_LD hL hD).elim
      rw [ey] at hq
      exact br_f (by rw [r1]; decide) hq
    · subst s1
      have t := (xs_I1 h').2 w hw
      refine br_t r0 ⟨hin, ?_⟩
      exact xs_v (P := fun z => post z (nI n, nI m, tr, nI p, F, fc, ph, mL, sp, cy, fr, ns, M', G', 1, shx, da, se, li, ro, wx')) (by rw [hcl, t]) hq
end
end
section
/-! the reference's computeReach gives what is reachable -/
theorem yr_b0 : vp_nar .boolean 0 = 0 := rfl
theorem yr_b1 : vp_nar .boolean 1 = 1 := rfl
theorem yr_m : (-1 : Int32) < 0 := by decide
theorem yr_u1 {a : Nat → Int32} {k j : Nat} (h : ¬ a j = 0) : ¬ upd a k 1 j = 0 := by
  by_cases e : j = k
  · rw [e, pk_us]; decide
  · rw [pk_un e]; exact h
theorem yr_u2 {a : Nat → Int32} {k j : Nat} (h : ¬ upd a k 1 j = 0) : j = k ∨ ¬ a j = 0 := by
  by_cases e : j = k
  · exact Or.inl e
  · rw [pk_un e] at h; exact Or.inr h
theorem yr_u3 {a : Nat → Int32} {k : Nat} : ¬ upd a k 1 k = 0 := by rw [pk_us]; decide
section
variable {n m p : Nat} {tr : Int32} {ph mL po cy fr ns : Int32} {shy se da li dm re ro wy : Nat → Int32}
theorem yr_2 (hn : n ≤ 64) : ∀ (d i : Nat) (re : Nat → Int32), i + d = n → (∀ c, c < i → re c = 0) →
    ∃ re' : Nat → Int32, (∀ c, c < n → re' c = 0) ∧ ∀ (post : SY → Prop) (N : Nat), d < N → (∃ k, wY_computeReach_25 post (nI n) (nI m) tr (nI p) ph mL po cy fr ns k 0 shy se da li dm re' ro wy) → wY_computeReach_2 post (nI n) (nI m) tr (nI p) ph mL po cy fr ns N (nI i) shy se da li dm re ro wy := by
  intro d
  induction d with
  | zero =>
    intro i re hi h
    refine ⟨re, fun c hc => h c (by omega), fun post N hN hp => ?_⟩
    obtain ⟨N, rfl⟩ : ∃ k, N = k + 1 := ⟨N - 1, by omega⟩
    exact br_t (nI_le (by omega) (by omega)) hp
  | succ d ih =>
    intro i re hi h
    have hcl : (nI i).toNatClampNeg = i := nI_clamp (by omega)
    obtain ⟨re', a, hw⟩ := ih (i + 1) (upd re i 0) (by omega) (fun c hc => by
      by_cases e : c = i
      · rw [e]; exact pk_us
      · rw [pk_un e]; exact h c (by omega))
    refine ⟨re', a, fun post N hN hp => ?_⟩
    obtain ⟨N, rfl⟩ : ∃ k, N = k + 1 := ⟨N - 1, by omega⟩
    exact br_f (nI_ge (by omega) (by omega)) ⟨vp_in_nI (by omega) (by omega), nm_r (e' := upd re i 0) (by rw [hcl, yr_b0]) (nm_r (nI_1 i) (hw post N (by omega) hp))⟩
theorem yr_25 (hn : n ≤ 64) (hm : m ≤ 16) (hY : hp_Y n m shy dm li ro wy) : ∀ (d i : Nat) (re : Nat → Int32), i + d = m → (∀ c, c < n → ¬ re c = 0 → hp_R n m ro c) →
    ∃ re' : Nat → Int32, (∀ c, ¬ re c = 0 → ¬ re' c = 0) ∧ (∀ r c, i ≤ r → r < m → c < n → ro r = nI c → ¬ re' c = 0) ∧ (∀ c, c < n → ¬ re' c = 0 → hp_R n m ro c) ∧
      ∀ (post : SY → Prop) (N : Nat), d < N → (∃ k, wY_computeReach_62 post (nI n) (nI m) tr (nI p) ph mL po cy fr ns k 0 shy se da li dm re' ro wy) → wY_computeReach_25 post (nI n) (nI m) tr (nI p) ph mL po cy fr ns N (nI i) shy se da li dm re ro wy := by
  intro d
  induction d with
  | zero =>
    intro i re hi h
    refine ⟨re, fun _ z => z, fun r c a b => by omega, h, fun post N hN hp => ?_⟩
    obtain ⟨N, rfl⟩ : ∃ k, N = k + 1 := ⟨N - 1, by omega⟩
    exact br_t (nI_le (by omega) (by omega)) hp
  | succ d ih =>
    intro i re hi h
    have hcl : (nI i).toNatClampNeg = i := nI_clamp (by omega)
    have hin : vp_in (nI i) 16 := vp_in_nI (by omega) (by omega)
    rcases hY.2.1 i (by omega) with e | ⟨x, e, hx⟩
    · obtain ⟨re', a, b, g, hw⟩ := ih (i + 1) re (by omega) h
      refine ⟨re', a, fun r c h1 h2 h3 h4 => ?_, g, fun post N hN hp => ?_⟩
      · by_cases z : r = i
        · rw [z, e] at h4
          exact absurd h4.symm (hp_ne (by omega))
        · exact b r c (by omega) h2 h3 h4
      · obtain ⟨N, rfl⟩ : ∃ k, N = k + 1 := ⟨N - 1, by omega⟩
        exact br_f (nI_ge (by omega) (by omega)) ⟨hin, br_t (by rw [hcl, e]; exact yr_m) (nm_r (nI_1 i) (hw post N (by omega) hp))⟩
    · have hxn := hx.1
      obtain ⟨re', a, b, g, hw⟩ := ih (i + 1) (upd re x 1) (by omega) (fun c hc z => by
        rcases yr_u2 z with rfl | z
        · exact ⟨hc, i, by omega, e⟩
        · exact h c hc z)
      refine ⟨re', fun c z => a c (yr_u1 z), fun r c h1 h2 h3 h4 => ?_, g, fun post N hN hp => ?_⟩
      · by_cases z : r = i
        · rw [z, e] at h4
          have t := gb_i (by omega) (by omega) h4
          subst t
          exact a x yr_u3
        · exact b r c (by omega) h2 h3 h4
      · obtain ⟨N, rfl⟩ : ∃ k, N = k + 1 := ⟨N - 1, by omega⟩
        have er : ro (nI i).toNatClampNeg = nI x := by rw [hcl, e]
        have hclx : (nI x).toNatClampNeg = x := nI_clamp (by omega)
        exact br_f (nI_ge (by omega) (by omega)) ⟨hin, br_f (by rw [er]; exact nI_pos (by omega)) ⟨hin, ⟨by rw [er]; exact vp_in_nI (by omega) (by omega), nm_r (e' := upd re x 1) (by rw [er, hclx, yr_b1]) (nm_r (nI_1 i) (hw post N (by omega) hp))⟩⟩⟩
theorem yr_91 (hn : n ≤ 64) (hY : hp_Y n m shy dm li ro wy) {c s : Nat} (hc : hp_L n shy dm c) (hs : s ≤ 4) (hsh : shy c = nI s) : ∀ (d i : Nat) (re : Nat → Int32), i + d = s →
    ∃ re' : Nat → Int32, (∀ x, ¬ re x = 0 → ¬ re' x = 0) ∧ (∀ f e, i ≤ f → f < s → e < n → li (4 * c + f) = nI e → ¬ re' e = 0) ∧ (∀ T : Nat → Prop, (∀ x, x < n → ¬ re x = 0 → T x) → (∀ e, hp_E n shy li c e → T e) → ∀ x, x < n → ¬ re' x = 0 → T x) ∧
      ∀ (post : SY → Prop) (J62 J72 : Int32 → (Nat → Int32) → (Nat → Int32) → (Nat → Int32) → (Nat → Int32) → (Nat → Int32) → (Nat → Int32) → (Nat → Int32) → (Nat → Int32) → Prop) (x1 : Int32) (N : Nat), d < N → J72 (nI (c + 1)) shy se da li dm re' ro wy → wY_computeReach_91 post J62 J72 x1 (nI c) (nI n) (nI m) tr (nI p) ph mL po cy fr ns N (nI i) shy se da li dm re ro wy := by
  have hcn := hc.1
  have hclc : (nI c).toNatClampNeg = c := nI_clamp (by omega)
  have hinc : vp_in (nI c) 64 := vp_in_nI (by omega) (by omega)
  have hshc : shy (nI c).toNatClampNeg = nI s := by rw [hclc, hsh]
  have hsz : hp_sz shy c = s := hp_szn hs hsh
  intro d
  induction d with
  | zero =>
    intro i re hi
    refine ⟨re, fun _ z => z, fun f e a b => by omega, fun T a _ => a, fun post J62 J72 x1 N hN hp => ?_⟩
    obtain ⟨N, rfl⟩ : ∃ k, N = k + 1 := ⟨N - 1, by omega⟩
    exact ⟨hinc, br_t (by rw [hshc]; exact nI_le (by omega) (by omega)) (nm_r (nI_1 c) hp)⟩
  | succ d ih =>
    intro i re hi
    have hcl : (4 * nI c + nI i).toNatClampNeg = 4 * c + i := pk_cl (4 * c + i) (xs_iy c i)
    have hin : vp_in (4 * nI c + nI i) 256 := pk_in (4 * c + i) 256 (by omega) (xs_iy c i)
    have hlt : ¬ shy (nI c).toNatClampNeg ≤ nI i := by rw [hshc]; exact nI_ge (by omega) (by omega)
    rcases hY.2.2.1 c hc i (by omega) (by omega) with e | ⟨x, e, hx⟩
    · obtain ⟨re', a, b, g, hw⟩ := ih (i + 1) re (by omega)
      refine ⟨re', a, fun f y h1 h2 h3 h4 => ?_, g, fun post J62 J72 x1 N hN hp => ?_⟩
      · by_cases z : f = i
        · rw [z, e] at h4
          exact absurd h4.symm (hp_ne (by omega))
        · exact b f y (by omega) h2 h3 h4
      · obtain ⟨N, rfl⟩ : ∃ k, N = k + 1 := ⟨N - 1, by omega⟩
        exact ⟨hinc, br_f hlt ⟨hin, nm_r (e' := -1) (by rw [hcl, e]) (br_t yr_m (nm_r (nI_1 i) (hw post J62 J72 x1 N (by omega) hp)))⟩⟩
    · have hxn := hx.1
      obtain ⟨re', a, b, g, hw⟩ := ih (i + 1) (upd re x 1) (by omega)
      refine ⟨re', fun y z => a y (yr_u1 z), fun f y h1 h2 h3 h4 => ?_, fun T h1 h2 => ?_, fun post J62 J72 x1 N hN hp => ?_⟩
      · by_cases z : f = i
        · rw [z, e] at h4
          have t := gb_i (by omega) (by omega) h4
          subst t
          exact a x yr_u3
        · exact b f y (by omega) h2 h3 h4
      · refine g T (fun y hy z => ?_) h2
        rcases yr_u2 z with rfl | z
        · exact h2 y ⟨hcn, hy, i, by omega, by omega, e⟩
        · exact h1 y hy z
      · obtain ⟨N, rfl⟩ : ∃ k, N = k + 1 := ⟨N - 1, by omega⟩
        have hclx : (nI x).toNatClampNeg = x := nI_clamp (by omega)
        exact ⟨hinc, br_f hlt ⟨hin, nm_r (e' := nI x) (by rw [hcl, e]) (br_f (nI_pos (by omega)) ⟨vp_in_nI (by omega) (by omega), nm_r (e' := upd re x 1) (by rw [hclx, yr_b1]) (nm_r (nI_1 i) (hw post J62 J72 x1 N (by omega) hp))⟩)⟩⟩
theorem yr_72 (hn : n ≤ 64) (hY : hp_Y n m shy dm li ro wy) : ∀ (d i : Nat) (re : Nat → Int32), i + d = n → (∀ c, c < n → ¬ re c = 0 → hp_L n shy dm c) →
    ∃ re' : Nat → Int32, (∀ x, ¬ re x = 0 → ¬ re' x = 0) ∧ (∀ c e, i ≤ c → ¬ re c = 0 → hp_E n shy li c e → ¬ re' e = 0) ∧ (∀ T : Nat → Prop, (∀ x, x < n → ¬ re x = 0 → T x) → (∀ a b, T a → hp_E n shy li a b → T b) → ∀ x, x < n → ¬ re' x = 0 → T x) ∧
      ∀ (post : SY → Prop) (J62 : Int32 → (Nat → Int32) → (Nat → Int32) → (Nat → Int32) → (Nat → Int32) → (Nat → Int32) → (Nat → Int32) → (Nat → Int32) → (Nat → Int32) → Prop) (x1 : Int32) (N : Nat), d < N → J62 (x1 + 1) shy se da li dm re' ro wy → wY_computeReach_72 post J62 x1 (nI n) (nI m) tr (nI p) ph mL po cy fr ns N (nI i) shy se da li dm re ro wy := by
  intro d
  induction d with
  | zero =>
    intro i re hi h
    refine ⟨re, fun _ z => z, fun c e a _ b => ?_, fun T a _ => a, fun post J62 x1 N hN hp => ?_⟩
    · have := b.1
      omega
    · obtain ⟨N, rfl⟩ : ∃ k, N = k + 1 := ⟨N - 1, by omega⟩
      exact br_t (nI_le (by omega) (by omega)) (nm_e hp)
  | succ d ih =>
    intro i re hi h
    have hcl : (nI i).toNatClampNeg = i := nI_clamp (by omega)
    have hin : vp_in (nI i) 64 := vp_in_nI (by omega) (by omega)
    by_cases hr : re i = 0
    · obtain ⟨re', a, b, g, hw⟩ := ih (i + 1) re (by omega) h
      refine ⟨re', a, fun c e h1 h2 h3 => ?_, g, fun post J62 x1 N hN hp => ?_⟩
      · by_cases z : c = i
        · rw [z] at h2
          exact absurd hr h2
        · exact b c e (by omega) h2 h3
      · obtain ⟨N, rfl⟩ : ∃ k, N = k + 1 := ⟨N - 1, by omega⟩
        exact br_f (nI_ge (by omega) (by omega)) ⟨hin, br_t (by rw [hcl, hr]) (nm_r (nI_1 i) (hw post J62 x1 N (by omega) hp))⟩
    · have hL := h i (by omega) hr
      obtain ⟨s, hs, es, hsz⟩ := hp_Ls hY.1 hL.1 hL.2.1
      obtain ⟨re1, a1, b1, g1, hw1⟩ := yr_91 (n := n) (m := m) (p := p) (tr := tr) (ph := ph) (mL := mL) (po := po) (cy := cy) (fr := fr) (ns := ns) (shy := shy) (se := se) (da := da) (li := li) (dm := dm) (ro := ro) (wy := wy) hn hY hL hs es s 0 re (by omega)
      obtain ⟨re', a, b, g, hw⟩ := ih (i + 1) re1 (by omega) (g1 _ h (fun e z => hp_LE hn hY hL z))
      refine ⟨re', fun x z => a x (a1 x z), fun c e h1 h2 h3 => ?_, fun T h1 h2 => ?_, fun post J62 x1 N hN hp => ?_⟩
      · by_cases z : c = i
        · subst z
          obtain ⟨_, hen, f, f4, fs, ef⟩ := h3
          exact a e (b1 f e (Nat.zero_le f) (by omega) hen ef)
        · exact b c e (by omega) (a1 c h2) h3
      · exact g T (g1 T h1 (fun e z => h2 i e (h1 i (by omega) hr) z)) h2
      · obtain ⟨N, rfl⟩ : ∃ k, N = k + 1 := ⟨N - 1, by omega⟩
        exact br_f (nI_ge (by omega) (by omega)) ⟨hin, br_f (by rw [hcl]; exact hr) ⟨5, hw1 post J62 _ x1 5 (by omega) (hw post J62 x1 N (by omega) hp)⟩⟩
theorem yr_62 (hn : n ≤ 64) (hY : hp_Y n m shy dm li ro wy) : ∀ (d k : Nat) (re : Nat → Int32), k + d = n → (∀ c, c < n → ¬ re c = 0 → hp_L n shy dm c) → ((∀ c e, ¬ re c = 0 → hp_E n shy li c e → ¬ re e = 0) ∨ k ≤ cn_c (fun c => decide (¬ re c = 0)) n) →
    ∃ re' : Nat → Int32, (∀ x, ¬ re x = 0 → ¬ re' x = 0) ∧ (∀ c e, ¬ re' c = 0 → hp_E n shy li c e → ¬ re' e = 0) ∧ (∀ T : Nat → Prop, (∀ x, x < n → ¬ re x = 0 → T x) → (∀ a b, T a → hp_E n shy li a b → T b) → ∀ x, x < n → ¬ re' x = 0 → T x) ∧
      ∀ (post : SY → Prop) (N : Nat), d < N → post (nI n, nI m, tr, nI p, ph, mL, po, cy, fr, ns, shy, se, da, li, dm, re', ro, wy) → wY_computeReach_62 post (nI n) (nI m) tr (nI p) ph mL po cy fr ns N (nI k) shy se da li dm re ro wy := by
  intro d
  induction d with
  | zero =>
    intro k re hk h hcl
    refine ⟨re, fun _ z => z, ?_, fun T a _ => a, fun post N hN hp => ?_⟩
    · rcases hcl with z | z
      · exact z
      · intro c e _ hE
        have t := cn_all (q := fun c => decide (¬ re c = 0)) n (by omega) e hE.2.1
        exact of_decide_eq_true t
    · obtain ⟨N, rfl⟩ : ∃ k, N = k + 1 := ⟨N - 1, by omega⟩
      exact br_t (nI_le (by omega) (by omega)) hp
  | succ d ih =>
    intro k re hk h hcl
    obtain ⟨re1, a1, b1, g1, hw1⟩ := yr_72 (n := n) (m := m) (p := p) (tr := tr) (ph := ph) (mL := mL) (po := po) (cy := cy) (fr := fr) (ns := ns) (shy := shy) (se := se) (da := da) (li := li) (dm := dm) (ro := ro) (wy := wy) hn hY n 0 re (by omega) h
    have hinv : (∀ c e, ¬ re1 c = 0 → hp_E n shy li c e → ¬ re1 e = 0) ∨ k + 1 ≤ cn_c (fun c => decide (¬ re1 c = 0)) n := by
      by_cases ex : ∃ x, x < n ∧ ¬ re1 x = 0 ∧ re x = 0
      · obtain ⟨x, hx, h1, h0⟩ := ex
        rcases hcl with z | z
        · exact absurd h0 (g1 (fun y => ¬ re y = 0) (fun y _ w => w) (fun a b wa wb => z a b wa wb) x hx h1)
        · right
          have t := cn_lt (q := fun c => decide (¬ re c = 0)) (r := fun c => decide (¬ re1 c = 0)) (j := x) (k := n) hx (fun i hi w => decide_eq_true (a1 i (of_decide_eq_true w))) (decide_eq_false (fun w => w h0)) (decide_eq_true h1)
          omega
      · left
        intro c e hc hE
        refine b1 c e (Nat.zero_le c) (fun w => ex ⟨c, hE.1, hc, w⟩) hE
    obtain ⟨re', a, b, g, hw⟩ := ih (k + 1) re1 (by omega) (g1 _ h (fun x y hx hE => hp_LE hn hY hx hE)) hinv
    refine ⟨re', fun x z => a x (a1 x z), b, fun T h1 h2 => g T (g1 T h1 h2) h2, fun post N hN hp => ?_⟩
    obtain ⟨N, rfl⟩ : ∃ k, N = k + 1 := ⟨N - 1, by omega⟩
    exact br_f (nI_ge (by omega) (by omega)) ⟨n + 1, hw1 post _ (nI k) (n + 1) (by omega) (xs_v (P := fun z => wY_computeReach_62 post (nI n) (nI m) tr (nI p) ph mL po cy fr ns N z shy se da li dm re1 ro wy) (nI_1 k) (hw post N (by omega) hp))⟩
theorem yr_compute (hn : n ≤ 64) (hm : m ≤ 16) (hY : hp_Y n m shy dm li ro wy) : ∃ re' : Nat → Int32, (∀ c, c < n → (¬ re' c = 0 ↔ hp_Re n m shy li ro c)) ∧ ∀ post : SY → Prop, post (nI n, nI m, tr, nI p, ph, mL, po, cy, fr, ns, shy, se, da, li, dm, re', ro, wy) → wpY_computeReach post (nI n, nI m, tr, nI p, ph, mL, po, cy, fr, ns, shy, se, da, li, dm, re, ro, wy) := by
  obtain ⟨re0, a0, hw0⟩ := yr_2 (n := n) (m := m) (p := p) (tr := tr) (ph := ph) (mL := mL) (po := po) (cy := cy) (fr := fr) (ns := ns) (shy := shy) (se := se) (da := da) (li := li) (dm := dm) (ro := ro) (wy := wy) hn n 0 re (by omega) (fun c hc => by omega)
  obtain ⟨re1, a1, b1, g1, hw1⟩ := yr_25 (n := n) (m := m) (p := p) (tr := tr) (ph := ph) (mL := mL) (po := po) (cy := cy) (fr := fr) (ns := ns) (shy := shy) (se := se) (da := da) (li := li) (dm := dm) (ro := ro) (wy := wy) hn hm hY m 0 re0 (by omega) (fun c hc z => absurd (a0 c hc) z)
  obtain ⟨re2, a2, b2, g2, hw2⟩ := yr_62 (n := n) (m := m) (p := p) (tr := tr) (ph := ph) (mL := mL) (po := po) (cy := cy) (fr := fr) (ns := ns) (shy := shy) (se := se) (da := da) (li := li) (dm := dm) (ro := ro) (wy := wy) hn hY n 0 re1 (by omega) (fun c hc z => hp_LR hn hY (g1 c hc z)) (Or.inr (Nat.zero_le _))
  refine ⟨re2, fun c hc => ⟨fun z => ?_, fun z => ?_⟩, fun post hp => ⟨n + 1, hw0 post (n + 1) (by omega) ⟨m + 1, hw1 post (m + 1) (by omega) ⟨n + 1, hw2 post (n + 1) (by omega) hp⟩⟩⟩⟩
  · exact g2 (hp_Re n m shy li ro) (fun x hx w => hp_ReR (g1 x hx w)) (fun a b wa wb => hp_ReE wa wb) c hc z
  · refine z (fun x => ¬ re2 x = 0) (fun x hx => ?_) b2
    obtain ⟨hx, r, hr, e⟩ := hx
    exact a2 x (b1 r x (Nat.zero_le r) hr hx e)
end
end
section
/-! the component's reachedFromRoots answers whether a cell is reachable -/
section
variable {n m p : Nat} {tr : Int32} {F : Int64} {fc ph mL sp cy fr ns : Int32} {M G : Int64} {st : Int32} {shx da se li ro wx : Nat → Int32} {shy dm wy : Nat → Int32}
theorem xr_root4 (hn : n ≤ 64) (hm : m ≤ 16) (hY : hp_Y n m shy dm li ro wy) : ∀ (d i : Nat) (s : Int64), i + d = m →
    ∃ s' : Int64, (∀ c, gb_t s' c = true ↔ gb_t s c = true ∨ (c < n ∧ ∃ r, i ≤ r ∧ r < m ∧ ro r = nI c)) ∧ ∀ (post : Int64 → Prop) (N : Nat), d < N → post s' → wX_rootSet_4 post (nI n) (nI m) tr (nI p) F fc ph mL sp cy fr ns M G st shx da se li ro wx N s (nI i) := by
  intro d
  induction d with
  | zero =>
    intro i s hi
    refine ⟨s, fun c => ⟨fun z => Or.inl z, fun z => ?_⟩, fun post N hN hp => ?_⟩
    · rcases z with z | ⟨_, r, h1, h2, _⟩
      · exact z
      · omega
    · obtain ⟨N, rfl⟩ : ∃ k, N = k + 1 := ⟨N - 1, by omega⟩
      exact br_c (fun _ => hp) (fun _ => br_t (nI_le (by omega) (by omega)) hp)
  | succ d ih =>
    intro i s hi
    have hcl : (nI i).toNatClampNeg = i := nI_clamp (by omega)
    have hin : vp_in (nI i) 16 := vp_in_nI (by omega) (by omega)
    have h16 : ¬ (16 : Int32) ≤ nI i := nI_ge (b := 16) (by omega) (by omega)
    have hmi : ¬ nI m ≤ nI i := nI_ge (by omega) (by omega)
    rcases hY.2.1 i (by omega) with e | ⟨x, e, hx⟩
    · obtain ⟨s', a, hw⟩ := ih (i + 1) s (by omega)
      refine ⟨s', fun c => ⟨fun z => ?_, fun z => ?_⟩, fun post N hN hp => ?_⟩
      · rcases (a c).mp z with w | ⟨w, r, h1, h2, h3⟩
        · exact Or.inl w
        · exact Or.inr ⟨w, r, by omega, h2, h3⟩
      · rcases z with w | ⟨w, r, h1, h2, h3⟩
        · exact (a c).mpr (Or.inl w)
        · by_cases q : r = i
          · rw [q, e] at h3
            exact absurd h3.symm (hp_ne (by omega))
          · exact (a c).mpr (Or.inr ⟨w, r, by omega, h2, h3⟩)
      · obtain ⟨N, rfl⟩ : ∃ k, N = k + 1 := ⟨N - 1, by omega⟩
        exact br_f h16 (br_f hmi ⟨hin, br_t (by rw [hcl, e]) (nm_r (nI_1 i) (hw post N (by omega) hp))⟩)
    · have hxn := hx.1
      have hx64 : x < 64 := by omega
      obtain ⟨s', a, hw⟩ := ih (i + 1) (s ||| gb_1 x) (by omega)
      refine ⟨s', fun c => ⟨fun z => ?_, fun z => ?_⟩, fun post N hN hp => ?_⟩
      · rcases (a c).mp z with w | ⟨w, r, h1, h2, h3⟩
        · rcases (gb_or1 hx64 s c).mp w with w | rfl
          · exact Or.inl w
          · exact Or.inr ⟨hxn, i, by omega, by omega, e⟩
        · exact Or.inr ⟨w, r, by omega, h2, h3⟩
      · rcases z with w | ⟨w, r, h1, h2, h3⟩
        · exact (a c).mpr (Or.inl ((gb_or1 hx64 s c).mpr (Or.inl w)))
        · by_cases q : r = i
          · rw [q, e] at h3
            exact (a c).mpr (Or.inl ((gb_or1 hx64 s c).mpr (Or.inr (gb_i hx64 (by omega) h3).symm)))
          · exact (a c).mpr (Or.inr ⟨w, r, by omega, h2, h3⟩)
      · obtain ⟨N, rfl⟩ : ∃ k, N = k + 1 := ⟨N - 1, by omega⟩
        have er : ro (nI i).toNatClampNeg = nI x := by rw [hcl, e]
        exact br_f h16 (br_f hmi ⟨hin, br_f (by rw [er]; exact hp_ne hx64) ⟨hin, nm_r (e' := s ||| gb_1 x) (by rw [er]) (nm_r (nI_1 i) (hw post N (by omega) hp))⟩⟩)
theorem xr_rootSet (hn : n ≤ 64) (hm : m ≤ 16) (hY : hp_Y n m shy dm li ro wy) : ∃ s : Int64, (∀ c, gb_t s c = true ↔ hp_R n m ro c) ∧ ∀ post : Int64 → Prop, post s → wpX_rootSet post (nI n, nI m, tr, nI p, F, fc, ph, mL, sp, cy, fr, ns, M, G, st, shx, da, se, li, ro, wx) := by
  obtain ⟨s, a, hw⟩ := xr_root4 (n := n) (m := m) (p := p) (tr := tr) (F := F) (fc := fc) (ph := ph) (mL := mL) (sp := sp) (cy := cy) (fr := fr) (ns := ns) (M := M) (G := G) (st := st) (shx := shx) (da := da) (se := se) (li := li) (ro := ro) (wx := wx) hn hm hY m 0 0 (by omega)
  refine ⟨s, fun c => ⟨fun z => ?_, fun z => ?_⟩, fun post hp => ⟨m + 1, hw post (m + 1) (by omega) hp⟩⟩
  · rcases (a c).mp z with w | ⟨w, r, h1, h2, h3⟩
    · rw [gb_0] at w
      exact absurd w (by decide)
    · exact ⟨w, r, h2, h3⟩
  · obtain ⟨w, r, h2, h3⟩ := z
    exact (a c).mpr (Or.inr ⟨w, r, Nat.zero_le r, h2, h3⟩)
theorem xr_link13 (hn : n ≤ 64) (hY : hp_Y n m shy dm li ro wy) {c s : Nat} (hc : hp_L n shy dm c) (hs : s ≤ 4) (hsz : hp_sz shy c = s) : ∀ (d i : Nat) (t : Int64), i + d = s →
    ∃ t' : Int64, (∀ e, gb_t t' e = true ↔ gb_t t e = true ∨ (e < n ∧ ∃ f, i ≤ f ∧ f < s ∧ li (4 * c + f) = nI e)) ∧ ∀ (post : Int64 → Prop) (N : Nat), d < N → post t' → wX_linkSet_13 post (nI c) (nI s) (nI n) (nI m) tr (nI p) F fc ph mL sp cy fr ns M G st shx da se li ro wx N t (nI i) := by
  have hcn := hc.1
  intro d
  induction d with
  | zero =>
    intro i t hi
    refine ⟨t, fun c => ⟨fun z => Or.inl z, fun z => ?_⟩, fun post N hN hp => ?_⟩
    · rcases z with z | ⟨_, r, h1, h2, _⟩
      · exact z
      · omega
    · obtain ⟨N, rfl⟩ : ∃ k, N = k + 1 := ⟨N - 1, by omega⟩
      exact br_c (fun _ => hp) (fun _ => br_t (nI_le (by omega) (by omega)) hp)
  | succ d ih =>
    intro i t hi
    have hin : vp_in (nI c * 4 + nI i) 256 := pk_in (4 * c + i) 256 (by omega) (xs_ix c i)
    have hcl : (nI c * 4 + nI i).toNatClampNeg = 4 * c + i := pk_cl (4 * c + i) (xs_ix c i)
    have h4 : ¬ (4 : Int32) ≤ nI i := nI_ge (b := 4) (by omega) (by omega)
    have hsi : ¬ nI s ≤ nI i := nI_ge (by omega) (by omega)
    rcases hY.2.2.1 c hc i (by omega) (by omega) with e | ⟨x, e, hx⟩
    · obtain ⟨t', a, hw⟩ := ih (i + 1) t (by omega)
      refine ⟨t', fun y => ⟨fun z => ?_, fun z => ?_⟩, fun post N hN hp => ?_⟩
      · rcases (a y).mp z with w | ⟨w, r, h1, h2, h3⟩
        · exact Or.inl w
        · exact Or.inr ⟨w, r, by omega, h2, h3⟩
      · rcases z with w | ⟨w, r, h1, h2, h3⟩
        · exact (a y).mpr (Or.inl w)
        · by_cases q : r = i
          · rw [q, e] at h3
            exact absurd h3.symm (hp_ne (by omega))
          · exact (a y).mpr (Or.inr ⟨w, r, by omega, h2, h3⟩)
      · obtain ⟨N, rfl⟩ : ∃ k, N = k + 1 := ⟨N - 1, by omega⟩
        exact br_f h4 (br_f hsi ⟨hin, nm_r (e' := -1) (by rw [hcl, e]) (br_t rfl (nm_r (nI_1 i) (hw post N (by omega) hp)))⟩)
    · have hxn := hx.1
      have hx64 : x < 64 := by omega
      obtain ⟨t', a, hw⟩ := ih (i + 1) (t ||| gb_1 x) (by omega)
      refine ⟨t', fun y => ⟨fun z => ?_, fun z => ?_⟩, fun post N hN hp => ?_⟩
      · rcases (a y).mp z with w | ⟨w, r, h1, h2, h3⟩
        · rcases (gb_or1 hx64 t y).mp w with w | rfl
          · exact Or.inl w
          · exact Or.inr ⟨hxn, i, by omega, by omega, e⟩
        · exact Or.inr ⟨w, r, by omega, h2, h3⟩
      · rcases z with w | ⟨w, r, h1, h2, h3⟩
        · exact (a y).mpr (Or.inl ((gb_or1 hx64 t y).mpr (Or.inl w)))
        · by_cases q : r = i
          · rw [q, e] at h3
            exact (a y).mpr (Or.inl ((gb_or1 hx64 t y).mpr (Or.inr (gb_i hx64 (by omega) h3).symm)))
          · exact (a y).mpr (Or.inr ⟨w, r, by omega, h2, h3⟩)
      · obtain ⟨N, rfl⟩ : ∃ k, N = k + 1 := ⟨N - 1, by omega⟩
        exact br_f h4 (br_f hsi ⟨hin, nm_r (e' := nI x) (by rw [hcl, e]) (br_f (hp_ne hx64) (nm_e (nm_r (nI_1 i) (hw post N (by omega) hp))))⟩)
theorem xr_linkSet (hn : n ≤ 64) (hY : hp_Y n m shy dm li ro wy) (hF : ∀ c, c < n → ¬ shy c = -1 → shx c = shy c) {c : Nat} (hc : hp_L n shy dm c) : ∃ s : Int64, (∀ e, gb_t s e = true ↔ hp_E n shy li c e) ∧ ∀ post : Int64 → Prop, post s → wpX_linkSet post (nI n, nI m, tr, nI p, F, fc, ph, mL, sp, cy, fr, ns, M, G, st, shx, da, se, li, ro, wx) (nI c) := by
  obtain ⟨s, hs, es, hsz⟩ := hp_Ls hY.1 hc.1 hc.2.1
  obtain ⟨t, a, hw⟩ := xr_link13 (n := n) (m := m) (p := p) (tr := tr) (F := F) (fc := fc) (ph := ph) (mL := mL) (sp := sp) (cy := cy) (fr := fr) (ns := ns) (M := M) (G := G) (st := st) (shx := shx) (da := da) (se := se) (li := li) (ro := ro) (wx := wx) hn hY hc hs hsz s 0 0 (by omega)
  have hcn := hc.1
  have hcl : (nI c).toNatClampNeg = c := nI_clamp (by omega)
  refine ⟨t, fun e => ⟨fun z => ?_, fun z => ?_⟩, fun post hp => ⟨vp_in_nI (by omega) (by omega), nm_r (e' := nI s) (by rw [hcl, hF c hc.1 hc.2.1, es]) ⟨s + 1, hw post (s + 1) (by omega) hp⟩⟩⟩
  · rcases (a e).mp z with w | ⟨w, f, h1, h2, h3⟩
    · rw [gb_0] at w
      exact absurd w (by decide)
    · exact ⟨hcn, w, f, by omega, by omega, h3⟩
  · obtain ⟨_, w, f, h1, h2, h3⟩ := z
    exact (a e).mpr (Or.inr ⟨w, f, Nat.zero_le f, by omega, h3⟩)
theorem xr_96 {c : Nat} (hc : c < 64) {s : Int64} {post : Int32 → Prop} (h1 : gb_t s c = true → post 1) (h0 : gb_t s c = false → post 0) : wX_reachedFromRoots_96 post (gb_1 c) s (nI n) (nI m) tr (nI p) F fc ph mL sp cy fr ns M G st shx da se li ro wx :=
  br_c (fun z => h0 ((gb_test hc).mp z)) (fun z => h1 ((gb_ntest hc).mp z))
theorem xr_17 (hn : n ≤ 64) (hm : m ≤ 16) (hY : hp_Y n m shy dm li ro wy) (hF : ∀ c, c < n → ¬ shy c = -1 → shx c = shy c) {c : Nat} (hc : c < 64) {post : Int32 → Prop} (p1 : hp_Re n m shy li ro c → post 1) (p0 : ¬ hp_Re n m shy li ro c → post 0) : ∀ (d k : Nat) (s t : Int64), k + d = 64 →
    (∀ x, gb_t t x = true → gb_t s x = true) → (∀ x, gb_t s x = true → hp_Re n m shy li ro x) → (∀ x, hp_R n m ro x → gb_t s x = true) → (∀ a b, gb_t s a = true → gb_t t a = false → hp_E n shy li a b → gb_t s b = true) → mk_nb s t ≤ d →
      ∀ N, d < N → wX_reachedFromRoots_17 post (gb_1 c) (nI n) (nI m) tr (nI p) F fc ph mL sp cy fr ns M G st shx da se li ro wx N s t (nI k) := by
  have hend : ∀ s t : Int64, t = 0 → (∀ x, gb_t s x = true → hp_Re n m shy li ro x) → (∀ x, hp_R n m ro x → gb_t s x = true) → (∀ a b, gb_t s a = true → gb_t t a = false → hp_E n shy li a b → gb_t s b = true) → wX_reachedFromRoots_96 post (gb_1 c) s (nI n) (nI m) tr (nI p) F fc ph mL sp cy fr ns M G st shx da se li ro wx := by
    intro s t ht h2 h3 h4
    refine xr_96 (n := n) (m := m) (p := p) (tr := tr) (F := F) (fc := fc) (ph := ph) (mL := mL) (sp := sp) (cy := cy) (fr := fr) (ns := ns) (M := M) (G := G) (st := st) (shx := shx) (da := da) (se := se) (li := li) (ro := ro) (wx := wx) hc (fun z => p1 (h2 c z)) (fun z => p0 (fun w => ?_))
    have q := w (fun x => gb_t s x = true) h3 (fun a b ha hE => h4 a b ha (by rw [ht, gb_0]) hE)
    rw [z] at q
    exact absurd q (by decide)
  intro d
  induction d with
  | zero =>
    intro k s t hk h1 h2 h3 h4 hb N hN
    obtain ⟨N, rfl⟩ : ∃ k, N = k + 1 := ⟨N - 1, by omega⟩
    have ht : t = 0 := Classical.byContradiction (fun z => by have q := mk_nb_pos (M := s) z; omega)
    exact br_t (nI_le (a := 64) (by omega) (by omega)) (hend s t ht h2 h3 h4)
  | succ d ih =>
    intro k s t hk h1 h2 h3 h4 hb N hN
    obtain ⟨N, rfl⟩ : ∃ k, N = k + 1 := ⟨N - 1, by omega⟩
    refine br_f (nI_ge (b := 64) (by omega) (by omega)) ?_
    by_cases ht : t = 0
    · exact br_t ht (hend s t ht h2 h3 h4)
    · refine br_f ht ?_
      by_cases hs : gb_t s c = true
      · exact br_f ((gb_ntest hc).mpr hs) (xr_96 (n := n) (m := m) (p := p) (tr := tr) (F := F) (fc := fc) (ph := ph) (mL := mL) (sp := sp) (cy := cy) (fr := fr) (ns := ns) (M := M) (G := G) (st := st) (shx := shx) (da := da) (se := se) (li := li) (ro := ro) (wx := wx) hc (fun z => p1 (h2 c z)) (fun z => by rw [hs] at z; exact absurd z (by decide)))
      · have hs0 : gb_t s c = false := by cases q : gb_t s c with | false => rfl | true => exact absurd q hs
        refine br_t ((gb_test hc).mpr hs0) ?_
        obtain ⟨a, ha, hl⟩ := gb_nz ht
        have hclr := gb_clr ha hl
        have hsa := h1 a hl.1
        have hLa := hp_ReL hn hY (h2 a hsa)
        obtain ⟨u, hu, hwu⟩ := xr_linkSet (n := n) (m := m) (p := p) (tr := tr) (F := F) (fc := fc) (ph := ph) (mL := mL) (sp := sp) (cy := cy) (fr := fr) (ns := ns) (M := M) (G := G) (st := st) (shx := shx) (da := da) (se := se) (li := li) (ro := ro) (wx := wx) hn hY hF hLa
        have hx := gb_ann u s
        have hs' : ∀ x, gb_t (s ||| (u &&& (s ^^^ (-1)))) x = true ↔ gb_t s x = true ∨ gb_t (u &&& (s ^^^ (-1))) x = true := fun x => by rw [gb_or, Bool.or_eq_true]
        have ht' : ∀ x, gb_t ((t &&& (t - 1)) ||| (u &&& (s ^^^ (-1)))) x = true ↔ gb_t (t &&& (t - 1)) x = true ∨ gb_t (u &&& (s ^^^ (-1))) x = true := fun x => by rw [gb_or, Bool.or_eq_true]
        refine gb_lowest hl ha (nm_e (hwu _ (nm_e (nm_e (nm_e (nm_r (nI_1 k) ?_))))))
        have nf : ∀ {b : Bool}, b = false → b = true → False := fun e f => by rw [e] at f; exact absurd f (by decide)
        have tf : ∀ {b : Bool}, (b = true → False) → b = false := fun {b} e => by cases b with | false => rfl | true => exact (e rfl).elim
        refine ih (k + 1) _ _ (by omega) (fun x z => ?_) (fun x z => ?_) (fun x z => ?_) (fun x y z w hE => ?_) ?_ N (by omega)
        · rcases (ht' x).mp z with q | q
          · exact (hs' x).mpr (Or.inl (h1 x ((hclr x).mp q).1))
          · exact (hs' x).mpr (Or.inr q)
        · rcases (hs' x).mp z with q | q
          · exact h2 x q
          · exact hp_ReE (h2 a hsa) ((hu x).mp ((hx x).mp q).1)
        · exact (hs' x).mpr (Or.inl (h3 x z))
        · have w1 : ¬ gb_t (t &&& (t - 1)) x = true := fun q => nf w ((ht' x).mpr (Or.inl q))
          have w2 : ¬ gb_t (u &&& (s ^^^ (-1))) x = true := fun q => nf w ((ht' x).mpr (Or.inr q))
          have zs : gb_t s x = true := by
            rcases (hs' x).mp z with q | q
            · exact q
            · exact absurd q w2
          by_cases xa : x = a
          · subst xa
            have q := (hu y).mpr hE
            cases sy : gb_t s y with
            | true => exact (hs' y).mpr (Or.inl sy)
            | false => exact (hs' y).mpr (Or.inr ((hx y).mpr ⟨q, sy⟩))
          · exact (hs' y).mpr (Or.inl (h4 x y zs (tf (fun q => w1 ((hclr x).mpr ⟨q, xa⟩))) hE))
        · have q : mk_nb (s ||| (u &&& (s ^^^ (-1)))) ((t &&& (t - 1)) ||| (u &&& (s ^^^ (-1)))) < mk_nb s t := by
            refine mk_nb_lt ha hl.1 (fun x z => ?_) ((hs' a).mpr (Or.inl hsa)) (tf (fun z => ?_))
            · rcases z with z | z
              · exact Or.inl (tf (fun q => nf z ((hs' x).mpr (Or.inl q))))
              · rcases (ht' x).mp z with q | q
                · exact Or.inr ((hclr x).mp q).1
                · exact Or.inl ((hx x).mp q).2
            · rcases (ht' a).mp z with q | q
              · exact ((hclr a).mp q).2 rfl
              · exact nf ((hx a).mp q).2 hsa
          omega
theorem xr_reached (hn : n ≤ 64) (hm : m ≤ 16) (hY : hp_Y n m shy dm li ro wy) (hF : ∀ c, c < n → ¬ shy c = -1 → shx c = shy c) {c : Nat} (hc : c < 64) {post : Int32 → Prop} (p1 : hp_Re n m shy li ro c → post 1) (p0 : ¬ hp_Re n m shy li ro c → post 0) : wpX_reachedFromRoots post (nI n, nI m, tr, nI p, F, fc, ph, mL, sp, cy, fr, ns, M, G, st, shx, da, se, li, ro, wx) (nI c) := by
  obtain ⟨s, hs, hw⟩ := xr_rootSet (n := n) (m := m) (p := p) (tr := tr) (F := F) (fc := fc) (ph := ph) (mL := mL) (sp := sp) (cy := cy) (fr := fr) (ns := ns) (M := M) (G := G) (st := st) (shx := shx) (da := da) (se := se) (li := li) (ro := ro) (wx := wx) hn hm hY
  refine nm_e (hw _ ⟨65, ?_⟩)
  exact xr_17 (n := n) (m := m) (p := p) (tr := tr) (F := F) (fc := fc) (ph := ph) (mL := mL) (sp := sp) (cy := cy) (fr := fr) (ns := ns) (M := M) (G := G) (st := st) (shx := shx) (da := da) (se := se) (li := li) (ro := ro) (wx := wx) hn hm hY hF hc p1 p0 64 0 s s rfl (fun x z => z) (fun x z => hp_ReR ((hs x).mp z)) (fun x z => (hs x).mpr z) (fun a b z w => by rw [z] at w; exact absurd w (by decide)) (mk_nb_le s s) 65 (by omega)
end
end
section
/-! snapshot on both sides -/
section
variable {n m p : Nat} {tr : Int32} {F : Int64} {fc ph mL sp cy fr ns : Int32} {M G : Int64} {st : Int32} {shx da se li ro wx : Nat → Int32} {shy dm wy : Nat → Int32}
theorem xn_17 (hn : n ≤ 64) (hm : m ≤ 16) (hY : hp_Y n m shy dm li ro wy) : ∀ (d i : Nat) (M : Int64), i + d = m →
    ∃ M' : Int64, (∀ c, gb_t M' c = true ↔ gb_t M c = true ∨ (c < n ∧ ∃ r, i ≤ r ∧ r < m ∧ ro r = nI c)) ∧ ∀ (post : SX → Prop) (N : Nat), d < N → wX_snapshot_47 post (nI n) (nI m) tr (nI p) F fc ph mL sp cy fr ns M' M' st shx da se li ro wx → wX_snapshot_17 post N (nI i) (nI n) (nI m) tr (nI p) F fc ph mL sp cy fr ns M M st shx da se li ro wx := by
  intro d
  induction d with
  | zero =>
    intro i M hi
    refine ⟨M, fun c => ⟨fun z => Or.inl z, fun z => ?_⟩, fun post N hN hp => ?_⟩
    · rcases z with z | ⟨_, r, h1, h2, _⟩
      · exact z
      · omega
    · obtain ⟨N, rfl⟩ : ∃ k, N = k + 1 := ⟨N - 1, by omega⟩
      exact br_c (fun _ => hp) (fun _ => br_t (nI_le (by omega) (by omega)) hp)
  | succ d ih =>
    intro i M hi
    have hcl : (nI i).toNatClampNeg = i := nI_clamp (by omega)
    have hin : vp_in (nI i) 16 := vp_in_nI (by omega) (by omega)
    have h16 : ¬ (16 : Int32) ≤ nI i := nI_ge (b := 16) (by omega) (by omega)
    have hmi : ¬ nI m ≤ nI i := nI_ge (by omega) (by omega)
    rcases hY.2.1 i (by omega) with e | ⟨x, e, hx⟩
    · obtain ⟨M', a, hw⟩ := ih (i + 1) M (by omega)
      refine ⟨M', fun c => ⟨fun z => ?_, fun z => ?_⟩, fun post N hN hp => ?_⟩
      · rcases (a c).mp z with w | ⟨w, r, h1, h2, h3⟩
        · exact Or.inl w
        · exact Or.inr ⟨w, r, by omega, h2, h3⟩
      · rcases z with w | ⟨w, r, h1, h2, h3⟩
        · exact (a c).mpr (Or.inl w)
        · by_cases q : r = i
          · rw [q, e] at h3
            exact absurd h3.symm (hp_ne (by omega))
          · exact (a c).mpr (Or.inr ⟨w, r, by omega, h2, h3⟩)
      · obtain ⟨N, rfl⟩ : ∃ k, N = k + 1 := ⟨N - 1, by omega⟩
        exact br_f h16 (br_f hmi ⟨hin, xs_sh0 (by rw [hcl, e]) (nm_r (nI_1 i) (hw post N (by omega) hp))⟩)
    · have hxn := hx.1
      have hx64 : x < 64 := by omega
      have er : ro (nI i).toNatClampNeg = nI x := by rw [hcl, e]
      by_cases hmx : gb_t M x = true
      · obtain ⟨M', a, hw⟩ := ih (i + 1) M (by omega)
        refine ⟨M', fun c => ⟨fun z => ?_, fun z => ?_⟩, fun post N hN hp => ?_⟩
        · rcases (a c).mp z with w | ⟨w, r, h1, h2, h3⟩
          · exact Or.inl w
          · exact Or.inr ⟨w, r, by omega, h2, h3⟩
        · rcases z with w | ⟨w, r, h1, h2, h3⟩
          · exact (a c).mpr (Or.inl w)
          · by_cases q : r = i
            · rw [q, e] at h3
              have t := gb_i hx64 (by omega) h3
              subst t
              exact (a x).mpr (Or.inl hmx)
            · exact (a c).mpr (Or.inr ⟨w, r, by omega, h2, h3⟩)
        · obtain ⟨N, rfl⟩ : ∃ k, N = k + 1 := ⟨N - 1, by omega⟩
          exact br_f h16 (br_f hmi ⟨hin, xs_sh1 hx64 er hmx (nm_r (nI_1 i) (hw post N (by omega) hp))⟩)
      · have hm0 : gb_t M x = false := by cases q : gb_t M x with | false => rfl | true => exact absurd q hmx
        obtain ⟨M', a, hw⟩ := ih (i + 1) (M ||| gb_1 x) (by omega)
        refine ⟨M', fun c => ⟨fun z => ?_, fun z => ?_⟩, fun post N hN hp => ?_⟩
        · rcases (a c).mp z with w | ⟨w, r, h1, h2, h3⟩
          · rcases (gb_or1 hx64 M c).mp w with w | rfl
            · exact Or.inl w
            · exact Or.inr ⟨hxn, i, by omega, by omega, e⟩
          · exact Or.inr ⟨w, r, by omega, h2, h3⟩
        · rcases z with w | ⟨w, r, h1, h2, h3⟩
          · exact (a c).mpr (Or.inl ((gb_or1 hx64 M c).mpr (Or.inl w)))
          · by_cases q : r = i
            · rw [q, e] at h3
              exact (a c).mpr (Or.inl ((gb_or1 hx64 M c).mpr (Or.inr (gb_i hx64 (by omega) h3).symm)))
            · exact (a c).mpr (Or.inr ⟨w, r, by omega, h2, h3⟩)
        · obtain ⟨N, rfl⟩ : ∃ k, N = k + 1 := ⟨N - 1, by omega⟩
          exact br_f h16 (br_f hmi ⟨hin, xs_sh2 hx64 er hm0 (nm_r (nI_1 i) (hw post N (by omega) hp))⟩)
theorem xn_snap (hn : n ≤ 64) (hm : m ≤ 16) (hY : hp_Y n m shy dm li ro wy) (hv : ∀ w, w < 8 → wx w = -1 ∨ ∃ c, c < 64 ∧ wx w = nI c) {q : Nat} (hq : 1 + nI n - fc = nI q) :
    ∃ (M' : Int64) (st' : Int32) (wx' : Nat → Int32), (∀ c, gb_t M' c = true ↔ hp_R n m ro c) ∧ ((M' = 0 ∧ st' = 1 ∧ (∀ w, w < 8 → wx w = -1 → wx' w = -1) ∧ (∀ w c, w < 8 → c < 64 → wx w = nI c → wx' w = if gb_t M' c = true then nI c else -1)) ∨ (¬ M' = 0 ∧ st' = 0 ∧ wx' = wx)) ∧
      ∀ post : SX → Prop, post (nI n, nI m, tr, nI p, F, fc, 1, nI q, sp, cy, 0, ns, M', M', st', shx, da, se, li, ro, wx') → wpX_snapshot post (nI n, nI m, tr, nI p, F, fc, ph, mL, sp, cy, fr, ns, M, G, st, shx, da, se, li, ro, wx) := by
  obtain ⟨M', a, hw⟩ := xn_17 (n := n) (m := m) (p := p) (tr := tr) (F := F) (fc := fc) (ph := ph) (mL := mL) (sp := sp) (cy := cy) (fr := fr) (ns := ns) (st := 0) (shx := shx) (da := da) (se := se) (li := li) (ro := ro) (wx := wx) hn hm hY m 0 0 (by omega)
  have ha : ∀ c, gb_t M' c = true ↔ hp_R n m ro c := by
    intro c
    constructor
    · intro z
      rcases (a c).mp z with w | ⟨w, r, h1, h2, h3⟩
      · rw [gb_0] at w
        exact absurd w (by decide)
      · exact ⟨w, r, h2, h3⟩
    · rintro ⟨w, r, h2, h3⟩
      exact (a c).mpr (Or.inr ⟨w, r, Nat.zero_le r, h2, h3⟩)
  by_cases hM : M' = 0
  · obtain ⟨wx', b, g, hs⟩ := xs_settle (n := n) (m := m) (p := p) (tr := tr) (F := F) (fc := fc) (ph := 1) (mL := nI q) (sp := sp) (cy := cy) (fr := 0) (ns := ns) (M := M') (G := M') (st := 0) (shx := shx) (da := da) (se := se) (li := li) (ro := ro) (wx := wx) hv
    exact ⟨M', 1, wx', ha, Or.inl ⟨hM, rfl, b, g⟩, fun post hp => ⟨m + 1, hw post (m + 1) (by omega) (nm_r hq (br_t hM (hs _ hp)))⟩⟩
  · exact ⟨M', 0, wx, ha, Or.inr ⟨hM, rfl, rfl⟩, fun post hp => ⟨m + 1, hw post (m + 1) (by omega) (nm_r hq (br_f hM hp))⟩⟩
end
section
variable {n m p : Nat} {tr : Int32} {ph mL po cy fr ns : Int32} {shy se da li dm re ro wy : Nat → Int32}
theorem yc_4 (hn : n ≤ 64) (hS : hp_S n shy) {post : Int32 → Prop} (hp : post (nI (cn_f n shy))) : ∀ (d i k : Nat), i + d = n → k = cn_c (fun c => decide (shy c = -1)) i → ∀ N, d < N → wY_countFree_4 post (nI n) (nI m) tr (nI p) ph mL po cy fr ns shy se da li dm re ro wy N (nI k) (nI i) := by
  intro d
  induction d with
  | zero =>
    intro i k hi hk N hN
    obtain ⟨N, rfl⟩ : ∃ k, N = k + 1 := ⟨N - 1, by omega⟩
    obtain rfl : i = n := by omega
    subst hk
    exact br_t (nI_le (by omega) (by omega)) hp
  | succ d ih =>
    intro i k hi hk N hN
    obtain ⟨N, rfl⟩ : ∃ k, N = k + 1 := ⟨N - 1, by omega⟩
    have hcl : (nI i).toNatClampNeg = i := nI_clamp (by omega)
    have hin : vp_in (nI i) 64 := vp_in_nI (by omega) (by omega)
    have hk' : cn_c (fun c => decide (shy c = -1)) (i + 1) = k + (if decide (shy i = -1) = true then 1 else 0) := by rw [hk]; rfl
    rcases hS i (by omega) with e | ⟨s, hs, e⟩
    · rw [if_pos (decide_eq_true e)] at hk'
      exact br_f (nI_ge (by omega) (by omega)) ⟨hin, br_f (by rw [hcl, e]; decide) (nm_r (nI_1 k) (nm_r (nI_1 i) (ih (i + 1) (k + 1) (by omega) hk'.symm N (by omega))))⟩
    · rw [if_neg (by rw [decide_eq_true_eq, e]; exact hp_ne (by omega))] at hk'
      exact br_f (nI_ge (by omega) (by omega)) ⟨hin, br_t (by rw [hcl, e]; exact nI_pos' (by omega)) (nm_r (nI_1 i) (ih (i + 1) k (by omega) (by omega) N (by omega)))⟩
theorem yc_count (hn : n ≤ 64) (hS : hp_S n shy) {post : Int32 → Prop} (hp : post (nI (cn_f n shy))) : wpY_countFree post (nI n, nI m, tr, nI p, ph, mL, po, cy, fr, ns, shy, se, da, li, dm, re, ro, wy) :=
  ⟨n + 1, yc_4 hn hS hp n 0 0 (by omega) rfl (n + 1) (by omega)⟩
theorem yn_51 (hn : n ≤ 64) (hS : hp_S n shy) {q : Nat} (hq : 1 + nI n - nI (cn_f n shy) = nI q) : ∀ (d i : Nat) (wy : Nat → Int32), i + d = 8 → (∀ w, w < 8 → wy w = -1 ∨ ∃ c, c < 64 ∧ wy w = nI c) →
    ∃ wy' : Nat → Int32, (∀ w, w < i → wy' w = wy w) ∧ (∀ w, i ≤ w → w < 8 → wy w = -1 → wy' w = -1) ∧ (∀ w c, i ≤ w → w < 8 → c < 64 → wy w = nI c → wy' w = if dm c = 0 then nI c else -1) ∧
      ∀ (post : SY → Prop) (N : Nat), d < N → post (nI n, nI m, tr, nI p, 1, nI q, po, cy, 0, ns, shy, se, da, li, dm, re, ro, wy') → wY_snapshot_51 post (nI n) (nI m) tr (nI p) ph mL po cy fr ns N (nI i) shy se da li dm re ro wy := by
  intro d
  induction d with
  | zero =>
    intro i wy hi hv
    refine ⟨wy, fun _ _ => rfl, fun w a b => by omega, fun w c a b => by omega, fun post N hN hp => ?_⟩
    obtain ⟨N, rfl⟩ : ∃ k, N = k + 1 := ⟨N - 1, by omega⟩
    exact br_t (nI_le (a := 8) (by omega) (by omega)) (yc_count hn hS (nm_r hq hp))
  | succ d ih =>
    intro i wy hi hv
    have h8 : ¬ (8 : Int32) ≤ nI i := nI_ge (b := 8) (by omega) (by omega)
    have hin : vp_in (nI i) 8 := vp_in_nI (by omega) (by omega)
    have hcl : (nI i).toNatClampNeg = i := nI_clamp (by omega)
    rcases hv i (by omega) with e | ⟨c, hc, e⟩
    · obtain ⟨wy', a, b, g, hw⟩ := ih (i + 1) wy (by omega) hv
      refine ⟨wy', fun w hw => a w (by omega), fun w h1 h2 h3 => ?_, fun w x h1 h2 h3 h4 => ?_, fun post N hN hp => ?_⟩
      · by_cases z : w = i
        · rw [z, a i (by omega), e]
        · exact b w (by omega) h2 h3
      · by_cases z : w = i
        · rw [z, e] at h4
          exact absurd h4.symm (hp_ne h3)
        · exact g w x (by omega) h2 h3 h4
      · obtain ⟨N, rfl⟩ : ∃ k, N = k + 1 := ⟨N - 1, by omega⟩
        exact br_f h8 ⟨hin, br_t (by rw [hcl, e]; exact yr_m) (nm_r (nI_1 i) (hw post N (by omega) hp))⟩
    · have er : wy (nI i).toNatClampNeg = nI c := by rw [hcl, e]
      have hclc : (nI c).toNatClampNeg = c := nI_clamp (by omega)
      have hp1 : ¬ wy (nI i).toNatClampNeg < 0 := by rw [er]; exact nI_pos (by omega)
      have hp2 : vp_in (wy (nI i).toNatClampNeg) 64 := by rw [er]; exact vp_in_nI hc (by omega)
      by_cases hm : dm c = 0
      · obtain ⟨wy', a, b, g, hw⟩ := ih (i + 1) wy (by omega) hv
        refine ⟨wy', fun w hw => a w (by omega), fun w h1 h2 h3 => ?_, fun w x h1 h2 h3 h4 => ?_, fun post N hN hp => ?_⟩
        · by_cases z : w = i
          · rw [z, e] at h3
            exact absurd h3 (hp_ne hc)
          · exact b w (by omega) h2 h3
        · by_cases z : w = i
          · rw [z, e] at h4
            have t := gb_i hc h3 h4
            subst t
            rw [z, a i (by omega), e, if_pos hm]
          · exact g w x (by omega) h2 h3 h4
        · obtain ⟨N, rfl⟩ : ∃ k, N = k + 1 := ⟨N - 1, by omega⟩
          exact br_f h8 ⟨hin, br_f hp1 ⟨hin, hp2, br_t (by rw [er, hclc, hm]) (nm_r (nI_1 i) (hw post N (by omega) hp))⟩⟩
      · obtain ⟨wy', a, b, g, hw⟩ := ih (i + 1) (upd wy i (-1)) (by omega) (fun w hw => by
          by_cases z : w = i
          · left; rw [z]; exact pk_us
          · rw [pk_un z]; exact hv w hw)
        refine ⟨wy', fun w hw => by rw [a w (by omega), pk_un (by omega)], fun w h1 h2 h3 => ?_, fun w x h1 h2 h3 h4 => ?_, fun post N hN hp => ?_⟩
        · by_cases z : w = i
          · rw [z, a i (by omega)]; exact pk_us
          · exact b w (by omega) h2 (by rw [pk_un z]; exact h3)
        · by_cases z : w = i
          · rw [z, e] at h4
            have t := gb_i hc h3 h4
            subst t
            rw [z, a i (by omega), if_neg hm]
            exact pk_us
          · exact g w x (by omega) h2 h3 (by rw [pk_un z]; exact h4)
        · obtain ⟨N, rfl⟩ : ∃ k, N = k + 1 := ⟨N - 1, by omega⟩
          exact br_f h8 ⟨hin, br_f hp1 ⟨hin, hp2, br_f (by rw [er, hclc]; exact hm) ⟨hin, nm_r (e' := upd wy i (-1)) (by rw [hcl]) (nm_r (nI_1 i) (hw post N (by omega) hp))⟩⟩⟩
theorem yn_6 (hn : n ≤ 64) (hS : hp_S n shy) : ∀ (d i : Nat) (dm : Nat → Int32), i + d = n → (∀ c, c < i → (dm c = 0 ↔ (shy c = -1 ∨ ¬ re c = 0))) →
    ∃ dm' : Nat → Int32, (∀ c, c < n → (dm' c = 0 ↔ (shy c = -1 ∨ ¬ re c = 0))) ∧ ∀ (post : SY → Prop) (N : Nat), d < N → (∃ k, wY_snapshot_51 post (nI n) (nI m) tr (nI p) ph mL po cy fr ns k 0 shy se da li dm' re ro wy) → wY_snapshot_6 post (nI n) (nI m) tr (nI p) ph mL po cy fr ns N (nI i) shy se da li dm re ro wy := by
  intro d
  induction d with
  | zero =>
    intro i dm hi h
    refine ⟨dm, fun c hc => h c (by omega), fun post N hN hp => ?_⟩
    obtain ⟨N, rfl⟩ : ∃ k, N = k + 1 := ⟨N - 1, by omega⟩
    exact br_t (nI_le (by omega) (by omega)) hp
  | succ d ih =>
    intro i dm hi h
    have hin : vp_in (nI i) 64 := vp_in_nI (by omega) (by omega)
    have hcl : (nI i).toNatClampNeg = i := nI_clamp (by omega)
    have hni : ¬ nI n ≤ nI i := nI_ge (by omega) (by omega)
    have step : ∀ v : Int32, (v = 0 ↔ (shy i = -1 ∨ ¬ re i = 0)) → ∀ c, c < i + 1 → (upd dm i v c = 0 ↔ (shy c = -1 ∨ ¬ re c = 0)) := by
      intro v hv c hc
      by_cases z : c = i
      · rw [z, pk_us]; exact hv
      · rw [pk_un z]; exact h c (by omega)
    rcases hS i (by omega) with e | ⟨s, hs, e⟩
    · obtain ⟨dm', a, hw⟩ := ih (i + 1) (upd dm i 0) (by omega) (step 0 ⟨fun _ => Or.inl e, fun _ => rfl⟩)
      refine ⟨dm', a, fun post N hN hp => ?_⟩
      obtain ⟨N, rfl⟩ : ∃ k, N = k + 1 := ⟨N - 1, by omega⟩
      exact br_f hni ⟨hin, br_t (by rw [hcl, e]; exact yr_m) ⟨hin, nm_r (e' := upd dm i 0) (by rw [hcl, yr_b0]) (nm_r (nI_1 i) (hw post N (by omega) hp))⟩⟩
    · have hne : ¬ shy i = -1 := by rw [e]; exact hp_ne (by omega)
      have hge : ¬ shy (nI i).toNatClampNeg < 0 := by rw [hcl, e]; exact nI_pos (by omega)
      by_cases hr : re i = 0
      · obtain ⟨dm', a, hw⟩ := ih (i + 1) (upd dm i 1) (by omega) (step 1 ⟨fun z => absurd z (by decide), fun z => z.elim (fun w => absurd w hne) (fun w => absurd hr w)⟩)
        refine ⟨dm', a, fun post N hN hp => ?_⟩
        obtain ⟨N, rfl⟩ : ∃ k, N = k + 1 := ⟨N - 1, by omega⟩
        exact br_f hni ⟨hin, br_f hge ⟨hin, br_t (by rw [hcl, hr]) ⟨hin, nm_r (e' := upd dm i 1) (by rw [hcl, yr_b1]) (nm_r (nI_1 i) (hw post N (by omega) hp))⟩⟩⟩
      · obtain ⟨dm', a, hw⟩ := ih (i + 1) (upd dm i 0) (by omega) (step 0 ⟨fun _ => Or.inr hr, fun _ => rfl⟩)
        refine ⟨dm', a, fun post N hN hp => ?_⟩
        obtain ⟨N, rfl⟩ : ∃ k, N = k + 1 := ⟨N - 1, by omega⟩
        exact br_f hni ⟨hin, br_f hge ⟨hin, br_f (by rw [hcl]; exact hr) ⟨hin, nm_r (e' := upd dm i 0) (by rw [hcl, yr_b0]) (nm_r (nI_1 i) (hw post N (by omega) hp))⟩⟩⟩
theorem yn_snap (hn : n ≤ 64) (hm : m ≤ 16) (hY : hp_Y n m shy dm li ro wy) {q : Nat} (hq : 1 + nI n - nI (cn_f n shy) = nI q) :
    ∃ re' dm' wy' : Nat → Int32, (∀ c, c < n → (dm' c = 0 ↔ (shy c = -1 ∨ hp_Re n m shy li ro c))) ∧ (∀ w, w < 8 → wy w = -1 → wy' w = -1) ∧ (∀ w c, w < 8 → c < 64 → wy w = nI c → wy' w = if dm' c = 0 then nI c else -1) ∧
      ∀ post : SY → Prop, post (nI n, nI m, tr, nI p, 1, nI q, po, cy, 0, ns, shy, se, da, li, dm', re', ro, wy') → wpY_snapshot post (nI n, nI m, tr, nI p, ph, mL, po, cy, fr, ns, shy, se, da, li, dm, re, ro, wy) := by
  obtain ⟨re', hre, hw1⟩ := yr_compute (n := n) (m := m) (p := p) (tr := tr) (ph := ph) (mL := mL) (po := po) (cy := cy) (fr := fr) (ns := ns) (shy := shy) (se := se) (da := da) (li := li) (dm := dm) (re := re) (ro := ro) (wy := wy) hn hm hY
  obtain ⟨dm', hdm, hw2⟩ := yn_6 (n := n) (m := m) (p := p) (tr := tr) (ph := ph) (mL := mL) (po := po) (cy := cy) (fr := fr) (ns := ns) (shy := shy) (se := se) (da := da) (li := li) (re := re') (ro := ro) (wy := wy) hn hY.1 n 0 dm (by omega) (fun c hc => by omega)
  obtain ⟨wy', _, a, b, hw3⟩ := yn_51 (n := n) (m := m) (p := p) (tr := tr) (ph := ph) (mL := mL) (po := po) (cy := cy) (fr := fr) (ns := ns) (shy := shy) (se := se) (da := da) (li := li) (dm := dm') (re := re') (ro := ro) hn hY.1 hq 8 0 wy rfl (fun w hw => by
    rcases hY.2.2.2 w hw with e | ⟨c, e, hL⟩
    · exact Or.inl e
    · have := hL.1
      exact Or.inr ⟨c, by omega, e⟩)
  refine ⟨re', dm', wy', fun c hc => ?_, fun w => a w (Nat.zero_le w), fun w c => b w c (Nat.zero_le w), fun post hp => ?_⟩
  · rw [hdm c hc, hre c hc]
  · exact hw1 _ ⟨n + 1, hw2 post (n + 1) (by omega) ⟨9, hw3 post 9 (by omega) hp⟩⟩
end
section
variable {n m p : Nat} {tr : Int32} {F : Int64} {fc ph mL sp cy fr ns : Int32} {M G : Int64} {st : Int32} {shx da se li ro wx : Nat → Int32} {po : Int32} {shy dm re wy : Nat → Int32}
/-- the new doomed set: what is not reachable -/
theorem sn_L {dm' : Nat → Int32} (hn : n ≤ 64) (hY : hp_Y n m shy dm li ro wy) (hdm : ∀ c, c < n → (dm' c = 0 ↔ (shy c = -1 ∨ hp_Re n m shy li ro c))) (c : Nat) : hp_L n shy dm' c ↔ hp_Re n m shy li ro c := by
  constructor
  · rintro ⟨h1, h2, h3⟩
    rcases (hdm c h1).mp h3 with z | z
    · exact absurd z h2
    · exact z
  · intro h
    have hL := hp_ReL hn hY h
    exact ⟨hL.1, hL.2.1, (hdm c hL.1).mpr (Or.inr h)⟩
theorem sn_Y {dm' wy' : Nat → Int32} (hn : n ≤ 64) (hY : hp_Y n m shy dm li ro wy) (hdm : ∀ c, c < n → (dm' c = 0 ↔ (shy c = -1 ∨ hp_Re n m shy li ro c))) (h0 : ∀ w, w < 8 → wy w = -1 → wy' w = -1) (h1 : ∀ w c, w < 8 → c < 64 → wy w = nI c → wy' w = if dm' c = 0 then nI c else -1) : hp_Y n m shy dm' li ro wy' := by
  have hL := sn_L hn hY hdm
  refine ⟨hY.1, fun r hr => ?_, fun c hc f f4 fs => ?_, fun w hw => ?_⟩
  · rcases hY.2.1 r hr with e | ⟨c, e, hc⟩
    · exact Or.inl e
    · exact Or.inr ⟨c, e, (hL c).mpr (hp_ReR ⟨hc.1, r, hr, e⟩)⟩
  · have hR := (hL c).mp hc
    have hLc := hp_ReL hn hY hR
    rcases hY.2.2.1 c hLc f f4 fs with e | ⟨d, e, hd⟩
    · exact Or.inl e
    · exact Or.inr ⟨d, e, (hL d).mpr (hp_ReE hR ⟨hLc.1, hd.1, f, f4, fs, e⟩)⟩
  · rcases hY.2.2.2 w hw with e | ⟨c, e, hc⟩
    · exact Or.inl (h0 w hw e)
    · have hcn := hc.1
      have t := h1 w c hw (by omega) e
      by_cases z : dm' c = 0
      · rw [if_pos z] at t
        exact Or.inr ⟨c, t, hc.1, hc.2.1, z⟩
      · rw [if_neg z] at t
        exact Or.inl t
theorem sn_K {dm' : Nat → Int32} {M' : Int64} (hn : n ≤ 64) (hY : hp_Y n m shy dm li ro wy) (hdm : ∀ c, c < n → (dm' c = 0 ↔ (shy c = -1 ∨ hp_Re n m shy li ro c))) (hM : ∀ c, gb_t M' c = true ↔ hp_R n m ro c) : mk_K n shy dm' li mk_0 M' M' := by
  have hL := sn_L hn hY hdm
  refine ⟨fun c hc => (hL c).mpr (hp_ReR ((hM c).mp hc)), fun c hc => hc, fun T a b c hc => ?_⟩
  refine (hL c).mp hc T (fun x hx => a x ((hM x).mpr hx)) (fun x y hx hE => b x y hx ?_ hE)
  cases q : gb_t M' x with
  | false => exact Or.inl rfl
  | true => exact Or.inr (Or.inl rfl)
theorem sn_W {dm' wy' : Nat → Int32} (hn : n ≤ 64) (hY : hp_Y n m shy dm li ro wy) (hx : ∀ w, w < 8 → wx w = wy w) (h0 : ∀ w, w < 8 → wy w = -1 → wy' w = -1) (h1 : ∀ w c, w < 8 → c < 64 → wy w = nI c → wy' w = if dm' c = 0 then nI c else -1) : mk_W n shy dm' wx wy' := by
  intro w hw
  rcases hY.2.2.2 w hw with e | ⟨c, e, hc⟩
  · left
    rw [hx w hw, e, h0 w hw e]
  · have hcn := hc.1
    have t := h1 w c hw (by omega) e
    by_cases z : dm' c = 0
    · rw [if_pos z] at t
      left
      rw [hx w hw, e, t]
    · rw [if_neg z] at t
      right
      exact ⟨t, c, by rw [hx w hw, e], hc.1, hc.2.1, z⟩
theorem sn_snap (hA : hp_A n m p F fc ph mL sp M G st shx li ro wx po shy dm wy) (h0 : ph = 0) : ∃ (q : Nat) (M' G' : Int64) (st' : Int32) (wx' dm' re' wy' : Nat → Int32), hp_A n m p F fc 1 (nI q) sp M' G' st' shx li ro wx' po shy dm' wy' ∧
    (∀ post : SX → Prop, post (nI n, nI m, tr, nI p, F, fc, 1, nI q, sp, cy, 0, ns, M', G', st', shx, da, se, li, ro, wx') → wpX_snapshot post (nI n, nI m, tr, nI p, F, fc, ph, mL, sp, cy, fr, ns, M, G, st, shx, da, se, li, ro, wx)) ∧ (∀ post : SY → Prop, post (nI n, nI m, tr, nI p, 1, nI q, po, cy, 0, ns, shy, se, da, li, dm', re', ro, wy') → wpY_snapshot post (nI n, nI m, tr, nI p, ph, mL, po, cy, fr, ns, shy, se, da, li, dm, re, ro, wy)) := by
  obtain ⟨⟨n4, n64, m2, m16, p16⟩, hY, hF, hI, hP⟩ := hA
  have hst : st = 1 := by
    rcases hP with ⟨_, z⟩ | ⟨z, _⟩ | ⟨z, _⟩
    · exact z
    · rw [h0] at z; exact absurd z (by decide)
    · rw [h0] at z; exact absurd z (by decide)
  subst hst
  have hk : cn_f n shy ≤ n := cn_le _ n
  have hxy := (xs_I1 hI).2
  have hq : 1 + nI n - nI (cn_f n shy) = nI (1 + n - cn_f n shy) := by
    have e : (1 : Int32) = nI 1 := rfl
    rw [e, nI_add, pk_sub (by omega)]
  obtain ⟨re', dm', wy', hdm, w0, w1, hwY⟩ := yn_snap (n := n) (m := m) (p := p) (tr := tr) (ph := ph) (mL := mL) (po := po) (cy := cy) (fr := fr) (ns := ns) (shy := shy) (se := se) (da := da) (li := li) (dm := dm) (re := re) (ro := ro) (wy := wy) n64 m16 hY hq
  obtain ⟨M', st', wx', hM, hst, hwX⟩ := xn_snap (n := n) (m := m) (p := p) (tr := tr) (F := F) (fc := fc) (ph := ph) (mL := mL) (sp := sp) (cy := cy) (fr := fr) (ns := ns) (M := M) (G := G) (st := 1) (shx := shx) (da := da) (se := se) (li := li) (ro := ro) (wx := wx) n64 m16 hY (fun w hw => by
    rcases hY.2.2.2 w hw with e | ⟨c, e, hL⟩
    · exact Or.inl (by rw [hxy w hw, e])
    · have := hL.1
      exact Or.inr ⟨c, by omega, by rw [hxy w hw, e]⟩) (by rw [hF.2.2]; exact hq)
  have hY' := sn_Y n64 hY hdm w0 w1
  have hK' := sn_K n64 hY hdm hM
  have hW' := sn_W n64 hY hxy w0 w1
  refine ⟨_, M', M', st', wx', dm', re', wy', ⟨⟨n4, n64, m2, m16, p16⟩, hY', hF, ⟨hK', ?_⟩, Or.inr (Or.inl ⟨rfl, _, rfl, by omega, by omega⟩)⟩, hwX, hwY⟩
  rcases hst with ⟨z, s1, b, g⟩ | ⟨z, s0, e⟩
  · exact Or.inl ⟨s1, z, mk_weak n64 hY' hK' z hW' b g⟩
  · subst e
    exact Or.inr ⟨s0, z, hW'⟩
end
end
section
/-! one unit of work on both sides -/
section
variable {n m p : Nat} {tr : Int32} {F : Int64} {fc ph mL sp cy fr ns : Int32} {M G : Int64} {st : Int32} {shx da se li ro wx : Nat → Int32} {po : Int32} {shy dm re wy : Nat → Int32}
/-- freeing a doomed cell leaves the live ones -/
theorem sw_L {q : Nat} (hD : hp_D n shy dm q) (c : Nat) : hp_L n (upd shy q (-1)) (upd dm q 0) c ↔ hp_L n shy dm c := by
  by_cases e : c = q
  · subst e
    constructor
    · rintro ⟨_, h, _⟩
      exact absurd pk_us h
    · intro h
      exact (hp_LD h hD).elim
  · unfold hp_L
    rw [pk_un e, pk_un e]
theorem sw_V {q : Nat} (hD : hp_D n shy dm q) {x : Int32} (h : hp_V n shy dm x) : hp_V n (upd shy q (-1)) (upd dm q 0) x := by
  rcases h with h | ⟨c, e, h⟩
  · exact Or.inl h
  · exact Or.inr ⟨c, e, (sw_L hD c).mpr h⟩
theorem sw_Y {q : Nat} (hD : hp_D n shy dm q) (h : hp_Y n m shy dm li ro wy) : hp_Y n m (upd shy q (-1)) (upd dm q 0) li ro wy := by
  obtain ⟨h1, h2, h3, h4⟩ := h
  refine ⟨fun c hc => ?_, fun r hr => sw_V hD (h2 r hr), fun c hc f f4 fs => ?_, fun w hw => sw_V hD (h4 w hw)⟩
  · by_cases e : c = q
    · left; rw [e]; exact pk_us
    · rw [pk_un e]; exact h1 c hc
  · have hL := (sw_L hD c).mp hc
    have e : c ≠ q := fun z => by subst z; exact hp_LD hL hD
    have es : hp_sz (upd shy q (-1)) c = hp_sz shy c := by unfold hp_sz; rw [pk_un e]
    rw [es] at fs
    exact sw_V hD (h3 c hL f f4 fs)
theorem sw_F {q : Nat} (hn : n ≤ 64) (hD : hp_D n shy dm q) (h : hp_F n shx shy F fc) : hp_F n shx (upd shy q (-1)) (F ||| gb_1 q) (fc + 1) := by
  obtain ⟨h1, h2, h3⟩ := h
  have hq := hD.1
  have hq64 : q < 64 := by omega
  refine ⟨fun c => ?_, fun c hc hs => ?_, ?_⟩
  · rw [gb_or1 hq64]
    by_cases e : c = q
    · subst e
      exact ⟨fun _ => ⟨hq, pk_us⟩, fun _ => Or.inr rfl⟩
    · rw [pk_un e]
      constructor
      · intro z
        rcases z with z | z
        · exact (h1 c).mp z
        · exact absurd z e
      · intro z
        exact Or.inl ((h1 c).mpr z)
  · have e : c ≠ q := fun z => by subst z; exact hs pk_us
    rw [pk_un e] at hs ⊢
    exact h2 c hc hs
  · rw [h3, nI_1]
    have t : cn_f n (upd shy q (-1)) = cn_f n shy + 1 := by
      unfold cn_f
      refine cn_more (j := q) n hq (fun i hi z => ?_) ?_ ?_
      · show decide (shy i = -1) = decide (upd shy q (-1) i = -1)
        rw [pk_un z]
      · exact decide_eq_false hD.2.1
      · exact decide_eq_true pk_us
    rw [t]
theorem sw_I {q : Nat} (hD : hp_D n shy dm q) (h : mk_I n shy dm li wy M G 1 wx) : mk_I n (upd shy q (-1)) (upd dm q 0) li wy M G 1 wx := by
  obtain ⟨hG, hw⟩ := xs_I1 h
  refine ⟨⟨fun c hc => (sw_L hD c).mpr (h.1.1 c hc), h.1.2.1, mk_Tf (fun c hc => mk_full h.1 hG ((sw_L hD c).mp hc))⟩, Or.inl ⟨rfl, hG, hw⟩⟩
theorem sw_P1 {st' : Int32} (hs : st = 1 → st' = 1) (h : hp_P n ph mL sp po st) : hp_P n ph mL sp po st' := by
  rcases h with ⟨a, b⟩ | h | ⟨a, b, h⟩
  · exact Or.inl ⟨a, hs b⟩
  · exact Or.inr (Or.inl h)
  · exact Or.inr (Or.inr ⟨a, hs b, h⟩)
/-- whether the sweep frees a cell -/
theorem sw_test {q : Nat} (hq : q < n) (hn : n ≤ 64) (hF : hp_F n shx shy F fc) (h : mk_I n shy dm li wy M G 1 wx) : (F ||| M) &&& gb_1 q = 0 ↔ hp_D n shy dm q := by
  have hq64 : q < 64 := by omega
  rw [gb_test hq64, gb_or]
  have hG := (xs_I1 h).1
  constructor
  · intro z
    have z1 : gb_t F q = false := by cases a : gb_t F q <;> simp_all
    have z2 : gb_t M q = false := by cases a : gb_t M q <;> simp_all
    refine ⟨hq, fun w => ?_, fun w => ?_⟩
    · rw [(hF.1 q).mpr ⟨hq, w⟩] at z1
      exact absurd z1 (by decide)
    · by_cases s : shy q = -1
      · rw [(hF.1 q).mpr ⟨hq, s⟩] at z1
        exact absurd z1 (by decide)
      · rw [mk_full h.1 hG ⟨hq, s, w⟩] at z2
        exact absurd z2 (by decide)
  · intro hD
    have z1 : gb_t F q = false := by
      cases a : gb_t F q with
      | false => rfl
      | true => exact absurd ((hF.1 q).mp a).2 hD.2.1
    have z2 : gb_t M q = false := by
      cases a : gb_t M q with
      | false => rfl
      | true => exact (hp_LD (h.1.1 q a) hD).elim
    rw [z1, z2]
    rfl
/-- the units that are left at most -/
def un_mu (n : Nat) (ph mL po : Int32) : Nat := if ph = 1 then mL.toNatClampNeg + 64 else if ph = 2 then n - po.toNatClampNeg else 0
theorem un_mu_le (hA : hp_A n m p F fc ph mL sp M G st shx li ro wx po shy dm wy) : un_mu n ph mL po ≤ 129 := by
  obtain ⟨⟨n4, n64, _⟩, _, _, _, hP⟩ := hA
  unfold un_mu
  rcases hP with ⟨a, b⟩ | ⟨a, q, e, h1, h2⟩ | ⟨a, b, q, e1, e2, h⟩
  · rw [a, if_neg (by decide), if_neg (by decide)]; omega
  · rw [a, if_pos rfl, e, nI_clamp (by omega)]; omega
  · rw [a, if_neg (by decide), if_pos rfl]; omega
end
section
variable {n m p : Nat} {tr : Int32} {F : Int64} {fc ph mL sp cy fr ns : Int32} {M G : Int64} {st : Int32} {shx da se li ro wx : Nat → Int32}
theorem ux_mark {post : SX → Prop} {M1 G1 : Int64} {st1 mL' : Int32} {wx1 : Nat → Int32} (h : ∀ q : SX → Prop, q (nI n, nI m, tr, nI p, F, fc, ph, mL, sp, cy, fr, ns, M1, G1, st1, shx, da, se, li, ro, wx1) → wpX_scanOne q (nI n, nI m, tr, nI p, F, fc, ph, mL, sp, cy, fr, ns, M, G, st, shx, da, se, li, ro, wx)) (he : mL - 1 = mL') (hl : 0 < mL') (hp : post (nI n, nI m, tr, nI p, F, fc, ph, mL', sp, cy, fr, ns, M1, G1, st1, shx, da, se, li, ro, wx1)) : wpX_markUnit post (nI n, nI m, tr, nI p, F, fc, ph, mL, sp, cy, fr, ns, M, G, st, shx, da, se, li, ro, wx) := by
  unfold wpX_markUnit
  exact h _ (nm_r he (br_t hl hp))
theorem ux_last {post : SX → Prop} {M1 G1 M2 G2 : Int64} {st1 st2 mL' : Int32} {wx1 wx2 : Nat → Int32} (h : ∀ q : SX → Prop, q (nI n, nI m, tr, nI p, F, fc, ph, mL, sp, cy, fr, ns, M1, G1, st1, shx, da, se, li, ro, wx1) → wpX_scanOne q (nI n, nI m, tr, nI p, F, fc, ph, mL, sp, cy, fr, ns, M, G, st, shx, da, se, li, ro, wx)) (he : mL - 1 = mL') (hl : ¬ 0 < mL')
    (h2 : ∀ q : SX → Prop, q (nI n, nI m, tr, nI p, F, fc, ph, mL', sp, cy, fr, ns, M2, G2, st2, shx, da, se, li, ro, wx2) → wpX_finishMarking q (nI n, nI m, tr, nI p, F, fc, ph, mL', sp, cy, fr, ns, M1, G1, st1, shx, da, se, li, ro, wx1)) (hp : post (nI n, nI m, tr, nI p, F, fc, 2, mL', 0, cy, fr, ns, M2, G2, st2, shx, da, se, li, ro, wx2)) : wpX_markUnit post (nI n, nI m, tr, nI p, F, fc, ph, mL, sp, cy, fr, ns, M, G, st, shx, da, se, li, ro, wx) := by
  unfold wpX_markUnit
  exact h _ (nm_r he (br_f hl (h2 _ hp)))
theorem ux_53 {post : SX → Prop} {q : Nat} (hq : q < n) (hn : n ≤ 64) (h1 : q + 1 < n → post (nI n, nI m, tr, nI p, F, fc, ph, mL, nI (q + 1), cy, fr, ns, M, G, st, shx, da, se, li, ro, wx)) (h2 : q + 1 = n → post (nI n, nI m, tr, nI p, F, fc, 0, mL, nI (q + 1), cy + 1, fr, ns, M, G, st, shx, da, se, li, ro, wx)) : wX_sweepUnit_53 post (nI n) (nI m) tr (nI p) F fc ph mL (nI q) cy fr ns M G st shx da se li ro wx := by
  refine nm_r (nI_1 q) (pk_lt (q + 1) n (fun e => h1 e) (fun e => nm_e (h2 (by omega))))
theorem ux_sw1 {post : SX → Prop} {q : Nat} (ht : (F ||| M) &&& gb_1 q = 0) (hp : wX_sweepUnit_53 post (nI n) (nI m) tr (nI p) (F ||| gb_1 q) (fc + 1) ph mL (nI q) cy (fr + 1) ns M G st shx da se li ro wx) : wpX_sweepUnit post (nI n, nI m, tr, nI p, F, fc, ph, mL, nI q, cy, fr, ns, M, G, st, shx, da, se, li, ro, wx) :=
  nm_e (br_t ht (nm_e (nm_e (nm_e hp))))
theorem ux_sw0 {post : SX → Prop} {q : Nat} (ht : ¬ (F ||| M) &&& gb_1 q = 0) (hp : wX_sweepUnit_53 post (nI n) (nI m) tr (nI p) F fc ph mL (nI q) cy fr ns M G st shx da se li ro wx) : wpX_sweepUnit post (nI n, nI m, tr, nI p, F, fc, ph, mL, nI q, cy, fr, ns, M, G, st, shx, da, se, li, ro, wx) :=
  nm_e (br_f ht hp)
end
section
variable {n m p : Nat} {tr : Int32} {ph mL po cy fr ns : Int32} {shy se da li dm re ro wy : Nat → Int32}
theorem uy_100 {post : SY → Prop} {q : Nat} (hq : q < n) (hn : n ≤ 64) (h1 : q + 1 < n → post (nI n, nI m, tr, nI p, ph, mL, nI (q + 1), cy, fr, ns, shy, se, da, li, dm, re, ro, wy)) (h2 : q + 1 = n → post (nI n, nI m, tr, nI p, 0, mL, 0, cy + 1, fr, ns, shy, se, da, li, dm, re, ro, wy)) : wY_unit_100 post (nI n) (nI m) tr (nI p) ph mL (nI q) cy fr ns shy se da li dm re ro wy := by
  refine nm_r (nI_1 q) (pk_eq (q + 1) n (fun e => nm_e (h2 e)) (fun e => h1 (by omega)))
theorem uy_sw1 {post : SY → Prop} {q : Nat} (hn : n ≤ 64) (hS : hp_S n shy) (hD : hp_D n shy dm q) (hp : wY_unit_100 post (nI n) (nI m) tr (nI p) 2 mL (nI q) cy (fr + 1) ns (upd shy q (-1)) se da li (upd dm q 0) re ro wy) : wpY_unit post (nI n, nI m, tr, nI p, 2, mL, nI q, cy, fr, ns, shy, se, da, li, dm, re, ro, wy) := by
  have hq := hD.1
  have hin : vp_in (nI q) 64 := vp_in_nI (by omega) (by omega)
  have hcl : (nI q).toNatClampNeg = q := nI_clamp (by omega)
  obtain ⟨s, hs, e, _⟩ := hp_Ls hS hq hD.2.1
  exact br_f (by decide) (br_t rfl ⟨hin, br_f (by rw [hcl, e]; exact nI_pos (by omega)) ⟨hin, br_f (by rw [hcl]; exact hD.2.2) ⟨hin, nm_r (e' := upd shy q (-1)) (by rw [hcl]) ⟨hin, nm_r (e' := upd dm q 0) (by rw [hcl, yr_b0]) (nm_e hp)⟩⟩⟩⟩)
theorem uy_sw0 {post : SY → Prop} {q : Nat} (hn : n ≤ 64) (hS : hp_S n shy) (hq : q < n) (hD : ¬ hp_D n shy dm q) (hp : wY_unit_100 post (nI n) (nI m) tr (nI p) 2 mL (nI q) cy fr ns shy se da li dm re ro wy) : wpY_unit post (nI n, nI m, tr, nI p, 2, mL, nI q, cy, fr, ns, shy, se, da, li, dm, re, ro, wy) := by
  have hin : vp_in (nI q) 64 := vp_in_nI (by omega) (by omega)
  have hcl : (nI q).toNatClampNeg = q := nI_clamp (by omega)
  rcases hS q hq with e | ⟨s, hs, e⟩
  · exact br_f (by decide) (br_t rfl ⟨hin, br_t (by rw [hcl, e]; exact yr_m) hp⟩)
  · have hd : dm q = 0 := Classical.byContradiction (fun z => hD ⟨hq, by rw [e]; exact hp_ne (by omega), z⟩)
    exact br_f (by decide) (br_t rfl ⟨hin, br_f (by rw [hcl, e]; exact nI_pos (by omega)) ⟨hin, br_t (by rw [hcl, hd]) hp⟩⟩)
end
section
variable {n m p : Nat} {tr : Int32} {F : Int64} {fc ph mL sp cy fr ns : Int32} {M G : Int64} {st : Int32} {shx da se li ro wx : Nat → Int32} {po : Int32} {shy dm re wy : Nat → Int32}
theorem un_unit (hA : hp_A n m p F fc ph mL sp M G st shx li ro wx po shy dm wy) : ∃ (F' : Int64) (fc' ph' mL' sp' cy' fr' : Int32) (M' G' : Int64) (st' : Int32) (wx' : Nat → Int32) (po' : Int32) (shy' dm' : Nat → Int32),
    hp_A n m p F' fc' ph' mL' sp' M' G' st' shx li ro wx' po' shy' dm' wy ∧ (¬ ph = 0 → un_mu n ph' mL' po' < un_mu n ph mL po) ∧ (ph = 0 → ph' = 0) ∧
    (∀ post : SX → Prop, post (nI n, nI m, tr, nI p, F', fc', ph', mL', sp', cy', fr', ns, M', G', st', shx, da, se, li, ro, wx') → wpX_unit post (nI n, nI m, tr, nI p, F, fc, ph, mL, sp, cy, fr, ns, M, G, st, shx, da, se, li, ro, wx)) ∧
    (∀ post : SY → Prop, post (nI n, nI m, tr, nI p, ph', mL', po', cy', fr', ns, shy', se, da, li, dm', re, ro, wy) → wpY_unit post (nI n, nI m, tr, nI p, ph, mL, po, cy, fr, ns, shy, se, da, li, dm, re, ro, wy)) := by
  have hA' := hA
  obtain ⟨hN, hY, hF, hI, hP⟩ := hA'
  have n4 := hN.1
  have n64 := hN.2.1
  rcases hP with ⟨a, b⟩ | ⟨a, q, e, h1, h2⟩ | ⟨a, b, q, e1, e2, h⟩
  · subst a
    exact ⟨F, fc, 0, mL, sp, cy, fr, M, G, st, wx, po, shy, dm, hA, fun z => absurd rfl z, fun _ => rfl, fun post hp => br_f (by decide) (br_f (by decide) hp), fun post hp => br_f (by decide) (br_f (by decide) hp)⟩
  · subst a e
    obtain ⟨M1, G1, st1, wx1, hI1, _, hs1, hw1⟩ := xs_scanOne (n := n) (m := m) (p := p) (tr := tr) (F := F) (fc := fc) (ph := 1) (mL := nI q) (sp := sp) (cy := cy) (fr := fr) (ns := ns) (M := M) (G := G) (st := st) (shx := shx) (da := da) (se := se) (li := li) (ro := ro) (wx := wx) n64 hY hF.2.1 hI
    have he : nI q - 1 = nI (q - 1) := by
      obtain ⟨k, rfl⟩ : ∃ k, q = k + 1 := ⟨q - 1, by omega⟩
      rw [nI_pred, Nat.add_sub_cancel]
    have hmu : un_mu n 1 (nI q) po = q + 64 := by unfold un_mu; rw [if_pos rfl, nI_clamp (by omega)]
    by_cases hq : q = 1
    · subst hq
      obtain ⟨M2, G2, wx2, hI2, hw2⟩ := xs_finish (n := n) (m := m) (p := p) (tr := tr) (F := F) (fc := fc) (ph := 1) (mL := nI (1 - 1)) (sp := sp) (cy := cy) (fr := fr) (ns := ns) (M := M1) (G := G1) (st := st1) (shx := shx) (da := da) (se := se) (li := li) (ro := ro) (wx := wx1) n64 hY hF.2.1 hI1
      refine ⟨F, fc, 2, nI (1 - 1), nI 0, cy, fr, M2, G2, 1, wx2, nI 0, shy, dm, ⟨hN, hY, hF, hI2, Or.inr (Or.inr ⟨rfl, rfl, 0, rfl, rfl, by omega⟩)⟩, fun _ => ?_, fun z => absurd z (by decide), fun post hp => ?_, fun post hp => ?_⟩
      · rw [hmu]
        unfold un_mu
        rw [if_neg (by decide), if_pos rfl]
        omega
      · exact br_t rfl (ux_last hw1 he (by decide) hw2 hp)
      · exact br_t rfl (nm_r he (br_t rfl hp))
    · refine ⟨F, fc, 1, nI (q - 1), sp, cy, fr, M1, G1, st1, wx1, po, shy, dm, ⟨hN, hY, hF, hI1, Or.inr (Or.inl ⟨rfl, q - 1, rfl, by omega, by omega⟩)⟩, fun _ => ?_, fun z => absurd z (by decide), fun post hp => ?_, fun post hp => ?_⟩
      · rw [hmu]
        unfold un_mu
        rw [if_pos rfl, nI_clamp (by omega)]
        omega
      · exact br_t rfl (ux_mark hw1 he (nI_lt (a := 0) (by omega) (by omega)) hp)
      · exact br_t rfl (nm_r he (br_f (nI_ne0 (by omega) (by omega)) hp))
  · subst a b e1 e2
    have hmu : un_mu n 2 mL (nI q) = n - q := by unfold un_mu; rw [if_neg (by decide), if_pos rfl, nI_clamp (by omega)]
    have ht := sw_test h n64 hF hI
    by_cases hD : hp_D n shy dm q
    · have hY' := sw_Y hD hY
      have hF' := sw_F n64 hD hF
      have hI' := sw_I hD hI
      by_cases hl : q + 1 < n
      · refine ⟨F ||| gb_1 q, fc + 1, 2, mL, nI (q + 1), cy, fr + 1, M, G, 1, wx, nI (q + 1), upd shy q (-1), upd dm q 0, ⟨hN, hY', hF', hI', Or.inr (Or.inr ⟨rfl, rfl, q + 1, rfl, rfl, hl⟩)⟩, fun _ => ?_, fun z => absurd z (by decide), fun post hp => ?_, fun post hp => ?_⟩
        · rw [hmu]
          unfold un_mu
          rw [if_neg (by decide), if_pos rfl, nI_clamp (by omega)]
          omega
        · exact br_f (by decide) (br_t rfl (ux_sw1 (ht.mpr hD) (ux_53 h n64 (fun _ => hp) (fun z => by omega))))
        · exact uy_sw1 n64 hY.1 hD (uy_100 h n64 (fun _ => hp) (fun z => by omega))
      · refine ⟨F ||| gb_1 q, fc + 1, 0, mL, nI (q + 1), cy + 1, fr + 1, M, G, 1, wx, 0, upd shy q (-1), upd dm q 0, ⟨hN, hY', hF', hI', Or.inl ⟨rfl, rfl⟩⟩, fun _ => ?_, fun z => rfl, fun post hp => ?_, fun post hp => ?_⟩
        · rw [hmu]
          unfold un_mu
          rw [if_neg (by decide), if_neg (by decide)]
          omega
        · exact br_f (by decide) (br_t rfl (ux_sw1 (ht.mpr hD) (ux_53 h n64 (fun z => absurd z hl) (fun _ => hp))))
        · exact uy_sw1 n64 hY.1 hD (uy_100 h n64 (fun z => absurd z hl) (fun _ => hp))
    · by_cases hl : q + 1 < n
      · refine ⟨F, fc, 2, mL, nI (q + 1), cy, fr, M, G, 1, wx, nI (q + 1), shy, dm, ⟨hN, hY, hF, hI, Or.inr (Or.inr ⟨rfl, rfl, q + 1, rfl, rfl, hl⟩)⟩, fun _ => ?_, fun z => absurd z (by decide), fun post hp => ?_, fun post hp => ?_⟩
        · rw [hmu]
          unfold un_mu
          rw [if_neg (by decide), if_pos rfl, nI_clamp (by omega)]
          omega
        · exact br_f (by decide) (br_t rfl (ux_sw0 (fun z => hD (ht.mp z)) (ux_53 h n64 (fun _ => hp) (fun z => by omega))))
        · exact uy_sw0 n64 hY.1 h hD (uy_100 h n64 (fun _ => hp) (fun z => by omega))
      · refine ⟨F, fc, 0, mL, nI (q + 1), cy + 1, fr, M, G, 1, wx, 0, shy, dm, ⟨hN, hY, hF, hI, Or.inl ⟨rfl, rfl⟩⟩, fun _ => ?_, fun z => rfl, fun post hp => ?_, fun post hp => ?_⟩
        · rw [hmu]
          unfold un_mu
          rw [if_neg (by decide), if_neg (by decide)]
          omega
        · exact br_f (by decide) (br_t rfl (ux_sw0 (fun z => hD (ht.mp z)) (ux_53 h n64 (fun z => absurd z hl) (fun _ => hp))))
        · exact uy_sw0 n64 hY.1 h hD (uy_100 h n64 (fun z => absurd z hl) (fun _ => hp))
end
end
section
/-! work and hurry against the reference's loops -/
section
variable {n m p : Nat} {tr : Int32} {ph mL po cy fr ns : Int32} {shy se da li dm re ro wy : Nat → Int32}
theorem wy_idle {post : SY → Prop} (hp : post (nI n, nI m, tr, nI p, 0, mL, po, cy, fr, ns, shy, se, da, li, dm, re, ro, wy)) : wpY_unit post (nI n, nI m, tr, nI p, 0, mL, po, cy, fr, ns, shy, se, da, li, dm, re, ro, wy) := br_f (by decide) (br_f (by decide) hp)
theorem wy_i55 (hp16 : p ≤ 16) : ∀ (d k : Nat), k + d = p → ∀ (post : Int32 → SY → Prop) (x1 x2 x3 : Int32) (N : Nat), d < N → (∃ j, wY_alloc_77 post x1 x2 x3 j 0 (nI n) (nI m) tr (nI p) 0 mL po cy fr ns shy se da li dm re ro wy) → wY_alloc_55 post x1 x2 x3 N (nI k) (nI n) (nI m) tr (nI p) 0 mL po cy fr ns shy se da li dm re ro wy := by
  intro d
  induction d with
  | zero =>
    intro k hk post x1 x2 x3 N hN h
    obtain ⟨N, rfl⟩ : ∃ k, N = k + 1 := ⟨N - 1, by omega⟩
    exact br_t (nI_le (by omega) (by omega)) h
  | succ d ih =>
    intro k hk post x1 x2 x3 N hN h
    obtain ⟨N, rfl⟩ : ∃ k, N = k + 1 := ⟨N - 1, by omega⟩
    exact br_f (nI_ge (by omega) (by omega)) (wy_idle (nm_r (nI_1 k) (ih (k + 1) (by omega) post x1 x2 x3 N (by omega) h)))
theorem wy_i22 {u : Nat} (hu : u ≤ 200) : ∀ (d k : Nat), k + d = u → ∀ (post : Int32 → SY → Prop) (x2 : Int32) (N : Nat), d < N → post (fr - x2) (nI n, nI m, tr, nI p, 0, mL, po, cy, fr, ns, shy, se, da, li, dm, re, ro, wy) → wY_step_22 post (nI u) x2 N (nI k) (nI n) (nI m) tr (nI p) 0 mL po cy fr ns shy se da li dm re ro wy := by
  intro d
  induction d with
  | zero =>
    intro k hk post x2 N hN h
    obtain ⟨N, rfl⟩ : ∃ k, N = k + 1 := ⟨N - 1, by omega⟩
    exact br_t (nI_le (by omega) (by omega)) h
  | succ d ih =>
    intro k hk post x2 N hN h
    obtain ⟨N, rfl⟩ : ∃ k, N = k + 1 := ⟨N - 1, by omega⟩
    exact br_f (nI_ge (by omega) (by omega)) (wy_idle (nm_r (nI_1 k) (ih (k + 1) (by omega) post x2 N (by omega) h)))
end
theorem wk_F {n : Nat} {shx shy : Nat → Int32} {F : Int64} {fc : Int32} (h : hp_F n shx shy F fc) : F = 0 ↔ cn_f n shy = 0 := by
  constructor
  · intro z
    refine cn_z n (fun i hi => decide_eq_false (fun e => ?_))
    have t := (h.1 i).mpr ⟨hi, e⟩
    rw [z, gb_0] at t
    exact absurd t (by decide)
  · intro z
    apply gb_z.mpr
    intro i
    cases q : gb_t F i with
    | false => rfl
    | true =>
      obtain ⟨hi, e⟩ := (h.1 i).mp q
      have t := cn_0 n z i hi
      rw [decide_eq_true e] at t
      exact absurd t (by decide)
section
variable {n m p : Nat} {tr ns : Int32} {shx da se li ro re : Nat → Int32}
theorem wk_work {u : Nat} (hu : u ≤ 200) : ∀ (d k : Nat) (F : Int64) (fc ph mL sp cy fr : Int32) (M G : Int64) (st : Int32) (wx : Nat → Int32) (po : Int32) (shy dm wy : Nat → Int32), k + d = u → hp_A n m p F fc ph mL sp M G st shx li ro wx po shy dm wy →
    ∃ (F' : Int64) (fc' ph' mL' sp' cy' fr' : Int32) (M' G' : Int64) (st' : Int32) (wx' : Nat → Int32) (po' : Int32) (shy' dm' : Nat → Int32),
      hp_A n m p F' fc' ph' mL' sp' M' G' st' shx li ro wx' po' shy' dm' wy ∧
      (∀ (post : SX → Prop) (N : Nat), d < N → post (nI n, nI m, tr, nI p, F', fc', ph', mL', sp', cy', fr', ns, M', G', st', shx, da, se, li, ro, wx') → wX_work_2 post (nI u) N (nI k) (nI n) (nI m) tr (nI p) F fc ph mL sp cy fr ns M G st shx da se li ro wx) ∧
      (u = p → ∀ (post : Int32 → SY → Prop) (x1 x2 x3 : Int32) (N : Nat), d < N → (∃ j, wY_alloc_77 post x1 x2 x3 j 0 (nI n) (nI m) tr (nI p) ph' mL' po' cy' fr' ns shy' se da li dm' re ro wy) → wY_alloc_55 post x1 x2 x3 N (nI k) (nI n) (nI m) tr (nI p) ph mL po cy fr ns shy se da li dm re ro wy) ∧
      (∀ (post : Int32 → SY → Prop) (x2 : Int32) (N : Nat), d < N → post (fr' - x2) (nI n, nI m, tr, nI p, ph', mL', po', cy', fr', ns, shy', se, da, li, dm', re, ro, wy) → wY_step_22 post (nI u) x2 N (nI k) (nI n) (nI m) tr (nI p) ph mL po cy fr ns shy se da li dm re ro wy) := by
  intro d
  induction d with
  | zero =>
    intro k F fc ph mL sp cy fr M G st wx po shy dm wy hk hA
    refine ⟨F, fc, ph, mL, sp, cy, fr, M, G, st, wx, po, shy, dm, hA, fun post N hN hp => ?_, fun e post x1 x2 x3 N hN hp => ?_, fun post x2 N hN hp => ?_⟩
    · obtain ⟨N, rfl⟩ : ∃ k, N = k + 1 := ⟨N - 1, by omega⟩
      exact br_t (nI_le (by omega) (by omega)) hp
    · obtain ⟨N, rfl⟩ : ∃ k, N = k + 1 := ⟨N - 1, by omega⟩
      exact br_t (nI_le (by omega) (by omega)) hp
    · obtain ⟨N, rfl⟩ : ∃ k, N = k + 1 := ⟨N - 1, by omega⟩
      exact br_t (nI_le (by omega) (by omega)) hp
  | succ d ih =>
    intro k F fc ph mL sp cy fr M G st wx po shy dm wy hk hA
    by_cases h0 : ph = 0
    · subst h0
      refine ⟨F, fc, 0, mL, sp, cy, fr, M, G, st, wx, po, shy, dm, hA, fun post N hN hp => ?_, fun e post x1 x2 x3 N hN hp => ?_, fun post x2 N hN hp => ?_⟩
      · obtain ⟨N, rfl⟩ : ∃ k, N = k + 1 := ⟨N - 1, by omega⟩
        exact br_f (nI_ge (by omega) (by omega)) (br_t rfl hp)
      · exact wy_i55 hA.1.2.2.2.2 (d + 1) k (by omega) post x1 x2 x3 N hN hp
      · exact wy_i22 hu (d + 1) k (by omega) post x2 N hN hp
    · obtain ⟨F1, fc1, ph1, mL1, sp1, cy1, fr1, M1, G1, st1, wx1, po1, shy1, dm1, hA1, _, _, hX1, hY1⟩ := un_unit (n := n) (m := m) (p := p) (tr := tr) (F := F) (fc := fc) (ph := ph) (mL := mL) (sp := sp) (cy := cy) (fr := fr) (ns := ns) (M := M) (G := G) (st := st) (shx := shx) (da := da) (se := se) (li := li) (ro := ro) (wx := wx) (po := po) (shy := shy) (dm := dm) (re := re) (wy := wy) hA
      obtain ⟨F', fc', ph', mL', sp', cy', fr', M', G', st', wx', po', shy', dm', hA', hX, hY, hZ⟩ := ih (k + 1) F1 fc1 ph1 mL1 sp1 cy1 fr1 M1 G1 st1 wx1 po1 shy1 dm1 wy (by omega) hA1
      refine ⟨F', fc', ph', mL', sp', cy', fr', M', G', st', wx', po', shy', dm', hA', fun post N hN hp => ?_, fun e post x1 x2 x3 N hN hp => ?_, fun post x2 N hN hp => ?_⟩
      · obtain ⟨N, rfl⟩ : ∃ k, N = k + 1 := ⟨N - 1, by omega⟩
        exact br_f (nI_ge (by omega) (by omega)) (br_f h0 (hX1 _ (nm_r (nI_1 k) (hX post N (by omega) hp))))
      · obtain ⟨N, rfl⟩ : ∃ k, N = k + 1 := ⟨N - 1, by omega⟩
        exact br_f (nI_ge (by omega) (by omega)) (hY1 _ (nm_r (nI_1 k) (hY e post x1 x2 x3 N (by omega) hp)))
      · obtain ⟨N, rfl⟩ : ∃ k, N = k + 1 := ⟨N - 1, by omega⟩
        exact br_f (nI_ge (by omega) (by omega)) (hY1 _ (nm_r (nI_1 k) (hZ post x2 N (by omega) hp)))
theorem wk_pred {n : Nat} (h : 4 ≤ n) : nI n - 1 = nI (n - 1) := by
  obtain ⟨k, rfl⟩ : ∃ k, n = k + 1 := ⟨n - 1, by omega⟩
  rw [nI_pred, Nat.add_sub_cancel]
theorem wk_hurry : ∀ (d k : Nat) (F : Int64) (fc ph mL sp cy fr : Int32) (M G : Int64) (st : Int32) (wx : Nat → Int32) (po : Int32) (shy dm wy : Nat → Int32), k + d ≤ 129 → un_mu n ph mL po ≤ d → hp_A n m p F fc ph mL sp M G st shx li ro wx po shy dm wy →
    ∃ (F' : Int64) (fc' ph' mL' sp' cy' fr' : Int32) (M' G' : Int64) (st' : Int32) (wx' : Nat → Int32) (po' : Int32) (shy' dm' : Nat → Int32),
      hp_A n m p F' fc' ph' mL' sp' M' G' st' shx li ro wx' po' shy' dm' wy ∧
      (∀ (post : SX → Prop) (N : Nat), d < N → post (nI n, nI m, tr, nI p, F', fc', ph', mL', sp', cy', fr', ns, M', G', st', shx, da, se, li, ro, wx') → wX_hurry_2 post N (nI k) (nI n) (nI m) tr (nI p) F fc ph mL sp cy fr ns M G st shx da se li ro wx) ∧
      (∀ (post : Int32 → SY → Prop) (x1 x2 x3 : Int32) (N : Nat), d < N → (∃ j, wY_alloc_120 post x1 x2 x3 (nI n) (nI m) tr (nI p) ph' mL' po' cy' fr' ns shy' se da li dm' re ro wy j (-1) (nI (n - 1))) → wY_alloc_77 post x1 x2 x3 N (nI k) (nI n) (nI m) tr (nI p) ph mL po cy fr ns shy se da li dm re ro wy) := by
  intro d
  induction d with
  | zero =>
    intro k F fc ph mL sp cy fr M G st wx po shy dm wy hk hmu hA
    have hcn : cn_f n shy ≤ n := cn_le _ n
    have n4 := hA.1.1
    have n64 := hA.1.2.1
    have h0 : ph = 0 := Classical.byContradiction (fun z => by
      obtain ⟨F1, fc1, ph1, mL1, sp1, cy1, fr1, M1, G1, st1, wx1, po1, shy1, dm1, hA1, h, _⟩ := un_unit (n := n) (m := m) (p := p) (tr := tr) (F := F) (fc := fc) (ph := ph) (mL := mL) (sp := sp) (cy := cy) (fr := fr) (ns := ns) (M := M) (G := G) (st := st) (shx := shx) (da := da) (se := se) (li := li) (ro := ro) (wx := wx) (po := po) (shy := shy) (dm := dm) (re := re) (wy := wy) hA
      have := h z
      omega)
    refine ⟨F, fc, ph, mL, sp, cy, fr, M, G, st, wx, po, shy, dm, hA, fun post N hN hp => ?_, fun post x1 x2 x3 N hN hp => ?_⟩
    · obtain ⟨N, rfl⟩ : ∃ k, N = k + 1 := ⟨N - 1, by omega⟩
      exact br_f (nI_ge (b := 192) (by omega) (by omega)) (br_c (fun _ => br_t h0 hp) (fun _ => hp))
    · obtain ⟨N, rfl⟩ : ∃ k, N = k + 1 := ⟨N - 1, by omega⟩
      exact br_f (nI_ge (b := 130) (by omega) (by omega)) (yc_count n64 hA.2.1.1 (br_c (fun _ => br_t h0 (nm_r (wk_pred n4) hp)) (fun _ => nm_r (wk_pred n4) hp)))
  | succ d ih =>
    intro k F fc ph mL sp cy fr M G st wx po shy dm wy hk hmu hA
    have hcn : cn_f n shy ≤ n := cn_le _ n
    have n4 := hA.1.1
    have n64 := hA.1.2.1
    have h192 : ¬ (192 : Int32) ≤ nI k := nI_ge (b := 192) (by omega) (by omega)
    have h130 : ¬ (130 : Int32) ≤ nI k := nI_ge (b := 130) (by omega) (by omega)
    have hz := wk_F hA.2.2.1
    by_cases hF : F = 0
    · by_cases h0 : ph = 0
      · refine ⟨F, fc, ph, mL, sp, cy, fr, M, G, st, wx, po, shy, dm, hA, fun post N hN hp => ?_, fun post x1 x2 x3 N hN hp => ?_⟩
        · obtain ⟨N, rfl⟩ : ∃ k, N = k + 1 := ⟨N - 1, by omega⟩
          exact br_f h192 (br_t hF (br_t h0 hp))
        · obtain ⟨N, rfl⟩ : ∃ k, N = k + 1 := ⟨N - 1, by omega⟩
          exact br_f h130 (yc_count n64 hA.2.1.1 (br_c (fun _ => br_t h0 (nm_r (wk_pred n4) hp)) (fun _ => nm_r (wk_pred n4) hp)))
      · obtain ⟨F1, fc1, ph1, mL1, sp1, cy1, fr1, M1, G1, st1, wx1, po1, shy1, dm1, hA1, hlt, _, hX1, hY1⟩ := un_unit (n := n) (m := m) (p := p) (tr := tr) (F := F) (fc := fc) (ph := ph) (mL := mL) (sp := sp) (cy := cy) (fr := fr) (ns := ns) (M := M) (G := G) (st := st) (shx := shx) (da := da) (se := se) (li := li) (ro := ro) (wx := wx) (po := po) (shy := shy) (dm := dm) (re := re) (wy := wy) hA
        have hlt' := hlt h0
        obtain ⟨F', fc', ph', mL', sp', cy', fr', M', G', st', wx', po', shy', dm', hA', hX, hY⟩ := ih (k + 1) F1 fc1 ph1 mL1 sp1 cy1 fr1 M1 G1 st1 wx1 po1 shy1 dm1 wy (by omega) (by omega) hA1
        refine ⟨F', fc', ph', mL', sp', cy', fr', M', G', st', wx', po', shy', dm', hA', fun post N hN hp => ?_, fun post x1 x2 x3 N hN hp => ?_⟩
        · obtain ⟨N, rfl⟩ : ∃ k, N = k + 1 := ⟨N - 1, by omega⟩
          exact br_f h192 (br_t hF (br_f h0 (hX1 _ (nm_r (nI_1 k) (hX post N (by omega) hp)))))
        · obtain ⟨N, rfl⟩ : ∃ k, N = k + 1 := ⟨N - 1, by omega⟩
          exact br_f h130 (yc_count n64 hA.2.1.1 (br_t (by rw [hz.mp hF]; rfl) (br_f h0 (hY1 _ (nm_r (nI_1 k) (hY post x1 x2 x3 N (by omega) hp))))))
    · refine ⟨F, fc, ph, mL, sp, cy, fr, M, G, st, wx, po, shy, dm, hA, fun post N hN hp => ?_, fun post x1 x2 x3 N hN hp => ?_⟩
      · obtain ⟨N, rfl⟩ : ∃ k, N = k + 1 := ⟨N - 1, by omega⟩
        exact br_f h192 (br_f hF hp)
      · obtain ⟨N, rfl⟩ : ∃ k, N = k + 1 := ⟨N - 1, by omega⟩
        have hne : ¬ nI (cn_f n shy) = 0 := by
          have : ¬ cn_f n shy = 0 := fun z => hF (hz.mpr z)
          exact nI_ne0 (by omega) (by omega)
        exact br_f h130 (yc_count n64 hA.2.1.1 (br_f hne (nm_r (wk_pred n4) hp)))
end
end
section
/-! a new object on both sides -/
def al_clr (li : Nat → Int32) (c : Nat) : Nat → (Nat → Int32)
  | 0 => li
  | f + 1 => upd (al_clr li c f) (4 * c + f) (-1)
theorem al_ne {li : Nat → Int32} {c j : Nat} : ∀ k, (∀ i, i < k → j ≠ 4 * c + i) → al_clr li c k j = li j := by
  intro k
  induction k with
  | zero => intro _; rfl
  | succ k ih =>
    intro h
    show upd (al_clr li c k) (4 * c + k) (-1) j = li j
    rw [pk_un (h k (by omega))]
    exact ih (fun i hi => h i (by omega))
theorem al_eq {li : Nat → Int32} {c f : Nat} : ∀ k, f < k → al_clr li c k (4 * c + f) = -1 := by
  intro k
  induction k with
  | zero => intro h; omega
  | succ k ih =>
    intro h
    show upd (al_clr li c k) (4 * c + k) (-1) (4 * c + f) = -1
    by_cases e : f = k
    · rw [e]; exact pk_us
    · rw [pk_un (by omega)]
      exact ih (by omega)
theorem al_o {li : Nat → Int32} {c x f : Nat} (h : x ≠ c) (hf : f < 4) : al_clr li c 4 (4 * x + f) = li (4 * x + f) := al_ne 4 (fun i hi => by omega)
section
variable {n m p : Nat} {tr : Int32} {F : Int64} {fc ph mL sp cy fr ns : Int32} {M G : Int64} {st : Int32} {shx da se li ro wx : Nat → Int32}
theorem ax_78 {c : Nat} (hc : c < 64) : ∀ (d i : Nat), i + d = 4 → ∀ (post : SX → Prop) (N : Nat), d < N → post (nI n, nI m, tr, nI p, F, fc, ph, mL, sp, cy, fr, ns, M, G, st, shx, da, se, al_clr li c 4, ro, wx) → wX_place_78 post (nI c) (nI n) (nI m) tr (nI p) F fc ph mL sp cy fr ns M G st N (nI i) shx da se (al_clr li c i) ro wx := by
  intro d
  induction d with
  | zero =>
    intro i hi post N hN hp
    obtain ⟨N, rfl⟩ : ∃ k, N = k + 1 := ⟨N - 1, by omega⟩
    obtain rfl : i = 4 := by omega
    exact br_t (nI_le (a := 4) (by omega) (by omega)) hp
  | succ d ih =>
    intro i hi post N hN hp
    obtain ⟨N, rfl⟩ : ∃ k, N = k + 1 := ⟨N - 1, by omega⟩
    exact br_f (nI_ge (b := 4) (by omega) (by omega)) ⟨pk_in (4 * c + i) 256 (by omega) (xs_ix c i), nm_r (e' := al_clr li c (i + 1)) (by rw [pk_cl (4 * c + i) (xs_ix c i)]; rfl) (nm_r (nI_1 i) (ih (i + 1) (by omega) post N (by omega) hp))⟩
theorem ax_place {c : Nat} (hc : c < 64) {post : SX → Prop} {x2 x3 : Int32} (hp : post (nI n, nI m, tr, nI p, F &&& (gb_1 c ^^^ (-1)), fc - 1, ph, mL, sp, cy, fr, ns + 1, M ||| gb_1 c, G, st, upd shx c x2, upd da c x3, upd se c ns, al_clr li c 4, ro, wx)) : wpX_place post (nI n, nI m, tr, nI p, F, fc, ph, mL, sp, cy, fr, ns, M, G, st, shx, da, se, li, ro, wx) (nI c) x2 x3 := by
  have hin : vp_in (nI c) 64 := vp_in_nI hc (by omega)
  have hcl : (nI c).toNatClampNeg = c := nI_clamp (by omega)
  exact nm_e (nm_e (nm_e (nm_e ⟨hin, nm_r (e' := upd shx c x2) (by rw [hcl]) ⟨hin, nm_r (e' := upd da c x3) (by rw [hcl]) ⟨hin, nm_r (e' := upd se c ns) (by rw [hcl]) (nm_e ⟨5, ax_78 hc 4 0 rfl post 5 (by omega) hp⟩)⟩⟩⟩)))
end
section
variable {n m p : Nat} {tr : Int32} {ph mL po cy fr ns : Int32} {shy se da li dm re ro wy : Nat → Int32}
theorem ay_164 {c r : Nat} (hc : c < 64) (hr : r < 16) {x3 : Int32} : ∀ (d i : Nat), i + d = 4 → ∀ (post : Int32 → SY → Prop) (N : Nat), d < N → post (nI c) (nI n, nI m, tr, nI p, ph, mL, po, cy, fr, ns + 1, shy, upd se c ns, upd da c x3, al_clr li c 4, upd dm c 0, re, upd ro r (nI c), wy) → wY_alloc_164 post (nI r) x3 (nI c) (nI n) (nI m) tr (nI p) ph mL po cy fr ns N (nI i) shy se da (al_clr li c i) dm re ro wy := by
  have hin : vp_in (nI c) 64 := vp_in_nI hc (by omega)
  have hcl : (nI c).toNatClampNeg = c := nI_clamp (by omega)
  intro d
  induction d with
  | zero =>
    intro i hi post N hN hp
    obtain ⟨N, rfl⟩ : ∃ k, N = k + 1 := ⟨N - 1, by omega⟩
    obtain rfl : i = 4 := by omega
    exact br_t (nI_le (a := 4) (by omega) (by omega)) ⟨hin, nm_r (e' := upd da c x3) (by rw [hcl]) ⟨hin, nm_r (e' := upd se c ns) (by rw [hcl]) (nm_e ⟨hin, nm_r (e' := upd dm c 0) (by rw [hcl, yr_b0]) ⟨vp_in_nI hr (by omega), nm_r (e' := upd ro r (nI c)) (by rw [nI_clamp (by omega)]) hp⟩⟩)⟩⟩
  | succ d ih =>
    intro i hi post N hN hp
    obtain ⟨N, rfl⟩ : ∃ k, N = k + 1 := ⟨N - 1, by omega⟩
    exact br_f (nI_ge (b := 4) (by omega) (by omega)) ⟨pk_in (4 * c + i) 256 (by omega) (xs_iy c i), nm_r (e' := al_clr li c (i + 1)) (by rw [pk_cl (4 * c + i) (xs_iy c i)]; rfl) (nm_r (nI_1 i) (ih (i + 1) (by omega) post N (by omega) hp))⟩
/-- the number below i -/
def ay_d : Nat → Int32
  | 0 => -1
  | k + 1 => nI k
theorem ay_dp (k : Nat) : nI k + (-1) = ay_d k := by
  cases k with
  | zero => rfl
  | succ k => exact pk_m1 k
theorem ay_full (hn : n ≤ 64) (hS : hp_S n shy) (hf : ∀ c, c < n → ¬ shy c = -1) {x1 x2 x3 : Int32} {post : Int32 → SY → Prop} (hp : post (-2) (nI n, nI m, tr, nI p, ph, mL, po, cy, fr, ns, shy, se, da, li, dm, re, ro, wy)) : ∀ (i : Nat), i ≤ n → ∀ N, i < N → wY_alloc_120 post x1 x2 x3 (nI n) (nI m) tr (nI p) ph mL po cy fr ns shy se da li dm re ro wy N (-1) (ay_d i) := by
  intro i
  induction i with
  | zero =>
    intro hi N hN
    obtain ⟨N, rfl⟩ : ∃ k, N = k + 1 := ⟨N - 1, by omega⟩
    exact br_t yr_m (br_f (by decide) hp)
  | succ i ih =>
    intro hi N hN
    obtain ⟨N, rfl⟩ : ∃ k, N = k + 1 := ⟨N - 1, by omega⟩
    obtain ⟨s, hs, e, _⟩ := hp_Ls hS (c := i) (by omega) (hf i (by omega))
    have hcl : (nI i).toNatClampNeg = i := nI_clamp (by omega)
    show wY_alloc_120 post x1 x2 x3 (nI n) (nI m) tr (nI p) ph mL po cy fr ns shy se da li dm re ro wy (N + 1) (-1) (nI i)
    exact br_f (nI_pos (by omega)) ⟨vp_in_nI (by omega) (by omega), br_t (by rw [hcl, e]; exact nI_pos' (by omega)) (nm_r (ay_dp i) (ih (by omega) N (by omega)))⟩
theorem ay_120 (hn : n ≤ 64) (hS : hp_S n shy) {c r : Nat} (hc : c < n) (hsc : shy c = -1) (hlo : ∀ j, j < c → ¬ shy j = -1) (hr : r < 16) {x2 x3 : Int32} {post : Int32 → SY → Prop}
    (hp : post (nI c) (nI n, nI m, tr, nI p, ph, mL, po, cy, fr, ns + 1, upd shy c x2, upd se c ns, upd da c x3, al_clr li c 4, upd dm c 0, re, upd ro r (nI c), wy)) : ∀ (i : Nat) (x4 : Int32), i ≤ n → (i ≤ c → x4 = nI c) → ∀ N, i < N → wY_alloc_120 post (nI r) x2 x3 (nI n) (nI m) tr (nI p) ph mL po cy fr ns shy se da li dm re ro wy N x4 (ay_d i) := by
  intro i
  induction i with
  | zero =>
    intro x4 hi hx N hN
    obtain ⟨N, rfl⟩ : ∃ k, N = k + 1 := ⟨N - 1, by omega⟩
    obtain rfl := hx (by omega)
    have hcl : (nI c).toNatClampNeg = c := nI_clamp (by omega)
    exact br_t yr_m (br_t (nI_pos' (by omega)) ⟨vp_in_nI (by omega) (by omega), nm_r (e' := upd shy c x2) (by rw [hcl]) ⟨5, ay_164 (by omega) hr 4 0 rfl post 5 (by omega) hp⟩⟩)
  | succ i ih =>
    intro x4 hi hx N hN
    obtain ⟨N, rfl⟩ : ∃ k, N = k + 1 := ⟨N - 1, by omega⟩
    have hcl : (nI i).toNatClampNeg = i := nI_clamp (by omega)
    show wY_alloc_120 post (nI r) x2 x3 (nI n) (nI m) tr (nI p) ph mL po cy fr ns shy se da li dm re ro wy (N + 1) x4 (nI i)
    refine br_f (nI_pos (by omega)) ⟨vp_in_nI (by omega) (by omega), ?_⟩
    rcases hS i (by omega) with e | ⟨s, hs, e⟩
    · refine br_f (by rw [hcl, e]; decide) (nm_r (ay_dp i) (ih (nI i) (by omega) (fun z => ?_) N (by omega)))
      by_cases q : i = c
      · rw [q]
      · exact absurd e (hlo i (by omega))
    · refine br_t (by rw [hcl, e]; exact nI_pos' (by omega)) (nm_r (ay_dp i) (ih x4 (by omega) (fun z => ?_) N (by omega)))
      by_cases q : i = c
      · rw [q, hsc] at e
        exact absurd e.symm (hp_ne (by omega))
      · exact hx (by omega)
end
section
variable {n m p : Nat} {tr : Int32} {F : Int64} {fc ph mL sp cy fr ns : Int32} {M G : Int64} {st : Int32} {shx da se li ro wx : Nat → Int32} {po : Int32} {shy dm re wy : Nat → Int32}
theorem al_L {c s : Nat} (hc : c < n) (hsc : shy c = -1) (hs : s ≤ 4) (x : Nat) : hp_L n (upd shy c (nI s)) (upd dm c 0) x ↔ hp_L n shy dm x ∨ x = c := by
  by_cases e : x = c
  · subst e
    exact ⟨fun _ => Or.inr rfl, fun _ => ⟨hc, by rw [pk_us]; exact hp_ne (by omega), pk_us⟩⟩
  · unfold hp_L
    rw [pk_un e, pk_un e]
    exact ⟨fun z => Or.inl z, fun z => z.elim (fun w => w) (fun w => absurd w e)⟩
theorem al_D {c s : Nat} (hsc : shy c = -1) {x : Nat} (h : hp_D n shy dm x) : hp_D n (upd shy c (nI s)) (upd dm c 0) x := by
  have e : x ≠ c := fun z => by subst z; exact h.2.1 hsc
  unfold hp_D
  rw [pk_un e, pk_un e]
  exact h
theorem al_V {c s : Nat} (hc : c < n) (hsc : shy c = -1) (hs : s ≤ 4) {x : Int32} (h : hp_V n shy dm x) : hp_V n (upd shy c (nI s)) (upd dm c 0) x := by
  rcases h with h | ⟨d, e, h⟩
  · exact Or.inl h
  · exact Or.inr ⟨d, e, (al_L hc hsc hs d).mpr (Or.inl h)⟩
theorem al_sz {c s x : Nat} (e : x ≠ c) : hp_sz (upd shy c (nI s)) x = hp_sz shy x := by unfold hp_sz; rw [pk_un e]
theorem al_A {c s r : Nat} (hc : c < n) (hsc : shy c = -1) (hs : s ≤ 4) (hr : r < m) (hA : hp_A n m p F fc ph mL sp M G st shx li ro wx po shy dm wy) : hp_A n m p (F &&& (gb_1 c ^^^ (-1))) (fc - 1) ph mL sp (M ||| gb_1 c) G st (upd shx c (nI s)) (al_clr li c 4) (upd ro r (nI c)) wx po (upd shy c (nI s)) (upd dm c 0) wy := by
  obtain ⟨hN, ⟨y1, y2, y3, y4⟩, ⟨f1, f2, f3⟩, ⟨⟨k1, k2, k3⟩, k4⟩, hP⟩ := hA
  have n64 := hN.2.1
  have hc64 : c < 64 := by omega
  have hL := al_L (dm := dm) hc hsc hs
  refine ⟨hN, ⟨fun x hx => ?_, fun x hx => ?_, fun x hx f f4 fs => ?_, fun w hw => al_V hc hsc hs (y4 w hw)⟩, ⟨fun x => ?_, fun x hx hne => ?_, ?_⟩, ⟨⟨fun x hx => ?_, fun x hx => ?_, fun T a b x hx => ?_⟩, ?_⟩, hP⟩
  · by_cases e : x = c
    · right; rw [e]; exact ⟨s, hs, pk_us⟩
    · rw [pk_un e]; exact y1 x hx
  · by_cases e : x = r
    · right; rw [e]; exact ⟨c, pk_us, (hL c).mpr (Or.inr rfl)⟩
    · rw [pk_un e]; exact al_V hc hsc hs (y2 x hx)
  · by_cases e : x = c
    · left; rw [e]; exact al_eq 4 f4
    · rw [al_o e f4]
      rw [al_sz e] at fs
      rcases (hL x).mp hx with z | z
      · exact al_V hc hsc hs (y3 x z f f4 fs)
      · exact absurd z e
  · rw [gb_an1 hc64]
    by_cases e : x = c
    · subst e
      constructor
      · intro z
        exact absurd rfl z.2
      · intro z
        rw [pk_us] at z
        exact absurd z.2 (hp_ne (by omega))
    · rw [pk_un e]
      exact ⟨fun z => (f1 x).mp z.1, fun z => ⟨(f1 x).mpr z, e⟩⟩
  · by_cases e : x = c
    · rw [e, pk_us, pk_us]
    · rw [pk_un e] at hne ⊢
      rw [pk_un e]
      exact f2 x hx hne
  · have t : cn_f n shy = cn_f n (upd shy c (nI s)) + 1 := by
      unfold cn_f
      refine cn_more (j := c) n hc (fun i hi z => ?_) ?_ ?_
      · show decide (upd shy c (nI s) i = -1) = decide (shy i = -1)
        rw [pk_un z]
      · refine decide_eq_false ?_
        rw [pk_us]
        exact hp_ne (by omega)
      · exact decide_eq_true hsc
    rw [f3, t, nI_pred]
  · rcases (gb_or1 hc64 M x).mp hx with z | z
    · exact (hL x).mpr (Or.inl (k1 x z))
    · exact (hL x).mpr (Or.inr z)
  · exact (gb_or1 hc64 M x).mpr (Or.inl (k2 x hx))
  · have hsub : ∀ y, hp_L n shy dm y → T y := by
      refine k3 T (fun y hy => a y ((gb_or1 hc64 M y).mpr (Or.inl hy))) ?_
      intro y z hy hb hE
      obtain ⟨e1, e2, f, f4, fs, ef⟩ := hE
      have e : y ≠ c := fun q => by
        subst q
        rw [hp_szf hsc] at fs
        omega
      refine b y z hy ?_ ⟨e1, e2, f, f4, by rw [al_sz e]; exact fs, by rw [al_o e f4]; exact ef⟩
      rcases hb with q | q | q
      · left
        cases v : gb_t (M ||| gb_1 c) y with
        | false => rfl
        | true =>
          rcases (gb_or1 hc64 M y).mp v with w | w
          · rw [q] at w; exact absurd w (by decide)
          · exact absurd w e
      · exact Or.inr (Or.inl q)
      · exact q.elim
    rcases (hL x).mp hx with z | z
    · exact hsub x z
    · exact a x ((gb_or1 hc64 M x).mpr (Or.inr z))
  · rcases k4 with ⟨a, b, g⟩ | ⟨a, b, g⟩
    · exact Or.inl ⟨a, b, g⟩
    · refine Or.inr ⟨a, b, fun w hw => ?_⟩
      rcases g w hw with e | ⟨e, d, ed, hD⟩
      · exact Or.inl e
      · exact Or.inr ⟨e, d, ed, al_D hsc hD⟩
end
end
section
/-! the relation, and the small methods that both sides share -/
def i_Rel (_ : Nat) (u : SX) (v : SY) : Prop := ∃ (n m p : Nat) (tr : Int32) (F : Int64) (fc ph mL sp cy fr ns : Int32) (M G : Int64) (st : Int32) (shx da se li ro wx : Nat → Int32) (po : Int32) (shy dm re wy : Nat → Int32), u = (nI n, nI m, tr, nI p, F, fc, ph, mL, sp, cy, fr, ns, M, G, st, shx, da, se, li, ro, wx) ∧ v = (nI n, nI m, tr, nI p, ph, mL, po, cy, fr, ns, shy, se, da, li, dm, re, ro, wy) ∧ hp_A n m p F fc ph mL sp M G st shx li ro wx po shy dm wy
theorem i_up {k : Nat} {u : SX} {v : SY} (h : i_Rel k u v) : i_Rel (k + 4) u v := h
theorem zz_el {k : Nat} {u : SX} {v : SY} {P : SX → SY → Prop} (h : ∀ (n m p : Nat) (tr : Int32) (F : Int64) (fc ph mL sp cy fr ns : Int32) (M G : Int64) (st : Int32) (shx da se li ro wx : Nat → Int32) (po : Int32) (shy dm re wy : Nat → Int32), hp_A n m p F fc ph mL sp M G st shx li ro wx po shy dm wy → P (nI n, nI m, tr, nI p, F, fc, ph, mL, sp, cy, fr, ns, M, G, st, shx, da, se, li, ro, wx) (nI n, nI m, tr, nI p, ph, mL, po, cy, fr, ns, shy, se, da, li, dm, re, ro, wy)) (I : i_Rel k u v) : P u v := by
  obtain ⟨n, m, p, tr, F, fc, ph, mL, sp, cy, fr, ns, M, G, st, shx, da, se, li, ro, wx, po, shy, dm, re, wy, hu, hv, hA⟩ := I
  rw [hu, hv]
  exact h n m p tr F fc ph mL sp cy fr ns M G st shx da se li ro wx po shy dm re wy hA
theorem zz_mk {k : Nat} {n m p : Nat} {tr : Int32} {F : Int64} {fc ph mL sp cy fr ns : Int32} {M G : Int64} {st : Int32} {shx da se li ro wx : Nat → Int32} {po : Int32} {shy dm re wy : Nat → Int32} (h : hp_A n m p F fc ph mL sp M G st shx li ro wx po shy dm wy) : i_Rel k (nI n, nI m, tr, nI p, F, fc, ph, mL, sp, cy, fr, ns, M, G, st, shx, da, se, li, ro, wx) (nI n, nI m, tr, nI p, ph, mL, po, cy, fr, ns, shy, se, da, li, dm, re, ro, wy) := ⟨n, m, p, tr, F, fc, ph, mL, sp, cy, fr, ns, M, G, st, shx, da, se, li, ro, wx, po, shy, dm, re, wy, rfl, rfl, h⟩
theorem rg_ix (x : Int32) {m : Nat} (hm : m ≤ 64) : (x < 0 ∨ nI m ≤ x) ∨ ∃ r, r < m ∧ x = nI r := by
  rcases pk_ix x (n := m) (by omega) with h | h | h
  · exact Or.inl (Or.inl h)
  · exact Or.inl (Or.inr h)
  · exact Or.inr h
theorem rg_m1 {x : Int32} {m : Nat} (hm : m ≤ 64) (h : x < 0 ∨ nI m ≤ x) (h1 : ¬ x = -1) : x < -1 ∨ nI m ≤ x := by
  rcases h with h | h
  · left
    rw [Int32.lt_iff_toInt_lt] at h ⊢
    have e1 : (-1 : Int32).toInt = -1 := by decide
    have e0 : (0 : Int32).toInt = 0 := by decide
    have h2 : x.toInt ≠ -1 := fun z => h1 (Int32.toInt_inj.mp (by rw [z, e1]))
    rw [e0] at h
    rw [e1]
    omega
  · exact Or.inr h
theorem rg_nm1 {r : Nat} (h : r < 64) : ¬ nI r < (-1 : Int32) := by
  rw [Int32.lt_iff_toInt_lt, nI_toInt (by omega)]
  have e1 : (-1 : Int32).toInt = -1 := by decide
  rw [e1]
  omega
section
variable {n m p : Nat} {tr : Int32} {F : Int64} {fc ph mL sp cy fr ns : Int32} {M G : Int64} {st : Int32} {shx da se li ro wx : Nat → Int32}
theorem xi_rb {post : Int32 → Prop} {x : Int32} (h : x < 0 ∨ nI m ≤ x) (hp : post 0) : wpX_isRoot post (nI n, nI m, tr, nI p, F, fc, ph, mL, sp, cy, fr, ns, M, G, st, shx, da, se, li, ro, wx) x := by
  rcases h with h | h
  · exact br_t h hp
  · exact br_c (fun _ => hp) (fun _ => br_t h hp)
theorem xi_ro {post : Int32 → Prop} {r : Nat} (hm : m ≤ 16) (h : r < m) (hp : post 1) : wpX_isRoot post (nI n, nI m, tr, nI p, F, fc, ph, mL, sp, cy, fr, ns, M, G, st, shx, da, se, li, ro, wx) (nI r) := br_f (nI_pos (by omega)) (br_f (nI_ge h (by omega)) hp)
theorem xi_wb {post : Int32 → Prop} {x : Int32} (h : x < 0 ∨ nI 8 ≤ x) (hp : post 0) : wpX_isWeak post (nI n, nI m, tr, nI p, F, fc, ph, mL, sp, cy, fr, ns, M, G, st, shx, da, se, li, ro, wx) x := by
  rcases h with h | h
  · exact br_t h hp
  · exact br_c (fun _ => hp) (fun _ => br_t h hp)
theorem xi_wo {post : Int32 → Prop} {r : Nat} (h : r < 8) (hp : post 1) : wpX_isWeak post (nI n, nI m, tr, nI p, F, fc, ph, mL, sp, cy, fr, ns, M, G, st, shx, da, se, li, ro, wx) (nI r) := br_f (nI_pos (by omega)) (br_f (nI_ge (b := 8) h (by omega)) hp)
theorem xi_cb {post : Int32 → Prop} {x : Int32} (h : x < 0 ∨ nI n ≤ x) (hp : post 0) : wpX_isCell post (nI n, nI m, tr, nI p, F, fc, ph, mL, sp, cy, fr, ns, M, G, st, shx, da, se, li, ro, wx) x := by
  rcases h with h | h
  · exact br_t h hp
  · exact br_c (fun _ => hp) (fun _ => br_t h hp)
theorem xi_co {post : Int32 → Prop} {r : Nat} (hn : n ≤ 64) (h : r < n) (hp : post 1) : wpX_isCell post (nI n, nI m, tr, nI p, F, fc, ph, mL, sp, cy, fr, ns, M, G, st, shx, da, se, li, ro, wx) (nI r) := br_f (nI_pos (by omega)) (br_f (nI_ge h (by omega)) hp)
theorem xi_sb {post : Int32 → Prop} {x : Int32} (h : x < -1 ∨ nI m ≤ x) (hp : post 0) : wpX_isSource post (nI n, nI m, tr, nI p, F, fc, ph, mL, sp, cy, fr, ns, M, G, st, shx, da, se, li, ro, wx) x := by
  rcases h with h | h
  · exact br_t h hp
  · exact br_c (fun _ => hp) (fun _ => br_t h hp)
theorem xi_s1 {post : Int32 → Prop} (hm : m ≤ 16) (hp : post 1) : wpX_isSource post (nI n, nI m, tr, nI p, F, fc, ph, mL, sp, cy, fr, ns, M, G, st, shx, da, se, li, ro, wx) (-1) := by
  refine br_f (by decide) (br_f ?_ hp)
  rw [Int32.le_iff_toInt_le, nI_toInt (by omega)]
  have e1 : (-1 : Int32).toInt = -1 := by decide
  rw [e1]
  omega
theorem xi_so {post : Int32 → Prop} {r : Nat} (hm : m ≤ 16) (h : r < m) (hp : post 1) : wpX_isSource post (nI n, nI m, tr, nI p, F, fc, ph, mL, sp, cy, fr, ns, M, G, st, shx, da, se, li, ro, wx) (nI r) := br_f (rg_nm1 (by omega)) (br_f (nI_ge h (by omega)) hp)
theorem xi_c1 {post : Int32 → Prop} (hp : post (-1)) : wpX_contentOf post (nI n, nI m, tr, nI p, F, fc, ph, mL, sp, cy, fr, ns, M, G, st, shx, da, se, li, ro, wx) (-1) := br_f (by decide) hp
theorem xi_cr {post : Int32 → Prop} {r : Nat} (h : r < 16) (hp : post (ro r)) : wpX_contentOf post (nI n, nI m, tr, nI p, F, fc, ph, mL, sp, cy, fr, ns, M, G, st, shx, da, se, li, ro, wx) (nI r) := br_t (nI_pos' (by omega)) ⟨vp_in_nI h (by omega), by rw [nI_clamp (by omega)]; exact hp⟩
theorem xi_fb {post : Int32 → Prop} {c s : Nat} {x : Int32} (hc : c < 64) (hs : shx c = nI s) (h : x < 0 ∨ nI s ≤ x) (hp : post 0) : wpX_hasField post (nI n, nI m, tr, nI p, F, fc, ph, mL, sp, cy, fr, ns, M, G, st, shx, da, se, li, ro, wx) (nI c) x := by
  have hcl : (nI c).toNatClampNeg = c := nI_clamp (by omega)
  rcases h with h | h
  · exact br_t h hp
  · exact br_c (fun _ => hp) (fun _ => ⟨vp_in_nI hc (by omega), br_t (by rw [hcl, hs]; exact h) hp⟩)
theorem xi_fo {post : Int32 → Prop} {c s f : Nat} (hc : c < 64) (h4 : s ≤ 4) (hs : shx c = nI s) (h : f < s) (hp : post 1) : wpX_hasField post (nI n, nI m, tr, nI p, F, fc, ph, mL, sp, cy, fr, ns, M, G, st, shx, da, se, li, ro, wx) (nI c) (nI f) := by
  have hcl : (nI c).toNatClampNeg = c := nI_clamp (by omega)
  exact br_f (nI_pos (by omega)) ⟨vp_in_nI hc (by omega), br_f (by rw [hcl, hs]; exact nI_ge h (by omega)) hp⟩
theorem xi_f0 {post : Int32 → Prop} {c : Nat} (hc : c < 64) (h : gb_t F c = false) (hp : post 0) : wpX_isFree post (nI n, nI m, tr, nI p, F, fc, ph, mL, sp, cy, fr, ns, M, G, st, shx, da, se, li, ro, wx) (nI c) := br_t ((gb_test hc).mpr h) hp
theorem xi_f1 {post : Int32 → Prop} {c : Nat} (hc : c < 64) (h : gb_t F c = true) (hp : post 1) : wpX_isFree post (nI n, nI m, tr, nI p, F, fc, ph, mL, sp, cy, fr, ns, M, G, st, shx, da, se, li, ro, wx) (nI c) := br_f ((gb_ntest hc).mpr h) hp
end
section
variable {n m p : Nat} {tr : Int32} {ph mL po cy fr ns : Int32} {shy se da li dm re ro wy : Nat → Int32}
theorem yi_rb {post : Int32 → Prop} {x : Int32} (h : x < 0 ∨ nI m ≤ x) (hp : post 0) : wpY_isRoot post (nI n, nI m, tr, nI p, ph, mL, po, cy, fr, ns, shy, se, da, li, dm, re, ro, wy) x := by
  rcases h with h | h
  · exact br_t h hp
  · exact br_c (fun _ => hp) (fun _ => br_t h hp)
theorem yi_ro {post : Int32 → Prop} {r : Nat} (hm : m ≤ 16) (h : r < m) (hp : post 1) : wpY_isRoot post (nI n, nI m, tr, nI p, ph, mL, po, cy, fr, ns, shy, se, da, li, dm, re, ro, wy) (nI r) := br_f (nI_pos (by omega)) (br_f (nI_ge h (by omega)) hp)
theorem yi_cb {post : Int32 → Prop} {x : Int32} (h : x < 0 ∨ nI n ≤ x) (hp : post 0) : wpY_isCell post (nI n, nI m, tr, nI p, ph, mL, po, cy, fr, ns, shy, se, da, li, dm, re, ro, wy) x := by
  rcases h with h | h
  · exact br_t h hp
  · exact br_c (fun _ => hp) (fun _ => br_t h hp)
theorem yi_co {post : Int32 → Prop} {r : Nat} (hn : n ≤ 64) (h : r < n) (hp : post 1) : wpY_isCell post (nI n, nI m, tr, nI p, ph, mL, po, cy, fr, ns, shy, se, da, li, dm, re, ro, wy) (nI r) := br_f (nI_pos (by omega)) (br_f (nI_ge h (by omega)) hp)
theorem yi_s1 {post : Int32 → Prop} (hp : post (-1)) : wpY_source post (nI n, nI m, tr, nI p, ph, mL, po, cy, fr, ns, shy, se, da, li, dm, re, ro, wy) (-1) := by
  unfold wpY_source
  exact yi_rb (Or.inl yr_m) (br_t rfl hp)
theorem yi_sr {post : Int32 → Prop} {r : Nat} (hm : m ≤ 16) (h : r < m) (hp : post (ro r)) : wpY_source post (nI n, nI m, tr, nI p, ph, mL, po, cy, fr, ns, shy, se, da, li, dm, re, ro, wy) (nI r) := by
  unfold wpY_source
  exact yi_ro hm h (br_f xs_10 ⟨vp_in_nI (by omega) (by omega), by rw [nI_clamp (by omega)]; exact hp⟩)
theorem yi_wb {A q : Prop} {x : Int32} (h : x < 0 ∨ nI 8 ≤ x) (hq : q) : (x < 0 → q) ∧ (¬ x < 0 → ((x < 8 → A) ∧ (¬ x < 8 → q))) := by
  rcases h with h | h
  · exact br_t h hq
  · exact br_c (fun _ => hq) (fun _ => br_f (Int32.not_lt.mpr h) hq)
theorem yi_wo {A q : Prop} {r : Nat} (h : r < 8) (hA : A) : (nI r < 0 → q) ∧ (¬ nI r < 0 → ((nI r < 8 → A) ∧ (¬ nI r < 8 → q))) :=
  br_f (nI_pos (by omega)) (br_t (nI_lt (b := 8) h (by omega)) hA)
theorem yi_fb {A q : Prop} {c s : Nat} {x : Int32} (hc : c < 64) (hs : shy c = nI s) (h : x < 0 ∨ nI s ≤ x) (hq : q) : (x < 0 → q) ∧ (¬ x < 0 → (vp_in (nI c) 64 ∧ ((x < shy (nI c).toNatClampNeg → A) ∧ (¬ x < shy (nI c).toNatClampNeg → q)))) := by
  have hcl : (nI c).toNatClampNeg = c := nI_clamp (by omega)
  rcases h with h | h
  · exact br_t h hq
  · exact br_c (fun _ => hq) (fun _ => ⟨vp_in_nI hc (by omega), br_f (by rw [hcl, hs]; exact Int32.not_lt.mpr h) hq⟩)
theorem yi_fo {A q : Prop} {c s f : Nat} (hc : c < 64) (h4 : s ≤ 4) (hs : shy c = nI s) (h : f < s) (hA : A) : (nI f < 0 → q) ∧ (¬ nI f < 0 → (vp_in (nI c) 64 ∧ ((nI f < shy (nI c).toNatClampNeg → A) ∧ (¬ nI f < shy (nI c).toNatClampNeg → q)))) := by
  have hcl : (nI c).toNatClampNeg = c := nI_clamp (by omega)
  exact br_f (nI_pos (by omega)) ⟨vp_in_nI hc (by omega), br_t (by rw [hcl, hs]; exact nI_lt h (by omega)) hA⟩
end
section
variable {n m p : Nat} {tr : Int32} {F : Int64} {fc ph mL sp cy fr ns : Int32} {M G : Int64} {st : Int32} {shx da se li ro wx : Nat → Int32} {po : Int32} {shy dm re wy : Nat → Int32}
/-- a source number: refused by both, or one content for both -/
theorem so_cases (hA : hp_A n m p F fc ph mL sp M G st shx li ro wx po shy dm wy) (x : Int32) :
    ((∀ post : Int32 → Prop, post 0 → wpX_isSource post (nI n, nI m, tr, nI p, F, fc, ph, mL, sp, cy, fr, ns, M, G, st, shx, da, se, li, ro, wx) x) ∧ (∀ A q : Prop, q → ((x = -1 → A) ∧ (¬ x = -1 → wpY_isRoot (fun r => (r = 0 → q) ∧ (¬ r = 0 → A)) (nI n, nI m, tr, nI p, ph, mL, po, cy, fr, ns, shy, se, da, li, dm, re, ro, wy) x)))) ∨
    (∃ y : Int32, hp_V n shy dm y ∧ (∀ post : Int32 → Prop, post 1 → wpX_isSource post (nI n, nI m, tr, nI p, F, fc, ph, mL, sp, cy, fr, ns, M, G, st, shx, da, se, li, ro, wx) x) ∧ (∀ A q : Prop, A → ((x = -1 → A) ∧ (¬ x = -1 → wpY_isRoot (fun r => (r = 0 → q) ∧ (¬ r = 0 → A)) (nI n, nI m, tr, nI p, ph, mL, po, cy, fr, ns, shy, se, da, li, dm, re, ro, wy) x))) ∧
      (∀ post : Int32 → Prop, post y → wpX_contentOf post (nI n, nI m, tr, nI p, F, fc, ph, mL, sp, cy, fr, ns, M, G, st, shx, da, se, li, ro, wx) x) ∧ (∀ post : Int32 → Prop, post y → wpY_source post (nI n, nI m, tr, nI p, ph, mL, po, cy, fr, ns, shy, se, da, li, dm, re, ro, wy) x)) := by
  obtain ⟨⟨n4, n64, m2, m16, p16⟩, hY, hF, hI, hP⟩ := hA
  by_cases e : x = -1
  · subst e
    right
    exact ⟨-1, Or.inl rfl, fun post hp => xi_s1 m16 hp, fun A q a => br_t rfl a, fun post hp => xi_c1 hp, fun post hp => yi_s1 hp⟩
  · rcases rg_ix x (m := m) (by omega) with h | ⟨r, hr, rfl⟩
    · left
      exact ⟨fun post hp => xi_sb (rg_m1 (by omega) h e) hp, fun A q hq => br_f e (yi_rb h (br_t rfl hq))⟩
    · right
      exact ⟨ro r, hY.2.1 r hr, fun post hp => xi_so m16 hr hp, fun A q a => br_f e (yi_ro m16 hr (br_f xs_10 a)), fun post hp => xi_cr (by omega) hp, fun post hp => yi_sr m16 hr hp⟩
/-- a link written -/
theorem ow_K {c f : Nat} {v : Int32} (hf : f < 4) (h : mk_K n shy dm li mk_0 M G) (hl : ∀ y, y < n → li (4 * c + f) = nI y → gb_t M y = true) : mk_K n shy dm (upd li (4 * c + f) v) mk_0 M G := by
  obtain ⟨h1, h2, h3⟩ := h
  refine ⟨h1, h2, fun T a b => h3 T a ?_⟩
  intro x y hx hb hE
  obtain ⟨e1, e2, g, g4, gs, eg⟩ := hE
  by_cases e : 4 * x + g = 4 * c + f
  · rw [e] at eg
    exact a y (hl y e2 eg)
  · exact b x y hx hb ⟨e1, e2, g, g4, gs, by rw [pk_un e]; exact eg⟩
theorem ow_Y {c f : Nat} {v : Int32} (hf : f < 4) (hv : hp_V n shy dm v) (h : hp_Y n m shy dm li ro wy) : hp_Y n m shy dm (upd li (4 * c + f) v) ro wy := by
  obtain ⟨h1, h2, h3, h4⟩ := h
  refine ⟨h1, h2, fun x hx g g4 gs => ?_, h4⟩
  by_cases e : 4 * x + g = 4 * c + f
  · rw [e, pk_us]; exact hv
  · rw [pk_un e]; exact h3 x hx g g4 gs
theorem ow_A {c f : Nat} {v x y : Int32} (hA : hp_A n m p F fc ph mL sp M G st shx li ro wx po shy dm wy) (hc : hp_L n shy dm c) (hf : f < 4) (hfs : f < hp_sz shy c) (hv : hp_V n shy dm v) (hx : x = nI (4 * c + f)) (hy : y = v) :
    ∃ M' G' : Int64, hp_A n m p F fc ph mL sp M' G' st shx (upd li (4 * c + f) v) ro wx po shy dm wy ∧ ∀ post : SX → Prop, post (nI n, nI m, tr, nI p, F, fc, ph, mL, sp, cy, fr, ns, M', G', st, shx, da, se, upd li (4 * c + f) v, ro, wx) → wpX_overwrite post (nI n, nI m, tr, nI p, F, fc, ph, mL, sp, cy, fr, ns, M, G, st, shx, da, se, li, ro, wx) x y := by
  subst hx hy
  obtain ⟨hN, hY, hF, ⟨hK, hS⟩, hP⟩ := hA
  have n64 := hN.2.1
  have hcn := hc.1
  have hin : vp_in (nI (4 * c + f)) 256 := vp_in_nI (by omega) (by omega)
  have hcl : (nI (4 * c + f)).toNatClampNeg = 4 * c + f := nI_clamp (by omega)
  have hY' := ow_Y (c := c) hf hv hY
  have hold := hY.2.2.1 c hc f hf hfs
  rcases hS with ⟨s1, g0, hw⟩ | ⟨s0, g0, hw⟩
  · refine ⟨M, G, ⟨hN, hY', hF, ⟨ow_K hf hK (fun y hy e => ?_), Or.inl ⟨s1, g0, hw⟩⟩, hP⟩, fun post hp => br_f (by rw [s1]; decide) ⟨hin, nm_r (e' := upd li (4 * c + f) y) (by rw [hcl]) hp⟩⟩
    rw [e] at hold
    exact mk_full hK g0 (hp_Vc n64 (by omega) hold)
  · rcases hold with e | ⟨d, e, hd⟩
    · refine ⟨M, G, ⟨hN, hY', hF, ⟨ow_K hf hK (fun z hz q => ?_), Or.inr ⟨s0, g0, hw⟩⟩, hP⟩, fun post hp => br_t s0 ⟨hin, xs_sh0 (by rw [hcl, e]) ⟨hin, nm_r (e' := upd li (4 * c + f) y) (by rw [hcl]) hp⟩⟩⟩
      rw [e] at q
      exact absurd q.symm (hp_ne (by omega))
    · have hdn := hd.1
      have hd64 : d < 64 := by omega
      by_cases hm : gb_t M d = true
      · refine ⟨M, G, ⟨hN, hY', hF, ⟨ow_K hf hK (fun z hz q => ?_), Or.inr ⟨s0, g0, hw⟩⟩, hP⟩, fun post hp => br_t s0 ⟨hin, xs_sh1 hd64 (by rw [hcl, e]) hm ⟨hin, nm_r (e' := upd li (4 * c + f) y) (by rw [hcl]) hp⟩⟩⟩
        rw [e] at q
        have t := gb_i hd64 (by omega) q
        subst t
        exact hm
      · have hm0 : gb_t M d = false := by cases q : gb_t M d with | false => rfl | true => exact absurd q hm
        refine ⟨M ||| gb_1 d, G ||| gb_1 d, ⟨hN, hY', hF, ⟨ow_K hf (mk_shade hd64 hK hd) (fun z hz q => ?_), Or.inr ⟨s0, fun z => ?_, hw⟩⟩, hP⟩, fun post hp => br_t s0 ⟨hin, xs_sh2 hd64 (by rw [hcl, e]) hm0 ⟨hin, nm_r (e' := upd li (4 * c + f) y) (by rw [hcl]) hp⟩⟩⟩
        · rw [e] at q
          have t := gb_i hd64 (by omega) q
          subst t
          exact (gb_or1 hd64 M d).mpr (Or.inr rfl)
        · have t := (gb_or1 hd64 G d).mpr (Or.inr rfl)
          rw [z, gb_0] at t
          exact absurd t (by decide)
/-- a root written -/
theorem rw_A {r : Nat} {v : Int32} (hA : hp_A n m p F fc ph mL sp M G st shx li ro wx po shy dm wy) (hv : hp_V n shy dm v) : hp_A n m p F fc ph mL sp M G st shx li (upd ro r v) wx po shy dm wy := by
  obtain ⟨hN, ⟨y1, y2, y3, y4⟩, hF, hI, hP⟩ := hA
  refine ⟨hN, ⟨y1, fun x hx => ?_, y3, y4⟩, hF, hI, hP⟩
  by_cases e : x = r
  · rw [e, pk_us]; exact hv
  · rw [pk_un e]; exact y2 x hx
/-- a weak handle written -/
theorem ww_A {r : Nat} {v : Int32} (hA : hp_A n m p F fc ph mL sp M G st shx li ro wx po shy dm wy) (hv : hp_V n shy dm v) : hp_A n m p F fc ph mL sp M G st shx li ro (upd wx r v) po shy dm (upd wy r v) := by
  obtain ⟨hN, ⟨y1, y2, y3, y4⟩, hF, ⟨hK, hS⟩, hP⟩ := hA
  refine ⟨hN, ⟨y1, y2, y3, fun x hx => ?_⟩, hF, ⟨hK, ?_⟩, hP⟩
  · by_cases e : x = r
    · rw [e, pk_us]; exact hv
    · rw [pk_un e]; exact y4 x hx
  · rcases hS with ⟨a, b, g⟩ | ⟨a, b, g⟩
    · refine Or.inl ⟨a, b, fun w hw => ?_⟩
      by_cases e : w = r
      · rw [e, pk_us, pk_us]
      · rw [pk_un e, pk_un e]; exact g w hw
    · refine Or.inr ⟨a, b, fun w hw => ?_⟩
      by_cases e : w = r
      · left; rw [e, pk_us, pk_us]
      · rw [pk_un e, pk_un e]; exact g w hw
/-- the component's marking alone went on -/
theorem mi_A {M' G' : Int64} {st' : Int32} {wx' : Nat → Int32} (hA : hp_A n m p F fc ph mL sp M G st shx li ro wx po shy dm wy) (h : mk_I n shy dm li wy M' G' st' wx') (hs : st = 1 → st' = 1) : hp_A n m p F fc ph mL sp M' G' st' shx li ro wx' po shy dm wy := by
  obtain ⟨hN, hY, hF, _, hP⟩ := hA
  exact ⟨hN, hY, hF, h, sw_P1 hs hP⟩
end
end
section
/-! the methods -/
theorem i_vc_rootCell {k : Nat} {u : SX} {v : SY} (I : i_Rel k u v) (hk : k + 4 ≤ 2052) (v1 : Int32) : wpX_rootCell (fun r => wpY_rootCell (fun r' => r' = r ∧ i_Rel (k + 4) u v) v v1) u v1 := by
  refine zz_el (P := fun u v => wpX_rootCell (fun r => wpY_rootCell (fun r' => r' = r ∧ i_Rel (k + 4) u v) v v1) u v1) ?_ I
  intro n m p tr F fc ph mL sp cy fr ns M G st shx da se li ro wx po shy dm re wy hA
  have R : i_Rel (k + 4) (nI n, nI m, tr, nI p, F, fc, ph, mL, sp, cy, fr, ns, M, G, st, shx, da, se, li, ro, wx) (nI n, nI m, tr, nI p, ph, mL, po, cy, fr, ns, shy, se, da, li, dm, re, ro, wy) := zz_mk hA
  have hA' := hA
  obtain ⟨⟨n4, n64, m2, m16, p16⟩, hY, hF, hI, hP⟩ := hA'
  unfold wpX_rootCell wpY_rootCell
  rcases rg_ix v1 (m := m) (by omega) with h | ⟨r, hr, rfl⟩
  · exact xi_rb h (br_t rfl (yi_rb h (br_t rfl ⟨rfl, R⟩)))
  · have hin : vp_in (nI r) 16 := vp_in_nI (by omega) (by omega)
    exact xi_ro m16 hr (br_f xs_10 ⟨hin, yi_ro m16 hr (br_f xs_10 ⟨hin, rfl, R⟩)⟩)
theorem i_vc_cellShape {k : Nat} {u : SX} {v : SY} (I : i_Rel k u v) (hk : k + 4 ≤ 2052) (v1 : Int32) : wpX_cellShape (fun r => wpY_cellShape (fun r' => r' = r ∧ i_Rel (k + 4) u v) v v1) u v1 := by
  refine zz_el (P := fun u v => wpX_cellShape (fun r => wpY_cellShape (fun r' => r' = r ∧ i_Rel (k + 4) u v) v v1) u v1) ?_ I
  intro n m p tr F fc ph mL sp cy fr ns M G st shx da se li ro wx po shy dm re wy hA
  have R : i_Rel (k + 4) (nI n, nI m, tr, nI p, F, fc, ph, mL, sp, cy, fr, ns, M, G, st, shx, da, se, li, ro, wx) (nI n, nI m, tr, nI p, ph, mL, po, cy, fr, ns, shy, se, da, li, dm, re, ro, wy) := zz_mk hA
  have hA' := hA
  obtain ⟨⟨n4, n64, m2, m16, p16⟩, hY, hF, hI, hP⟩ := hA'
  unfold wpX_cellShape wpY_cellShape
  rcases rg_ix v1 (m := n) n64 with h | ⟨c, hc, rfl⟩
  · exact xi_cb h (br_t rfl (yi_cb h (br_t rfl ⟨rfl, R⟩)))
  · have hin : vp_in (nI c) 64 := vp_in_nI (by omega) (by omega)
    have hcl : (nI c).toNatClampNeg = c := nI_clamp (by omega)
    have hc64 : c < 64 := by omega
    rcases hY.1 c hc with e | ⟨s, hs, e⟩
    · have hf := (hF.1 c).mpr ⟨hc, e⟩
      exact xi_co n64 hc (br_f xs_10 (xi_f1 hc64 hf (br_f xs_10 (yi_co n64 hc (br_f xs_10 ⟨hin, br_f (by rw [hcl, e]; decide) ⟨rfl, R⟩⟩)))))
    · have hne : ¬ shy c = -1 := by rw [e]; exact hp_ne (by omega)
      have hf : gb_t F c = false := by cases q : gb_t F c with | false => rfl | true => exact absurd ((hF.1 c).mp q).2 hne
      have hge : 0 ≤ shy (nI c).toNatClampNeg := by rw [hcl, e]; exact nI_pos' (by omega)
      have hsx : shx c = nI s := by rw [hF.2.1 c hc hne, e]
      exact xi_co n64 hc (br_f xs_10 (xi_f0 hc64 hf (br_t rfl ⟨hin, yi_co n64 hc (br_f xs_10 ⟨hin, br_t hge ⟨hin, by rw [hcl, hsx, e], R⟩⟩)⟩)))
theorem i_vc_cellSerial {k : Nat} {u : SX} {v : SY} (I : i_Rel k u v) (hk : k + 4 ≤ 2052) (v1 : Int32) : wpX_cellSerial (fun r => wpY_cellSerial (fun r' => r' = r ∧ i_Rel (k + 4) u v) v v1) u v1 := by
  refine zz_el (P := fun u v => wpX_cellSerial (fun r => wpY_cellSerial (fun r' => r' = r ∧ i_Rel (k + 4) u v) v v1) u v1) ?_ I
  intro n m p tr F fc ph mL sp cy fr ns M G st shx da se li ro wx po shy dm re wy hA
  have R : i_Rel (k + 4) (nI n, nI m, tr, nI p, F, fc, ph, mL, sp, cy, fr, ns, M, G, st, shx, da, se, li, ro, wx) (nI n, nI m, tr, nI p, ph, mL, po, cy, fr, ns, shy, se, da, li, dm, re, ro, wy) := zz_mk hA
  have hA' := hA
  obtain ⟨⟨n4, n64, m2, m16, p16⟩, hY, hF, hI, hP⟩ := hA'
  unfold wpX_cellSerial wpY_cellSerial
  rcases rg_ix v1 (m := n) n64 with h | ⟨c, hc, rfl⟩
  · exact xi_cb h (br_t rfl (yi_cb h (br_t rfl ⟨rfl, R⟩)))
  · have hin : vp_in (nI c) 64 := vp_in_nI (by omega) (by omega)
    have hcl : (nI c).toNatClampNeg = c := nI_clamp (by omega)
    have hc64 : c < 64 := by omega
    rcases hY.1 c hc with e | ⟨s, hs, e⟩
    · have hf := (hF.1 c).mpr ⟨hc, e⟩
      exact xi_co n64 hc (br_f xs_10 (xi_f1 hc64 hf (br_f xs_10 (yi_co n64 hc (br_f xs_10 ⟨hin, br_f (by rw [hcl, e]; decide) ⟨rfl, R⟩⟩)))))
    · have hne : ¬ shy c = -1 := by rw [e]; exact hp_ne (by omega)
      have hf : gb_t F c = false := by cases q : gb_t F c with | false => rfl | true => exact absurd ((hF.1 c).mp q).2 hne
      have hge : 0 ≤ shy (nI c).toNatClampNeg := by rw [hcl, e]; exact nI_pos' (by omega)
      have hsx : shx c = nI s := by rw [hF.2.1 c hc hne, e]
      exact xi_co n64 hc (br_f xs_10 (xi_f0 hc64 hf (br_t rfl ⟨hin, yi_co n64 hc (br_f xs_10 ⟨hin, br_t hge ⟨hin, rfl, R⟩⟩)⟩)))
theorem i_vc_cellData {k : Nat} {u : SX} {v : SY} (I : i_Rel k u v) (hk : k + 4 ≤ 2052) (v1 : Int32) : wpX_cellData (fun r => wpY_cellData (fun r' => r' = r ∧ i_Rel (k + 4) u v) v v1) u v1 := by
  refine zz_el (P := fun u v => wpX_cellData (fun r => wpY_cellData (fun r' => r' = r ∧ i_Rel (k + 4) u v) v v1) u v1) ?_ I
  intro n m p tr F fc ph mL sp cy fr ns M G st shx da se li ro wx po shy dm re wy hA
  have R : i_Rel (k + 4) (nI n, nI m, tr, nI p, F, fc, ph, mL, sp, cy, fr, ns, M, G, st, shx, da, se, li, ro, wx) (nI n, nI m, tr, nI p, ph, mL, po, cy, fr, ns, shy, se, da, li, dm, re, ro, wy) := zz_mk hA
  have hA' := hA
  obtain ⟨⟨n4, n64, m2, m16, p16⟩, hY, hF, hI, hP⟩ := hA'
  unfold wpX_cellData wpY_cellData
  rcases rg_ix v1 (m := n) n64 with h | ⟨c, hc, rfl⟩
  · exact xi_cb h (br_t rfl (yi_cb h (br_t rfl ⟨rfl, R⟩)))
  · have hin : vp_in (nI c) 64 := vp_in_nI (by omega) (by omega)
    have hcl : (nI c).toNatClampNeg = c := nI_clamp (by omega)
    have hc64 : c < 64 := by omega
    rcases hY.1 c hc with e | ⟨s, hs, e⟩
    · have hf := (hF.1 c).mpr ⟨hc, e⟩
      exact xi_co n64 hc (br_f xs_10 (xi_f1 hc64 hf (br_f xs_10 (yi_co n64 hc (br_f xs_10 ⟨hin, br_f (by rw [hcl, e]; decide) ⟨rfl, R⟩⟩)))))
    · have hne : ¬ shy c = -1 := by rw [e]; exact hp_ne (by omega)
      have hf : gb_t F c = false := by cases q : gb_t F c with | false => rfl | true => exact absurd ((hF.1 c).mp q).2 hne
      have hge : 0 ≤ shy (nI c).toNatClampNeg := by rw [hcl, e]; exact nI_pos' (by omega)
      have hsx : shx c = nI s := by rw [hF.2.1 c hc hne, e]
      exact xi_co n64 hc (br_f xs_10 (xi_f0 hc64 hf (br_t rfl ⟨hin, yi_co n64 hc (br_f xs_10 ⟨hin, br_t hge ⟨hin, rfl, R⟩⟩)⟩)))
theorem i_vc_cellField {k : Nat} {u : SX} {v : SY} (I : i_Rel k u v) (hk : k + 4 ≤ 2052) (v1 : Int32) (v2 : Int32) : wpX_cellField (fun r => wpY_cellField (fun r' => r' = r ∧ i_Rel (k + 4) u v) v v1 v2) u v1 v2 := by
  refine zz_el (P := fun u v => wpX_cellField (fun r => wpY_cellField (fun r' => r' = r ∧ i_Rel (k + 4) u v) v v1 v2) u v1 v2) ?_ I
  intro n m p tr F fc ph mL sp cy fr ns M G st shx da se li ro wx po shy dm re wy hA
  have R : i_Rel (k + 4) (nI n, nI m, tr, nI p, F, fc, ph, mL, sp, cy, fr, ns, M, G, st, shx, da, se, li, ro, wx) (nI n, nI m, tr, nI p, ph, mL, po, cy, fr, ns, shy, se, da, li, dm, re, ro, wy) := zz_mk hA
  have hA' := hA
  obtain ⟨⟨n4, n64, m2, m16, p16⟩, hY, hF, hI, hP⟩ := hA'
  unfold wpX_cellField wpY_cellField
  rcases rg_ix v1 (m := n) n64 with h | ⟨c, hc, rfl⟩
  · exact xi_cb h (br_t rfl (yi_cb h (br_t rfl ⟨rfl, R⟩)))
  · have hin : vp_in (nI c) 64 := vp_in_nI (by omega) (by omega)
    have hcl : (nI c).toNatClampNeg = c := nI_clamp (by omega)
    have hc64 : c < 64 := by omega
    rcases hY.1 c hc with e | ⟨s, hs, e⟩
    · have hf := (hF.1 c).mpr ⟨hc, e⟩
      exact xi_co n64 hc (br_f xs_10 (xi_f1 hc64 hf (br_f xs_10 (yi_co n64 hc (br_f xs_10 ⟨hin, br_f (by rw [hcl, e]; decide) ⟨rfl, R⟩⟩)))))
    · have hne : ¬ shy c = -1 := by rw [e]; exact hp_ne (by omega)
      have hf : gb_t F c = false := by cases q : gb_t F c with | false => rfl | true => exact absurd ((hF.1 c).mp q).2 hne
      have hge : 0 ≤ shy (nI c).toNatClampNeg := by rw [hcl, e]; exact nI_pos' (by omega)
      have hsx : shx c = nI s := by rw [hF.2.1 c hc hne, e]
      rcases rg_ix v2 (m := s) (by omega) with h | ⟨f, hf4, rfl⟩
      · exact xi_co n64 hc (br_f xs_10 (xi_f0 hc64 hf (br_t rfl (xi_fb hc64 hsx h (br_t rfl (yi_co n64 hc (br_f xs_10 ⟨hin, br_t hge (yi_fb hc64 e h ⟨rfl, R⟩)⟩)))))))
      · exact xi_co n64 hc (br_f xs_10 (xi_f0 hc64 hf (br_t rfl (xi_fo hc64 hs hsx hf4 (br_f xs_10 ⟨pk_in (4 * c + f) 256 (by omega) (xs_ix c f), yi_co n64 hc (br_f xs_10 ⟨hin, br_t hge (yi_fo hc64 hs e hf4 ⟨pk_in (4 * c + f) 256 (by omega) (xs_iy c f), by rw [xs_ix, xs_iy], R⟩)⟩)⟩)))))
theorem i_vc_doomed {k : Nat} {u : SX} {v : SY} (I : i_Rel k u v) (hk : k + 4 ≤ 2052) (v1 : Int32) : wpX_doomed (fun r u' => wpY_doomed (fun r' => r' = r ∧ i_Rel (k + 4) u' v) v v1) u v1 := by
  refine zz_el (P := fun u v => wpX_doomed (fun r u' => wpY_doomed (fun r' => r' = r ∧ i_Rel (k + 4) u' v) v v1) u v1) ?_ I
  intro n m p tr F fc ph mL sp cy fr ns M G st shx da se li ro wx po shy dm re wy hA
  have R : i_Rel (k + 4) (nI n, nI m, tr, nI p, F, fc, ph, mL, sp, cy, fr, ns, M, G, st, shx, da, se, li, ro, wx) (nI n, nI m, tr, nI p, ph, mL, po, cy, fr, ns, shy, se, da, li, dm, re, ro, wy) := zz_mk hA
  have hA' := hA
  obtain ⟨⟨n4, n64, m2, m16, p16⟩, hY, hF, hI, hP⟩ := hA'
  unfold wpX_doomed wpY_doomed
  rcases rg_ix v1 (m := n) n64 with h | ⟨c, hc, rfl⟩
  · exact xi_cb h (br_t rfl (yi_cb h (br_t rfl ⟨rfl, R⟩)))
  · have hin : vp_in (nI c) 64 := vp_in_nI (by omega) (by omega)
    have hcl : (nI c).toNatClampNeg = c := nI_clamp (by omega)
    have hc64 : c < 64 := by omega
    rcases hY.1 c hc with e | ⟨s, hs, e⟩
    · have hf := (hF.1 c).mpr ⟨hc, e⟩
      exact xi_co n64 hc (br_f xs_10 (xi_f1 hc64 hf (br_f xs_10 (yi_co n64 hc (br_f xs_10 ⟨hin, br_f (by rw [hcl, e]; decide) ⟨rfl, R⟩⟩)))))
    · have hne : ¬ shy c = -1 := by rw [e]; exact hp_ne (by omega)
      have hf : gb_t F c = false := by cases q : gb_t F c with | false => rfl | true => exact absurd ((hF.1 c).mp q).2 hne
      have hge : 0 ≤ shy (nI c).toNatClampNeg := by rw [hcl, e]; exact nI_pos' (by omega)
      have hsx : shx c = nI s := by rw [hF.2.1 c hc hne, e]
      obtain ⟨M', G', st', wx', r, hI', hr, hs', hw⟩ := xs_proven (n := n) (m := m) (p := p) (tr := tr) (F := F) (fc := fc) (ph := ph) (mL := mL) (sp := sp) (cy := cy) (fr := fr) (ns := ns) (M := M) (G := G) (st := st) (shx := shx) (da := da) (se := se) (li := li) (ro := ro) (wx := wx) n64 hY hF.2.1 hI hc
      have R' : i_Rel (k + 4) (nI n, nI m, tr, nI p, F, fc, ph, mL, sp, cy, fr, ns, M', G', st', shx, da, se, li, ro, wx') (nI n, nI m, tr, nI p, ph, mL, po, cy, fr, ns, shy, se, da, li, dm, re, ro, wy) := zz_mk (mi_A hA hI' hs')
      refine xi_co n64 hc (br_f xs_10 (xi_f0 hc64 hf (br_t rfl (hw _ ?_))))
      rcases hr with ⟨r1, hL⟩ | ⟨r0, _, hL⟩
      · exact br_f (by rw [r1]; decide) (yi_co n64 hc (br_f xs_10 ⟨hin, br_t hge ⟨hin, br_t (by rw [hcl]; exact hL.2.2) ⟨rfl, R'⟩⟩⟩))
      · exact br_t r0 (yi_co n64 hc (br_f xs_10 ⟨hin, br_t hge ⟨hin, br_f (by rw [hcl]; exact fun z => hL ⟨hc, hne, z⟩) ⟨rfl, R'⟩⟩⟩))
theorem i_vc_reachable {k : Nat} {u : SX} {v : SY} (I : i_Rel k u v) (hk : k + 4 ≤ 2052) (v1 : Int32) : wpX_reachable (fun r => wpY_reachable (fun r' v' => r' = r ∧ i_Rel (k + 4) u v') v v1) u v1 := by
  refine zz_el (P := fun u v => wpX_reachable (fun r => wpY_reachable (fun r' v' => r' = r ∧ i_Rel (k + 4) u v') v v1) u v1) ?_ I
  intro n m p tr F fc ph mL sp cy fr ns M G st shx da se li ro wx po shy dm re wy hA
  have R : i_Rel (k + 4) (nI n, nI m, tr, nI p, F, fc, ph, mL, sp, cy, fr, ns, M, G, st, shx, da, se, li, ro, wx) (nI n, nI m, tr, nI p, ph, mL, po, cy, fr, ns, shy, se, da, li, dm, re, ro, wy) := zz_mk hA
  have hA' := hA
  obtain ⟨⟨n4, n64, m2, m16, p16⟩, hY, hF, hI, hP⟩ := hA'
  unfold wpX_reachable wpY_reachable
  rcases rg_ix v1 (m := n) n64 with h | ⟨c, hc, rfl⟩
  · exact xi_cb h (br_t rfl (yi_cb h (br_t rfl ⟨rfl, R⟩)))
  · have hin : vp_in (nI c) 64 := vp_in_nI (by omega) (by omega)
    have hcl : (nI c).toNatClampNeg = c := nI_clamp (by omega)
    have hc64 : c < 64 := by omega
    rcases hY.1 c hc with e | ⟨s, hs, e⟩
    · have hf := (hF.1 c).mpr ⟨hc, e⟩
      exact xi_co n64 hc (br_f xs_10 (xi_f1 hc64 hf (br_f xs_10 (yi_co n64 hc (br_f xs_10 ⟨hin, br_f (by rw [hcl, e]; decide) ⟨rfl, R⟩⟩)))))
    · have hne : ¬ shy c = -1 := by rw [e]; exact hp_ne (by omega)
      have hf : gb_t F c = false := by cases q : gb_t F c with | false => rfl | true => exact absurd ((hF.1 c).mp q).2 hne
      have hge : 0 ≤ shy (nI c).toNatClampNeg := by rw [hcl, e]; exact nI_pos' (by omega)
      have hsx : shx c = nI s := by rw [hF.2.1 c hc hne, e]
      obtain ⟨re', hre, hwy⟩ := yr_compute (n := n) (m := m) (p := p) (tr := tr) (ph := ph) (mL := mL) (po := po) (cy := cy) (fr := fr) (ns := ns) (shy := shy) (se := se) (da := da) (li := li) (dm := dm) (re := re) (ro := ro) (wy := wy) n64 m16 hY
      have R' : i_Rel (k + 4) (nI n, nI m, tr, nI p, F, fc, ph, mL, sp, cy, fr, ns, M, G, st, shx, da, se, li, ro, wx) (nI n, nI m, tr, nI p, ph, mL, po, cy, fr, ns, shy, se, da, li, dm, re', ro, wy) := zz_mk hA
      refine xi_co n64 hc (br_f xs_10 (xi_f0 hc64 hf (br_t rfl (xr_reached n64 m16 hY hF.2.1 hc64 (fun z => ?_) (fun z => ?_)))))
      · exact br_f xs_10 (yi_co n64 hc (br_f xs_10 ⟨hin, br_t hge (hwy _ ⟨hin, br_f (by rw [hcl]; exact (hre c hc).mpr z) ⟨rfl, R'⟩⟩)⟩))
      · exact br_t rfl (yi_co n64 hc (br_f xs_10 ⟨hin, br_t hge (hwy _ ⟨hin, br_t (by rw [hcl]; exact Classical.byContradiction (fun w => z ((hre c hc).mp w))) ⟨rfl, R'⟩⟩)⟩))
theorem i_vc_weakCell {k : Nat} {u : SX} {v : SY} (I : i_Rel k u v) (hk : k + 4 ≤ 2052) (v1 : Int32) : wpX_weakCell (fun r u' => wpY_weakCell (fun r' => r' = r ∧ i_Rel (k + 4) u' v) v v1) u v1 := by
  refine zz_el (P := fun u v => wpX_weakCell (fun r u' => wpY_weakCell (fun r' => r' = r ∧ i_Rel (k + 4) u' v) v v1) u v1) ?_ I
  intro n m p tr F fc ph mL sp cy fr ns M G st shx da se li ro wx po shy dm re wy hA
  have R : i_Rel (k + 4) (nI n, nI m, tr, nI p, F, fc, ph, mL, sp, cy, fr, ns, M, G, st, shx, da, se, li, ro, wx) (nI n, nI m, tr, nI p, ph, mL, po, cy, fr, ns, shy, se, da, li, dm, re, ro, wy) := zz_mk hA
  have hA' := hA
  obtain ⟨⟨n4, n64, m2, m16, p16⟩, hY, hF, hI, hP⟩ := hA'
  unfold wpX_weakCell wpY_weakCell
  rcases rg_ix v1 (m := 8) (by omega) with h | ⟨w, hw, rfl⟩
  · exact xi_wb h (br_t rfl (yi_wb h ⟨rfl, R⟩))
  · obtain ⟨M', G', st', wx', hI', hs', hr⟩ := xs_resolve (n := n) (m := m) (p := p) (tr := tr) (F := F) (fc := fc) (ph := ph) (mL := mL) (sp := sp) (cy := cy) (fr := fr) (ns := ns) (M := M) (G := G) (st := st) (shx := shx) (da := da) (se := se) (li := li) (ro := ro) (wx := wx) n64 hY hF.2.1 hI hw
    have R' : i_Rel (k + 4) (nI n, nI m, tr, nI p, F, fc, ph, mL, sp, cy, fr, ns, M', G', st', shx, da, se, li, ro, wx') (nI n, nI m, tr, nI p, ph, mL, po, cy, fr, ns, shy, se, da, li, dm, re, ro, wy) := zz_mk (mi_A hA hI' hs')
    exact xi_wo hw (br_f xs_10 (hr _ (yi_wo hw ⟨vp_in_nI hw (by omega), by rw [nI_clamp (by omega)], R'⟩)))
theorem i_vc_weakGet {k : Nat} {u : SX} {v : SY} (I : i_Rel k u v) (hk : k + 4 ≤ 2052) (v1 : Int32) (v2 : Int32) : wpX_weakGet (fun r u' => wpY_weakGet (fun r' v' => r' = r ∧ i_Rel (k + 4) u' v') v v1 v2) u v1 v2 := by
  refine zz_el (P := fun u v => wpX_weakGet (fun r u' => wpY_weakGet (fun r' v' => r' = r ∧ i_Rel (k + 4) u' v') v v1 v2) u v1 v2) ?_ I
  intro n m p tr F fc ph mL sp cy fr ns M G st shx da se li ro wx po shy dm re wy hA
  have R : i_Rel (k + 4) (nI n, nI m, tr, nI p, F, fc, ph, mL, sp, cy, fr, ns, M, G, st, shx, da, se, li, ro, wx) (nI n, nI m, tr, nI p, ph, mL, po, cy, fr, ns, shy, se, da, li, dm, re, ro, wy) := zz_mk hA
  have hA' := hA
  obtain ⟨⟨n4, n64, m2, m16, p16⟩, hY, hF, hI, hP⟩ := hA'
  unfold wpX_weakGet wpY_weakGet
  rcases rg_ix v1 (m := m) (by omega) with h | ⟨r, hr, rfl⟩
  · exact xi_rb h (br_t rfl (yi_rb h (br_t rfl ⟨rfl, R⟩)))
  · rcases rg_ix v2 (m := 8) (by omega) with h | ⟨w, hw, rfl⟩
    · exact xi_ro m16 hr (br_f xs_10 (xi_wb h (br_t rfl (yi_ro m16 hr (br_f xs_10 (yi_wb h ⟨rfl, R⟩))))))
    · obtain ⟨M', G', st', wx', hI', hs', hv⟩ := xs_resolve (n := n) (m := m) (p := p) (tr := tr) (F := F) (fc := fc) (ph := ph) (mL := mL) (sp := sp) (cy := cy) (fr := fr) (ns := ns) (M := M) (G := G) (st := st) (shx := shx) (da := da) (se := se) (li := li) (ro := ro) (wx := wx) n64 hY hF.2.1 hI hw
      have hin : vp_in (nI r) 16 := vp_in_nI (by omega) (by omega)
      have hcl : (nI r).toNatClampNeg = r := nI_clamp (by omega)
      have hclw : (nI w).toNatClampNeg = w := nI_clamp (by omega)
      have R' : i_Rel (k + 4) (nI n, nI m, tr, nI p, F, fc, ph, mL, sp, cy, fr, ns, M', G', st', shx, da, se, li, upd ro r (wy w), wx') (nI n, nI m, tr, nI p, ph, mL, po, cy, fr, ns, shy, se, da, li, dm, re, upd ro r (wy w), wy) := zz_mk (rw_A (mi_A hA hI' hs') (hY.2.2.2 w hw))
      exact xi_ro m16 hr (br_f xs_10 (xi_wo hw (br_f xs_10 (hv _ ⟨hin, nm_r (e' := upd ro r (wy w)) (by rw [hcl]) (yi_ro m16 hr (br_f xs_10 (yi_wo hw ⟨vp_in_nI hw (by omega), hin, nm_r (e' := upd ro r (wy w)) (by rw [hcl, hclw]) ⟨hin, by rw [hcl, pk_us], R'⟩⟩)))⟩))))
theorem i_vc_copyRoot {k : Nat} {u : SX} {v : SY} (I : i_Rel k u v) (hk : k + 4 ≤ 2052) (v1 : Int32) (v2 : Int32) : wpX_copyRoot (fun r u' => wpY_copyRoot (fun r' v' => r' = r ∧ i_Rel (k + 4) u' v') v v1 v2) u v1 v2 := by
  refine zz_el (P := fun u v => wpX_copyRoot (fun r u' => wpY_copyRoot (fun r' v' => r' = r ∧ i_Rel (k + 4) u' v') v v1 v2) u v1 v2) ?_ I
  intro n m p tr F fc ph mL sp cy fr ns M G st shx da se li ro wx po shy dm re wy hA
  have R : i_Rel (k + 4) (nI n, nI m, tr, nI p, F, fc, ph, mL, sp, cy, fr, ns, M, G, st, shx, da, se, li, ro, wx) (nI n, nI m, tr, nI p, ph, mL, po, cy, fr, ns, shy, se, da, li, dm, re, ro, wy) := zz_mk hA
  have hA' := hA
  obtain ⟨⟨n4, n64, m2, m16, p16⟩, hY, hF, hI, hP⟩ := hA'
  unfold wpX_copyRoot wpY_copyRoot
  rcases rg_ix v1 (m := m) (by omega) with h | ⟨r, hr, rfl⟩
  · exact xi_rb h (br_t rfl (yi_rb h (br_t rfl ⟨rfl, R⟩)))
  · rcases so_cases (n := n) (m := m) (p := p) (tr := tr) (F := F) (fc := fc) (ph := ph) (mL := mL) (sp := sp) (cy := cy) (fr := fr) (ns := ns) (M := M) (G := G) (st := st) (shx := shx) (da := da) (se := se) (li := li) (ro := ro) (wx := wx) (po := po) (shy := shy) (dm := dm) (re := re) (wy := wy) hA v2 with ⟨bx, bye⟩ | ⟨y, hv, sx, sy, cx, sv⟩
    · exact xi_ro m16 hr (br_f xs_10 (bx _ (br_t rfl (yi_ro m16 hr (br_f xs_10 (bye _ _ ⟨rfl, R⟩))))))
    · have hin : vp_in (nI r) 16 := vp_in_nI (by omega) (by omega)
      have hcl : (nI r).toNatClampNeg = r := nI_clamp (by omega)
      have R' : i_Rel (k + 4) (nI n, nI m, tr, nI p, F, fc, ph, mL, sp, cy, fr, ns, M, G, st, shx, da, se, li, upd ro r y, wx) (nI n, nI m, tr, nI p, ph, mL, po, cy, fr, ns, shy, se, da, li, dm, re, upd ro r y, wy) := zz_mk (rw_A hA hv)
      exact xi_ro m16 hr (br_f xs_10 (sx _ (br_f xs_10 (cx _ ⟨hin, nm_r (e' := upd ro r y) (by rw [hcl]) ⟨hin, yi_ro m16 hr (br_f xs_10 (sy _ _ (sv _ ⟨hin, nm_r (e' := upd ro r y) (by rw [hcl]) ⟨hin, rfl, R'⟩⟩)))⟩⟩))))
theorem i_vc_weakSet {k : Nat} {u : SX} {v : SY} (I : i_Rel k u v) (hk : k + 4 ≤ 2052) (v1 : Int32) (v2 : Int32) : wpX_weakSet (fun r u' => wpY_weakSet (fun r' v' => r' = r ∧ i_Rel (k + 4) u' v') v v1 v2) u v1 v2 := by
  refine zz_el (P := fun u v => wpX_weakSet (fun r u' => wpY_weakSet (fun r' v' => r' = r ∧ i_Rel (k + 4) u' v') v v1 v2) u v1 v2) ?_ I
  intro n m p tr F fc ph mL sp cy fr ns M G st shx da se li ro wx po shy dm re wy hA
  have R : i_Rel (k + 4) (nI n, nI m, tr, nI p, F, fc, ph, mL, sp, cy, fr, ns, M, G, st, shx, da, se, li, ro, wx) (nI n, nI m, tr, nI p, ph, mL, po, cy, fr, ns, shy, se, da, li, dm, re, ro, wy) := zz_mk hA
  have hA' := hA
  obtain ⟨⟨n4, n64, m2, m16, p16⟩, hY, hF, hI, hP⟩ := hA'
  unfold wpX_weakSet wpY_weakSet
  rcases rg_ix v1 (m := 8) (by omega) with h | ⟨r, hr, rfl⟩
  · exact xi_wb h (br_t rfl (yi_wb h ⟨rfl, R⟩))
  · rcases so_cases (n := n) (m := m) (p := p) (tr := tr) (F := F) (fc := fc) (ph := ph) (mL := mL) (sp := sp) (cy := cy) (fr := fr) (ns := ns) (M := M) (G := G) (st := st) (shx := shx) (da := da) (se := se) (li := li) (ro := ro) (wx := wx) (po := po) (shy := shy) (dm := dm) (re := re) (wy := wy) hA v2 with ⟨bx, bye⟩ | ⟨y, hv, sx, sy, cx, sv⟩
    · exact xi_wo hr (br_f xs_10 (bx _ (br_t rfl (yi_wo hr (bye _ _ ⟨rfl, R⟩)))))
    · have hin : vp_in (nI r) 8 := vp_in_nI (by omega) (by omega)
      have hcl : (nI r).toNatClampNeg = r := nI_clamp (by omega)
      have R' : i_Rel (k + 4) (nI n, nI m, tr, nI p, F, fc, ph, mL, sp, cy, fr, ns, M, G, st, shx, da, se, li, ro, upd wx r y) (nI n, nI m, tr, nI p, ph, mL, po, cy, fr, ns, shy, se, da, li, dm, re, ro, upd wy r y) := zz_mk (ww_A hA hv)
      exact xi_wo hr (br_f xs_10 (sx _ (br_f xs_10 (cx _ ⟨hin, nm_r (e' := upd wx r y) (by rw [hcl]) ⟨hin, yi_wo hr (sy _ _ (sv _ ⟨hin, nm_r (e' := upd wy r y) (by rw [hcl]) ⟨hin, by rw [hcl, pk_us, pk_us], R'⟩⟩))⟩⟩))))
theorem i_vc_setData {k : Nat} {u : SX} {v : SY} (I : i_Rel k u v) (hk : k + 4 ≤ 2052) (v1 : Int32) (v2 : Int32) : wpX_setData (fun r u' => wpY_setData (fun r' v' => r' = r ∧ i_Rel (k + 4) u' v') v v1 v2) u v1 v2 := by
  refine zz_el (P := fun u v => wpX_setData (fun r u' => wpY_setData (fun r' v' => r' = r ∧ i_Rel (k + 4) u' v') v v1 v2) u v1 v2) ?_ I
  intro n m p tr F fc ph mL sp cy fr ns M G st shx da se li ro wx po shy dm re wy hA
  have R : i_Rel (k + 4) (nI n, nI m, tr, nI p, F, fc, ph, mL, sp, cy, fr, ns, M, G, st, shx, da, se, li, ro, wx) (nI n, nI m, tr, nI p, ph, mL, po, cy, fr, ns, shy, se, da, li, dm, re, ro, wy) := zz_mk hA
  have hA' := hA
  obtain ⟨⟨n4, n64, m2, m16, p16⟩, hY, hF, hI, hP⟩ := hA'
  unfold wpX_setData wpY_setData
  rcases rg_ix v1 (m := m) (by omega) with h | ⟨r, hr, rfl⟩
  · exact xi_rb h (br_t rfl (yi_rb h (br_t rfl ⟨rfl, R⟩)))
  · have hin : vp_in (nI r) 16 := vp_in_nI (by omega) (by omega)
    have hcl : (nI r).toNatClampNeg = r := nI_clamp (by omega)
    rcases hY.2.1 r hr with e | ⟨c, e, hL⟩
    · exact xi_ro m16 hr (br_f xs_10 ⟨hin, nm_r (e' := -1) (by rw [hcl, e]) (br_t rfl (yi_ro m16 hr (br_f xs_10 ⟨hin, br_f (by rw [hcl, e]; decide) ⟨rfl, R⟩⟩)))⟩)
    · have hcn := hL.1
      have hc64 : c < 64 := by omega
      have hclc : (nI c).toNatClampNeg = c := nI_clamp (by omega)
      have er : ro (nI r).toNatClampNeg = nI c := by rw [hcl, e]
      have R' : i_Rel (k + 4) (nI n, nI m, tr, nI p, F, fc, ph, mL, sp, cy, fr, ns, M, G, st, shx, upd da c v2, se, li, ro, wx) (nI n, nI m, tr, nI p, ph, mL, po, cy, fr, ns, shy, se, upd da c v2, li, dm, re, ro, wy) := zz_mk hA
      exact xi_ro m16 hr (br_f xs_10 ⟨hin, nm_r er (br_f (hp_ne hc64) ⟨vp_in_nI hc64 (by omega), nm_r (e' := upd da c v2) (by rw [hclc]) (yi_ro m16 hr (br_f xs_10 ⟨hin, br_t (by rw [er]; exact nI_pos' (by omega)) ⟨hin, by rw [er]; exact vp_in_nI hc64 (by omega), nm_r (e' := upd da c v2) (by rw [er, hclc]) ⟨rfl, R'⟩⟩⟩))⟩)⟩)
theorem i_vc_load {k : Nat} {u : SX} {v : SY} (I : i_Rel k u v) (hk : k + 4 ≤ 2052) (v1 : Int32) (v2 : Int32) (v3 : Int32) : wpX_load (fun r u' => wpY_load (fun r' v' => r' = r ∧ i_Rel (k + 4) u' v') v v1 v2 v3) u v1 v2 v3 := by
  refine zz_el (P := fun u v => wpX_load (fun r u' => wpY_load (fun r' v' => r' = r ∧ i_Rel (k + 4) u' v') v v1 v2 v3) u v1 v2 v3) ?_ I
  intro n m p tr F fc ph mL sp cy fr ns M G st shx da se li ro wx po shy dm re wy hA
  have R : i_Rel (k + 4) (nI n, nI m, tr, nI p, F, fc, ph, mL, sp, cy, fr, ns, M, G, st, shx, da, se, li, ro, wx) (nI n, nI m, tr, nI p, ph, mL, po, cy, fr, ns, shy, se, da, li, dm, re, ro, wy) := zz_mk hA
  have hA' := hA
  obtain ⟨⟨n4, n64, m2, m16, p16⟩, hY, hF, hI, hP⟩ := hA'
  unfold wpX_load wpY_load
  rcases rg_ix v1 (m := m) (by omega) with h | ⟨q, hq, rfl⟩
  · exact xi_rb h (br_t rfl (yi_rb h (br_t rfl ⟨rfl, R⟩)))
  · rcases rg_ix v2 (m := m) (by omega) with h | ⟨r, hr, rfl⟩
    · exact xi_ro m16 hq (br_f xs_10 (xi_rb h (br_t rfl (yi_ro m16 hq (br_f xs_10 (yi_rb h (br_t rfl ⟨rfl, R⟩)))))))
    have hin : vp_in (nI r) 16 := vp_in_nI (by omega) (by omega)
    have hcl : (nI r).toNatClampNeg = r := nI_clamp (by omega)
    rcases hY.2.1 r hr with e | ⟨c, e, hL⟩
    · exact xi_ro m16 hq (br_f xs_10 (xi_ro m16 hr (br_f xs_10 ⟨hin, nm_r (e' := -1) (by rw [hcl, e]) (br_t rfl (yi_ro m16 hq (br_f xs_10 (yi_ro m16 hr (br_f xs_10 ⟨hin, nm_r (e' := -1) (by rw [hcl, e]) (br_f (by decide) ⟨rfl, R⟩)⟩)))))⟩)))
    · skip
      have hcn := hL.1
      have hc64 : c < 64 := by omega
      have er : ro (nI r).toNatClampNeg = nI c := by rw [hcl, e]
      obtain ⟨s, hs, es, hsz⟩ := hp_Ls hY.1 hL.1 hL.2.1
      have hsx : shx c = nI s := by rw [hF.2.1 c hL.1 hL.2.1, es]
      have hge : 0 ≤ nI c := nI_pos' (by omega)
      have hinq : vp_in (nI q) 16 := vp_in_nI (by omega) (by omega)
      have hclq : (nI q).toNatClampNeg = q := nI_clamp (by omega)
      rcases rg_ix v3 (m := s) (by omega) with h | ⟨f, hf4, rfl⟩
      · exact xi_ro m16 hq (br_f xs_10 (xi_ro m16 hr (br_f xs_10 ⟨hin, nm_r er (br_f (hp_ne hc64) (xi_fb hc64 hsx h (br_t rfl (yi_ro m16 hq (br_f xs_10 (yi_ro m16 hr (br_f xs_10 ⟨hin, nm_r er (br_t hge (yi_fb hc64 es h ⟨rfl, R⟩))⟩)))))))⟩)))
      · have ix : vp_in (nI c * 4 + nI f) 256 := pk_in (4 * c + f) 256 (by omega) (xs_ix c f)
        have iy : vp_in (4 * nI c + nI f) 256 := pk_in (4 * c + f) 256 (by omega) (xs_iy c f)
        have cx : (nI c * 4 + nI f).toNatClampNeg = 4 * c + f := pk_cl (4 * c + f) (xs_ix c f)
        have cy' : (4 * nI c + nI f).toNatClampNeg = 4 * c + f := pk_cl (4 * c + f) (xs_iy c f)
        have R' : i_Rel (k + 4) (nI n, nI m, tr, nI p, F, fc, ph, mL, sp, cy, fr, ns, M, G, st, shx, da, se, li, upd ro q (li (4 * c + f)), wx) (nI n, nI m, tr, nI p, ph, mL, po, cy, fr, ns, shy, se, da, li, dm, re, upd ro q (li (4 * c + f)), wy) := zz_mk (rw_A hA (hY.2.2.1 c hL f (by omega) (by omega)))
        exact xi_ro m16 hq (br_f xs_10 (xi_ro m16 hr (br_f xs_10 ⟨hin, nm_r er (br_f (hp_ne hc64) (xi_fo hc64 hs hsx hf4 (br_f xs_10 ⟨ix, nm_r (e' := li (4 * c + f)) (by rw [cx]) ⟨hinq, nm_r (e' := upd ro q (li (4 * c + f))) (by rw [hclq]) (yi_ro m16 hq (br_f xs_10 (yi_ro m16 hr (br_f xs_10 ⟨hin, nm_r er (br_t hge (yi_fo hc64 hs es hf4 ⟨iy, hinq, nm_r (e' := upd ro q (li (4 * c + f))) (by rw [hclq, cy']) ⟨hinq, by rw [hclq, pk_us], R'⟩⟩))⟩))))⟩⟩)))⟩)))
theorem i_vc_store {k : Nat} {u : SX} {v : SY} (I : i_Rel k u v) (hk : k + 4 ≤ 2052) (v1 : Int32) (v2 : Int32) (v3 : Int32) : wpX_store (fun r u' => wpY_store (fun r' v' => r' = r ∧ i_Rel (k + 4) u' v') v v1 v2 v3) u v1 v2 v3 := by
  refine zz_el (P := fun u v => wpX_store (fun r u' => wpY_store (fun r' v' => r' = r ∧ i_Rel (k + 4) u' v') v v1 v2 v3) u v1 v2 v3) ?_ I
  intro n m p tr F fc ph mL sp cy fr ns M G st shx da se li ro wx po shy dm re wy hA
  have R : i_Rel (k + 4) (nI n, nI m, tr, nI p, F, fc, ph, mL, sp, cy, fr, ns, M, G, st, shx, da, se, li, ro, wx) (nI n, nI m, tr, nI p, ph, mL, po, cy, fr, ns, shy, se, da, li, dm, re, ro, wy) := zz_mk hA
  have hA' := hA
  obtain ⟨⟨n4, n64, m2, m16, p16⟩, hY, hF, hI, hP⟩ := hA'
  unfold wpX_store wpY_store
  rcases rg_ix v1 (m := m) (by omega) with h | ⟨r, hr, rfl⟩
  · exact xi_rb h (br_t rfl (yi_rb h (br_t rfl ⟨rfl, R⟩)))
  · rcases so_cases (n := n) (m := m) (p := p) (tr := tr) (F := F) (fc := fc) (ph := ph) (mL := mL) (sp := sp) (cy := cy) (fr := fr) (ns := ns) (M := M) (G := G) (st := st) (shx := shx) (da := da) (se := se) (li := li) (ro := ro) (wx := wx) (po := po) (shy := shy) (dm := dm) (re := re) (wy := wy) hA v3 with ⟨bx, bye⟩ | ⟨y, hv, sx, sy, cx, sv⟩
    · exact xi_ro m16 hr (br_f xs_10 (bx _ (br_t rfl (yi_ro m16 hr (br_f xs_10 (bye _ _ ⟨rfl, R⟩))))))
    have hin : vp_in (nI r) 16 := vp_in_nI (by omega) (by omega)
    have hcl : (nI r).toNatClampNeg = r := nI_clamp (by omega)
    rcases hY.2.1 r hr with e | ⟨c, e, hL⟩
    · exact xi_ro m16 hr (br_f xs_10 (sx _ (br_f xs_10 ⟨hin, nm_r (e' := -1) (by rw [hcl, e]) (br_t rfl (yi_ro m16 hr (br_f xs_10 (sy _ _ ⟨hin, nm_r (e' := -1) (by rw [hcl, e]) (br_f (by decide) ⟨rfl, R⟩)⟩))))⟩)))
    · skip
      have hcn := hL.1
      have hc64 : c < 64 := by omega
      have er : ro (nI r).toNatClampNeg = nI c := by rw [hcl, e]
      obtain ⟨s, hs, es, hsz⟩ := hp_Ls hY.1 hL.1 hL.2.1
      have hsx : shx c = nI s := by rw [hF.2.1 c hL.1 hL.2.1, es]
      have hge : 0 ≤ nI c := nI_pos' (by omega)
      rcases rg_ix v2 (m := s) (by omega) with h | ⟨f, hf4, rfl⟩
      · exact xi_ro m16 hr (br_f xs_10 (sx _ (br_f xs_10 ⟨hin, nm_r er (br_f (hp_ne hc64) (xi_fb hc64 hsx h (br_t rfl (yi_ro m16 hr (br_f xs_10 (sy _ _ ⟨hin, nm_r er (br_t hge (yi_fb hc64 es h ⟨rfl, R⟩))⟩))))))⟩)))
      · have ix : vp_in (nI (4 * c + f)) 256 := vp_in_nI (by omega) (by omega)
        have iy : vp_in (4 * nI c + nI f) 256 := pk_in (4 * c + f) 256 (by omega) (xs_iy c f)
        have cz : (nI (4 * c + f)).toNatClampNeg = 4 * c + f := nI_clamp (by omega)
        have cy' : (4 * nI c + nI f).toNatClampNeg = 4 * c + f := pk_cl (4 * c + f) (xs_iy c f)
        obtain ⟨M', G', hA2, how⟩ := ow_A (n := n) (m := m) (p := p) (tr := tr) (F := F) (fc := fc) (ph := ph) (mL := mL) (sp := sp) (cy := cy) (fr := fr) (ns := ns) (M := M) (G := G) (st := st) (shx := shx) (da := da) (se := se) (li := li) (ro := ro) (wx := wx) (po := po) (shy := shy) (dm := dm) (wy := wy) hA hL (f := f) (by omega) (by omega) hv rfl rfl
        have R' : i_Rel (k + 4) (nI n, nI m, tr, nI p, F, fc, ph, mL, sp, cy, fr, ns, M', G', st, shx, da, se, upd li (4 * c + f) y, ro, wx) (nI n, nI m, tr, nI p, ph, mL, po, cy, fr, ns, shy, se, da, upd li (4 * c + f) y, dm, re, ro, wy) := zz_mk hA2
        exact xi_ro m16 hr (br_f xs_10 (sx _ (br_f xs_10 ⟨hin, nm_r er (br_f (hp_ne hc64) (xi_fo hc64 hs hsx hf4 (br_f xs_10 (nm_r (xs_ix c f) ⟨ix, nm_r (e' := li (4 * c + f)) (by rw [cz]) (cx _ (how _ (yi_ro m16 hr (br_f xs_10 (sy _ _ ⟨hin, nm_r er (br_t hge (yi_fo hc64 hs es hf4 ⟨iy, nm_r (e' := li (4 * c + f)) (by rw [cy']) (sv _ ⟨iy, nm_r (e' := upd li (4 * c + f) y) (by rw [cy']) ⟨rfl, R'⟩⟩)⟩))⟩)))))⟩))))⟩)))
theorem i_vc_exchange {k : Nat} {u : SX} {v : SY} (I : i_Rel k u v) (hk : k + 4 ≤ 2052) (v1 : Int32) (v2 : Int32) (v3 : Int32) : wpX_exchange (fun r u' => wpY_exchange (fun r' v' => r' = r ∧ i_Rel (k + 4) u' v') v v1 v2 v3) u v1 v2 v3 := by
  refine zz_el (P := fun u v => wpX_exchange (fun r u' => wpY_exchange (fun r' v' => r' = r ∧ i_Rel (k + 4) u' v') v v1 v2 v3) u v1 v2 v3) ?_ I
  intro n m p tr F fc ph mL sp cy fr ns M G st shx da se li ro wx po shy dm re wy hA
  have R : i_Rel (k + 4) (nI n, nI m, tr, nI p, F, fc, ph, mL, sp, cy, fr, ns, M, G, st, shx, da, se, li, ro, wx) (nI n, nI m, tr, nI p, ph, mL, po, cy, fr, ns, shy, se, da, li, dm, re, ro, wy) := zz_mk hA
  have hA' := hA
  obtain ⟨⟨n4, n64, m2, m16, p16⟩, hY, hF, hI, hP⟩ := hA'
  unfold wpX_exchange wpY_exchange
  rcases rg_ix v1 (m := m) (by omega) with h | ⟨r, hr, rfl⟩
  · exact xi_rb h (br_t rfl (yi_rb h (br_t rfl ⟨rfl, R⟩)))
  · rcases rg_ix v3 (m := m) (by omega) with h | ⟨q, hq, rfl⟩
    · exact xi_ro m16 hr (br_f xs_10 (xi_rb h (br_t rfl (yi_ro m16 hr (br_f xs_10 (yi_rb h (br_t rfl ⟨rfl, R⟩)))))))
    have hin : vp_in (nI r) 16 := vp_in_nI (by omega) (by omega)
    have hcl : (nI r).toNatClampNeg = r := nI_clamp (by omega)
    rcases hY.2.1 r hr with e | ⟨c, e, hL⟩
    · exact xi_ro m16 hr (br_f xs_10 (xi_ro m16 hq (br_f xs_10 ⟨hin, nm_r (e' := -1) (by rw [hcl, e]) (br_t rfl (yi_ro m16 hr (br_f xs_10 (yi_ro m16 hq (br_f xs_10 ⟨hin, nm_r (e' := -1) (by rw [hcl, e]) (br_f (by decide) ⟨rfl, R⟩)⟩)))))⟩)))
    · skip
      have hcn := hL.1
      have hc64 : c < 64 := by omega
      have er : ro (nI r).toNatClampNeg = nI c := by rw [hcl, e]
      obtain ⟨s, hs, es, hsz⟩ := hp_Ls hY.1 hL.1 hL.2.1
      have hsx : shx c = nI s := by rw [hF.2.1 c hL.1 hL.2.1, es]
      have hge : 0 ≤ nI c := nI_pos' (by omega)
      have hinq : vp_in (nI q) 16 := vp_in_nI (by omega) (by omega)
      have hclq : (nI q).toNatClampNeg = q := nI_clamp (by omega)
      rcases rg_ix v2 (m := s) (by omega) with h | ⟨f, hf4, rfl⟩
      · exact xi_ro m16 hr (br_f xs_10 (xi_ro m16 hq (br_f xs_10 ⟨hin, nm_r er (br_f (hp_ne hc64) (xi_fb hc64 hsx h (br_t rfl (yi_ro m16 hr (br_f xs_10 (yi_ro m16 hq (br_f xs_10 ⟨hin, nm_r er (br_t hge (yi_fb hc64 es h ⟨rfl, R⟩))⟩)))))))⟩)))
      · have ix : vp_in (nI (4 * c + f)) 256 := vp_in_nI (by omega) (by omega)
        have iy : vp_in (4 * nI c + nI f) 256 := pk_in (4 * c + f) 256 (by omega) (xs_iy c f)
        have cz : (nI (4 * c + f)).toNatClampNeg = 4 * c + f := nI_clamp (by omega)
        have cy' : (4 * nI c + nI f).toNatClampNeg = 4 * c + f := pk_cl (4 * c + f) (xs_iy c f)
        obtain ⟨M', G', hA2, how⟩ := ow_A (n := n) (m := m) (p := p) (tr := tr) (F := F) (fc := fc) (ph := ph) (mL := mL) (sp := sp) (cy := cy) (fr := fr) (ns := ns) (M := M) (G := G) (st := st) (shx := shx) (da := da) (se := se) (li := li) (ro := ro) (wx := wx) (po := po) (shy := shy) (dm := dm) (wy := wy) hA hL (f := f) (by omega) (by omega) (hY.2.1 q hq) rfl rfl
        have R' : i_Rel (k + 4) (nI n, nI m, tr, nI p, F, fc, ph, mL, sp, cy, fr, ns, M', G', st, shx, da, se, upd li (4 * c + f) (ro q), upd ro q (li (4 * c + f)), wx) (nI n, nI m, tr, nI p, ph, mL, po, cy, fr, ns, shy, se, da, upd li (4 * c + f) (ro q), dm, re, upd ro q (li (4 * c + f)), wy) := zz_mk (rw_A hA2 (hY.2.2.1 c hL f (by omega) (by omega)))
        exact xi_ro m16 hr (br_f xs_10 (xi_ro m16 hq (br_f xs_10 ⟨hin, nm_r er (br_f (hp_ne hc64) (xi_fo hc64 hs hsx hf4 (br_f xs_10 (nm_r (xs_ix c f) ⟨ix, nm_r (e' := li (4 * c + f)) (by rw [cz]) ⟨hinq, nm_r (e' := ro q) (by rw [hclq]) (how _ ⟨hinq, nm_r (e' := upd ro q (li (4 * c + f))) (by rw [hclq]) (yi_ro m16 hr (br_f xs_10 (yi_ro m16 hq (br_f xs_10 ⟨hin, nm_r er (br_t hge (yi_fo hc64 hs es hf4 ⟨iy, nm_r (e' := li (4 * c + f)) (by rw [cy']) ⟨hinq, nm_r (e' := ro q) (by rw [hclq]) ⟨iy, nm_r (e' := upd li (4 * c + f) (ro q)) (by rw [cy']) ⟨hinq, nm_r (e' := upd ro q (li (4 * c + f))) (by rw [hclq]) ⟨rfl, R'⟩⟩⟩⟩⟩))⟩))))⟩)⟩⟩))))⟩)))
theorem i_vc_beginCycle {k : Nat} {u : SX} {v : SY} (I : i_Rel k u v) (hk : k + 4 ≤ 2052) : wpX_beginCycle (fun r u' => wpY_beginCycle (fun r' v' => r' = r ∧ i_Rel (k + 4) u' v') v) u := by
  refine zz_el (P := fun u v => wpX_beginCycle (fun r u' => wpY_beginCycle (fun r' v' => r' = r ∧ i_Rel (k + 4) u' v') v) u) ?_ I
  intro n m p tr F fc ph mL sp cy fr ns M G st shx da se li ro wx po shy dm re wy hA
  have R : i_Rel (k + 4) (nI n, nI m, tr, nI p, F, fc, ph, mL, sp, cy, fr, ns, M, G, st, shx, da, se, li, ro, wx) (nI n, nI m, tr, nI p, ph, mL, po, cy, fr, ns, shy, se, da, li, dm, re, ro, wy) := zz_mk hA
  have hA' := hA
  obtain ⟨⟨n4, n64, m2, m16, p16⟩, hY, hF, hI, hP⟩ := hA'
  unfold wpX_beginCycle wpY_beginCycle
  by_cases h0 : ph = 0
  · obtain ⟨q, M', G', st', wx', dm', re', wy', hA2, hX2, hY2⟩ := sn_snap (n := n) (m := m) (p := p) (tr := tr) (F := F) (fc := fc) (ph := ph) (mL := mL) (sp := sp) (cy := cy) (fr := fr) (ns := ns) (M := M) (G := G) (st := st) (shx := shx) (da := da) (se := se) (li := li) (ro := ro) (wx := wx) (po := po) (shy := shy) (dm := dm) (re := re) (wy := wy) hA h0
    have R' : i_Rel (k + 4) (nI n, nI m, tr, nI p, F, fc, 1, nI q, sp, cy, 0, ns, M', G', st', shx, da, se, li, ro, wx') (nI n, nI m, tr, nI p, 1, nI q, po, cy, 0, ns, shy, se, da, li, dm', re', ro, wy') := zz_mk hA2
    exact br_t h0 (hX2 _ (br_t h0 (hY2 _ ⟨rfl, R'⟩)))
  · exact br_f h0 (br_f h0 ⟨rfl, R⟩)
theorem i_vc_step {k : Nat} {u : SX} {v : SY} (I : i_Rel k u v) (hk : k + 4 ≤ 2052) (v1 : Int32) : wpX_step (fun r u' => wpY_step (fun r' v' => r' = r ∧ i_Rel (k + 4) u' v') v v1) u v1 := by
  refine zz_el (P := fun u v => wpX_step (fun r u' => wpY_step (fun r' v' => r' = r ∧ i_Rel (k + 4) u' v') v v1) u v1) ?_ I
  intro n m p tr F fc ph mL sp cy fr ns M G st shx da se li ro wx po shy dm re wy hA
  have R : i_Rel (k + 4) (nI n, nI m, tr, nI p, F, fc, ph, mL, sp, cy, fr, ns, M, G, st, shx, da, se, li, ro, wx) (nI n, nI m, tr, nI p, ph, mL, po, cy, fr, ns, shy, se, da, li, dm, re, ro, wy) := zz_mk hA
  have hA' := hA
  obtain ⟨⟨n4, n64, m2, m16, p16⟩, hY, hF, hI, hP⟩ := hA'
  unfold wpX_step wpY_step
  by_cases h1 : v1 < 1
  · exact br_t h1 (br_t h1 ⟨rfl, R⟩)
  by_cases h2 : v1 ≤ 200
  · have h0 : ¬ v1 < 0 := fun z => h1 (Int32.lt_of_lt_of_le z (by decide))
    obtain ⟨t, ht, rfl⟩ := nI_of2 (n := 200) (by decide) h0 h2
    obtain ⟨F', fc', ph', mL', sp', cy', fr', M', G', st', wx', po', shy', dm', hA2, hX2, _, hY2⟩ := wk_work (n := n) (m := m) (p := p) (tr := tr) (ns := ns) (shx := shx) (da := da) (se := se) (li := li) (ro := ro) (re := re) ht t 0 F fc ph mL sp cy fr M G st wx po shy dm wy (by omega) hA
    have R' : i_Rel (k + 4) (nI n, nI m, tr, nI p, F', fc', ph', mL', sp', cy', fr', ns, M', G', st', shx, da, se, li, ro, wx') (nI n, nI m, tr, nI p, ph', mL', po', cy', fr', ns, shy', se, da, li, dm', re, ro, wy) := zz_mk hA2
    exact br_f h1 (br_t h2 ⟨t + 1, hX2 _ (t + 1) (by omega) (br_f h1 (br_t h2 ⟨t + 1, hY2 _ _ (t + 1) (by omega) ⟨rfl, R'⟩⟩))⟩)
  · exact br_f h1 (br_f h2 (br_f h1 (br_f h2 ⟨rfl, R⟩)))
theorem i_vc_stat {k : Nat} {u : SX} {v : SY} (I : i_Rel k u v) (hk : k + 4 ≤ 2052) (v1 : Int32) : wpX_stat (fun r => wpY_stat (fun r' => r' = r ∧ i_Rel (k + 4) u v) v v1) u v1 := by
  refine zz_el (P := fun u v => wpX_stat (fun r => wpY_stat (fun r' => r' = r ∧ i_Rel (k + 4) u v) v v1) u v1) ?_ I
  intro n m p tr F fc ph mL sp cy fr ns M G st shx da se li ro wx po shy dm re wy hA
  have R : i_Rel (k + 4) (nI n, nI m, tr, nI p, F, fc, ph, mL, sp, cy, fr, ns, M, G, st, shx, da, se, li, ro, wx) (nI n, nI m, tr, nI p, ph, mL, po, cy, fr, ns, shy, se, da, li, dm, re, ro, wy) := zz_mk hA
  have hA' := hA
  obtain ⟨⟨n4, n64, m2, m16, p16⟩, hY, hF, hI, hP⟩ := hA'
  unfold wpX_stat wpY_stat
  by_cases b0 : v1 < 0
  · exact br_t b0 (br_f (fun e => by rw [e] at b0; exact absurd b0 (by decide)) (br_f (fun e => by rw [e] at b0; exact absurd b0 (by decide)) (br_f (fun e => by rw [e] at b0; exact absurd b0 (by decide)) (br_f (fun e => by rw [e] at b0; exact absurd b0 (by decide)) (br_f (fun e => by rw [e] at b0; exact absurd b0 (by decide)) (br_f (fun e => by rw [e] at b0; exact absurd b0 (by decide)) (br_f (fun e => by rw [e] at b0; exact absurd b0 (by decide)) (br_f (fun e => by rw [e] at b0; exact absurd b0 (by decide)) (br_f (fun e => by rw [e] at b0; exact absurd b0 (by decide)) (br_f (fun e => by rw [e] at b0; exact absurd b0 (by decide)) (⟨rfl, R⟩)))))))))))
  by_cases b9 : 9 < v1
  · exact br_f b0 (br_t b9 (br_f (fun e => by rw [e] at b9; exact absurd b9 (by decide)) (br_f (fun e => by rw [e] at b9; exact absurd b9 (by decide)) (br_f (fun e => by rw [e] at b9; exact absurd b9 (by decide)) (br_f (fun e => by rw [e] at b9; exact absurd b9 (by decide)) (br_f (fun e => by rw [e] at b9; exact absurd b9 (by decide)) (br_f (fun e => by rw [e] at b9; exact absurd b9 (by decide)) (br_f (fun e => by rw [e] at b9; exact absurd b9 (by decide)) (br_f (fun e => by rw [e] at b9; exact absurd b9 (by decide)) (br_f (fun e => by rw [e] at b9; exact absurd b9 (by decide)) (br_f (fun e => by rw [e] at b9; exact absurd b9 (by decide)) (⟨rfl, R⟩))))))))))))
  refine br_f b0 (br_f b9 ?_)
  by_cases c0 : v1 = 0
  · exact br_t c0 (br_t c0 (⟨rfl, R⟩))
  by_cases c1 : v1 = 1
  · refine br_f c0 (br_t c1 ?_)
    rcases hP with ⟨a, b⟩ | ⟨a, q, e, h1, h2⟩ | ⟨a, b, q, e1, e2, h⟩
    · exact br_f (by rw [a]; decide) (br_f (by rw [a]; decide) (br_f c0 (br_t c1 (br_f (by rw [a]; decide) (br_f (by rw [a]; decide) ⟨rfl, R⟩)))))
    · exact br_t a (br_f c0 (br_t c1 (br_t a ⟨rfl, R⟩)))
    · exact br_f (by rw [a]; decide) (br_t a (br_f c0 (br_t c1 (br_f (by rw [a]; decide) (br_t a ⟨by rw [e1, e2], R⟩)))))
  by_cases c2 : v1 = 2
  · exact br_f c0 (br_f c1 (br_t c2 (br_f c0 (br_f c1 (br_t c2 (yc_count n64 hY.1 ⟨hF.2.2.symm, R⟩))))))
  by_cases c3 : v1 = 3
  · exact br_f c0 (br_f c1 (br_f c2 (br_t c3 (br_f c0 (br_f c1 (br_f c2 (br_t c3 (⟨rfl, R⟩))))))))
  by_cases c4 : v1 = 4
  · exact br_f c0 (br_f c1 (br_f c2 (br_f c3 (br_t c4 (br_f c0 (br_f c1 (br_f c2 (br_f c3 (br_t c4 (⟨rfl, R⟩))))))))))
  by_cases c5 : v1 = 5
  · exact br_f c0 (br_f c1 (br_f c2 (br_f c3 (br_f c4 (br_t c5 (br_f c0 (br_f c1 (br_f c2 (br_f c3 (br_f c4 (br_t c5 (⟨rfl, R⟩))))))))))))
  by_cases c6 : v1 = 6
  · exact br_f c0 (br_f c1 (br_f c2 (br_f c3 (br_f c4 (br_f c5 (br_t c6 (br_f c0 (br_f c1 (br_f c2 (br_f c3 (br_f c4 (br_f c5 (br_t c6 (⟨rfl, R⟩))))))))))))))
  by_cases c7 : v1 = 7
  · exact br_f c0 (br_f c1 (br_f c2 (br_f c3 (br_f c4 (br_f c5 (br_f c6 (br_t c7 (br_f c0 (br_f c1 (br_f c2 (br_f c3 (br_f c4 (br_f c5 (br_f c6 (br_t c7 (⟨rfl, R⟩))))))))))))))))
  by_cases c8 : v1 = 8
  · exact br_f c0 (br_f c1 (br_f c2 (br_f c3 (br_f c4 (br_f c5 (br_f c6 (br_f c7 (br_t c8 (br_f c0 (br_f c1 (br_f c2 (br_f c3 (br_f c4 (br_f c5 (br_f c6 (br_f c7 (br_t c8 (⟨rfl, R⟩))))))))))))))))))
  by_cases c9 : v1 = 9
  · exact br_f c0 (br_f c1 (br_f c2 (br_f c3 (br_f c4 (br_f c5 (br_f c6 (br_f c7 (br_f c8 (br_t c9 (br_f c0 (br_f c1 (br_f c2 (br_f c3 (br_f c4 (br_f c5 (br_f c6 (br_f c7 (br_f c8 (br_t c9 (⟨rfl, R⟩))))))))))))))))))))
  exact br_f c0 (br_f c1 (br_f c2 (br_f c3 (br_f c4 (br_f c5 (br_f c6 (br_f c7 (br_f c8 (br_f c9 (trivial))))))))))
end
section
/-! copyAll -/
section
variable {n m p : Nat} {tr : Int32} {F : Int64} {fc ph mL sp cy fr ns : Int32} {st : Int32} {shx da se ro wx : Nat → Int32} {po : Int32} {shy dm re wy : Nat → Int32}
theorem ca_loop {c e s : Nat} (hs : s ≤ 4) (hc : hp_L n shy dm c) (he : hp_L n shy dm e) (hsc : s ≤ hp_sz shy c) (hse : s ≤ hp_sz shy e) : ∀ (d i : Nat) (M G : Int64) (li : Nat → Int32), i + d = s → hp_A n m p F fc ph mL sp M G st shx li ro wx po shy dm wy →
    ∃ (M' G' : Int64) (li' : Nat → Int32), hp_A n m p F fc ph mL sp M' G' st shx li' ro wx po shy dm wy ∧
      (∀ (post : Int32 → SX → Prop) (N : Nat), d < N → post (nI s) (nI n, nI m, tr, nI p, F, fc, ph, mL, sp, cy, fr, ns, M', G', st, shx, da, se, li', ro, wx) → wX_copyAll_95 post (nI c) (nI e) (nI s) N (nI i) (nI n) (nI m) tr (nI p) F fc ph mL sp cy fr ns M G st shx da se li ro wx) ∧
      (∀ (post : Int32 → SY → Prop) (N : Nat), d < N → post (nI s) (nI n, nI m, tr, nI p, ph, mL, po, cy, fr, ns, shy, se, da, li', dm, re, ro, wy) → wY_copyAll_89 post (nI c) (nI e) (nI s) (nI n) (nI m) tr (nI p) ph mL po cy fr ns N (nI i) shy se da li dm re ro wy) := by
  have hcn := hc.1
  have hen := he.1
  intro d
  induction d with
  | zero =>
    intro i M G li hi hA
    refine ⟨M, G, li, hA, fun post N hN hp => ?_, fun post N hN hp => ?_⟩
    · obtain ⟨N, rfl⟩ : ∃ k, N = k + 1 := ⟨N - 1, by omega⟩
      exact br_c (fun _ => hp) (fun _ => br_t (nI_le (by omega) (by omega)) hp)
    · obtain ⟨N, rfl⟩ : ∃ k, N = k + 1 := ⟨N - 1, by omega⟩
      exact br_t (nI_le (by omega) (by omega)) hp
  | succ d ih =>
    intro i M G li hi hA
    have n64 := hA.1.2.1
    have hv := hA.2.1.2.2.1 e he i (by omega) (by omega)
    have ce : (nI e * 4 + nI i).toNatClampNeg = 4 * e + i := pk_cl (4 * e + i) (xs_ix e i)
    have ce' : (4 * nI e + nI i).toNatClampNeg = 4 * e + i := pk_cl (4 * e + i) (xs_iy e i)
    have cc' : (4 * nI c + nI i).toNatClampNeg = 4 * c + i := pk_cl (4 * c + i) (xs_iy c i)
    obtain ⟨M1, G1, hA1, how⟩ := ow_A (n := n) (m := m) (p := p) (tr := tr) (F := F) (fc := fc) (ph := ph) (mL := mL) (sp := sp) (cy := cy) (fr := fr) (ns := ns) (M := M) (G := G) (st := st) (shx := shx) (da := da) (se := se) (li := li) (ro := ro) (wx := wx) (po := po) (shy := shy) (dm := dm) (wy := wy) hA hc (f := i) (x := nI c * 4 + nI i) (y := li (nI e * 4 + nI i).toNatClampNeg) (by omega) (by omega) hv (xs_ix c i) (by rw [ce])
    obtain ⟨M', G', li', hA', hX, hY⟩ := ih (i + 1) M1 G1 (upd li (4 * c + i) (li (4 * e + i))) (by omega) hA1
    refine ⟨M', G', li', hA', fun post N hN hp => ?_, fun post N hN hp => ?_⟩
    · obtain ⟨N, rfl⟩ : ∃ k, N = k + 1 := ⟨N - 1, by omega⟩
      exact br_f (nI_ge (b := 4) (by omega) (by omega)) (br_f (nI_ge (by omega) (by omega)) ⟨pk_in (4 * e + i) 256 (by omega) (xs_ix e i), how _ (nm_r (nI_1 i) (hX post N (by omega) hp))⟩)
    · obtain ⟨N, rfl⟩ : ∃ k, N = k + 1 := ⟨N - 1, by omega⟩
      exact br_f (nI_ge (by omega) (by omega)) ⟨pk_in (4 * e + i) 256 (by omega) (xs_iy e i), pk_in (4 * c + i) 256 (by omega) (xs_iy c i), nm_r (e' := upd li (4 * c + i) (li (4 * e + i))) (by rw [ce', cc']) (nm_r (nI_1 i) (hY post N (by omega) hp))⟩
end
theorem ca_id (li : Nat → Int32) (j : Nat) : upd li j (li j) = li := by
  funext x
  by_cases e : x = j
  · rw [e]; exact pk_us
  · exact pk_un e
section
variable {n m p : Nat} {tr : Int32} {ph mL po cy fr ns : Int32} {shy se da li dm re ro wy : Nat → Int32}
theorem ca_self {c s : Nat} (hc : c < 64) (hs : s ≤ 4) {post : Int32 → SY → Prop} (hp : post (nI s) (nI n, nI m, tr, nI p, ph, mL, po, cy, fr, ns, shy, se, da, li, dm, re, ro, wy)) : ∀ (d i : Nat), i + d = s → ∀ N, d < N → wY_copyAll_89 post (nI c) (nI c) (nI s) (nI n) (nI m) tr (nI p) ph mL po cy fr ns N (nI i) shy se da li dm re ro wy := by
  intro d
  induction d with
  | zero =>
    intro i hi N hN
    obtain ⟨N, rfl⟩ : ∃ k, N = k + 1 := ⟨N - 1, by omega⟩
    exact br_t (nI_le (by omega) (by omega)) hp
  | succ d ih =>
    intro i hi N hN
    obtain ⟨N, rfl⟩ : ∃ k, N = k + 1 := ⟨N - 1, by omega⟩
    have hin : vp_in (4 * nI c + nI i) 256 := pk_in (4 * c + i) 256 (by omega) (xs_iy c i)
    exact br_f (nI_ge (by omega) (by omega)) ⟨hin, hin, nm_r (ca_id li _) (nm_r (nI_1 i) (ih (i + 1) (by omega) N (by omega)))⟩
end
section
variable {n m p : Nat} {tr : Int32} {F : Int64} {fc ph mL sp cy fr ns : Int32} {M G : Int64} {st : Int32} {shx da se li ro wx : Nat → Int32} {po : Int32} {shy dm re wy : Nat → Int32}
theorem ca_end {c e s : Nat} (hA : hp_A n m p F fc ph mL sp M G st shx li ro wx po shy dm wy) (hs : s ≤ 4) (hc : hp_L n shy dm c) (he : hp_L n shy dm e) (hsc : s ≤ hp_sz shy c) (hse : s ≤ hp_sz shy e) :
    ∃ (M' G' : Int64) (li' : Nat → Int32), hp_A n m p F fc ph mL sp M' G' st shx li' ro wx po shy dm wy ∧ (∀ post : Int32 → SX → Prop, post (nI s) (nI n, nI m, tr, nI p, F, fc, ph, mL, sp, cy, fr, ns, M', G', st, shx, da, se, li', ro, wx) → wX_copyAll_83 post (nI c) (nI e) (nI s) (nI n) (nI m) tr (nI p) F fc ph mL sp cy fr ns M G st shx da se li ro wx) ∧
      (∀ post : Int32 → SY → Prop, post (nI s) (nI n, nI m, tr, nI p, ph, mL, po, cy, fr, ns, shy, se, da, li', dm, re, ro, wy) → ∃ j, wY_copyAll_89 post (nI c) (nI e) (nI s) (nI n) (nI m) tr (nI p) ph mL po cy fr ns j 0 shy se da li dm re ro wy) := by
  have n64 := hA.1.2.1
  have hcn := hc.1
  have hen := he.1
  by_cases q : c = e
  · subst q
    exact ⟨M, G, li, hA, fun post hp => br_t rfl hp, fun post hp => ⟨s + 1, ca_self (by omega) hs hp s 0 (by omega) (s + 1) (by omega)⟩⟩
  · obtain ⟨M', G', li', hA', hX, hY⟩ := ca_loop (n := n) (m := m) (p := p) (tr := tr) (F := F) (fc := fc) (ph := ph) (mL := mL) (sp := sp) (cy := cy) (fr := fr) (ns := ns) (st := st) (shx := shx) (da := da) (se := se) (ro := ro) (wx := wx) (po := po) (shy := shy) (dm := dm) (re := re) (wy := wy) hs hc he hsc hse s 0 M G li (by omega) hA
    exact ⟨M', G', li', hA', fun post hp => br_f (fun z => q (gb_i (by omega) (by omega) z)) ⟨s + 1, hX post (s + 1) (by omega) hp⟩, fun post hp => ⟨s + 1, hY post (s + 1) (by omega) hp⟩⟩
end
theorem i_vc_copyAll {k : Nat} {u : SX} {v : SY} (I : i_Rel k u v) (hk : k + 4 ≤ 2052) (v1 : Int32) (v2 : Int32) : wpX_copyAll (fun r u' => wpY_copyAll (fun r' v' => r' = r ∧ i_Rel (k + 4) u' v') v v1 v2) u v1 v2 := by
  refine zz_el (P := fun u v => wpX_copyAll (fun r u' => wpY_copyAll (fun r' v' => r' = r ∧ i_Rel (k + 4) u' v') v v1 v2) u v1 v2) ?_ I
  intro n m p tr F fc ph mL sp cy fr ns M G st shx da se li ro wx po shy dm re wy hA
  have R : i_Rel (k + 4) (nI n, nI m, tr, nI p, F, fc, ph, mL, sp, cy, fr, ns, M, G, st, shx, da, se, li, ro, wx) (nI n, nI m, tr, nI p, ph, mL, po, cy, fr, ns, shy, se, da, li, dm, re, ro, wy) := zz_mk hA
  have hA' := hA
  obtain ⟨⟨n4, n64, m2, m16, p16⟩, hY, hF, hI, hP⟩ := hA'
  unfold wpX_copyAll wpY_copyAll
  rcases rg_ix v1 (m := m) (by omega) with h | ⟨r, hr, rfl⟩
  · exact xi_rb h (br_t rfl (yi_rb h (br_t rfl ⟨rfl, R⟩)))
  rcases rg_ix v2 (m := m) (by omega) with h | ⟨q, hq, rfl⟩
  · exact xi_ro m16 hr (br_f xs_10 (xi_rb h (br_t rfl (yi_ro m16 hr (br_f xs_10 (yi_rb h (br_t rfl ⟨rfl, R⟩)))))))
  have hin : vp_in (nI r) 16 := vp_in_nI (by omega) (by omega)
  have hcl : (nI r).toNatClampNeg = r := nI_clamp (by omega)
  have hinq : vp_in (nI q) 16 := vp_in_nI (by omega) (by omega)
  have hclq : (nI q).toNatClampNeg = q := nI_clamp (by omega)
  rcases hY.2.1 r hr with e1 | ⟨c, e1, hL⟩
  · exact xi_ro m16 hr (br_f xs_10 (xi_ro m16 hq (br_f xs_10 ⟨hin, nm_r (e' := -1) (by rw [hcl, e1]) (br_t rfl (yi_ro m16 hr (br_f xs_10 (yi_ro m16 hq (br_f xs_10 ⟨hin, nm_r (e' := -1) (by rw [hcl, e1]) ⟨hinq, nm_e (br_f (by decide) ⟨rfl, R⟩)⟩⟩)))))⟩)))
  have er1 : ro (nI r).toNatClampNeg = nI c := by rw [hcl, e1]
  have hcn := hL.1
  have hc64 : c < 64 := by omega
  have hge1 : 0 ≤ nI c := nI_pos' (by omega)
  rcases hY.2.1 q hq with e2 | ⟨e, e2, hLe⟩
  · exact xi_ro m16 hr (br_f xs_10 (xi_ro m16 hq (br_f xs_10 ⟨hin, nm_r er1 (br_f (hp_ne hc64) ⟨hinq, nm_r (e' := -1) (by rw [hclq, e2]) (br_t rfl (yi_ro m16 hr (br_f xs_10 (yi_ro m16 hq (br_f xs_10 ⟨hin, nm_r er1 ⟨hinq, nm_r (e' := -1) (by rw [hclq, e2]) (br_t hge1 (br_f (by decide) ⟨rfl, R⟩))⟩⟩)))))⟩)⟩)))
  have er2 : ro (nI q).toNatClampNeg = nI e := by rw [hclq, e2]
  have hen := hLe.1
  have he64 : e < 64 := by omega
  have hge2 : 0 ≤ nI e := nI_pos' (by omega)
  obtain ⟨s1, hs1, es1, hz1⟩ := hp_Ls hY.1 hL.1 hL.2.1
  obtain ⟨s2, hs2, es2, hz2⟩ := hp_Ls hY.1 hLe.1 hLe.2.1
  have hclc : (nI c).toNatClampNeg = c := nI_clamp (by omega)
  have hcle : (nI e).toNatClampNeg = e := nI_clamp (by omega)
  have inc : vp_in (nI c) 64 := vp_in_nI hc64 (by omega)
  have ine : vp_in (nI e) 64 := vp_in_nI he64 (by omega)
  have x1 : shx (nI c).toNatClampNeg = nI s1 := by rw [hclc, hF.2.1 c hL.1 hL.2.1, es1]
  have x2 : shx (nI e).toNatClampNeg = nI s2 := by rw [hcle, hF.2.1 e hLe.1 hLe.2.1, es2]
  have y1 : shy (nI c).toNatClampNeg = nI s1 := by rw [hclc, es1]
  have y2 : shy (nI e).toNatClampNeg = nI s2 := by rw [hcle, es2]
  refine xi_ro m16 hr (br_f xs_10 (xi_ro m16 hq (br_f xs_10 ⟨hin, nm_r er1 (br_f (hp_ne hc64) ⟨hinq, nm_r er2 (br_f (hp_ne he64) ⟨inc, nm_r x1 ⟨ine, ?_⟩⟩)⟩)⟩)))
  have fin : ∀ A B : Prop, (s2 ≤ s1 → A) → (s1 < s2 → B) → ((shy (nI e).toNatClampNeg ≤ shy (nI c).toNatClampNeg → A) ∧ (¬ shy (nI e).toNatClampNeg ≤ shy (nI c).toNatClampNeg → B)) := by
    intro A B a b
    rw [y1, y2]
    exact pk_le s2 s1 a b
  by_cases hlt : s1 < s2
  · obtain ⟨M', G', li', hA2, hX2, hY2⟩ := ca_end (n := n) (m := m) (p := p) (tr := tr) (F := F) (fc := fc) (ph := ph) (mL := mL) (sp := sp) (cy := cy) (fr := fr) (ns := ns) (M := M) (G := G) (st := st) (shx := shx) (da := da) (se := se) (li := li) (ro := ro) (wx := wx) (po := po) (shy := shy) (dm := dm) (re := re) (wy := wy) hA hs1 hL hLe (by omega) (by omega)
    have R' : i_Rel (k + 4) (nI n, nI m, tr, nI p, F, fc, ph, mL, sp, cy, fr, ns, M', G', st, shx, da, se, li', ro, wx) (nI n, nI m, tr, nI p, ph, mL, po, cy, fr, ns, shy, se, da, li', dm, re, ro, wy) := zz_mk hA2
    refine br_t (by rw [x2]; exact nI_le (by omega) (by omega)) (hX2 _ ?_)
    exact yi_ro m16 hr (br_f xs_10 (yi_ro m16 hq (br_f xs_10 ⟨hin, nm_r er1 ⟨hinq, nm_r er2 (br_t hge1 (br_t hge2 ⟨inc, ine, fin _ _ (fun z => by omega) (fun _ => ⟨inc, nm_r y1 (hY2 _ ⟨rfl, R'⟩)⟩)⟩))⟩⟩)))
  · by_cases heq : s1 = s2
    · obtain ⟨M', G', li', hA2, hX2, hY2⟩ := ca_end (n := n) (m := m) (p := p) (tr := tr) (F := F) (fc := fc) (ph := ph) (mL := mL) (sp := sp) (cy := cy) (fr := fr) (ns := ns) (M := M) (G := G) (st := st) (shx := shx) (da := da) (se := se) (li := li) (ro := ro) (wx := wx) (po := po) (shy := shy) (dm := dm) (re := re) (wy := wy) hA hs1 hL hLe (by omega) (by omega)
      have R' : i_Rel (k + 4) (nI n, nI m, tr, nI p, F, fc, ph, mL, sp, cy, fr, ns, M', G', st, shx, da, se, li', ro, wx) (nI n, nI m, tr, nI p, ph, mL, po, cy, fr, ns, shy, se, da, li', dm, re, ro, wy) := zz_mk hA2
      refine br_t (by rw [x2]; exact nI_le (by omega) (by omega)) (hX2 _ ?_)
      have y2' : shy (nI e).toNatClampNeg = nI s1 := by rw [y2, heq]
      exact yi_ro m16 hr (br_f xs_10 (yi_ro m16 hq (br_f xs_10 ⟨hin, nm_r er1 ⟨hinq, nm_r er2 (br_t hge1 (br_t hge2 ⟨inc, ine, fin _ _ (fun _ => ⟨ine, nm_r y2' (hY2 _ ⟨rfl, R'⟩)⟩) (fun z => by omega)⟩))⟩⟩)))
    · obtain ⟨M', G', li', hA2, hX2, hY2⟩ := ca_end (n := n) (m := m) (p := p) (tr := tr) (F := F) (fc := fc) (ph := ph) (mL := mL) (sp := sp) (cy := cy) (fr := fr) (ns := ns) (M := M) (G := G) (st := st) (shx := shx) (da := da) (se := se) (li := li) (ro := ro) (wx := wx) (po := po) (shy := shy) (dm := dm) (re := re) (wy := wy) hA hs2 hL hLe (by omega) (by omega)
      have R' : i_Rel (k + 4) (nI n, nI m, tr, nI p, F, fc, ph, mL, sp, cy, fr, ns, M', G', st, shx, da, se, li', ro, wx) (nI n, nI m, tr, nI p, ph, mL, po, cy, fr, ns, shy, se, da, li', dm, re, ro, wy) := zz_mk hA2
      refine br_f (by rw [x2]; exact nI_ge (by omega) (by omega)) ⟨ine, nm_r x2 (hX2 _ ?_)⟩
      exact yi_ro m16 hr (br_f xs_10 (yi_ro m16 hq (br_f xs_10 ⟨hin, nm_r er1 ⟨hinq, nm_r er2 (br_t hge1 (br_t hge2 ⟨inc, ine, fin _ _ (fun _ => ⟨ine, nm_r y2 (hY2 _ ⟨rfl, R'⟩)⟩) (fun z => by omega)⟩))⟩⟩)))
end
section
/-! alloc -/
section
variable {n m p : Nat} {tr : Int32} {F : Int64} {fc ph mL sp cy fr ns : Int32} {M G : Int64} {st : Int32} {shx da se li ro wx : Nat → Int32} {po : Int32} {shy dm re wy : Nat → Int32}
theorem av_dn (h : 4 ≤ n) : ay_d n = nI (n - 1) := by
  obtain ⟨k, rfl⟩ : ∃ k, n = k + 1 := ⟨n - 1, by omega⟩
  rfl
/-- from the work on: one answer, related states -/
theorem av_rest {k r s : Nat} {x3 : Int32} (hA : hp_A n m p F fc ph mL sp M G st shx li ro wx po shy dm wy) (hr : r < m) (hs : s ≤ 4) :
    ∃ (a : Int32) (u : SX) (v : SY), i_Rel k u v ∧ (∀ post : Int32 → SX → Prop, post a u → wX_alloc_52 post (nI r) (nI s) x3 (nI n) (nI m) tr (nI p) F fc ph mL sp cy fr ns M G st shx da se li ro wx) ∧ (∀ post : Int32 → SY → Prop, post a v → ∃ j, wY_alloc_55 post (nI r) (nI s) x3 j 0 (nI n) (nI m) tr (nI p) ph mL po cy fr ns shy se da li dm re ro wy) := by
  have p16 := hA.1.2.2.2.2
  have m16 := hA.1.2.2.2.1
  have n64 := hA.1.2.1
  have n4 := hA.1.1
  obtain ⟨F1, fc1, ph1, mL1, sp1, cy1, fr1, M1, G1, st1, wx1, po1, shy1, dm1, hA1, hX1, hY1, _⟩ := wk_work (n := n) (m := m) (p := p) (tr := tr) (ns := ns) (shx := shx) (da := da) (se := se) (li := li) (ro := ro) (re := re) (u := p) (by omega) p 0 F fc ph mL sp cy fr M G st wx po shy dm wy (by omega) hA
  have hmu := un_mu_le hA1
  obtain ⟨F2, fc2, ph2, mL2, sp2, cy2, fr2, M2, G2, st2, wx2, po2, shy2, dm2, hA2, hX2, hY2⟩ := wk_hurry (n := n) (m := m) (p := p) (tr := tr) (ns := ns) (shx := shx) (da := da) (se := se) (li := li) (ro := ro) (re := re) 129 0 F1 fc1 ph1 mL1 sp1 cy1 fr1 M1 G1 st1 wx1 po1 shy1 dm1 wy (by omega) hmu hA1
  have hS2 := hA2.2.1.1
  have hF2 := hA2.2.2.1
  by_cases hF : F2 = 0
  · have hz := (wk_F hF2).mp hF
    have hno : ∀ c, c < n → ¬ shy2 c = -1 := fun c hc e => by
      have t := cn_0 n hz c hc
      rw [decide_eq_true e] at t
      exact absurd t (by decide)
    refine ⟨-2, (nI n, nI m, tr, nI p, F2, fc2, ph2, mL2, sp2, cy2, fr2, ns, M2, G2, st2, shx, da, se, li, ro, wx2), (nI n, nI m, tr, nI p, ph2, mL2, po2, cy2, fr2, ns, shy2, se, da, li, dm2, re, ro, wy), zz_mk hA2, fun post hp => ?_, fun post hp => ?_⟩
    · unfold wX_alloc_52
      exact ⟨p + 1, hX1 _ (p + 1) (by omega) ⟨130, hX2 _ 130 (by omega) (br_t hF hp)⟩⟩
    · refine ⟨p + 1, hY1 rfl post (nI r) (nI s) x3 (p + 1) (by omega) ⟨130, hY2 post (nI r) (nI s) x3 130 (by omega) ⟨n + 1, ?_⟩⟩⟩
      rw [← av_dn n4]
      exact ay_full n64 hS2 hno hp n (by omega) (n + 1) (by omega)
  · obtain ⟨c, hc, hl⟩ := gb_nz hF
    obtain ⟨hcn, hsc⟩ := (hF2.1 c).mp hl.1
    have hlo : ∀ j, j < c → ¬ shy2 j = -1 := fun j hj e => by
      have t := (hF2.1 j).mpr ⟨by omega, e⟩
      rw [hl.2 j hj] at t
      exact absurd t (by decide)
    refine ⟨nI c, (nI n, nI m, tr, nI p, F2 &&& (gb_1 c ^^^ (-1)), fc2 - 1, ph2, mL2, sp2, cy2, fr2, ns + 1, M2 ||| gb_1 c, G2, st2, upd shx c (nI s), upd da c x3, upd se c ns, al_clr li c 4, upd ro r (nI c), wx2),
      (nI n, nI m, tr, nI p, ph2, mL2, po2, cy2, fr2, ns + 1, upd shy2 c (nI s), upd se c ns, upd da c x3, al_clr li c 4, upd dm2 c 0, re, upd ro r (nI c), wy), zz_mk (al_A hcn hsc hs hr hA2), fun post hp => ?_, fun post hp => ?_⟩
    · unfold wX_alloc_52
      exact ⟨p + 1, hX1 _ (p + 1) (by omega) ⟨130, hX2 _ 130 (by omega) (br_f hF (gb_lowest hl hc (ax_place hc ⟨vp_in_nI (by omega) (by omega), nm_r (e' := upd ro r (nI c)) (by rw [nI_clamp (by omega)]) hp⟩)))⟩⟩
    · refine ⟨p + 1, hY1 rfl post (nI r) (nI s) x3 (p + 1) (by omega) ⟨130, hY2 post (nI r) (nI s) x3 130 (by omega) ⟨n + 1, ?_⟩⟩⟩
      rw [← av_dn n4]
      exact ay_120 n64 hS2 hcn hsc hlo (by omega) hp n (-1) (by omega) (fun z => by omega) (n + 1) (by omega)
end
theorem i_vc_alloc {k : Nat} {u : SX} {v : SY} (I : i_Rel k u v) (hk : k + 4 ≤ 2052) (v1 : Int32) (v2 : Int32) (v3 : Int32) : wpX_alloc (fun r u' => wpY_alloc (fun r' v' => r' = r ∧ i_Rel (k + 4) u' v') v v1 v2 v3) u v1 v2 v3 := by
  refine zz_el (P := fun u v => wpX_alloc (fun r u' => wpY_alloc (fun r' v' => r' = r ∧ i_Rel (k + 4) u' v') v v1 v2 v3) u v1 v2 v3) ?_ I
  intro n m p tr F fc ph mL sp cy fr ns M G st shx da se li ro wx po shy dm re wy hA
  have R : i_Rel (k + 4) (nI n, nI m, tr, nI p, F, fc, ph, mL, sp, cy, fr, ns, M, G, st, shx, da, se, li, ro, wx) (nI n, nI m, tr, nI p, ph, mL, po, cy, fr, ns, shy, se, da, li, dm, re, ro, wy) := zz_mk hA
  have hA' := hA
  obtain ⟨⟨n4, n64, m2, m16, p16⟩, hY, hF, hI, hP⟩ := hA'
  unfold wpX_alloc wpY_alloc
  rcases rg_ix v1 (m := m) (by omega) with h | ⟨r, hr, rfl⟩
  · exact xi_rb h (br_t rfl (yi_rb h (br_t rfl ⟨rfl, R⟩)))
  by_cases h0 : v2 < 0
  · exact xi_ro m16 hr (br_f xs_10 (br_t h0 (yi_ro m16 hr (br_f xs_10 (br_t h0 ⟨rfl, R⟩)))))
  by_cases h4 : v2 ≤ 4
  · obtain ⟨s, hs, rfl⟩ := nI_of2 (n := 4) (by decide) h0 h4
    by_cases hph : ph = 0
    · by_cases ht : tr ≤ 0
      · obtain ⟨a, u', v', R', hX, hY⟩ := av_rest (n := n) (m := m) (p := p) (tr := tr) (F := F) (fc := fc) (ph := ph) (mL := mL) (sp := sp) (cy := cy) (fr := fr) (ns := ns) (M := M) (G := G) (st := st) (shx := shx) (da := da) (se := se) (li := li) (ro := ro) (wx := wx) (po := po) (shy := shy) (dm := dm) (re := re) (wy := wy) (k := k + 4) (x3 := v3) hA hr hs
        exact xi_ro m16 hr (br_f xs_10 (br_f h0 (br_t h4 (br_t hph (br_t ht (hX _ (yi_ro m16 hr (br_f xs_10 (br_f h0 (br_t h4 (br_t hph (br_t ht (hY _ ⟨rfl, R'⟩)))))))))))))
      · have hfc := hF.2.2
        subst hfc
        by_cases htf : tr ≤ nI (cn_f n shy)
        · obtain ⟨a, u', v', R', hX, hY⟩ := av_rest (n := n) (m := m) (p := p) (tr := tr) (F := F) (fc := nI (cn_f n shy)) (ph := ph) (mL := mL) (sp := sp) (cy := cy) (fr := fr) (ns := ns) (M := M) (G := G) (st := st) (shx := shx) (da := da) (se := se) (li := li) (ro := ro) (wx := wx) (po := po) (shy := shy) (dm := dm) (re := re) (wy := wy) (k := k + 4) (x3 := v3) hA hr hs
          exact xi_ro m16 hr (br_f xs_10 (br_f h0 (br_t h4 (br_t hph (br_f ht (br_t htf (hX _ (yi_ro m16 hr (br_f xs_10 (br_f h0 (br_t h4 (br_t hph (br_f ht (yc_count n64 hA.2.1.1 (br_t htf (hY _ ⟨rfl, R'⟩))))))))))))))))
        · obtain ⟨q, M1, G1, st1, wx1, dm1, re1, wy1, hA1, hX1, hY1⟩ := sn_snap (n := n) (m := m) (p := p) (tr := tr) (F := F) (fc := nI (cn_f n shy)) (ph := ph) (mL := mL) (sp := sp) (cy := cy) (fr := fr) (ns := ns) (M := M) (G := G) (st := st) (shx := shx) (da := da) (se := se) (li := li) (ro := ro) (wx := wx) (po := po) (shy := shy) (dm := dm) (re := re) (wy := wy) hA hph
          obtain ⟨a, u', v', R', hX, hY⟩ := av_rest (n := n) (m := m) (p := p) (tr := tr) (F := F) (fc := nI (cn_f n shy)) (ph := 1) (mL := nI q) (sp := sp) (cy := cy) (fr := 0) (ns := ns) (M := M1) (G := G1) (st := st1) (shx := shx) (da := da) (se := se) (li := li) (ro := ro) (wx := wx1) (po := po) (shy := shy) (dm := dm1) (re := re1) (wy := wy1) (k := k + 4) (x3 := v3) hA1 hr hs
          exact xi_ro m16 hr (br_f xs_10 (br_f h0 (br_t h4 (br_t hph (br_f ht (br_f htf (hX1 _ (hX _ (yi_ro m16 hr (br_f xs_10 (br_f h0 (br_t h4 (br_t hph (br_f ht (yc_count n64 hA.2.1.1 (br_f htf (hY1 _ (hY _ ⟨rfl, R'⟩))))))))))))))))))
    · obtain ⟨a, u', v', R', hX, hY⟩ := av_rest (n := n) (m := m) (p := p) (tr := tr) (F := F) (fc := fc) (ph := ph) (mL := mL) (sp := sp) (cy := cy) (fr := fr) (ns := ns) (M := M) (G := G) (st := st) (shx := shx) (da := da) (se := se) (li := li) (ro := ro) (wx := wx) (po := po) (shy := shy) (dm := dm) (re := re) (wy := wy) (k := k + 4) (x3 := v3) hA hr hs
      exact xi_ro m16 hr (br_f xs_10 (br_f h0 (br_t h4 (br_f hph (hX _ (yi_ro m16 hr (br_f xs_10 (br_f h0 (br_t h4 (br_f hph (hY _ ⟨rfl, R'⟩)))))))))))
  · exact xi_ro m16 hr (br_f xs_10 (br_f h0 (br_f h4 (yi_ro m16 hr (br_f xs_10 (br_f h0 (br_f h4 ⟨rfl, R⟩)))))))
end
section
/-! the constructors -/
def in_fil (k : Nat) : Nat → Int32 := fun j => if j < k then -1 else 0
theorem in_0 : in_fil 0 = (fun _ => 0) := by
  funext j
  exact if_neg (by omega)
theorem in_s (k : Nat) : upd (in_fil k) k (-1) = in_fil (k + 1) := by
  funext j
  show (if j = k then (-1 : Int32) else if j < k then -1 else 0) = if j < k + 1 then -1 else 0
  by_cases e : j = k
  · rw [if_pos e, if_pos (by omega)]
  · rw [if_neg e]
    by_cases z : j < k
    · rw [if_pos z, if_pos (by omega)]
    · rw [if_neg z, if_neg (by omega)]
theorem in_at {k j : Nat} (h : j < k) : in_fil k j = -1 := if_pos h
theorem in_all {q : Nat → Bool} : ∀ k, (∀ i, i < k → q i = true) → cn_c q k = k := by
  intro k
  induction k with
  | zero => intro _; rfl
  | succ k ih =>
    intro h
    show cn_c q k + _ = k + 1
    rw [ih (fun i hi => h i (by omega)), if_pos (h k (by omega))]
theorem in_clamp (x : Int32) (lo hi : Nat) (h : lo ≤ hi) (h64 : hi ≤ 64) : ∃ k, lo ≤ k ∧ k ≤ hi ∧ ∀ A : Int32 → Prop, A (nI k) → ((nI lo ≤ x → ((x ≤ nI hi → A x) ∧ (¬ x ≤ nI hi → A (nI hi)))) ∧ (¬ nI lo ≤ x → A (nI lo))) := by
  by_cases h1 : nI lo ≤ x
  · have h0 : ¬ x < 0 := fun z => nI_pos (n := lo) (by omega) (Int32.lt_of_le_of_lt h1 z)
    obtain ⟨j, hj, rfl⟩ := nI_of h0
    have hlo := (nI_leI (by omega) hj).mp h1
    by_cases h2 : nI j ≤ nI hi
    · have hhi := (nI_leI hj (by omega)).mp h2
      exact ⟨j, hlo, hhi, fun A a => br_t h1 (br_t h2 a)⟩
    · exact ⟨hi, h, by omega, fun A a => br_t h1 (br_f h2 a)⟩
  · exact ⟨lo, by omega, h, fun A a => br_f h1 a⟩
theorem in_cx {x p1 p2 : Int32} {k : Nat} {post : Int32 → Prop} (u : SX) (h : ∀ A : Int32 → Prop, A (nI k) → ((p1 ≤ x → ((x ≤ p2 → A x) ∧ (¬ x ≤ p2 → A p2))) ∧ (¬ p1 ≤ x → A p1))) (hp : post (nI k)) : wpX_clamp post u x p1 p2 := by
  obtain ⟨f0, f1, f2, f3, f4, f5, f6, f7, f8, f9, f10, f11, f12, f13, f14, a0, a1, a2, a3, a4, a5⟩ := u
  exact h post hp
section
variable {n m p : Nat} {tr : Int32} {F : Int64} {fc ph mL sp cy fr ns : Int32} {M G : Int64} {st : Int32} {shx da se li ro wx : Nat → Int32}
theorem xt_153 : ∀ (d i : Nat), i + d = 256 → ∀ (post : SX → Prop) (N : Nat), d < N → (post (nI n, nI m, tr, nI p, ((-1 : Int64).toUInt64 >>> ((64 - nI n).toInt64.toUInt64 &&& Int64.toUInt64 63)).toInt64, nI n, 0, 0, 0, 0, 0, 1, 0, 0, 1, shx, da, se, in_fil 256, ro, wx)) → wX_init_153 post (nI n) (nI m) tr (nI p) F fc ph mL sp cy fr ns M G st N (nI i) shx da se (in_fil i) ro wx := by
  intro d
  induction d with
  | zero =>
    intro i hi post N hN hp
    obtain ⟨N, rfl⟩ : ∃ k, N = k + 1 := ⟨N - 1, by omega⟩
    obtain rfl : i = 256 := by omega
    exact br_t (nI_le (a := 256) (by omega) (by omega)) (nm_e hp)
  | succ d ih =>
    intro i hi post N hN hp
    obtain ⟨N, rfl⟩ : ∃ k, N = k + 1 := ⟨N - 1, by omega⟩
    exact br_f (nI_ge (b := 256) (by omega) (by omega)) ⟨vp_in_nI (by omega) (by omega), nm_r (e' := in_fil (i + 1)) (by rw [nI_clamp (by omega)]; exact in_s i) (nm_r (nI_1 i) (ih (i + 1) (by omega) post N (by omega) hp))⟩
theorem xt_129 : ∀ (d i : Nat), i + d = 8 → ∀ (post : SX → Prop) (N : Nat), d < N → (∃ j, wX_init_153 post (nI n) (nI m) tr (nI p) F fc ph mL sp cy fr ns M G st j 0 shx da se li ro (in_fil 8)) → wX_init_129 post (nI n) (nI m) tr (nI p) F fc ph mL sp cy fr ns M G st N (nI i) shx da se li ro (in_fil i) := by
  intro d
  induction d with
  | zero =>
    intro i hi post N hN hp
    obtain ⟨N, rfl⟩ : ∃ k, N = k + 1 := ⟨N - 1, by omega⟩
    obtain rfl : i = 8 := by omega
    exact br_t (nI_le (a := 8) (by omega) (by omega)) hp
  | succ d ih =>
    intro i hi post N hN hp
    obtain ⟨N, rfl⟩ : ∃ k, N = k + 1 := ⟨N - 1, by omega⟩
    exact br_f (nI_ge (b := 8) (by omega) (by omega)) ⟨vp_in_nI (by omega) (by omega), nm_r (e' := in_fil (i + 1)) (by rw [nI_clamp (by omega)]; exact in_s i) (nm_r (nI_1 i) (ih (i + 1) (by omega) post N (by omega) hp))⟩
theorem xt_105 : ∀ (d i : Nat), i + d = 16 → ∀ (post : SX → Prop) (N : Nat), d < N → (∃ j, wX_init_129 post (nI n) (nI m) tr (nI p) F fc ph mL sp cy fr ns M G st j 0 shx da se li (in_fil 16) wx) → wX_init_105 post (nI n) (nI m) tr (nI p) F fc ph mL sp cy fr ns M G st N (nI i) shx da se li (in_fil i) wx := by
  intro d
  induction d with
  | zero =>
    intro i hi post N hN hp
    obtain ⟨N, rfl⟩ : ∃ k, N = k + 1 := ⟨N - 1, by omega⟩
    obtain rfl : i = 16 := by omega
    exact br_t (nI_le (a := 16) (by omega) (by omega)) hp
  | succ d ih =>
    intro i hi post N hN hp
    obtain ⟨N, rfl⟩ : ∃ k, N = k + 1 := ⟨N - 1, by omega⟩
    exact br_f (nI_ge (b := 16) (by omega) (by omega)) ⟨vp_in_nI (by omega) (by omega), nm_r (e' := in_fil (i + 1)) (by rw [nI_clamp (by omega)]; exact in_s i) (nm_r (nI_1 i) (ih (i + 1) (by omega) post N (by omega) hp))⟩
end
section
variable {n m p : Nat} {tr : Int32} {ph mL po cy fr ns : Int32} {shy se da li dm re ro wy : Nat → Int32}
theorem yt_246 : ∀ (d i : Nat), i + d = 8 → ∀ (post : SY → Prop) (N : Nat), d < N → (post (nI n, nI m, tr, nI p, 0, mL, po, cy, fr, 1, shy, se, da, li, dm, re, ro, in_fil 8)) → wY_init_246 post (nI n) (nI m) tr (nI p) ph mL po cy fr ns N (nI i) shy se da li dm re ro (in_fil i) := by
  intro d
  induction d with
  | zero =>
    intro i hi post N hN hp
    obtain ⟨N, rfl⟩ : ∃ k, N = k + 1 := ⟨N - 1, by omega⟩
    obtain rfl : i = 8 := by omega
    exact br_t (nI_le (a := 8) (by omega) (by omega)) hp
  | succ d ih =>
    intro i hi post N hN hp
    obtain ⟨N, rfl⟩ : ∃ k, N = k + 1 := ⟨N - 1, by omega⟩
    exact br_f (nI_ge (b := 8) (by omega) (by omega)) ⟨vp_in_nI (by omega) (by omega), nm_r (e' := in_fil (i + 1)) (by rw [nI_clamp (by omega)]; exact in_s i) (nm_r (nI_1 i) (ih (i + 1) (by omega) post N (by omega) hp))⟩
theorem yt_222 : ∀ (d i : Nat), i + d = 16 → ∀ (post : SY → Prop) (N : Nat), d < N → (∃ j, wY_init_246 post (nI n) (nI m) tr (nI p) ph mL po cy fr ns j 0 shy se da li dm re (in_fil 16) wy) → wY_init_222 post (nI n) (nI m) tr (nI p) ph mL po cy fr ns N (nI i) shy se da li dm re (in_fil i) wy := by
  intro d
  induction d with
  | zero =>
    intro i hi post N hN hp
    obtain ⟨N, rfl⟩ : ∃ k, N = k + 1 := ⟨N - 1, by omega⟩
    obtain rfl : i = 16 := by omega
    exact br_t (nI_le (a := 16) (by omega) (by omega)) hp
  | succ d ih =>
    intro i hi post N hN hp
    obtain ⟨N, rfl⟩ : ∃ k, N = k + 1 := ⟨N - 1, by omega⟩
    exact br_f (nI_ge (b := 16) (by omega) (by omega)) ⟨vp_in_nI (by omega) (by omega), nm_r (e' := in_fil (i + 1)) (by rw [nI_clamp (by omega)]; exact in_s i) (nm_r (nI_1 i) (ih (i + 1) (by omega) post N (by omega) hp))⟩
theorem yt_197 : ∀ (d i : Nat), i + d = 256 → ∀ (post : SY → Prop) (N : Nat), d < N → (∃ j, wY_init_222 post (nI n) (nI m) tr (nI p) ph mL po cy fr ns j 0 shy se da (in_fil 256) dm re ro wy) → wY_init_197 post (nI n) (nI m) tr (nI p) ph mL po cy fr ns N (nI i) shy se da (in_fil i) dm re ro wy := by
  intro d
  induction d with
  | zero =>
    intro i hi post N hN hp
    obtain ⟨N, rfl⟩ : ∃ k, N = k + 1 := ⟨N - 1, by omega⟩
    obtain rfl : i = 256 := by omega
    exact br_t (nI_le (a := 256) (by omega) (by omega)) hp
  | succ d ih =>
    intro i hi post N hN hp
    obtain ⟨N, rfl⟩ : ∃ k, N = k + 1 := ⟨N - 1, by omega⟩
    exact br_f (nI_ge (b := 256) (by omega) (by omega)) ⟨vp_in_nI (by omega) (by omega), nm_r (e' := in_fil (i + 1)) (by rw [nI_clamp (by omega)]; exact in_s i) (nm_r (nI_1 i) (ih (i + 1) (by omega) post N (by omega) hp))⟩
theorem yt_173 : ∀ (d i : Nat), i + d = 64 → ∀ (post : SY → Prop) (N : Nat), d < N → (∃ j, wY_init_197 post (nI n) (nI m) tr (nI p) ph mL po cy fr ns j 0 (in_fil 64) se da li dm re ro wy) → wY_init_173 post (nI n) (nI m) tr (nI p) ph mL po cy fr ns N (nI i) (in_fil i) se da li dm re ro wy := by
  intro d
  induction d with
  | zero =>
    intro i hi post N hN hp
    obtain ⟨N, rfl⟩ : ∃ k, N = k + 1 := ⟨N - 1, by omega⟩
    obtain rfl : i = 64 := by omega
    exact br_t (nI_le (a := 64) (by omega) (by omega)) hp
  | succ d ih =>
    intro i hi post N hN hp
    obtain ⟨N, rfl⟩ : ∃ k, N = k + 1 := ⟨N - 1, by omega⟩
    exact br_f (nI_ge (b := 64) (by omega) (by omega)) ⟨vp_in_nI (by omega) (by omega), nm_r (e' := in_fil (i + 1)) (by rw [nI_clamp (by omega)]; exact in_s i) (nm_r (nI_1 i) (ih (i + 1) (by omega) post N (by omega) hp))⟩
end
theorem in_A {n m p : Nat} (h : hp_N n m p) : hp_A n m p (((-1 : Int64).toUInt64 >>> ((64 - nI n).toInt64.toUInt64 &&& Int64.toUInt64 63)).toInt64) (nI n) 0 0 0 0 0 1 (fun _ => 0) (in_fil 256) (in_fil 16) (in_fil 8) 0 (in_fil 64) (fun _ => 0) (in_fil 8) := by
  have n64 := h.2.1
  have m16 := h.2.2.2.1
  have hno : ∀ c, ¬ hp_L n (in_fil 64) (fun _ => 0) c := fun c hc => hc.2.1 (in_at (by have := hc.1; omega))
  have h0 : ∀ c, gb_t (0 : Int64) c = true → False := fun c z => by rw [gb_0] at z; exact absurd z (by decide)
  refine ⟨h, ⟨fun c hc => Or.inl (in_at (by omega)), fun r hr => Or.inl (in_at (by omega)), fun c hc => absurd hc (hno c), fun w hw => Or.inl (in_at hw)⟩, ⟨fun c => ?_, fun c hc z => absurd (in_at (by omega)) z, ?_⟩, ⟨⟨fun c z => (h0 c z).elim, fun c z => z, mk_Tf (fun c hc => absurd hc (hno c))⟩, Or.inl ⟨rfl, rfl, fun w hw => rfl⟩⟩, Or.inl ⟨rfl, rfl⟩⟩
  · rw [gb_full h.1 n64]
    exact ⟨fun z => ⟨z, in_at (by omega)⟩, fun z => z.1⟩
  · refine congrArg nI ?_
    unfold cn_f
    exact (in_all n (fun i hi => decide_eq_true (in_at (by omega)))).symm
theorem in_X {n m p t : Nat} {post : SX → Prop} (hp : post (nI n, nI m, nI t, nI p, ((-1 : Int64).toUInt64 >>> ((64 - nI n).toInt64.toUInt64 &&& Int64.toUInt64 63)).toInt64, nI n, 0, 0, 0, 0, 0, 1, 0, 0, 1, fun _ => 0, fun _ => 0, fun _ => 0, in_fil 256, in_fil 16, in_fil 8)) :
    ∃ j, wX_init_105 post (nI n) (nI m) (nI t) (nI p) 0 0 0 0 0 0 0 0 0 0 0 j 0 (fun _ => 0) (fun _ => 0) (fun _ => 0) (fun _ => 0) (fun _ => 0) (fun _ => 0) := by
  have t1 := xt_153 (n := n) (m := m) (p := p) (tr := nI t) (F := 0) (fc := 0) (ph := 0) (mL := 0) (sp := 0) (cy := 0) (fr := 0) (ns := 0) (M := 0) (G := 0) (st := 0) (shx := fun _ => 0) (da := fun _ => 0) (se := fun _ => 0) (ro := in_fil 16) (wx := in_fil 8) 256 0 rfl post 257 (by omega) hp
  have t2 := xt_129 (n := n) (m := m) (p := p) (tr := nI t) (F := 0) (fc := 0) (ph := 0) (mL := 0) (sp := 0) (cy := 0) (fr := 0) (ns := 0) (M := 0) (G := 0) (st := 0) (shx := fun _ => 0) (da := fun _ => 0) (se := fun _ => 0) (li := in_fil 0) (ro := in_fil 16) 8 0 rfl post 9 (by omega) ⟨257, t1⟩
  have t3 := xt_105 (n := n) (m := m) (p := p) (tr := nI t) (F := 0) (fc := 0) (ph := 0) (mL := 0) (sp := 0) (cy := 0) (fr := 0) (ns := 0) (M := 0) (G := 0) (st := 0) (shx := fun _ => 0) (da := fun _ => 0) (se := fun _ => 0) (li := in_fil 0) (wx := in_fil 0) 16 0 rfl post 17 (by omega) ⟨9, t2⟩
  rw [in_0] at t3
  exact ⟨17, t3⟩
theorem in_Y {n m p t : Nat} {post : SY → Prop} (hp : post (nI n, nI m, nI t, nI p, 0, 0, 0, 0, 0, 1, in_fil 64, fun _ => 0, fun _ => 0, in_fil 256, fun _ => 0, fun _ => 0, in_fil 16, in_fil 8)) :
    ∃ j, wY_init_173 post (nI n) (nI m) (nI t) (nI p) 0 0 0 0 0 0 j 0 (fun _ => 0) (fun _ => 0) (fun _ => 0) (fun _ => 0) (fun _ => 0) (fun _ => 0) (fun _ => 0) (fun _ => 0) := by
  have t1 := yt_246 (n := n) (m := m) (p := p) (tr := nI t) (ph := 0) (mL := 0) (po := 0) (cy := 0) (fr := 0) (ns := 0) (shy := in_fil 64) (se := fun _ => 0) (da := fun _ => 0) (li := in_fil 256) (dm := fun _ => 0) (re := fun _ => 0) (ro := in_fil 16) 8 0 rfl post 9 (by omega) hp
  have t2 := yt_222 (n := n) (m := m) (p := p) (tr := nI t) (ph := 0) (mL := 0) (po := 0) (cy := 0) (fr := 0) (ns := 0) (shy := in_fil 64) (se := fun _ => 0) (da := fun _ => 0) (li := in_fil 256) (dm := fun _ => 0) (re := fun _ => 0) (wy := in_fil 0) 16 0 rfl post 17 (by omega) ⟨9, t1⟩
  have t3 := yt_197 (n := n) (m := m) (p := p) (tr := nI t) (ph := 0) (mL := 0) (po := 0) (cy := 0) (fr := 0) (ns := 0) (shy := in_fil 64) (se := fun _ => 0) (da := fun _ => 0) (dm := fun _ => 0) (re := fun _ => 0) (ro := in_fil 0) (wy := in_fil 0) 256 0 rfl post 257 (by omega) ⟨17, t2⟩
  have t4 := yt_173 (n := n) (m := m) (p := p) (tr := nI t) (ph := 0) (mL := 0) (po := 0) (cy := 0) (fr := 0) (ns := 0) (se := fun _ => 0) (da := fun _ => 0) (li := in_fil 0) (dm := fun _ => 0) (re := fun _ => 0) (ro := in_fil 0) (wy := in_fil 0) 64 0 rfl post 65 (by omega) ⟨257, t3⟩
  rw [in_0] at t4
  exact ⟨65, t4⟩
theorem i_vc0 (k0 : Int32) (k1 : Int32) (k2 : Int32) (k3 : Int32) : wpX_init (fun u => wpY_init (fun v => i_Rel 4 u v) k0 k1 k2 k3) k0 k1 k2 k3 := by
  obtain ⟨n, n4, n64, cn⟩ := in_clamp k0 4 64 (by omega) (by omega)
  obtain ⟨m, m2, m16, cm⟩ := in_clamp k1 2 16 (by omega) (by omega)
  obtain ⟨t, t0, t64, ct⟩ := in_clamp k2 0 64 (by omega) (by omega)
  obtain ⟨p, p0, p16, cp⟩ := in_clamp k3 0 16 (by omega) (by omega)
  unfold wpX_init
  refine in_cx _ cn (in_cx _ cm (in_cx _ ct (in_cx _ cp (in_X ?_))))
  unfold wpY_init
  refine cn (fun z => wY_init_91 _ k1 k2 k3 z 0 0 0 0 0 0 0 0 0 0 (fun _ => 0) (fun _ => 0) (fun _ => 0) (fun _ => 0) (fun _ => 0) (fun _ => 0) (fun _ => 0) (fun _ => 0)) ?_
  unfold wY_init_91
  refine cm (fun z => wY_init_116 _ k2 k3 z (nI n) 0 0 0 0 0 0 0 0 0 (fun _ => 0) (fun _ => 0) (fun _ => 0) (fun _ => 0) (fun _ => 0) (fun _ => 0) (fun _ => 0) (fun _ => 0)) ?_
  unfold wY_init_116
  refine ct (fun z => wY_init_140 _ k3 z (nI n) (nI m) 0 0 0 0 0 0 0 0 (fun _ => 0) (fun _ => 0) (fun _ => 0) (fun _ => 0) (fun _ => 0) (fun _ => 0) (fun _ => 0) (fun _ => 0)) ?_
  unfold wY_init_140
  refine cp (fun z => ∃ j, wY_init_173 _ (nI n) (nI m) (nI t) z 0 0 0 0 0 0 j 0 (fun _ => 0) (fun _ => 0) (fun _ => 0) (fun _ => 0) (fun _ => 0) (fun _ => 0) (fun _ => 0) (fun _ => 0)) ?_
  exact in_Y (zz_mk (in_A ⟨n4, n64, m2, m16, p16⟩))
end
