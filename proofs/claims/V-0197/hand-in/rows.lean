section
/-! rows of the kit to paste (PURE-ROWS, BITS) -/
theorem pk_us {f : Nat → Int32} {k : Nat} {x : Int32} : upd f k x k = x := if_pos rfl
theorem pk_un {f : Nat → Int32} {k j : Nat} {x : Int32} (h : j ≠ k) : upd f k x j = f j := if_neg h
theorem pk_uLs {f : Nat → Int64} {k : Nat} {x : Int64} : vp_updL f k x k = x := if_pos rfl
theorem pk_uLn {f : Nat → Int64} {k j : Nat} {x : Int64} (h : j ≠ k) : vp_updL f k x j = f j := if_neg h
theorem pk_sub {a b : Nat} (h : b ≤ a) : nI a - nI b = nI (a - b) := by
  obtain ⟨c, rfl⟩ : ∃ c, a = c + b := ⟨a - b, by omega⟩
  rw [← nI_add, Int32.add_sub_cancel, Nat.add_sub_cancel]
theorem pk_m1 (n : Nat) : nI (n + 1) + (-1) = nI n := by
  rw [← nI_1, Int32.add_assoc, show (1 : Int32) + (-1) = 0 from rfl, Int32.add_zero]
theorem pk_mul (a b : Nat) : nI a * nI b = nI (a * b) := (Int32.ofNat_mul a b).symm
theorem pk_ix (x : Int32) {n : Nat} (hn : n < 2 ^ 31) : x < 0 ∨ nI n ≤ x ∨ ∃ j : Nat, j < n ∧ x = nI j := by
  by_cases h : x < 0
  · exact Or.inl h
  · obtain ⟨j, hj, rfl⟩ := nI_of h
    by_cases h2 : j < n
    · exact Or.inr (Or.inr ⟨j, h2, rfl⟩)
    · exact Or.inr (Or.inl (nI_le (by omega) hj))
theorem pk_le {x y : Int32} {A B : Prop} (a b : Nat) (f : a ≤ b → A) (g : b < a → B) (hx : x = nI a := by rfl) (hy : y = nI b := by rfl) (ha : a < 2 ^ 31 := by omega) (hb : b < 2 ^ 31 := by omega) : (x ≤ y → A) ∧ (¬ x ≤ y → B) := by
  subst hx hy
  rw [nI_leI ha hb]
  exact ⟨f, fun z => g (by omega)⟩
theorem pk_lt {x y : Int32} {A B : Prop} (a b : Nat) (f : a < b → A) (g : b ≤ a → B) (hx : x = nI a := by rfl) (hy : y = nI b := by rfl) (ha : a < 2 ^ 31 := by omega) (hb : b < 2 ^ 31 := by omega) : (x < y → A) ∧ (¬ x < y → B) := by
  subst hx hy
  rw [nI_ltI ha hb]
  exact ⟨f, fun z => g (by omega)⟩
theorem pk_eq {x y : Int32} {A B : Prop} (a b : Nat) (f : a = b → A) (g : a ≠ b → B) (hx : x = nI a := by rfl) (hy : y = nI b := by rfl) (ha : a < 2 ^ 31 := by omega) (hb : b < 2 ^ 31 := by omega) : (x = y → A) ∧ (¬ x = y → B) := by
  subst hx hy
  rw [nI_eq ha hb]
  exact ⟨f, g⟩
theorem pk_in {x : Int32} (n N : Nat) (h : n < N) (hx : x = nI n := by rfl) (hN : N < 2 ^ 31 := by omega) : vp_in x N := by
  subst hx
  exact vp_in_nI h hN
theorem pk_cl {x : Int32} (n : Nat) (hx : x = nI n := by rfl) (h : n < 2 ^ 31 := by omega) : x.toNatClampNeg = n := by
  subst hx
  exact nI_clamp h
theorem pk_tn {n : Nat} (h : n < 2 ^ 32) : (nI n).toBitVec.toNat = n := Nat.mod_eq_of_lt h
theorem pk_shr (a s : Int32) (k : Nat) (hs : (s.toBitVec.smod 32).toNat = k) : (a >>> s).toInt = a.toInt >>> k := by
  show (a.toBitVec.sshiftRight (s.toBitVec.smod 32).toNat).toInt = _
  rw [hs, BitVec.toInt_sshiftRight]
  rfl
theorem pk_shrN {n : Nat} (h : n < 2 ^ 31) (s : Int32) (k : Nat) (hs : (s.toBitVec.smod 32).toNat = k) : nI n >>> s = nI (n / 2 ^ k) := by
  apply Int32.toInt_inj.mp
  have h2 : n / 2 ^ k ≤ n := Nat.div_le_self _ _
  rw [pk_shr _ _ k hs, nI_toInt h, nI_toInt (by omega), Int.shiftRight_eq_div_pow]
  rfl
theorem pk_least (P : Nat → Prop) (h : ∃ k, P k) : ∃ k, P k ∧ ∀ j, j < k → ¬ P j := by
  obtain ⟨k, hk⟩ := h
  induction k using Nat.strongRecOn with
  | ind k ih =>
    by_cases e : ∃ j, j < k ∧ P j
    · obtain ⟨j, hj, pj⟩ := e
      exact ih j hj pj
    · exact ⟨k, hk, fun j hj pj => e ⟨j, hj, pj⟩⟩
theorem ts_nf {x : Bool} (h : ¬ x = false) : x = true := by cases x <;> first | rfl | exact absurd rfl h
theorem ts_nt {x : Bool} (h : ¬ x = true) : x = false := by cases x <;> first | rfl | exact absurd rfl h
theorem ts_bit {w : Int64} {s : UInt64} {j : Nat} (hj : j < 64) (hs : s.toNat = j) : ((w.toUInt64 >>> s).toInt64 &&& 1) = 0 ↔ w.toBitVec.getLsbD j = false := by
  have e : (w.toUInt64 >>> s).toInt64.toBitVec = w.toBitVec >>> j := by
    apply BitVec.eq_of_toNat_eq
    show (w.toUInt64 >>> s).toNat = _
    rw [UInt64.toNat_shiftRight, hs, Nat.mod_eq_of_lt hj, BitVec.toNat_ushiftRight]
    rfl
  rw [← Int64.toBitVec_inj, Int64.toBitVec_and, e]
  show w.toBitVec >>> j &&& 1#64 = 0#64 ↔ _
  constructor
  · intro h
    have t := congrArg (fun x => x.getLsbD 0) h
    simpa using t
  · intro h
    apply BitVec.eq_of_getLsbD_eq
    intro i hi
    cases i with
    | zero => simp [h]
    | succ i => simp
theorem wb_tb (n : Nat) : (lN n).toBitVec = BitVec.ofNat 64 n := rfl
theorem wb_inj {a b : Int64} (h : a.toBitVec = b.toBitVec) : a = b := Int64.toBitVec_inj.mp h
theorem wb_tn {n : Nat} (h : n < 2 ^ 64) : (lN n).toBitVec.toNat = n := by rw [wb_tb, BitVec.toNat_ofNat, Nat.mod_eq_of_lt h]
theorem wb_of (x : Int64) : ∃ n, n < 2 ^ 64 ∧ x = lN n := ⟨x.toBitVec.toNat, x.toBitVec.isLt, wb_inj (by rw [wb_tb]; simp)⟩
theorem wb_c : ∀ k, k < 64 → ((nI k).toInt64 &&& 63) = lN k := by decide +kernel
theorem wb_cu : ∀ k, k < 64 → ((nI k).toInt64.toUInt64 &&& Int64.toUInt64 63) = UInt64.ofNat k := by decide +kernel
theorem wb_sm : ∀ k, k < 64 → (BitVec.ofNat 64 k).smod 64 = BitVec.ofNat 64 k := by decide +kernel
theorem wb_shr {n k : Nat} (hn : n < 2 ^ 64) (hk : k < 64) : ((lN n).toUInt64 >>> ((nI k).toInt64.toUInt64 &&& Int64.toUInt64 63)).toInt64 = lN (n / 2 ^ k) := by
  rw [wb_cu k hk]
  apply wb_inj
  apply BitVec.eq_of_toNat_eq
  show ((lN n).toUInt64 >>> UInt64.ofNat k).toNat = (BitVec.ofNat 64 _).toNat
  have h1 : (UInt64.ofNat k).toNat = k := by
    show (BitVec.ofNat 64 k).toNat = k
    rw [BitVec.toNat_ofNat, Nat.mod_eq_of_lt (by omega)]
  have h2 : (lN n).toUInt64.toNat = n := wb_tn hn
  rw [UInt64.toNat_shiftRight, h1, h2, Nat.mod_eq_of_lt hk, Nat.shiftRight_eq_div_pow, BitVec.toNat_ofNat, Nat.mod_eq_of_lt (Nat.lt_of_le_of_lt (Nat.div_le_self _ _) hn)]
end
section
/-- bit s of a long -/
def ml_b (x : Int64) (s : Nat) : Bool := x.toBitVec.getLsbD s
theorem ml_or (x y : Int64) (s : Nat) : ml_b (x ||| y) s = (ml_b x s || ml_b y s) := by
  unfold ml_b; rw [Int64.toBitVec_or, BitVec.getLsbD_or]
theorem ml_and (x y : Int64) (s : Nat) : ml_b (x &&& y) s = (ml_b x s && ml_b y s) := by
  unfold ml_b; rw [Int64.toBitVec_and, BitVec.getLsbD_and]
theorem ml_not (x : Int64) {s : Nat} (h : s < 64) : ml_b (x ^^^ (-1)) s = !ml_b x s := by
  unfold ml_b
  rw [Int64.toBitVec_xor, show (-1 : Int64).toBitVec = BitVec.allOnes 64 from by decide, BitVec.getLsbD_xor, BitVec.getLsbD_allOnes, decide_eq_true h, Bool.xor_true]
theorem ml_0 (s : Nat) : ml_b 0 s = false := by
  show (0#64).getLsbD s = false
  simp
theorem ml_big (x : Int64) {s : Nat} (h : 64 ≤ s) : ml_b x s = false := BitVec.getLsbD_of_ge _ _ h
theorem ml_lt {x : Int64} {s : Nat} (h : ml_b x s = true) : s < 64 := by
  apply Classical.byContradiction
  intro z
  rw [ml_big x (by omega)] at h
  cases h
theorem ml_z {x : Int64} : x = 0 ↔ ∀ s, s < 64 → ml_b x s = false := by
  constructor
  · intro h s _
    rw [h]; exact ml_0 s
  · intro h
    apply wb_inj
    apply BitVec.eq_of_getLsbD_eq
    intro i hi
    have t := h i hi
    unfold ml_b at t
    rw [t]
    exact (ml_0 i).symm
theorem ml_nz {x : Int64} : ¬ x = 0 ↔ ∃ s, s < 64 ∧ ml_b x s = true := by
  constructor
  · intro h
    apply Classical.byContradiction
    intro z
    exact h (ml_z.mpr fun s hs => ts_nt fun t => z ⟨s, hs, t⟩)
  · rintro ⟨s, hs, t⟩ e
    rw [ml_z.mp e s hs] at t
    cases t
theorem ml_1 : ∀ n, n < 64 → ∀ s, s < 64 → ml_b ((1 : Int64) <<< ((nI n).toInt64 &&& 63)) s = decide (s = n) := by decide +kernel
theorem ml_m2 : ∀ n, n < 63 → ∀ s, s < 64 → ml_b ((-2 : Int64) <<< ((nI n).toInt64 &&& 63)) s = decide (n < s) := by decide +kernel
theorem ml_has {x : Int64} {n : Nat} (hn : n < 64) : (((x.toUInt64 >>> ((nI n).toInt64.toUInt64 &&& Int64.toUInt64 63)).toInt64) &&& 1) = 0 ↔ ml_b x n = false := by
  rw [wb_cu n hn]
  exact ts_bit hn (Nat.mod_eq_of_lt (show n < 2 ^ 64 by omega))
/-- a bit put in -/
theorem ml_set {x : Int64} {n s : Nat} (hn : n < 64) : ml_b (x ||| ((1 : Int64) <<< ((nI n).toInt64 &&& 63))) s = true ↔ ml_b x s = true ∨ s = n := by
  by_cases hs : s < 64
  · rw [ml_or, ml_1 n hn s hs, Bool.or_eq_true, decide_eq_true_eq]
  · rw [ml_big _ (by omega), ml_big x (by omega)]
    constructor
    · intro h; cases h
    · rintro (h | h)
      · cases h
      · omega
theorem ml_one {n s : Nat} (hn : n < 64) : ml_b ((1 : Int64) <<< ((nI n).toInt64 &&& 63)) s = true ↔ s = n := by
  by_cases hs : s < 64
  · rw [ml_1 n hn s hs, decide_eq_true_eq]
  · rw [ml_big _ (by omega)]
    constructor
    · intro h; cases h
    · intro h; omega
theorem ml_diff {x y : Int64} {s : Nat} : ml_b (x &&& (y ^^^ (-1))) s = true ↔ ml_b x s = true ∧ ¬ ml_b y s = true := by
  by_cases hs : s < 64
  · rw [ml_and, ml_not _ hs]
    cases ml_b x s <;> cases ml_b y s <;> decide
  · rw [ml_big _ (by omega), ml_big x (by omega)]
    constructor
    · intro h; cases h
    · rintro ⟨h, _⟩; exact h
theorem ml_clr {x : Int64} {n s : Nat} (hn : n < 64) : ml_b (x &&& (((1 : Int64) <<< ((nI n).toInt64 &&& 63)) ^^^ (-1))) s = true ↔ ml_b x s = true ∧ s ≠ n := by
  rw [ml_diff, ml_one hn]
theorem ml_orI {x y : Int64} {s : Nat} : ml_b (x ||| y) s = true ↔ ml_b x s = true ∨ ml_b y s = true := by
  rw [ml_or, Bool.or_eq_true]
theorem ml_andI {x y : Int64} {s : Nat} : ml_b (x &&& y) s = true ↔ ml_b x s = true ∧ ml_b y s = true := by
  rw [ml_and, Bool.and_eq_true]
theorem ml_above {x : Int64} {n s : Nat} (hn : n < 63) : ml_b (x &&& ((-2 : Int64) <<< ((nI n).toInt64 &&& 63))) s = true ↔ ml_b x s = true ∧ n < s := by
  rw [ml_andI]
  by_cases hs : s < 64
  · rw [ml_m2 n hn s hs, decide_eq_true_eq]
  · rw [ml_big x (by omega)]
    constructor <;> (rintro ⟨h, _⟩; cases h)
theorem ml_neg {x : Int64} {s : Nat} : ml_b (x &&& (-x)) s = true ↔ ml_b x s = true ∧ ∀ j, j < s → ml_b x j = false := by
  rw [ml_andI]
  have e : ml_b (-x) s = (ml_b x s ^^ decide (s < 64) && decide (∃ j < s, ml_b x j = true)) := by
    unfold ml_b
    rw [Int64.toBitVec_neg, BitVec.getLsbD_neg]
  constructor
  · rintro ⟨h1, h2⟩
    refine ⟨h1, fun j hj => ts_nt fun t => ?_⟩
    rw [e, h1, decide_eq_true (ml_lt h1), decide_eq_true (show ∃ j < s, ml_b x j = true from ⟨j, hj, t⟩)] at h2
    cases h2
  · rintro ⟨h1, h2⟩
    refine ⟨h1, ?_⟩
    rw [e, h1, decide_eq_false (show ¬ ∃ j < s, ml_b x j = true from fun ⟨j, hj, t⟩ => by rw [h2 j hj] at t; cases t)]
    simp
theorem ml_tb {m s : Nat} (h : m < 2 ^ 64) : ml_b (lN m) s = m.testBit s := by
  show (lN m).toBitVec.toNat.testBit s = _
  rw [wb_tn h]
theorem ml_l0 {q : Nat} (hq : q < 2 ^ 64) : lN q = 0 ↔ q = 0 := by
  constructor
  · intro h
    have t : (lN q).toBitVec.toNat = (0 : Int64).toBitVec.toNat := by rw [h]
    rw [wb_tn hq] at t
    exact t
  · intro h; rw [h]; rfl
section
variable {K O M N L h : Nat} {A W C : Int64} {fr us : Int32} {rk rs sp vv ol nw : Nat → Int32} {so rd : Nat → Int64}
/-- one halving pass of the search for the top bit -/
theorem ml_hi (post : Int32 → Prop) : ∀ (j m a : Nat), j ≤ 5 → m < 2 ^ (2 ^ (j + 1)) → (∀ d, d < 2 ^ (j + 1) → (m = 0 → d = 0) → (m ≠ 0 → m / 2 ^ d = 1) → post (nI (a + d))) → wX_highest_9 post (nI K) (nI O) (nI M) (nI N) (nI L) (nI h) A W C fr us rk so rs sp vv rd ol nw (j + 2) (lN m) (nI a) (nI (2 ^ j)) := by
  intro j
  induction j with
  | zero =>
    intro m a _ hm H
    have e1 : nI (2 ^ 0) >>> ((1 : Int32) &&& 31) = nI 0 := by decide
    have hm : m < 4 := hm
    refine br_f (nI_nlt (a := 2 ^ 0) (b := 1) (by omega) (by omega)) ?_
    rw [wb_shr (k := 2 ^ 0) (by omega) (by omega)]
    have z : ∀ q : Nat, q < 2 ^ 64 → (lN q = 0 ↔ q = 0) := fun q hq => ml_l0 hq
    by_cases h0 : m / 2 ^ (2 ^ 0) = 0
    · refine br_t ((z _ (by omega)).mpr h0) (nm_r e1 (br_t (nI_lt (a := 0) (b := 1) (by omega) (by omega)) ?_))
      have := H 0 (by decide) (fun _ => rfl) (fun h => by simp at h0 ⊢; omega)
      exact this
    · refine br_f (fun h => h0 ((z _ (by omega)).mp h)) (nm_e (nm_r (nI_add a (2 ^ 0)) (nm_r e1 (br_t (nI_lt (a := 0) (b := 1) (by omega) (by omega)) ?_))))
      exact H (2 ^ 0) (by decide) (fun h => absurd (by rw [h]) h0) (fun h => by simp at h0 ⊢; omega)
  | succ j ih =>
    intro m a hj hm H
    have hp : 2 ^ (j + 1) ≤ 32 := by
      have : 2 ^ (j + 1) ≤ 2 ^ 5 := Nat.pow_le_pow_right (by decide) (by omega)
      omega
    have h2 : 2 ^ (j + 1 + 1) = 2 ^ (j + 1) + 2 ^ (j + 1) := by rw [Nat.pow_succ]; omega
    have hp1 : 1 ≤ 2 ^ (j + 1) := Nat.one_le_two_pow
    have h64 : m < 2 ^ 64 := Nat.lt_of_lt_of_le hm (Nat.pow_le_pow_right (by decide) (by omega))
    have e1 : nI (2 ^ (j + 1)) >>> ((1 : Int32) &&& 31) = nI (2 ^ j) := by
      rw [pk_shrN (by omega) _ 1 (by decide)]
      exact congrArg nI (by rw [Nat.pow_succ]; omega)
    have hdv : m / 2 ^ (2 ^ (j + 1)) < 2 ^ (2 ^ (j + 1)) := by
      apply Nat.div_lt_of_lt_mul
      rw [← Nat.pow_add, ← h2]; exact hm
    have hdl : m / 2 ^ (2 ^ (j + 1)) ≤ m := Nat.div_le_self _ _
    have z : ∀ q : Nat, q < 2 ^ 64 → (lN q = 0 ↔ q = 0) := fun q hq => ml_l0 hq
    refine br_f (nI_nlt (a := 2 ^ (j + 1)) (b := 1) (by omega) (by omega)) ?_
    rw [wb_shr (k := 2 ^ (j + 1)) h64 (by omega)]
    by_cases h0 : m / 2 ^ (2 ^ (j + 1)) = 0
    · refine br_t ((z _ (by omega)).mpr h0) (nm_r e1 (ih m a (by omega) ?_ fun d hd a1 a2 => H d (by omega) a1 a2))
      have := (Nat.div_eq_zero_iff_lt (Nat.two_pow_pos (2 ^ (j + 1)))).mp h0
      exact this
    · refine br_f (fun h => h0 ((z _ (by omega)).mp h)) (nm_e (nm_r (nI_add a (2 ^ (j + 1))) (nm_r e1 ?_)))
      refine ih _ _ (by omega) hdv fun d hd a1 a2 => ?_
      rw [Nat.add_assoc]
      refine H (2 ^ (j + 1) + d) (by omega) (fun h => absurd (by rw [h]; exact Nat.zero_div _) h0) (fun h => ?_)
      rw [Nat.pow_add, ← Nat.div_div_eq_div_mul]
      exact a2 h0
/-- the top bit -/
theorem mx_high (post : Int32 → Prop) (x : Int64) (H : ∀ a, a < 64 → (x = 0 → a = 0) → (x ≠ 0 → ml_b x a = true ∧ ∀ s, a < s → ml_b x s = false) → post (nI a)) : wpX_highest post (nI K, nI O, nI M, nI N, nI L, nI h, A, W, C, fr, us, rk, so, rs, sp, vv, rd, ol, nw) x := by
  obtain ⟨m, hm, rfl⟩ := wb_of x
  refine Exists.intro 7 (ml_hi post 5 m 0 (by decide) hm fun d hd a1 a2 => ?_)
  have hd : d < 64 := hd
  rw [Nat.zero_add]
  have z : lN m = 0 ↔ m = 0 := ml_l0 hm
  refine H d hd (fun h => a1 (z.mp h)) (fun h => ?_)
  have q := a2 (fun e => h (z.mpr e))
  constructor
  · rw [ml_tb hm, Nat.testBit_eq_decide_div_mod_eq, q]; rfl
  · intro s hs
    rw [ml_tb hm]
    apply Nat.testBit_lt_two_pow
    have h1 : m < 2 ^ (d + 1) := by
      have h2 := (Nat.div_lt_iff_lt_mul (Nat.two_pow_pos d)).mp (show m / 2 ^ d < 2 by omega)
      rw [Nat.pow_succ, Nat.mul_comm]; exact h2
    exact Nat.lt_of_lt_of_le h1 (Nat.pow_le_pow_right (by decide) hs)
/-- the lowest bit -/
theorem mx_low (post : Int32 → Prop) (x : Int64) (H : ∀ a, a < 64 → (x = 0 → a = 0) → (x ≠ 0 → ml_b x a = true ∧ ∀ s, s < a → ml_b x s = false) → post (nI a)) : wpX_lowest post (nI K, nI O, nI M, nI N, nI L, nI h, A, W, C, fr, us, rk, so, rs, sp, vv, rd, ol, nw) x := by
  unfold wpX_lowest
  refine mx_high _ _ fun a ha h1 h2 => H a ha (fun h => h1 ?_) (fun h => ?_)
  · rw [h]; decide
  · have h3 : x &&& -x ≠ 0 := by
      obtain ⟨s, hs, t⟩ := ml_nz.mp h
      obtain ⟨b, hb, hl⟩ := pk_least (fun s => ml_b x s = true) ⟨s, t⟩
      exact ml_nz.mpr ⟨b, ml_lt hb, ml_neg.mpr ⟨hb, fun j hj => ts_nt (hl j hj)⟩⟩
    exact ml_neg.mp (h2 h3).1
end
end
section
/-- sum of f over i, i+1, .. (d of them) -/
def mc_s (f : Nat → Nat) : Nat → Nat → Nat
  | _, 0 => 0
  | i, d + 1 => f i + mc_s f (i + 1) d
/-- how many of i, i+1, .. (d of them) are in p -/
def mc_n (p : Nat → Bool) (i d : Nat) : Nat := mc_s (fun s => if p s = true then 1 else 0) i d
theorem mc_split (f : Nat → Nat) : ∀ d i e, mc_s f i (d + e) = mc_s f i d + mc_s f (i + d) e := by
  intro d
  induction d with
  | zero => intro i e; rw [Nat.zero_add, Nat.add_zero]; exact (Nat.zero_add _).symm
  | succ d ih =>
    intro i e
    rw [show d + 1 + e = (d + e) + 1 by omega]
    show f i + mc_s f (i + 1) (d + e) = f i + mc_s f (i + 1) d + mc_s f (i + (d + 1)) e
    rw [ih, show i + 1 + d = i + (d + 1) by omega, Nat.add_assoc]
theorem mc_last (f : Nat → Nat) (d i : Nat) : mc_s f i (d + 1) = mc_s f i d + f (i + d) := mc_split f d i 1
theorem mc_cong {f g : Nat → Nat} : ∀ d i, (∀ s, i ≤ s → s < i + d → f s = g s) → mc_s f i d = mc_s g i d := by
  intro d
  induction d with
  | zero => intro i _; rfl
  | succ d ih =>
    intro i h
    show f i + _ = g i + _
    rw [h i (by omega) (by omega), ih (i + 1) fun s h1 h2 => h s (by omega) (by omega)]
theorem mc_zero {f : Nat → Nat} : ∀ d i, (∀ s, i ≤ s → s < i + d → f s = 0) → mc_s f i d = 0 := by
  intro d
  induction d with
  | zero => intro i _; rfl
  | succ d ih =>
    intro i h
    show f i + _ = 0
    rw [h i (by omega) (by omega), ih (i + 1) fun s h1 h2 => h s (by omega) (by omega)]
theorem mc_mono {f g : Nat → Nat} : ∀ d i, (∀ s, i ≤ s → s < i + d → f s ≤ g s) → mc_s f i d ≤ mc_s g i d := by
  intro d
  induction d with
  | zero => intro i _; exact Nat.le_refl _
  | succ d ih =>
    intro i h
    have h1 := h i (by omega) (by omega)
    have h2 := ih (i + 1) fun s h1 h2 => h s (by omega) (by omega)
    show f i + _ ≤ g i + _
    omega
theorem mc_one {f g : Nat → Nat} {a : Nat} : ∀ d i, i ≤ a → a < i + d → (∀ s, i ≤ s → s < i + d → s ≠ a → f s = g s) → mc_s f i d + g a = mc_s g i d + f a := by
  intro d
  induction d with
  | zero => intro i h1 h2; omega
  | succ d ih =>
    intro i h1 h2 h
    show f i + mc_s f (i + 1) d + g a = g i + mc_s g (i + 1) d + f a
    by_cases e : i = a
    · subst e
      rw [mc_cong (f := f) (g := g) d (i + 1) fun s a1 a2 => h s (by omega) (by omega) (by omega)]
      omega
    · have h3 := ih (i + 1) (by omega) (by omega) fun s a1 a2 a3 => h s (by omega) (by omega) a3
      have h4 := h i (by omega) (by omega) e
      omega
theorem mc_add (f g : Nat → Nat) : ∀ d i, mc_s (fun s => f s + g s) i d = mc_s f i d + mc_s g i d := by
  intro d
  induction d with
  | zero => intro i; rfl
  | succ d ih =>
    intro i
    show f i + g i + mc_s _ (i + 1) d = f i + mc_s f (i + 1) d + (g i + mc_s g (i + 1) d)
    rw [ih]; omega
theorem mc_swap (f : Nat → Nat → Nat) : ∀ d i e j, mc_s (fun s => mc_s (fun k => f s k) j e) i d = mc_s (fun k => mc_s (fun s => f s k) i d) j e := by
  intro d
  induction d with
  | zero => intro i e j; exact (mc_zero e j fun _ _ _ => rfl).symm
  | succ d ih =>
    intro i e j
    show mc_s (fun k => f i k) j e + mc_s (fun s => mc_s (fun k => f s k) j e) (i + 1) d = mc_s (fun k => f i k + mc_s (fun s => f s k) (i + 1) d) j e
    rw [ih, mc_add]
theorem mc_le (p : Nat → Bool) : ∀ d i, mc_n p i d ≤ d := by
  intro d
  induction d with
  | zero => intro i; exact Nat.le_refl _
  | succ d ih =>
    intro i
    have h := ih (i + 1)
    show (if p i = true then 1 else 0) + mc_n p (i + 1) d ≤ d + 1
    split <;> omega
theorem mc_nt {p : Nat → Bool} {i d : Nat} (h : p i = true) : mc_n p i (d + 1) = 1 + mc_n p (i + 1) d := by
  show (if p i = true then 1 else 0) + mc_n p (i + 1) d = _
  rw [if_pos h]
theorem mc_nf {p : Nat → Bool} {i d : Nat} (h : p i = false) : mc_n p i (d + 1) = mc_n p (i + 1) d := by
  show (if p i = true then 1 else 0) + mc_n p (i + 1) d = _
  rw [if_neg (by rw [h]; decide), Nat.zero_add]
theorem mc_ncong {p q : Nat → Bool} {d i : Nat} (h : ∀ s, i ≤ s → s < i + d → (p s = true ↔ q s = true)) : mc_n p i d = mc_n q i d := by
  apply mc_cong
  intro s h1 h2
  by_cases e : p s = true
  · rw [if_pos e, if_pos ((h s h1 h2).mp e)]
  · rw [if_neg e, if_neg fun z => e ((h s h1 h2).mpr z)]
theorem mc_nmono {p q : Nat → Bool} {d i : Nat} (h : ∀ s, i ≤ s → s < i + d → p s = true → q s = true) : mc_n p i d ≤ mc_n q i d := by
  apply mc_mono
  intro s h1 h2
  by_cases e : p s = true
  · rw [if_pos e, if_pos (h s h1 h2 e)]; exact Nat.le_refl _
  · rw [if_neg e]; exact Nat.zero_le _
/-- two counts, the second one longer and empty there -/
theorem mc_ext {p q : Nat → Bool} {L : Nat} (hL : L ≤ 40) (h : ∀ s, 1 ≤ s → s ≤ L → (p s = true ↔ q s = true)) (h0 : ∀ s, L < s → s ≤ 40 → q s = false) : mc_n p 1 L = mc_n q 1 40 := by
  have e : mc_n q 1 40 = mc_n q 1 L + mc_n q (1 + L) (40 - L) := by
    have := mc_split (fun s => if q s = true then 1 else 0) L 1 (40 - L)
    rw [show L + (40 - L) = 40 by omega] at this
    exact this
  have z : mc_n q (1 + L) (40 - L) = 0 := mc_zero _ _ fun s h1 h2 => if_neg (by rw [h0 s (by omega) (by omega)]; decide)
  rw [e, z, Nat.add_zero]
  exact mc_ncong fun s h1 h2 => h s h1 (by omega)
theorem mc_pos {p : Nat → Bool} {i d a : Nat} (h1 : i ≤ a) (h2 : a < i + d) (h : p a = true) : 0 < mc_n p i d := by
  have e := mc_one (f := fun s => if p s = true then 1 else 0) (g := fun s => if s = a then 0 else if p s = true then 1 else 0) (a := a) d i h1 h2 (fun s _ _ hs => (if_neg hs).symm)
  rw [if_pos rfl, if_pos h] at e
  have e : mc_n p i d + 0 = mc_s (fun s => if s = a then 0 else if p s = true then 1 else 0) i d + 1 := e
  omega
/-- the length of a falling list of stamps is the count of its members -/
theorem mc_len (p : Nat → Bool) : ∀ (d : Nat) (l : List (Nat × Nat)), l.Pairwise (fun a b => b.2 < a.2) → (∀ a ∈ l, a.2 < d) → (∀ s, s < d → ((∃ a, (a, s) ∈ l) ↔ p s = true)) → l.length = mc_n p 0 d := by
  intro d
  induction d with
  | zero =>
    intro l _ hb _
    cases l with
    | nil => rfl
    | cons a l => exact absurd (hb a (List.mem_cons_self ..)) (by omega)
  | succ d ih =>
    intro l hs hb hm
    have el : mc_n p 0 (d + 1) = mc_n p 0 d + (if p (0 + d) = true then 1 else 0) := mc_last _ d 0
    rw [el, Nat.zero_add]
    by_cases e : p d = true
    · obtain ⟨a, ha⟩ := (hm d (by omega)).mpr e
      cases l with
      | nil => cases ha
      | cons b l =>
        rw [List.pairwise_cons] at hs
        have hb2 : b.2 = d := by
          rcases List.mem_cons.mp ha with z | z
          · rw [← z]
          · have h1 := hs.1 _ z
            have h2 := hb b (List.mem_cons_self ..)
            have h1 : d < b.2 := h1
            omega
        have hl : l.length = mc_n p 0 d := by
          refine ih l hs.2 (fun a ha => ?_) (fun s hsd => ?_)
          · have := hs.1 a ha
            omega
          · rw [← hm s (by omega)]
            constructor
            · rintro ⟨a, ha⟩; exact ⟨a, List.mem_cons_of_mem _ ha⟩
            · rintro ⟨a, ha⟩
              rcases List.mem_cons.mp ha with z | z
              · rw [← z] at hb2
                have hb2 : s = d := hb2
                omega
              · exact ⟨a, z⟩
        rw [if_pos e, ← hl]; rfl
    · rw [if_neg e, Nat.add_zero]
      refine ih l hs (fun a ha => ?_) (fun s hsd => hm s (by omega))
      have h1 := hb a ha
      have h2 : a.2 ≠ d := fun z => e ((hm d (by omega)).mp ⟨a.1, by rw [← z]; exact ha⟩)
      omega
/-! ===== chains by links ===== -/
/-- from x the links run through the slots of the list and end in -1 -/
def mh_ch (ol : Nat → Int32) : Int32 → List (Nat × Nat) → Prop
  | x, [] => x = -1
  | x, p :: l => x = nI p.1 ∧ p.1 < 38 ∧ mh_ch ol (ol p.1) l
def mh_top : List (Nat × Nat) → Int32
  | [] => -1
  | p :: _ => nI p.1
theorem mh_topx {ol : Nat → Int32} {x : Int32} {l : List (Nat × Nat)} (h : mh_ch ol x l) : x = mh_top l := by
  cases l with
  | nil => exact h
  | cons p l => exact h.1
theorem mh_cong {ol ol' : Nat → Int32} : ∀ (l : List (Nat × Nat)) (x : Int32), (∀ p ∈ l, ol' p.1 = ol p.1) → mh_ch ol x l → mh_ch ol' x l := by
  intro l
  induction l with
  | nil => intro x _ h; exact h
  | cons p l ih =>
    intro x ha h
    refine ⟨h.1, h.2.1, ?_⟩
    rw [ha p (List.mem_cons_self ..)]
    exact ih _ (fun q hq => ha q (List.mem_cons_of_mem _ hq)) h.2.2
theorem mh_repl {ol ol' : Nat → Int32} : ∀ (Q R R' : List (Nat × Nat)) (x : Int32), (∀ p ∈ Q, ol' p.1 = ol p.1) → (∀ y, mh_ch ol y R → mh_ch ol' y R') → mh_ch ol x (List.reverseAux Q R) → mh_ch ol' x (List.reverseAux Q R') := by
  intro Q
  induction Q with
  | nil => intro R R' x _ hy h; exact hy x h
  | cons q Q ih =>
    intro R R' x ha hy h
    refine ih (q :: R) (q :: R') x (fun p hp => ha p (List.mem_cons_of_mem _ hp)) (fun y hyy => ?_) h
    refine ⟨hyy.1, hyy.2.1, ?_⟩
    rw [ha q (List.mem_cons_self ..)]
    exact hy _ hyy.2.2
theorem mh_tail {ol : Nat → Int32} : ∀ (Q R : List (Nat × Nat)) (x : Int32), mh_ch ol x (List.reverseAux Q R) → mh_ch ol (mh_top R) R := by
  intro Q
  induction Q with
  | nil => intro R x h; have h : mh_ch ol x R := h; rw [← mh_topx h]; exact h
  | cons q Q ih =>
    intro R x h
    have t := (ih (q :: R) x h).2.2
    rw [← mh_topx t]; exact t
theorem mh_next {ol : Nat → Int32} {x : Int32} {p : Nat × Nat} {l : List (Nat × Nat)} (h : mh_ch ol x (p :: l)) : ol p.1 = mh_top l := mh_topx h.2.2
theorem mh_lt {ol : Nat → Int32} : ∀ (l : List (Nat × Nat)) (x : Int32), mh_ch ol x l → ∀ p ∈ l, p.1 < 38 := by
  intro l
  induction l with
  | nil => intro x _ p hp; cases hp
  | cons q l ih =>
    intro x h p hp
    rcases List.mem_cons.mp hp with z | z
    · rw [z]; exact h.2.1
    · exact ih _ h.2.2 p z
theorem mh_m1 : ∀ a, a < 38 → nI a ≠ -1 := by decide +kernel
theorem mh_nil {ol : Nat → Int32} {l : List (Nat × Nat)} (h : mh_ch ol (-1) l) : l = [] := by
  cases l with
  | nil => rfl
  | cons p l => exact absurd h.1.symm (mh_m1 _ h.2.1)
theorem mh_mem {Q R : List (Nat × Nat)} {p : Nat × Nat} : p ∈ List.reverseAux Q R ↔ p ∈ Q ∨ p ∈ R := List.mem_reverseAux
theorem mh_nd {Q R : List (Nat × Nat)} : (List.reverseAux Q R).Pairwise (fun p q => p.1 ≠ q.1) ↔ Q.Pairwise (fun p q => p.1 ≠ q.1) ∧ R.Pairwise (fun p q => p.1 ≠ q.1) ∧ ∀ a ∈ Q, ∀ b ∈ R, a.1 ≠ b.1 := by
  rw [List.reverseAux_eq, List.pairwise_append, List.pairwise_reverse]
  constructor
  · rintro ⟨h1, h2, h3⟩
    exact ⟨h1.imp fun h => Ne.symm h, h2, fun a ha => h3 a (List.mem_reverse.mpr ha)⟩
  · rintro ⟨h1, h2, h3⟩
    exact ⟨h1.imp fun h => Ne.symm h, h2, fun a ha => h3 a (List.mem_reverse.mp ha)⟩
theorem mh_so {Q R : List (Nat × Nat)} : (List.reverseAux Q R).Pairwise (fun p q => q.2 < p.2) ↔ Q.Pairwise (fun p q => p.2 < q.2) ∧ R.Pairwise (fun p q => q.2 < p.2) ∧ ∀ a ∈ Q, ∀ b ∈ R, b.2 < a.2 := by
  rw [List.reverseAux_eq, List.pairwise_append, List.pairwise_reverse]
  constructor
  · rintro ⟨h1, h2, h3⟩
    exact ⟨h1, h2, fun a ha => h3 a (List.mem_reverse.mpr ha)⟩
  · rintro ⟨h1, h2, h3⟩
    exact ⟨h1, h2, fun a ha => h3 a (List.mem_reverse.mp ha)⟩
/-- all chains at once: linked, without repetition, each slot in its owner's chain alone -/
def mh_ok (ol hd : Nat → Int32) (G : Nat → List (Nat × Nat)) (own : Nat → Nat) : Prop :=
  ∀ i, mh_ch ol (hd i) (G i) ∧ (G i).Pairwise (fun p q => p.1 ≠ q.1) ∧ ∀ p ∈ G i, own p.1 = i
/-- the heads: keys below K, 6 the free list, 7 a loose end -/
def mh_hd (K : Nat) (nw : Nat → Int32) (fr x : Int32) : Nat → Int32 := fun i => if i < K then nw i else if i = 6 then fr else if i = 7 then x else -1
def mh_g (G : Nat → List (Nat × Nat)) (i : Nat) (l : List (Nat × Nat)) : Nat → List (Nat × Nat) := fun j => if j = i then l else G j
theorem mh_gs {G : Nat → List (Nat × Nat)} {i : Nat} {l : List (Nat × Nat)} : mh_g G i l i = l := if_pos rfl
theorem mh_gn {G : Nat → List (Nat × Nat)} {i j : Nat} {l : List (Nat × Nat)} (h : j ≠ i) : mh_g G i l j = G j := if_neg h
/-- slot p leaves chain i (behind Q) and becomes the head of chain j -/
theorem mh_move {ol ol' hd hd' : Nat → Int32} {G : Nat → List (Nat × Nat)} {own : Nat → Nat} {i j : Nat} {Q R : List (Nat × Nat)} {p : Nat × Nat}
    (H : mh_ok ol hd G own) (ij : i ≠ j) (hG : G i = List.reverseAux Q (p :: R))
    (h1 : hd' j = nI p.1) (h2 : Q = [] → hd' i = mh_top R) (h3 : Q ≠ [] → hd' i = hd i) (h4 : ∀ c, c ≠ i → c ≠ j → hd' c = hd c)
    (o1 : ol' p.1 = hd j) (o2 : ∀ q Q', Q = q :: Q' → ol' q.1 = mh_top R) (o3 : ∀ a, a ≠ p.1 → (∀ q Q', Q = q :: Q' → a ≠ q.1) → ol' a = ol a) :
    mh_ok ol' hd' (mh_g (mh_g G i (List.reverseAux Q R)) j (p :: G j)) (fun a => if a = p.1 then j else own a) := by
  have Hi := H i
  rw [hG] at Hi
  have nd := mh_nd.mp Hi.2.1
  have ndR := List.pairwise_cons.mp nd.2.1
  have op : own p.1 = i := Hi.2.2 p (mh_mem.mpr (Or.inr (List.mem_cons_self ..)))
  have oq : ∀ q Q', Q = q :: Q' → own q.1 = i := fun q Q' e => Hi.2.2 q (mh_mem.mpr (Or.inl (by rw [e]; exact List.mem_cons_self ..)))
  intro c
  by_cases cj : c = j
  · subst cj
    rw [mh_gs]
    have Hc := H c
    have ne : ∀ r ∈ G c, r.1 ≠ p.1 := fun r hr z => ij (by rw [← op, ← z]; exact Hc.2.2 r hr)
    refine ⟨⟨h1, mh_lt _ _ Hi.1 p (mh_mem.mpr (Or.inr (List.mem_cons_self ..))), ?_⟩, List.pairwise_cons.mpr ⟨fun r hr => (ne r hr).symm, Hc.2.1⟩, fun r hr => ?_⟩
    · rw [o1]
      refine mh_cong _ _ (fun r hr => o3 _ (ne r hr) fun q Q' e z => ij ?_) Hc.1
      rw [← oq q Q' e, ← z]; exact Hc.2.2 r hr
    · show (if r.1 = p.1 then c else own r.1) = c
      rcases List.mem_cons.mp hr with z | z
      · rw [z, if_pos rfl]
      · rw [if_neg (ne r z)]; exact Hc.2.2 r z
  · rw [mh_gn cj]
    by_cases ci : c = i
    · subst ci
      rw [mh_gs]
      have ne : ∀ r ∈ List.reverseAux Q R, r.1 ≠ p.1 := fun r hr => by
        rcases mh_mem.mp hr with z | z
        · exact nd.2.2 r z p (List.mem_cons_self ..)
        · exact (ndR.1 r z).symm
      refine ⟨?_, mh_nd.mpr ⟨nd.1, ndR.2, fun a ha b hb => nd.2.2 a ha b (List.mem_cons_of_mem _ hb)⟩, fun r hr => ?_⟩
      · cases Q with
        | nil =>
          rw [h2 rfl]
          have t := mh_tail [p] R (hd c) (by exact Hi.1)
          exact mh_cong R _ (fun r hr => o3 _ (ne r (mh_mem.mpr (Or.inr hr))) fun q Q' e => by cases e) t
        | cons q Q =>
          rw [h3 (by intro e; cases e)]
          have ndQ := List.pairwise_cons.mp nd.1
          refine mh_repl Q (q :: p :: R) (q :: R) _ (fun r hr => o3 _ (nd.2.2 r (List.mem_cons_of_mem _ hr) p (List.mem_cons_self ..)) fun q2 Q2 e => ?_) (fun y hy => ⟨hy.1, hy.2.1, ?_⟩) Hi.1
          · cases e
            exact (ndQ.1 r hr).symm
          · rw [o2 q Q rfl]
            have t := hy.2.2.2.2
            rw [mh_topx t] at t
            refine mh_cong R _ (fun r hr => o3 _ (ne r (mh_mem.mpr (Or.inr hr))) fun q2 Q2 e => ?_) t
            cases e
            exact (nd.2.2 q (List.mem_cons_self ..) r (List.mem_cons_of_mem _ hr)).symm
      · show (if r.1 = p.1 then j else own r.1) = c
        rw [if_neg (ne r hr)]
        refine Hi.2.2 r (mh_mem.mpr ?_)
        rcases mh_mem.mp hr with z | z
        · exact Or.inl z
        · exact Or.inr (List.mem_cons_of_mem _ z)
    · rw [mh_gn ci]
      have Hc := H c
      have ne : ∀ r ∈ G c, r.1 ≠ p.1 := fun r hr z => ci (by rw [← Hc.2.2 r hr, z]; exact op)
      refine ⟨?_, Hc.2.1, fun r hr => ?_⟩
      · rw [h4 c ci cj]
        refine mh_cong _ _ (fun r hr => o3 _ (ne r hr) fun q Q' e z => ci ?_) Hc.1
        rw [← Hc.2.2 r hr, z]; exact oq q Q' e
      · show (if r.1 = p.1 then j else own r.1) = c
        rw [if_neg (ne r hr)]; exact Hc.2.2 r hr
/-- the head f of chain i goes to chain k, behind Q, with a new stamp -/
theorem mh_ins {ol ol' hd hd' : Nat → Int32} {G : Nat → List (Nat × Nat)} {own : Nat → Nat} {i k t : Nat} {Q R F : List (Nat × Nat)} {f : Nat × Nat}
    (H : mh_ok ol hd G own) (ki : k ≠ i) (hF : G i = f :: F) (hG : G k = List.reverseAux Q R)
    (h1 : hd' i = mh_top F) (h2 : Q = [] → hd' k = nI f.1) (h3 : Q ≠ [] → hd' k = hd k) (h4 : ∀ c, c ≠ k → c ≠ i → hd' c = hd c)
    (o1 : ol' f.1 = mh_top R) (o2 : ∀ q Q', Q = q :: Q' → ol' q.1 = nI f.1) (o3 : ∀ a, a ≠ f.1 → (∀ q Q', Q = q :: Q' → a ≠ q.1) → ol' a = ol a) :
    mh_ok ol' hd' (mh_g (mh_g G i F) k (List.reverseAux Q ((f.1, t) :: R))) (fun a => if a = f.1 then k else own a) := by
  have Hi := H i
  rw [hF] at Hi
  have Hk := H k
  rw [hG] at Hk
  have nd := mh_nd.mp Hk.2.1
  have ndF := List.pairwise_cons.mp Hi.2.1
  have of : own f.1 = i := Hi.2.2 f (List.mem_cons_self ..)
  have oq : ∀ q Q', Q = q :: Q' → own q.1 = k := fun q Q' e => Hk.2.2 q (mh_mem.mpr (Or.inl (by rw [e]; exact List.mem_cons_self ..)))
  have nek : ∀ r, r ∈ Q ∨ r ∈ R → r.1 ≠ f.1 := fun r hr z => ki (by rw [← of, ← z]; exact (Hk.2.2 r (mh_mem.mpr hr)).symm)
  intro c
  by_cases ck : c = k
  · subst ck
    rw [mh_gs]
    refine ⟨?_, mh_nd.mpr ⟨nd.1, List.pairwise_cons.mpr ⟨fun r hr => (nek r (Or.inr hr)).symm, nd.2.1⟩, fun a ha b hb => ?_⟩, fun r hr => ?_⟩
    · cases Q with
      | nil =>
        rw [h2 rfl]
        refine ⟨rfl, Hi.1.2.1, ?_⟩
        show mh_ch ol' (ol' f.1) R
        rw [o1]
        exact mh_cong R _ (fun r hr => o3 _ (nek r (Or.inr hr)) fun q Q' e => by cases e) (mh_tail [] R _ Hk.1)
      | cons q Q =>
        rw [h3 (by intro e; cases e)]
        have ndQ := List.pairwise_cons.mp nd.1
        refine mh_repl Q (q :: R) (q :: (f.1, t) :: R) _ (fun r hr => o3 _ (nek r (Or.inl (List.mem_cons_of_mem _ hr))) fun q2 Q2 e => ?_) (fun y hy => ⟨hy.1, hy.2.1, ?_, Hi.1.2.1, ?_⟩) Hk.1
        · cases e
          exact (ndQ.1 r hr).symm
        · exact o2 q Q rfl
        · show mh_ch ol' (ol' f.1) R
          rw [o1]
          have t := hy.2.2
          rw [mh_topx t] at t
          refine mh_cong R _ (fun r hr => o3 _ (nek r (Or.inr hr)) fun q2 Q2 e => ?_) t
          cases e
          exact (nd.2.2 q (List.mem_cons_self ..) r hr).symm
    · rcases List.mem_cons.mp hb with z | z
      · rw [z]; exact nek a (Or.inl ha)
      · exact nd.2.2 a ha b z
    · show (if r.1 = f.1 then c else own r.1) = c
      by_cases e : r.1 = f.1
      · rw [if_pos e]
      · rw [if_neg e]
        refine Hk.2.2 r (mh_mem.mpr ?_)
        rcases mh_mem.mp hr with z | z
        · exact Or.inl z
        · rcases List.mem_cons.mp z with z | z
          · exact absurd (by rw [z]) e
          · exact Or.inr z
  · rw [mh_gn ck]
    by_cases ci : c = i
    · subst ci
      rw [mh_gs]
      have ne : ∀ r ∈ F, r.1 ≠ f.1 := fun r hr => (ndF.1 r hr).symm
      refine ⟨?_, ndF.2, fun r hr => ?_⟩
      · rw [h1]
        refine mh_cong F _ (fun r hr => o3 _ (ne r hr) fun q Q' e z => ck ?_) (mh_tail [f] F _ Hi.1)
        rw [← oq q Q' e, ← z]; exact (Hi.2.2 r (List.mem_cons_of_mem _ hr)).symm
      · show (if r.1 = f.1 then k else own r.1) = c
        rw [if_neg (ne r hr)]; exact Hi.2.2 r (List.mem_cons_of_mem _ hr)
    · rw [mh_gn ci]
      have Hc := H c
      have ne : ∀ r ∈ G c, r.1 ≠ f.1 := fun r hr z => ci (by rw [← Hc.2.2 r hr, z]; exact of)
      refine ⟨?_, Hc.2.1, fun r hr => ?_⟩
      · rw [h4 c ck ci]
        refine mh_cong _ _ (fun r hr => o3 _ (ne r hr) fun q Q' e z => ck ?_) Hc.1
        rw [← Hc.2.2 r hr, z]; exact oq q Q' e
      · show (if r.1 = f.1 then k else own r.1) = c
        rw [if_neg (ne r hr)]; exact Hc.2.2 r hr
/-- chain k is cut behind q; what was behind it becomes chain 7 -/
theorem mh_cut {ol ol' hd hd' : Nat → Int32} {G : Nat → List (Nat × Nat)} {own : Nat → Nat} {k : Nat} {Q R : List (Nat × Nat)} {q : Nat × Nat}
    (H : mh_ok ol hd G own) (k7 : k ≠ 7) (h7 : G 7 = []) (hG : G k = List.reverseAux (q :: Q) R)
    (h1 : hd' 7 = mh_top R) (h2 : ∀ c, c ≠ 7 → hd' c = hd c) (o1 : ol' q.1 = -1) (o2 : ∀ a, a ≠ q.1 → ol' a = ol a) :
    mh_ok ol' hd' (mh_g (mh_g G k (List.reverseAux (q :: Q) [])) 7 R) (fun a => if a ∈ R.map Prod.fst then 7 else own a) := by
  have Hk := H k
  rw [hG] at Hk
  have nd := mh_nd.mp Hk.2.1
  have ndQ := List.pairwise_cons.mp nd.1
  have oq : own q.1 = k := Hk.2.2 q (mh_mem.mpr (Or.inl (List.mem_cons_self ..)))
  intro c
  by_cases c7 : c = 7
  · subst c7
    rw [mh_gs]
    refine ⟨?_, nd.2.1, fun r hr => if_pos (List.mem_map_of_mem hr)⟩
    rw [h1]
    exact mh_cong R _ (fun r hr => o2 _ (nd.2.2 q (List.mem_cons_self ..) r hr).symm) (mh_tail (q :: Q) R _ Hk.1)
  · rw [mh_gn c7]
    by_cases ck : c = k
    · subst ck
      rw [mh_gs, h2 c c7]
      refine ⟨?_, mh_nd.mpr ⟨nd.1, List.Pairwise.nil, fun a _ b hb => by cases hb⟩, fun r hr => ?_⟩
      · refine mh_repl Q (q :: R) [q] _ (fun r hr => o2 _ (ndQ.1 r hr).symm) (fun y hy => ⟨hy.1, hy.2.1, ?_⟩) Hk.1
        exact o1
      · have hr : r ∈ q :: Q := by
          rcases mh_mem.mp hr with z | z
          · exact z
          · cases z
        show (if r.1 ∈ R.map Prod.fst then 7 else own r.1) = c
        rw [if_neg]
        · exact Hk.2.2 r (mh_mem.mpr (Or.inl hr))
        · intro z
          obtain ⟨b, hb, e⟩ := List.mem_map.mp z
          exact nd.2.2 r hr b hb e.symm
    · rw [mh_gn ck, h2 c c7]
      have Hc := H c
      refine ⟨mh_cong _ _ (fun r hr => o2 _ fun z => ck ?_) Hc.1, Hc.2.1, fun r hr => ?_⟩
      · rw [← Hc.2.2 r hr, z]; exact oq
      · show (if r.1 ∈ R.map Prod.fst then 7 else own r.1) = c
        rw [if_neg]
        · exact Hc.2.2 r hr
        · intro z
          obtain ⟨b, hb, e⟩ := List.mem_map.mp z
          have e : b.1 = r.1 := e
          refine ck ?_
          rw [← Hc.2.2 r hr, ← e]; exact Hk.2.2 b (mh_mem.mpr (Or.inr hb))
/-- the sum of the chains' lengths -/
def mh_U (G : Nat → List (Nat × Nat)) (K : Nat) : Nat := mc_s (fun i => (G i).length) 0 K
theorem mh_Ug {G : Nat → List (Nat × Nat)} {K k : Nat} {l : List (Nat × Nat)} (hk : k < K) : mh_U (mh_g G k l) K + (G k).length = mh_U G K + l.length := by
  have t := mc_one (f := fun i => (mh_g G k l i).length) (g := fun i => (G i).length) (a := k) K 0 (by omega) (by omega) (fun s _ _ hs => by
    show (mh_g G k l s).length = (G s).length
    rw [mh_gn hs])
  have t : mh_U (mh_g G k l) K + (G k).length = mh_U G K + (mh_g G k l k).length := t
  rw [mh_gs] at t
  exact t
theorem mh_Un {G : Nat → List (Nat × Nat)} {K k : Nat} {l : List (Nat × Nat)} (hk : K ≤ k) : mh_U (mh_g G k l) K = mh_U G K :=
  mc_cong _ _ fun s _ h2 => by
    show (mh_g G k l s).length = (G s).length
    rw [mh_gn (by omega)]
theorem mh_le {G : Nat → List (Nat × Nat)} {K k : Nat} (hk : k < K) : (G k).length ≤ mh_U G K := by
  have t := mh_Ug (G := G) (l := []) hk
  have z : ([] : List (Nat × Nat)).length = 0 := rfl
  omega
theorem mh_rl {Q R : List (Nat × Nat)} : (List.reverseAux Q R).length = Q.length + R.length := by
  rw [List.reverseAux_eq, List.length_append, List.length_reverse]
end
section
/-! ===== what the relation says ===== -/
/-- a version of stamp s on key k -/
def mr_hv (hs : Nat → Int32) (s k : Nat) : Prop := ¬ hs (s * 6 + k) = 0
/-- unfinished -/
def mr_uf (ts : Nat → Int32) (s : Nat) : Prop := ts s = 1 ∨ ts s = 2
def mr_ub (ts : Nat → Int32) (s : Nat) : Bool := decide (ts s = 1 ∨ ts s = 2)
theorem mr_ubI {ts : Nat → Int32} {s : Nat} : mr_ub ts s = true ↔ mr_uf ts s := decide_eq_true_iff
/-- kept: a version, and none between it and the horizon -/
def mr_kp (h : Nat) (hs : Nat → Int32) (k s : Nat) : Prop := mr_hv hs s k ∧ ∀ x, s < x → x < h → ¬ mr_hv hs x k
/-- u is in the way of t on k -/
def mr_iw (rf : Nat → Int32) (u t k : Nat) : Prop := t < u ∧ ∃ s, s ≤ t ∧ rf (u * 6 + k) = nI s
def mr_hb (h : Nat) (hs : Nat → Int32) (s k : Nat) : Bool := decide (h ≤ s) && !decide (hs (s * 6 + k) = 0)
theorem mr_hbI {h : Nat} {hs : Nat → Int32} {s k : Nat} : mr_hb h hs s k = true ↔ h ≤ s ∧ mr_hv hs s k := by
  unfold mr_hb mr_hv
  rw [Bool.and_eq_true, decide_eq_true_eq, Bool.not_eq_true', decide_eq_false_iff_not]
/-- versions at or above the horizon -/
def mr_held (h : Nat) (hs : Nat → Int32) : Nat := mc_s (fun s => mc_n (fun k => mr_hb h hs s k) 0 6) 1 40
def mr_P (K O M N L h : Nat) : Prop := 2 ≤ K ∧ K ≤ 6 ∧ 2 ≤ O ∧ O ≤ 10 ∧ 2 ≤ M ∧ M ≤ 32 ∧ 8 ≤ N ∧ N ≤ 40 ∧ L ≤ N ∧ 1 ≤ h ∧ h ≤ L + 1
def mr_T (L : Nat) (ts : Nat → Int32) : Prop := (∀ s, s ≤ 40 → s = 0 ∨ L < s → ts s = 0) ∧ (∀ s, 1 ≤ s → s ≤ L → ts s = 1 ∨ ts s = 2 ∨ ts s = 3 ∨ ts s = 4)
def mr_H (K L : Nat) (ts hs : Nat → Int32) : Prop := (∀ k, k < 6 → mr_hv hs 0 k) ∧ (∀ s k, 1 ≤ s → s ≤ 40 → k < 6 → mr_hv hs s k → k < K ∧ s ≤ L ∧ ts s ≠ 4)
def mr_F (K L : Nat) (ts hs rf : Nat → Int32) : Prop := ∀ u k, u ≤ 40 → k < 6 → rf (u * 6 + k) = -1 ∨ ∃ s, rf (u * 6 + k) = nI s ∧ s < u ∧ mr_hv hs s k ∧ (∀ x, s < x → x < u → ¬ mr_hv hs x k) ∧ k < K ∧ u ≤ L ∧ ts u ≠ 4
def mr_C (ts rf : Nat → Int32) : Prop := ∀ u k s, u ≤ 40 → k < 6 → ts u = 3 → rf (u * 6 + k) = nI s → 1 ≤ s → s < u → ts s = 3
def mr_Z (h : Nat) (ts : Nat → Int32) : Prop := ∀ s, 1 ≤ s → s < h → ¬ mr_uf ts s
def mr_N (O : Nat) (ts : Nat → Int32) : Prop := mc_n (mr_ub ts) 1 40 ≤ O
def mr_M (M h : Nat) (hs : Nat → Int32) : Prop := mr_held h hs ≤ M
def mr_B (ts : Nat → Int32) (A W C : Int64) : Prop := ∀ s, (ml_b A s = true ↔ s ≤ 40 ∧ ts s = 1) ∧ (ml_b W s = true ↔ s ≤ 40 ∧ ts s = 2) ∧ (ml_b C s = true ↔ s ≤ 40 ∧ ts s = 3)
def mr_K (L : Nat) (rk yk : Nat → Int32) : Prop := (∀ s, 1 ≤ s → s ≤ L → rk s = yk s) ∧ (∀ s, L < s → s ≤ 40 → yk s = 0)
def mr_S (L : Nat) (rf : Nat → Int32) (so : Nat → Int64) : Prop := ∀ u, 1 ≤ u → u ≤ L → ∀ s, (ml_b (so u) s = true ↔ 1 ≤ s ∧ s ≤ 40 ∧ ∃ k, k < 6 ∧ rf (u * 6 + k) = nI s)
def mr_R (K L : Nat) (ts rf rs : Nat → Int32) (G : Nat → List (Nat × Nat)) : Prop := ∀ u k, 1 ≤ u → u ≤ L → mr_uf ts u → k < K → (rf (u * 6 + k) = -1 ∧ rs (u * 6 + k) = -1) ∨ ∃ a s, rf (u * 6 + k) = nI s ∧ rs (u * 6 + k) = nI a ∧ (a, s) ∈ G k
/-- one version in a chain of key k -/
def mr_V (yv rf sp vv : Nat → Int32) (rd : Nat → Int64) (k : Nat) (p : Nat × Nat) : Prop := p.2 ≤ 40 ∧ sp p.1 = nI p.2 ∧ vv p.1 = yv (p.2 * 6 + k) ∧ ∀ u, (ml_b (rd p.1) u = true ↔ 1 ≤ u ∧ u ≤ 40 ∧ rf (u * 6 + k) = nI p.2)
/-- the chain of key k: falling stamps, what is kept -/
def mr_G1 (h : Nat) (hs yv rf sp vv : Nat → Int32) (rd : Nat → Int64) (k : Nat) (l : List (Nat × Nat)) : Prop := l.Pairwise (fun p q => q.2 < p.2) ∧ (∀ p ∈ l, mr_V yv rf sp vv rd k p) ∧ ∀ s, s ≤ 40 → ((∃ a, (a, s) ∈ l) ↔ mr_kp h hs k s)
def mr_G (K h : Nat) (hs yv rf sp vv : Nat → Int32) (rd : Nat → Int64) (G : Nat → List (Nat × Nat)) : Prop := ∀ k, k < K → mr_G1 h hs yv rf sp vv rd k (G k)
/-- the pool -/
def mr_O (K : Nat) (fr us x : Int32) (ol nw : Nat → Int32) (G : Nat → List (Nat × Nat)) (own : Nat → Nat) : Prop := mh_ok ol (mh_hd K nw fr x) G own ∧ us = nI (mh_U G K) ∧ mh_U G K + (G 6).length + (G 7).length = 38
/-- the reference's own part -/
def mr_Y (K O M N L h : Nat) (ts hs rf : Nat → Int32) : Prop := mr_P K O M N L h ∧ mr_T L ts ∧ mr_H K L ts hs ∧ mr_F K L ts hs rf ∧ mr_C ts rf ∧ mr_Z h ts ∧ mr_N O ts ∧ mr_M M h hs
/-- the component against it -/
def mr_X (K L h : Nat) (A W C : Int64) (fr us : Int32) (rk : Nat → Int32) (so : Nat → Int64) (rs sp vv : Nat → Int32) (rd : Nat → Int64) (ol nw : Nat → Int32) (ts yk hs yv rf : Nat → Int32) (G : Nat → List (Nat × Nat)) (own : Nat → Nat) : Prop := mr_B ts A W C ∧ mr_K L rk yk ∧ mr_S L rf so ∧ mr_R K L ts rf rs G ∧ mr_G K h hs yv rf sp vv rd G ∧ mr_O K fr us (-1) ol nw G own
/-- the relation: the least one that holds of every such pair -/
def i_Rel (_ : Nat) (u : SX) (v : SY) : Prop := ∀ P : SX → SY → Prop, (∀ (K O M N L h : Nat) (A W C : Int64) (fr us : Int32) (rk : Nat → Int32) (so : Nat → Int64) (rs sp vv : Nat → Int32) (rd : Nat → Int64) (ol nw : Nat → Int32) (ts yk hs yv rf dm : Nat → Int32) (G : Nat → List (Nat × Nat)) (own : Nat → Nat), mr_Y K O M N L h ts hs rf → mr_X K L h A W C fr us rk so rs sp vv rd ol nw ts yk hs yv rf G own → P (nI K, nI O, nI M, nI N, nI L, nI h, A, W, C, fr, us, rk, so, rs, sp, vv, rd, ol, nw) (nI K, nI O, nI M, nI N, nI L, nI h, ts, yk, hs, yv, rf, dm)) → P u v
theorem i_up {k : Nat} {u : SX} {v : SY} (h : i_Rel k u v) : i_Rel (k + 4) u v := h
section
variable {K O M N L h : Nat} {A W C : Int64} {fr us : Int32} {rk rs sp vv ol nw : Nat → Int32} {so rd : Nat → Int64} {ts yk hs yv rf dm : Nat → Int32} {G : Nat → List (Nat × Nat)} {own : Nat → Nat}
theorem mr_in {k : Nat} (a : mr_Y K O M N L h ts hs rf) (b : mr_X K L h A W C fr us rk so rs sp vv rd ol nw ts yk hs yv rf G own) : i_Rel k (nI K, nI O, nI M, nI N, nI L, nI h, A, W, C, fr, us, rk, so, rs, sp, vv, rd, ol, nw) (nI K, nI O, nI M, nI N, nI L, nI h, ts, yk, hs, yv, rf, dm) := fun _ f => f _ _ _ _ _ _ _ _ _ _ _ _ _ _ _ _ _ _ _ _ _ _ _ _ _ _ _ a b
end
/-! ===== numbers ===== -/
theorem mr_ix (s k : Nat) : nI s * 6 + nI k = nI (s * 6 + k) := by
  rw [show (6 : Int32) = nI 6 from rfl, pk_mul, nI_add]
theorem mr_cl {n : Nat} (h : n < 246) : (nI n).toNatClampNeg = n := nI_clamp (by omega)
theorem mr_m1 : ∀ a, a < 64 → nI a ≠ -1 := by decide +kernel
theorem mr_m1l : ∀ a, a < 64 → ¬ nI a < 0 := by decide +kernel
theorem mr_inj {a b : Nat} (ha : a ≤ 40) (hb : b ≤ 40) (h : nI a = nI b) : a = b := (nI_eq (by omega) (by omega)).mp h
/-- the record, its two cases, by numbers -/
theorem mr_Fs {K L : Nat} {ts hs rf : Nat → Int32} (h : mr_F K L ts hs rf) {u k s : Nat} (hu : u ≤ 40) (hk : k < 6) (h31 : s < 2 ^ 31) (e : rf (u * 6 + k) = nI s) : s < u ∧ mr_hv hs s k ∧ (∀ x, s < x → x < u → ¬ mr_hv hs x k) ∧ k < K ∧ u ≤ L ∧ ts u ≠ 4 := by
  rcases h u k hu hk with z | ⟨s', e', r⟩
  · rw [z] at e
    exact absurd e (by
      intro w
      have t := congrArg Int32.toInt w
      rw [nI_toInt h31] at t
      have t : (-1 : Int) = s := t
      omega)
  · have : s' = s := (nI_eq (by omega) h31).mp (e'.symm.trans e)
    subst this
    exact r
end
section
section
variable {K O M N L h : Nat} {A W C : Int64} {fr us : Int32} {rk rs sp vv ol nw : Nat → Int32} {so rd : Nat → Int64}
theorem mx_has {post : Int32 → Prop} {x : Int64} {n : Nat} (hn : n < 64) (h1 : ml_b x n = true → post 1) (h0 : ml_b x n = false → post 0) : wpX_has post (nI K, nI O, nI M, nI N, nI L, nI h, A, W, C, fr, us, rk, so, rs, sp, vv, rd, ol, nw) x (nI n) :=
  br_c (fun e => h0 ((ml_has hn).mp e)) (fun e => h1 (ts_nf fun z => e ((ml_has hn).mpr z)))
theorem mx_countL {post : Int32 → Prop} {x : Int64} (hL : L ≤ 40) : ∀ d i c, i + d = L + 1 → post (nI (c + mc_n (ml_b x) i d)) → wX_count_5 post x (nI K) (nI O) (nI M) (nI N) (nI L) (nI h) A W C fr us rk so rs sp vv rd ol nw (d + 1) (nI c) (nI i) := by
  intro d
  induction d with
  | zero =>
    intro i c hi hp
    exact br_t (nI_lt (by omega) (by omega)) hp
  | succ d ih =>
    intro i c hi hp
    refine br_f (nI_nlt (by omega) (by omega)) (mx_has (by omega) (fun hb => ?_) (fun hb => ?_))
    · refine br_f (by decide) (nm_r (nI_1 c) (nm_r (nI_1 i) (ih (i + 1) (c + 1) (by omega) ?_)))
      rw [mc_nt hb, ← Nat.add_assoc] at hp
      exact hp
    · refine br_t rfl (nm_r (nI_1 i) (ih (i + 1) c (by omega) ?_))
      rw [mc_nf hb] at hp
      exact hp
theorem mx_count {post : Int32 → Prop} {x : Int64} (hL : L ≤ 40) (hp : post (nI (mc_n (ml_b x) 1 L))) : wpX_count post (nI K, nI O, nI M, nI N, nI L, nI h, A, W, C, fr, us, rk, so, rs, sp, vv, rd, ol, nw) x :=
  Exists.intro (L + 1) (mx_countL hL L 1 0 (by omega) (by rw [Nat.zero_add]; exact hp))
theorem mx_forgetL {post : SX → Prop} {t : Nat} (ht : t ≤ 40) (rs0 : Nat → Int32) (hp : ∀ rs', (∀ k, k < 6 → rs' (t * 6 + k) = -1) → (∀ j, (∀ k, k < 6 → j ≠ t * 6 + k) → rs' j = rs0 j) → post (nI K, nI O, nI M, nI N, nI L, nI h, A, W, C, fr, us, rk, so, rs', sp, vv, rd, ol, nw)) : ∀ d i (rs1 : Nat → Int32), i + d = 6 → (∀ k, k < i → rs1 (t * 6 + k) = -1) → (∀ j, (∀ k, k < 6 → j ≠ t * 6 + k) → rs1 j = rs0 j) → wX_forgetReads_9 post (nI t) (nI K) (nI O) (nI M) (nI N) (nI L) (nI h) A W C fr us (d + 1) (nI i) rk so rs1 sp vv rd ol nw := by
  intro d
  induction d with
  | zero =>
    intro i rs1 hi h1 h2
    exact br_t (nI_le (a := 6) (by omega) (by omega)) (hp rs1 (fun k hk => h1 k (by omega)) h2)
  | succ d ih =>
    intro i rs1 hi h1 h2
    refine br_f (nI_ge (b := 6) (by omega) (by omega)) ?_
    rw [mr_ix, mr_cl (by omega)]
    refine ⟨vp_in_nI (by omega) (by omega), nm_e (nm_r (nI_1 i) (ih (i + 1) _ (by omega) (fun k hk => ?_) (fun j hj => ?_)))⟩
    · by_cases e : k = i
      · subst e; exact pk_us
      · rw [pk_un (by omega)]; exact h1 k (by omega)
    · rw [pk_un (hj i (by omega))]; exact h2 j hj
theorem mx_forget {post : SX → Prop} {t : Nat} (ht : t ≤ 40) (hp : ∀ rs', (∀ k, k < 6 → rs' (t * 6 + k) = -1) → (∀ j, (∀ k, k < 6 → j ≠ t * 6 + k) → rs' j = rs j) → post (nI K, nI O, nI M, nI N, nI L, nI h, A, W, C, fr, us, rk, vp_updL so t 0, rs', sp, vv, rd, ol, nw)) : wpX_forgetReads post (nI K, nI O, nI M, nI N, nI L, nI h, A, W, C, fr, us, rk, so, rs, sp, vv, rd, ol, nw) (nI t) := by
  refine And.intro (vp_in_nI (by omega) (by omega)) (nm_r (e' := vp_updL so t 0) (by rw [mr_cl (by omega)]) ⟨7, ?_⟩)
  exact mx_forgetL ht rs hp 6 0 rs (by omega) (fun k hk => by omega) (fun _ _ => rfl)
theorem mx_unk1 {post : Int32 → Prop} {v : Int32} (hq : v < 1 ∨ ¬ v ≤ nI L) (hp : post 1) : wpX_unknown post (nI K, nI O, nI M, nI N, nI L, nI h, A, W, C, fr, us, rk, so, rs, sp, vv, rd, ol, nw) v :=
  br_c (fun _ => hp) (fun z => br_f (by rcases hq with w | w; exact absurd w z; exact w) hp)
theorem mx_unk0 {post : Int32 → Prop} {t : Nat} (h1 : 1 ≤ t) (h2 : t ≤ L) (hL : L ≤ 40) (hp : post 0) : wpX_unknown post (nI K, nI O, nI M, nI N, nI L, nI h, A, W, C, fr, us, rk, so, rs, sp, vv, rd, ol, nw) (nI t) :=
  br_f (nI_nlt (b := 1) h1 (by omega)) (br_t (nI_le h2 (by omega)) hp)
theorem mx_nk1 {post : Int32 → Prop} {v : Int32} (hq : v < 0 ∨ nI K ≤ v) (hp : post 1) : wpX_noKey post (nI K, nI O, nI M, nI N, nI L, nI h, A, W, C, fr, us, rk, so, rs, sp, vv, rd, ol, nw) v :=
  br_c (fun _ => hp) (fun z => br_f (by rcases hq with w | w; exact absurd w z; exact Int32.not_lt.mpr w) hp)
theorem mx_nk0 {post : Int32 → Prop} {k : Nat} (hk : k < K) (hK : K ≤ 6) (hp : post 0) : wpX_noKey post (nI K, nI O, nI M, nI N, nI L, nI h, A, W, C, fr, us, rk, so, rs, sp, vv, rd, ol, nw) (nI k) :=
  br_f (nI_pos (by omega)) (br_t (nI_lt hk (by omega)) hp)
theorem mx_acc1 {post : Int32 → Prop} {v p1 p2 : Int32} (hq : v < 1 ∨ ¬ v ≤ nI L) (hp : post (-1)) : wpX_accessRefusal post (nI K, nI O, nI M, nI N, nI L, nI h, A, W, C, fr, us, rk, so, rs, sp, vv, rd, ol, nw) v p1 p2 := by
  unfold wpX_accessRefusal
  exact mx_unk1 hq (br_f (by decide) hp)
theorem mx_acc2 {post : Int32 → Prop} {t : Nat} {p1 p2 : Int32} (h1 : 1 ≤ t) (h2 : t ≤ L) (hL : L ≤ 40) (hA : ml_b A t = false) (hp : post (-2)) : wpX_accessRefusal post (nI K, nI O, nI M, nI N, nI L, nI h, A, W, C, fr, us, rk, so, rs, sp, vv, rd, ol, nw) (nI t) p1 p2 := by
  unfold wpX_accessRefusal
  exact mx_unk0 h1 h2 hL (br_t rfl (mx_has (by omega) (fun z => by rw [hA] at z; cases z) (fun _ => br_t rfl hp)))
theorem mx_acc3 {post : Int32 → Prop} {t : Nat} {p1 p2 : Int32} (h1 : 1 ≤ t) (h2 : t ≤ L) (hL : L ≤ 40) (hA : ml_b A t = true) (hk : p1 < 0 ∨ nI K ≤ p2 ∨ ¬ p1 ≤ p2) (hp : post (-3)) : wpX_accessRefusal post (nI K, nI O, nI M, nI N, nI L, nI h, A, W, C, fr, us, rk, so, rs, sp, vv, rd, ol, nw) (nI t) p1 p2 := by
  unfold wpX_accessRefusal
  refine mx_unk0 h1 h2 hL (br_t rfl (mx_has (by omega) (fun _ => br_f (by decide) (br_c (fun _ => hp) fun z1 => br_c (fun _ => hp) fun z2 => br_f ?_ hp)) (fun z => by rw [hA] at z; cases z)))
  rcases hk with w | w | w
  · exact absurd w z1
  · exact absurd w z2
  · exact w
theorem mx_acc0 {post : Int32 → Prop} {t : Nat} {p1 p2 : Int32} (h1 : 1 ≤ t) (h2 : t ≤ L) (hL : L ≤ 40) (hA : ml_b A t = true) (k1 : ¬ p1 < 0) (k2 : ¬ nI K ≤ p2) (k3 : p1 ≤ p2) (hp : post 0) : wpX_accessRefusal post (nI K, nI O, nI M, nI N, nI L, nI h, A, W, C, fr, us, rk, so, rs, sp, vv, rd, ol, nw) (nI t) p1 p2 := by
  unfold wpX_accessRefusal
  exact mx_unk0 h1 h2 hL (br_t rfl (mx_has (by omega) (fun _ => br_f (by decide) (br_f k1 (br_f k2 (br_t k3 hp)))) (fun z => by rw [hA] at z; cases z)))
theorem mx_ufr1 {post : Int32 → Prop} {v : Int32} (hq : v < 1 ∨ ¬ v ≤ nI L) (hp : post (-1)) : wpX_unfinishedRefusal post (nI K, nI O, nI M, nI N, nI L, nI h, A, W, C, fr, us, rk, so, rs, sp, vv, rd, ol, nw) v := by
  unfold wpX_unfinishedRefusal
  exact mx_unk1 hq (br_f (by decide) hp)
theorem mx_ufr2 {post : Int32 → Prop} {t : Nat} (h1 : 1 ≤ t) (h2 : t ≤ L) (hL : L ≤ 40) (hA : ml_b (A ||| W) t = false) (hp : post (-9)) : wpX_unfinishedRefusal post (nI K, nI O, nI M, nI N, nI L, nI h, A, W, C, fr, us, rk, so, rs, sp, vv, rd, ol, nw) (nI t) := by
  unfold wpX_unfinishedRefusal
  exact mx_unk0 h1 h2 hL (br_t rfl (mx_has (by omega) (fun z => by rw [hA] at z; cases z) (fun _ => br_t rfl hp)))
theorem mx_ufr0 {post : Int32 → Prop} {t : Nat} (h1 : 1 ≤ t) (h2 : t ≤ L) (hL : L ≤ 40) (hA : ml_b (A ||| W) t = true) (hp : post 0) : wpX_unfinishedRefusal post (nI K, nI O, nI M, nI N, nI L, nI h, A, W, C, fr, us, rk, so, rs, sp, vv, rd, ol, nw) (nI t) := by
  unfold wpX_unfinishedRefusal
  exact mx_unk0 h1 h2 hL (br_t rfl (mx_has (by omega) (fun _ => br_f (by decide) hp) (fun z => by rw [hA] at z; cases z)))
/-- the first slot of a chain whose stamp isn't above s -/
def mx_f (s : Int32) : List (Nat × Nat) → Int32
  | [] => -1
  | p :: l => if s < nI p.2 then mx_f s l else nI p.1
theorem mx_aobL {post : Int32 → Prop} {s : Int32} : ∀ (l : List (Nat × Nat)) (x : Int32) (j : Nat), mh_ch ol x l → (∀ p ∈ l, sp p.1 = nI p.2) → j + l.length ≤ 38 → post (mx_f s l) → wX_atOrBelow_10 post s (nI K) (nI O) (nI M) (nI N) (nI L) (nI h) A W C fr us rk so rs sp vv rd ol nw (l.length + 1) x (nI j) := by
  intro l
  induction l with
  | nil =>
    intro x j hc _ hj hp
    refine br_c (fun _ => hp) (fun _ => br_t ?_ hp)
    rw [show x = -1 from hc]; decide
  | cons p l ih =>
    intro x j hc hsp hj hp
    have hj : j + (l.length + 1) ≤ 38 := hj
    obtain ⟨rfl, h38, hc⟩ := hc
    refine br_f (nI_ge (b := 38) (by omega) (by omega)) (br_f (nI_pos (by omega)) ?_)
    rw [nI_clamp (by omega), hsp p (List.mem_cons_self ..)]
    refine ⟨vp_in_nI h38 (by omega), br_c (fun e => ⟨vp_in_nI h38 (by omega), nm_e (nm_r (nI_1 j) (ih _ _ hc (fun q hq => hsp q (List.mem_cons_of_mem _ hq)) (by omega) ?_))⟩) (fun e => ?_)⟩
    · rw [show mx_f s (p :: l) = _ from if_pos e] at hp
      exact hp
    · rw [show mx_f s (p :: l) = _ from if_neg e] at hp
      exact hp
theorem mx_aob {post : Int32 → Prop} {s : Int32} {k : Nat} (l : List (Nat × Nat)) (hk : k < 6) (hc : mh_ch ol (nw k) l) (hsp : ∀ p ∈ l, sp p.1 = nI p.2) (hl : l.length ≤ 38) (hp : post (mx_f s l)) : wpX_atOrBelow post (nI K, nI O, nI M, nI N, nI L, nI h, A, W, C, fr, us, rk, so, rs, sp, vv, rd, ol, nw) (nI k) s := by
  refine And.intro (vp_in_nI hk (by omega)) (nm_e ⟨l.length + 1, ?_⟩)
  rw [nI_clamp (by omega)]
  exact mx_aobL l _ 0 hc hsp (by omega) hp
end
/-- what is found -/
theorem mx_fS (s : Int32) : ∀ l : List (Nat × Nat), l.Pairwise (fun p q => q.2 < p.2) → (mx_f s l = -1 ∧ ∀ q ∈ l, s < nI q.2) ∨ ∃ p ∈ l, mx_f s l = nI p.1 ∧ ¬ s < nI p.2 ∧ ∀ q ∈ l, ¬ s < nI q.2 → q.2 ≤ p.2 := by
  intro l
  induction l with
  | nil => intro _; exact Or.inl ⟨rfl, fun q hq => by cases hq⟩
  | cons p l ih =>
    intro hs
    rw [List.pairwise_cons] at hs
    by_cases e : s < nI p.2
    · rw [show mx_f s (p :: l) = _ from if_pos e]
      rcases ih hs.2 with ⟨h1, h2⟩ | ⟨q, hq, h1, h2, h3⟩
      · refine Or.inl ⟨h1, fun q hq => ?_⟩
        rcases List.mem_cons.mp hq with z | z
        · rw [z]; exact e
        · exact h2 q z
      · refine Or.inr ⟨q, List.mem_cons_of_mem _ hq, h1, h2, fun r hr n => ?_⟩
        rcases List.mem_cons.mp hr with z | z
        · rw [z] at n; exact absurd e n
        · exact h3 r z n
    · rw [show mx_f s (p :: l) = _ from if_neg e]
      refine Or.inr ⟨p, List.mem_cons_self .., rfl, e, fun r hr _ => ?_⟩
      rcases List.mem_cons.mp hr with z | z
      · rw [z]; exact Nat.le_refl _
      · exact Nat.le_of_lt (hs.1 r z)
end
section
section
variable {K O M N L h : Nat} {A W C : Int64} {fr us : Int32} {rk rs sp vv ol nw : Nat → Int32} {so rd : Nat → Int64} {ts yk hs yv rf dm : Nat → Int32}
theorem my_unf {post : Int32 → Prop} {t : Nat} (ht : t ≤ 40) (h1 : mr_uf ts t → post 1) (h0 : ¬ mr_uf ts t → post 0) : wpY_unfinished post (nI K, nI O, nI M, nI N, nI L, nI h, ts, yk, hs, yv, rf, dm) (nI t) := by
  refine And.intro (vp_in_nI (by omega) (by omega)) ?_
  rw [nI_clamp (by omega)]
  exact br_c (fun e => h1 (Or.inl e)) (fun n => ⟨vp_in_nI (by omega) (by omega), br_c (fun e => h1 (Or.inr e)) (fun n2 => h0 fun z => by rcases z with z | z; exact n z; exact n2 z)⟩)
theorem my_cuL {post : Int32 → Prop} : ∀ d i c, i + d = 41 → post (nI (c + mc_n (mr_ub ts) i d)) → wY_countUnfinished_4 post (nI K) (nI O) (nI M) (nI N) (nI L) (nI h) ts yk hs yv rf dm (d + 1) (nI c) (nI i) := by
  intro d
  induction d with
  | zero =>
    intro i c hi hp
    exact br_t (nI_lt (a := 40) (by omega) (by omega)) hp
  | succ d ih =>
    intro i c hi hp
    refine br_f (nI_nlt (a := 40) (by omega) (by omega)) (my_unf (by omega) (fun hb => ?_) (fun hb => ?_))
    · refine br_f (by decide) (nm_r (nI_1 c) (nm_r (nI_1 i) (ih (i + 1) (c + 1) (by omega) ?_)))
      rw [mc_nt (mr_ubI.mpr hb), ← Nat.add_assoc] at hp
      exact hp
    · refine br_t rfl (nm_r (nI_1 i) (ih (i + 1) c (by omega) ?_))
      rw [mc_nf (ts_nt fun z => hb (mr_ubI.mp z))] at hp
      exact hp
theorem my_cu {post : Int32 → Prop} (hp : post (nI (mc_n (mr_ub ts) 1 40))) : wpY_countUnfinished post (nI K, nI O, nI M, nI N, nI L, nI h, ts, yk, hs, yv, rf, dm) :=
  Exists.intro 41 (my_cuL 40 1 0 (by omega) (by rw [Nat.zero_add]; exact hp))
theorem my_chk1 {post : Int32 → Prop} {v p1 : Int32} (hq : v < 1 ∨ ¬ v ≤ nI L) (hp : post (-1)) : wpY_check post (nI K, nI O, nI M, nI N, nI L, nI h, ts, yk, hs, yv, rf, dm) v p1 :=
  br_c (fun _ => hp) (fun z => br_f (by rcases hq with w | w; exact absurd w z; exact w) hp)
theorem my_chk2 {post : Int32 → Prop} {t : Nat} {p1 : Int32} (h1 : 1 ≤ t) (h2 : t ≤ L) (hL : L ≤ 40) (hA : ¬ ts t = 1) (hp : post (-2)) : wpY_check post (nI K, nI O, nI M, nI N, nI L, nI h, ts, yk, hs, yv, rf, dm) (nI t) p1 := by
  refine br_f (nI_nlt (b := 1) h1 (by omega)) (br_t (nI_le h2 (by omega)) ⟨vp_in_nI (by omega) (by omega), ?_⟩)
  rw [nI_clamp (by omega)]
  exact br_f hA hp
theorem my_chk3 {post : Int32 → Prop} {t : Nat} {p1 : Int32} (h1 : 1 ≤ t) (h2 : t ≤ L) (hL : L ≤ 40) (hA : ts t = 1) (hk : p1 < 0 ∨ nI K ≤ p1) (hp : post (-3)) : wpY_check post (nI K, nI O, nI M, nI N, nI L, nI h, ts, yk, hs, yv, rf, dm) (nI t) p1 := by
  refine br_f (nI_nlt (b := 1) h1 (by omega)) (br_t (nI_le h2 (by omega)) ⟨vp_in_nI (by omega) (by omega), ?_⟩)
  rw [nI_clamp (by omega)]
  exact br_t hA (br_c (fun _ => hp) fun z => br_f (by rcases hk with w | w; exact absurd w z; exact Int32.not_lt.mpr w) hp)
theorem my_chk0 {post : Int32 → Prop} {t k : Nat} (h1 : 1 ≤ t) (h2 : t ≤ L) (hL : L ≤ 40) (hA : ts t = 1) (hk : k < K) (hK : K ≤ 6) (hp : post 0) : wpY_check post (nI K, nI O, nI M, nI N, nI L, nI h, ts, yk, hs, yv, rf, dm) (nI t) (nI k) := by
  refine br_f (nI_nlt (b := 1) h1 (by omega)) (br_t (nI_le h2 (by omega)) ⟨vp_in_nI (by omega) (by omega), ?_⟩)
  rw [nI_clamp (by omega)]
  exact br_t hA (br_f (nI_pos (by omega)) (br_t (nI_lt hk (by omega)) hp))
theorem my_cuf1 {post : Int32 → Prop} {v : Int32} (hq : v < 1 ∨ ¬ v ≤ nI L) (hp : post (-1)) : wpY_checkUnfinished post (nI K, nI O, nI M, nI N, nI L, nI h, ts, yk, hs, yv, rf, dm) v :=
  br_c (fun _ => hp) (fun z => br_f (by rcases hq with w | w; exact absurd w z; exact w) hp)
theorem my_cuf2 {post : Int32 → Prop} {t : Nat} (h1 : 1 ≤ t) (h2 : t ≤ L) (hL : L ≤ 40) (hA : ¬ mr_uf ts t) (hp : post (-9)) : wpY_checkUnfinished post (nI K, nI O, nI M, nI N, nI L, nI h, ts, yk, hs, yv, rf, dm) (nI t) :=
  br_f (nI_nlt (b := 1) h1 (by omega)) (br_t (nI_le h2 (by omega)) (my_unf (by omega) (fun z => absurd z hA) (fun _ => br_t rfl hp)))
theorem my_cuf0 {post : Int32 → Prop} {t : Nat} (h1 : 1 ≤ t) (h2 : t ≤ L) (hL : L ≤ 40) (hA : mr_uf ts t) (hp : post 0) : wpY_checkUnfinished post (nI K, nI O, nI M, nI N, nI L, nI h, ts, yk, hs, yv, rf, dm) (nI t) :=
  br_f (nI_nlt (b := 1) h1 (by omega)) (br_t (nI_le h2 (by omega)) (my_unf (by omega) (fun _ => br_f (by decide) hp) (fun z => absurd hA z)))
theorem my_iw {post : Int32 → Prop} {u t k : Nat} (hF : mr_F K L ts hs rf) (hu : u ≤ 40) (ht : t ≤ 40) (hk : k < 6) (h1 : mr_iw rf u t k → post 1) (h0 : ¬ mr_iw rf u t k → post 0) : wpY_inTheWay post (nI K, nI O, nI M, nI N, nI L, nI h, ts, yk, hs, yv, rf, dm) (nI u) (nI t) (nI k) := by
  unfold wpY_inTheWay
  dsimp only
  rw [mr_ix, mr_cl (by omega)]
  refine ⟨vp_in_nI (by omega) (by omega), nm_e (br_c (fun e => h0 fun z => ?_) (fun e => ?_))⟩
  · exact absurd e (nI_ge z.1 (by omega))
  · have htu : t < u := by
      apply Classical.byContradiction
      intro z
      exact e (nI_le (by omega) (by omega))
    rcases hF u k hu hk with z | ⟨s, z, hsu, _⟩
    · rw [z]
      refine br_t (by decide) (h0 fun w => ?_)
      obtain ⟨_, s, hs, e⟩ := w
      exact mr_m1 s (by omega) (e.symm.trans z)
    · rw [z]
      refine br_f (nI_pos (by omega)) (br_c (fun e => h0 fun w => ?_) (fun e => h1 ⟨htu, s, ?_, z⟩))
      · obtain ⟨_, s', hs', e'⟩ := w
        have : s' = s := mr_inj (by omega) (by omega) (e'.symm.trans z)
        subst this
        exact absurd e (nI_nlt hs' (by omega))
      · apply Classical.byContradiction
        intro w
        exact e (nI_lt (by omega) (by omega))
theorem my_held2 {post : Int32 → Prop} {J : Int32 → Int32 → Prop} {s : Nat} (hs40 : s ≤ 40) (hh : h ≤ 41) : ∀ d k c, k + d = 6 → J (nI (c + mc_n (mr_hb h hs s) k d)) (nI (s + 1)) → wY_held_12 post J (nI s) (nI K) (nI O) (nI M) (nI N) (nI L) (nI h) ts yk hs yv rf dm (d + 1) (nI c) (nI k) := by
  intro d
  induction d with
  | zero =>
    intro k c hk hp
    exact br_t (nI_le (a := 6) (by omega) (by omega)) (nm_r (nI_1 s) hp)
  | succ d ih =>
    intro k c hk hp
    refine br_f (nI_ge (b := 6) (by omega) (by omega)) (br_c (fun e => nm_r (nI_1 k) (ih (k + 1) c (by omega) ?_)) (fun e => ?_))
    · rw [mc_nf] at hp
      · exact hp
      · refine ts_nt fun z => ?_
        exact absurd e (nI_nlt (mr_hbI.mp z).1 (by omega))
    · rw [mr_ix, mr_cl (by omega)]
      refine ⟨vp_in_nI (by omega) (by omega), br_c (fun z => nm_r (nI_1 k) (ih (k + 1) c (by omega) ?_)) (fun z => nm_r (nI_1 c) (nm_r (nI_1 k) (ih (k + 1) (c + 1) (by omega) ?_)))⟩
      · rw [mc_nf] at hp
        · exact hp
        · exact ts_nt fun w => (mr_hbI.mp w).2 z
      · rw [mc_nt, ← Nat.add_assoc] at hp
        · exact hp
        · refine mr_hbI.mpr ⟨?_, z⟩
          apply Classical.byContradiction
          intro w
          exact e (nI_lt (by omega) (by omega))
theorem my_held1 {post : Int32 → Prop} (hh : h ≤ 41) : ∀ d s c, s + d = 41 → post (nI (c + mc_s (fun s => mc_n (fun k => mr_hb h hs s k) 0 6) s d)) → wY_held_4 post (nI K) (nI O) (nI M) (nI N) (nI L) (nI h) ts yk hs yv rf dm (d + 1) (nI c) (nI s) := by
  intro d
  induction d with
  | zero =>
    intro s c hi hp
    exact br_t (nI_lt (a := 40) (by omega) (by omega)) hp
  | succ d ih =>
    intro s c hi hp
    refine br_f (nI_nlt (a := 40) (by omega) (by omega)) ⟨7, my_held2 (by omega) hh 6 0 c (by omega) (ih (s + 1) _ (by omega) ?_)⟩
    rw [Nat.add_assoc]
    exact hp
theorem my_held {post : Int32 → Prop} (hh : h ≤ 41) (hp : post (nI (mr_held h hs))) : wpY_held post (nI K, nI O, nI M, nI N, nI L, nI h, ts, yk, hs, yv, rf, dm) :=
  Exists.intro 41 (my_held1 hh 40 1 0 (by omega) (by rw [Nat.zero_add]; exact hp))
theorem mr_heldB (h : Nat) (hs : Nat → Int32) : mr_held h hs ≤ 240 := by
  have a : mr_held h hs ≤ mc_s (fun _ => 6) 1 40 := mc_mono _ _ fun s _ _ => mc_le _ _ _
  exact Nat.le_trans a (by decide)
theorem my_noRoom {post : Int32 → Prop} {t k : Nat} (ht : t ≤ 40) (hk : k < 6) (hh : h ≤ 41) (hM : M ≤ 32) (h1 : ¬ mr_hv hs t k → mr_held h hs = M → post 1) (h0 : mr_hv hs t k ∨ mr_held h hs ≠ M → post 0) : wpY_noRoom post (nI K, nI O, nI M, nI N, nI L, nI h, ts, yk, hs, yv, rf, dm) (nI t) (nI k) := by
  unfold wpY_noRoom
  dsimp only
  rw [mr_ix, mr_cl (by omega)]
  have hb := mr_heldB h hs
  refine ⟨vp_in_nI (by omega) (by omega), br_c (fun z => my_held hh (br_c (fun e => h1 (fun w => w z) ?_) (fun e => h0 (Or.inr fun w => e (by rw [w])))) ) (fun z => h0 (Or.inl z))⟩
  exact (nI_eq (by omega) (by omega)).mp e
theorem my_cwL {post : Int32 → Prop} {t k : Nat} (hF : mr_F K L ts hs rf) (ht : t ≤ 40) (hk : k < 6) : ∀ d i, i + d = 41 → ((∃ u, i ≤ u ∧ u ≤ 40 ∧ mr_iw rf u t k) → post (-4)) → ((¬ ∃ u, i ≤ u ∧ u ≤ 40 ∧ mr_iw rf u t k) → wpY_noRoom (fun r_16 => (((r_16 = 0 → (post 0)) ∧ (¬ r_16 = 0 → (post (-5)))))) (nI K, nI O, nI M, nI N, nI L, nI h, ts, yk, hs, yv, rf, dm) (nI t) (nI k)) → wY_checkWrite_16 post (nI t) (nI k) (nI K) (nI O) (nI M) (nI N) (nI L) (nI h) ts yk hs yv rf dm (d + 1) (nI i) := by
  intro d
  induction d with
  | zero =>
    intro i hi h1 h0
    refine br_t (nI_lt (a := 40) (by omega) (by omega)) (h0 ?_)
    rintro ⟨u, a, b, _⟩
    omega
  | succ d ih =>
    intro i hi h1 h0
    refine br_f (nI_nlt (a := 40) (by omega) (by omega)) (my_iw hF (by omega) ht hk (fun z => br_f (by decide) (h1 ⟨i, by omega, by omega, z⟩)) (fun z => br_t rfl (nm_r (nI_1 i) (ih (i + 1) (by omega) ?_ ?_))))
    · rintro ⟨u, a, b, c⟩
      exact h1 ⟨u, by omega, b, c⟩
    · intro n
      refine h0 ?_
      rintro ⟨u, a, b, c⟩
      by_cases e : u = i
      · subst e; exact z c
      · exact n ⟨u, by omega, b, c⟩
theorem my_fetchL {post : Int32 → SY → Prop} {t k s : Nat} (ht : t ≤ 40) (hk : k < 6) (hst : s < t) (hv : mr_hv hs s k) (hn : ∀ x, s < x → x < t → ¬ mr_hv hs x k) (hp : post (yv (s * 6 + k)) (nI K, nI O, nI M, nI N, nI L, nI h, ts, yk, hs, yv, upd rf (t * 6 + k) (nI s), dm)) : ∀ d i f, i + d = 41 → (s < i → f = s) → wY_fetch_31 post (nI t) (nI k) (nI K) (nI O) (nI M) (nI N) (nI L) (nI h) ts yk hs yv rf dm (d + 1) (nI f) (nI i) := by
  intro d
  induction d with
  | zero =>
    intro i f hi hf
    have e := hf (by omega)
    subst e
    refine br_t (nI_lt (a := 40) (by omega) (by omega)) ?_
    rw [mr_ix, mr_ix, mr_cl (by omega), mr_cl (by omega)]
    exact ⟨vp_in_nI (by omega) (by omega), nm_e ⟨vp_in_nI (by omega) (by omega), hp⟩⟩
  | succ d ih =>
    intro i f hi hf
    refine br_f (nI_nlt (a := 40) (by omega) (by omega)) (br_c (fun e => nm_r (nI_1 i) (ih (i + 1) f (by omega) fun w => hf ?_)) (fun e => ?_))
    · rw [nI_leI (by omega) (by omega)] at e
      omega
    · rw [nI_leI (by omega) (by omega)] at e
      rw [mr_ix, mr_cl (by omega)]
      refine ⟨vp_in_nI (by omega) (by omega), br_c (fun z => nm_r (nI_1 i) (ih (i + 1) f (by omega) fun w => hf ?_)) (fun z => nm_r (nI_1 i) (ih (i + 1) i (by omega) fun w => ?_))⟩
      · have : s ≠ i := fun y => hv (by rw [y]; exact z)
        omega
      · apply Classical.byContradiction
        intro y
        exact hn i (by omega) (by omega) z
theorem my_fetch1 {post : Int32 → SY → Prop} {t k : Nat} (ht : t ≤ 40) (hk : k < 6) (hv : mr_hv hs t k) (hp : post (yv (t * 6 + k)) (nI K, nI O, nI M, nI N, nI L, nI h, ts, yk, hs, yv, rf, dm)) : wpY_fetch post (nI K, nI O, nI M, nI N, nI L, nI h, ts, yk, hs, yv, rf, dm) (nI t) (nI k) := by
  unfold wpY_fetch
  dsimp only
  rw [mr_ix, mr_cl (by omega)]
  exact ⟨vp_in_nI (by omega) (by omega), br_f hv ⟨vp_in_nI (by omega) (by omega), hp⟩⟩
theorem my_fetch0 {post : Int32 → SY → Prop} {t k s : Nat} (ht : t ≤ 40) (hk : k < 6) (hnv : ¬ mr_hv hs t k) (hst : s < t) (hv : mr_hv hs s k) (hn : ∀ x, s < x → x < t → ¬ mr_hv hs x k) (hp : post (yv (s * 6 + k)) (nI K, nI O, nI M, nI N, nI L, nI h, ts, yk, hs, yv, upd rf (t * 6 + k) (nI s), dm)) : wpY_fetch post (nI K, nI O, nI M, nI N, nI L, nI h, ts, yk, hs, yv, rf, dm) (nI t) (nI k) := by
  have L := my_fetchL (K := K) (O := O) (M := M) (N := N) (L := L) (h := h) (ts := ts) (yk := yk) (dm := dm) ht hk hst hv hn hp 41 0 0 (by omega) (fun w => by omega)
  unfold wpY_fetch
  dsimp only
  refine ⟨?_, br_t ?_ ⟨42, L⟩⟩
  · rw [mr_ix]; exact vp_in_nI (by omega) (by omega)
  · rw [mr_ix, mr_cl (by omega)]
    exact Classical.byContradiction fun z => hnv z
theorem my_store {post : SY → Prop} {t k : Nat} {v : Int32} (ht : t ≤ 40) (hk : k < 6) (hp : post (nI K, nI O, nI M, nI N, nI L, nI h, ts, yk, upd hs (t * 6 + k) 1, upd yv (t * 6 + k) (v &&& 65535), rf, dm)) : wpY_store post (nI K, nI O, nI M, nI N, nI L, nI h, ts, yk, hs, yv, rf, dm) (nI t) (nI k) v := by
  unfold wpY_store
  dsimp only
  rw [mr_ix, mr_cl (by omega)]
  exact ⟨vp_in_nI (by omega) (by omega), nm_e ⟨vp_in_nI (by omega) (by omega), nm_e hp⟩⟩
theorem my_fb2 {post : Int32 → Prop} {J : Int32 → Prop} {t s : Nat} (ht : t ≤ 40) (hs40 : s ≤ 40) : ∀ d i, i + d = 6 → ((∃ k, i ≤ k ∧ k < 6 ∧ rf (t * 6 + k) = nI s ∧ mr_uf ts s) → post (nI s)) → ((¬ ∃ k, i ≤ k ∧ k < 6 ∧ rf (t * 6 + k) = nI s ∧ mr_uf ts s) → J (nI (s + 1))) → wY_firstBlocker_10 post J (nI t) (nI s) (nI K) (nI O) (nI M) (nI N) (nI L) (nI h) ts yk hs yv rf dm (d + 1) (nI i) := by
  intro d
  induction d with
  | zero =>
    intro i hi h1 h0
    refine br_t (nI_le (a := 6) (by omega) (by omega)) (nm_r (nI_1 s) (h0 ?_))
    rintro ⟨k, a, b, _⟩
    omega
  | succ d ih =>
    intro i hi h1 h0
    have nx : (¬ (rf (t * 6 + i) = nI s ∧ mr_uf ts s)) → wY_firstBlocker_10 post J (nI t) (nI s) (nI K) (nI O) (nI M) (nI N) (nI L) (nI h) ts yk hs yv rf dm (d + 1) (nI (i + 1)) := by
      intro z
      refine ih (i + 1) (by omega) ?_ ?_
      · rintro ⟨k, a, b, c⟩
        exact h1 ⟨k, by omega, b, c⟩
      · intro n
        refine h0 ?_
        rintro ⟨k, a, b, c⟩
        by_cases e : k = i
        · subst e; exact z c
        · exact n ⟨k, by omega, b, c⟩
    refine br_f (nI_ge (b := 6) (by omega) (by omega)) ?_
    rw [mr_ix, mr_cl (by omega)]
    refine ⟨vp_in_nI (by omega) (by omega), br_c (fun e => my_unf hs40 (fun z => br_f (by decide) (h1 ⟨i, by omega, by omega, e, z⟩)) (fun z => br_t rfl (nm_r (nI_1 i) (nx fun w => z w.2)))) (fun e => nm_r (nI_1 i) (nx fun w => e w.1))⟩
theorem my_fb1 {post : Int32 → Prop} {t : Nat} (ht : t ≤ 40) (h1 : ∀ s, 1 ≤ s → s ≤ 40 → (∃ k, k < 6 ∧ rf (t * 6 + k) = nI s ∧ mr_uf ts s) → (∀ j, 1 ≤ j → j < s → ¬ ∃ k, k < 6 ∧ rf (t * 6 + k) = nI j ∧ mr_uf ts j) → post (nI s)) (h0 : (∀ j, 1 ≤ j → j ≤ 40 → ¬ ∃ k, k < 6 ∧ rf (t * 6 + k) = nI j ∧ mr_uf ts j) → post 0) : ∀ d i, 1 ≤ i → i + d = 41 → (∀ j, 1 ≤ j → j < i → ¬ ∃ k, k < 6 ∧ rf (t * 6 + k) = nI j ∧ mr_uf ts j) → wY_firstBlocker_2 post (nI t) (nI K) (nI O) (nI M) (nI N) (nI L) (nI h) ts yk hs yv rf dm (d + 1) (nI i) := by
  intro d
  induction d with
  | zero =>
    intro i h1i hi hn
    exact br_t (nI_lt (a := 40) (by omega) (by omega)) (h0 fun j a b => hn j a (by omega))
  | succ d ih =>
    intro i h1i hi hn
    refine br_f (nI_nlt (a := 40) (by omega) (by omega)) ⟨7, my_fb2 ht (by omega) 6 0 (by omega) ?_ (fun z => ih (i + 1) (by omega) (by omega) fun j a b => ?_)⟩
    · rintro ⟨k, _, b, c⟩
      exact h1 i h1i (by omega) ⟨k, b, c⟩ hn
    · by_cases e : j = i
      · subst e
        rintro ⟨k, b, c⟩
        exact z ⟨k, by omega, b, c⟩
      · exact hn j a (by omega)
theorem my_fb {post : Int32 → Prop} {t : Nat} (ht : t ≤ 40) (h1 : ∀ s, 1 ≤ s → s ≤ 40 → (∃ k, k < 6 ∧ rf (t * 6 + k) = nI s ∧ mr_uf ts s) → (∀ j, 1 ≤ j → j < s → ¬ ∃ k, k < 6 ∧ rf (t * 6 + k) = nI j ∧ mr_uf ts j) → post (nI s)) (h0 : (∀ j, 1 ≤ j → j ≤ 40 → ¬ ∃ k, k < 6 ∧ rf (t * 6 + k) = nI j ∧ mr_uf ts j) → post 0) : wpY_firstBlocker post (nI K, nI O, nI M, nI N, nI L, nI h, ts, yk, hs, yv, rf, dm) (nI t) :=
  Exists.intro 41 (my_fb1 ht h1 h0 40 1 (by omega) (by omega) fun j a b => by omega)
theorem my_keptL {post : Int32 → Prop} {k s : Nat} (hk : k < 6) (hs40 : s ≤ 40) (hh : h ≤ 41) : ∀ d i, i + d = 41 → ((∃ x, i ≤ x ∧ s < x ∧ x < h ∧ mr_hv hs x k) → post 0) → ((¬ ∃ x, i ≤ x ∧ s < x ∧ x < h ∧ mr_hv hs x k) → post 1) → wY_kept_38 post (nI k) (nI s) (nI K) (nI O) (nI M) (nI N) (nI L) (nI h) ts yk hs yv rf dm (d + 1) (nI i) := by
  intro d
  induction d with
  | zero =>
    intro i hi h1 h0
    refine br_t (nI_lt (a := 40) (by omega) (by omega)) (h0 ?_)
    rintro ⟨x, a, b, c, _⟩
    omega
  | succ d ih =>
    intro i hi h1 h0
    have nx : (¬ (s < i ∧ i < h ∧ mr_hv hs i k)) → wY_kept_38 post (nI k) (nI s) (nI K) (nI O) (nI M) (nI N) (nI L) (nI h) ts yk hs yv rf dm (d + 1) (nI (i + 1)) := by
      intro z
      refine ih (i + 1) (by omega) ?_ ?_
      · rintro ⟨x, a, b⟩
        exact h1 ⟨x, by omega, b⟩
      · intro n
        refine h0 ?_
        rintro ⟨x, a, b⟩
        by_cases e : x = i
        · subst e; exact z b
        · exact n ⟨x, by omega, b⟩
    refine br_f (nI_nlt (a := 40) (by omega) (by omega)) (br_c (fun e => nm_r (nI_1 i) (nx fun w => ?_)) (fun e => br_c (fun f => nm_r (nI_1 i) (nx fun w => ?_)) (fun f => ?_)))
    · rw [nI_leI (by omega) (by omega)] at e
      omega
    · rw [nI_leI (by omega) (by omega)] at f
      omega
    · rw [nI_leI (by omega) (by omega)] at e f
      rw [mr_ix, mr_cl (by omega)]
      exact ⟨vp_in_nI (by omega) (by omega), br_c (fun z => nm_r (nI_1 i) (nx fun w => w.2.2 z)) (fun z => h1 ⟨i, by omega, by omega, by omega, z⟩)⟩
theorem my_kept {post : Int32 → Prop} {k : Nat} {v : Int32} (hk : k < 6) (hL : L ≤ 40) (hh : h ≤ 41) (h1 : ∀ s, s ≤ L → v = nI s → mr_kp h hs k s → post 1) (h0 : (¬ ∃ s, s ≤ L ∧ v = nI s ∧ mr_kp h hs k s) → post 0) : wpY_kept post (nI K, nI O, nI M, nI N, nI L, nI h, ts, yk, hs, yv, rf, dm) (nI k) v := by
  refine br_c (fun e => h0 ?_) (fun e => br_c (fun f => h0 ?_) (fun f => ?_))
  · rintro ⟨s, a, b, _⟩
    rw [b] at e
    exact mr_m1l s (by omega) e
  · rintro ⟨s, a, b, _⟩
    rw [b] at f
    exact absurd f (nI_nlt a (by omega))
  · obtain ⟨s, hs31, rfl⟩ := nI_of e
    rw [nI_ltI (by omega) hs31] at f
    refine br_t (nI_le (b := 40) (by omega) (by omega)) ?_
    rw [mr_ix, mr_cl (by omega)]
    refine ⟨vp_in_nI (by omega) (by omega), br_c (fun z => h0 ?_) (fun z => ⟨42, my_keptL hk (by omega) hh 41 0 (by omega) ?_ ?_⟩)⟩
    · rintro ⟨s', a, b, c, _⟩
      have : s = s' := mr_inj (by omega) (by omega) b
      subst this
      exact c z
    · rintro ⟨x, _, a, b, c⟩
      refine h0 ?_
      rintro ⟨s', a', b', c'⟩
      have : s = s' := mr_inj (by omega) (by omega) b'
      subst this
      exact c'.2 x a b c
    · intro n
      exact h1 s (by omega) rfl ⟨z, fun x a b c => n ⟨x, by omega, a, b, c⟩⟩
theorem my_wmL {post : Int32 → Prop} (h1 : ∀ t, 1 ≤ t → t ≤ 40 → mr_uf ts t → (∀ j, 1 ≤ j → j < t → ¬ mr_uf ts j) → post (nI t)) (h0 : (∀ j, 1 ≤ j → j ≤ 40 → ¬ mr_uf ts j) → post (nI (L + 1))) : ∀ d i, 1 ≤ i → i + d = 41 → (∀ j, 1 ≤ j → j < i → ¬ mr_uf ts j) → wY_watermark_2 post (nI K) (nI O) (nI M) (nI N) (nI L) (nI h) ts yk hs yv rf dm (d + 1) (nI i) := by
  intro d
  induction d with
  | zero =>
    intro i h1i hi hn
    refine br_t (nI_lt (a := 40) (by omega) (by omega)) ?_
    rw [nI_1]
    exact h0 fun j a b => hn j a (by omega)
  | succ d ih =>
    intro i h1i hi hn
    refine br_f (nI_nlt (a := 40) (by omega) (by omega)) (my_unf (by omega) (fun z => br_f (by decide) (h1 i h1i (by omega) z hn)) (fun z => br_t rfl (nm_r (nI_1 i) (ih (i + 1) (by omega) (by omega) fun j a b => ?_))))
    by_cases e : j = i
    · subst e; exact z
    · exact hn j a (by omega)
theorem my_wm {post : Int32 → Prop} (h1 : ∀ t, 1 ≤ t → t ≤ 40 → mr_uf ts t → (∀ j, 1 ≤ j → j < t → ¬ mr_uf ts j) → post (nI t)) (h0 : (∀ j, 1 ≤ j → j ≤ 40 → ¬ mr_uf ts j) → post (nI (L + 1))) : wpY_watermark post (nI K, nI O, nI M, nI N, nI L, nI h, ts, yk, hs, yv, rf, dm) :=
  Exists.intro 41 (my_wmL h1 h0 40 1 (by omega) (by omega) fun j a b => by omega)
end
end
section
/-- the newest version below b -/
theorem mr_new {hs : Nat → Int32} {k : Nat} (h0 : mr_hv hs 0 k) : ∀ b, 1 ≤ b → ∃ s, s < b ∧ mr_hv hs s k ∧ ∀ x, s < x → x < b → ¬ mr_hv hs x k := by
  intro b
  induction b with
  | zero => intro h; omega
  | succ b ih =>
    intro _
    by_cases e : mr_hv hs b k
    · exact ⟨b, by omega, e, fun x a c => by omega⟩
    · by_cases z : b = 0
      · subst z; exact absurd h0 e
      · obtain ⟨s, a, c, d⟩ := ih (by omega)
        refine ⟨s, by omega, c, fun x p q => ?_⟩
        by_cases y : x = b
        · subst y; exact e
        · exact d x p (by omega)
noncomputable def mr_kb (h : Nat) (hs : Nat → Int32) (k s : Nat) : Bool := @decide (mr_kp h hs k s) (Classical.propDecidable _)
theorem mr_kbI {h : Nat} {hs : Nat → Int32} {k s : Nat} : mr_kb h hs k s = true ↔ mr_kp h hs k s := @decide_eq_true_iff _ (Classical.propDecidable _)
theorem mr_kcnt {h : Nat} {hs : Nat → Int32} {k : Nat} (h0 : mr_hv hs 0 k) (h1 : 1 ≤ h) (h41 : h ≤ 41) : mc_n (mr_kb h hs k) 0 41 = 1 + mc_n (fun s => mr_hb h hs s k) 1 40 := by
  obtain ⟨s0, a, b, c⟩ := mr_new h0 h h1
  have e1 : mc_n (mr_kb h hs k) 0 41 = mc_n (mr_kb h hs k) 0 h + mc_n (mr_kb h hs k) (0 + h) (41 - h) := by
    have := mc_split (fun s => if mr_kb h hs k s = true then 1 else 0) h 0 (41 - h)
    rw [show h + (41 - h) = 41 by omega] at this
    exact this
  have e2 : mc_n (fun s => mr_hb h hs s k) 1 40 = mc_n (fun s => mr_hb h hs s k) 1 (h - 1) + mc_n (fun s => mr_hb h hs s k) (1 + (h - 1)) (41 - h) := by
    have := mc_split (fun s => if mr_hb h hs s k = true then 1 else 0) (h - 1) 1 (41 - h)
    rw [show h - 1 + (41 - h) = 40 by omega] at this
    exact this
  have e3 : mc_n (fun s => mr_hb h hs s k) 1 (h - 1) = 0 := mc_zero _ _ fun s p q => if_neg fun z => by
    have := (mr_hbI.mp z).1
    omega
  have e4 : mc_n (mr_kb h hs k) 0 h = 1 := by
    have t := mc_one (f := fun s => if mr_kb h hs k s = true then 1 else 0) (g := fun _ => 0) (a := s0) h 0 (by omega) (by omega) (fun s p q r => if_neg fun z => by
      have y := mr_kbI.mp z
      rcases Nat.lt_or_ge s s0 with w | w
      · exact y.2 s0 w a b
      · exact c s (by omega) (by omega) y.1)
    rw [if_pos (mr_kbI.mpr ⟨b, c⟩), mc_zero (f := fun _ => 0) h 0 (fun _ _ _ => rfl)] at t
    exact t
  have e5 : mc_n (mr_kb h hs k) (0 + h) (41 - h) = mc_n (fun s => mr_hb h hs s k) (1 + (h - 1)) (41 - h) := by
    rw [show 0 + h = 1 + (h - 1) by omega]
    refine mc_ncong fun s p q => ?_
    rw [mr_kbI, mr_hbI]
    exact ⟨fun z => ⟨by omega, z.1⟩, fun z => ⟨z.2, fun x u v => by omega⟩⟩
  omega
section
variable {K O M N L h : Nat} {A W C : Int64} {fr us : Int32} {rk rs sp vv ol nw : Nat → Int32} {so rd : Nat → Int64} {ts yk hs yv rf dm : Nat → Int32} {G : Nat → List (Nat × Nat)} {own : Nat → Nat} {x : Int32}
theorem mr_ch {k : Nat} (hO : mr_O K fr us x ol nw G own) (hk : k < K) : mh_ch ol (nw k) (G k) := by
  have t := (hO.1 k).1
  unfold mh_hd at t
  rw [if_pos hk] at t
  exact t
theorem mr_len {k : Nat} (hO : mr_O K fr us x ol nw G own) (hk : k < K) : (G k).length ≤ 38 := by
  have t := mh_le (G := G) hk
  have := hO.2.2
  omega
theorem mr_sl {k : Nat} (hO : mr_O K fr us x ol nw G own) (hk : k < K) : ∀ p ∈ G k, p.1 < 38 := mh_lt _ _ (mr_ch hO hk)
theorem mr_cnt (h1 : 1 ≤ h) (h41 : h ≤ 41) (hK : K ≤ 6) (hH : mr_H K L ts hs) (hG : mr_G K h hs yv rf sp vv rd G) : mh_U G K = K + mr_held h hs := by
  have e1 : mr_held h hs = mc_s (fun k => mc_n (fun s => mr_hb h hs s k) 1 40) 0 6 := mc_swap (fun s k => if mr_hb h hs s k = true then 1 else 0) 40 1 6 0
  have e2 : mc_s (fun k => mc_n (fun s => mr_hb h hs s k) 1 40) 0 6 = mc_s (fun k => mc_n (fun s => mr_hb h hs s k) 1 40) 0 K + mc_s (fun k => mc_n (fun s => mr_hb h hs s k) 1 40) (0 + K) (6 - K) := by
    have := mc_split (fun k => mc_n (fun s => mr_hb h hs s k) 1 40) K 0 (6 - K)
    rw [show K + (6 - K) = 6 by omega] at this
    exact this
  have e3 : mc_s (fun k => mc_n (fun s => mr_hb h hs s k) 1 40) (0 + K) (6 - K) = 0 := mc_zero _ _ fun k p q => mc_zero _ _ fun s u v => if_neg fun z => by
    have := (hH.2 s k (by omega) (by omega) (by omega) (mr_hbI.mp z).2).1
    omega
  have e4 : mh_U G K = mc_s (fun k => 1 + mc_n (fun s => mr_hb h hs s k) 1 40) 0 K := by
    refine mc_cong _ _ fun k p q => ?_
    have g := hG k (by omega)
    rw [← mr_kcnt (hH.1 k (by omega)) h1 h41]
    exact mc_len _ 41 _ g.1 (fun a ha => by have := (g.2.1 a ha).1; omega) (fun s hs => by rw [mr_kbI]; exact g.2.2 s (by omega))
  have e5 : ∀ n i, mc_s (fun _ => 1) i n = n := by
    intro n
    induction n with
    | zero => intro i; rfl
    | succ n ih => intro i; show 1 + mc_s (fun _ => 1) (i + 1) n = n + 1; rw [ih]; omega
  rw [e4, mc_add, e5]
  omega
/-- the newest version not above t, in the chain -/
theorem mr_find {k t : Nat} (h1 : 1 ≤ h) (h41 : h ≤ 41) (ht : h ≤ t + 1) (t31 : t < 2 ^ 31) (hk : k < K) (hK : K ≤ 6) (hH : mr_H K L ts hs) (hG : mr_G K h hs yv rf sp vv rd G) : ∃ a s, (a, s) ∈ G k ∧ mx_f (nI t) (G k) = nI a ∧ s ≤ t ∧ mr_hv hs s k ∧ (∀ x, s < x → x < h → ¬ mr_hv hs x k) ∧ ∀ x, s < x → x ≤ t → x ≤ 40 → ¬ mr_hv hs x k := by
  have g := hG k hk
  obtain ⟨s0, a, b, c⟩ := mr_new (hH.1 k (by omega)) h h1
  obtain ⟨a0, m0⟩ := (g.2.2 s0 (by omega)).mpr ⟨b, c⟩
  rcases mx_fS (nI t) (G k) g.1 with ⟨_, n⟩ | ⟨p, hp, e, n, mx⟩
  · exact absurd (n _ m0) (nI_nlt (show s0 ≤ t by omega) (by omega))
  · have p40 := (g.2.1 p hp).1
    have pt : p.2 ≤ t := by
      rw [nI_ltI (by omega) (by omega)] at n
      omega
    have kp := (g.2.2 p.2 p40).mp ⟨p.1, hp⟩
    refine ⟨p.1, p.2, hp, e, pt, kp.1, kp.2, fun x u v w y => ?_⟩
    rcases Nat.lt_or_ge x h with z | z
    · exact kp.2 x u z y
    · obtain ⟨a1, m1⟩ := (g.2.2 x w).mpr ⟨y, fun z1 u1 v1 => by omega⟩
      have := mx _ m1 (nI_nlt (show x ≤ t from v) (by omega))
      have : x ≤ p.2 := this
      omega
theorem mj_aob {post : Int32 → Prop} {k : Nat} {s : Int32} (hk : k < K) (hK : K ≤ 6) (hG : mr_G K h hs yv rf sp vv rd G) (hO : mr_O K fr us x ol nw G own) (hp : post (mx_f s (G k))) : wpX_atOrBelow post (nI K, nI O, nI M, nI N, nI L, nI h, A, W, C, fr, us, rk, so, rs, sp, vv, rd, ol, nw) (nI k) s :=
  mx_aob (G k) (by omega) (mr_ch hO hk) (fun p q => ((hG k hk).2.1 p q).2.1) (mr_len hO hk) hp
theorem mj_exact {post : Int32 → Prop} {k : Nat} {v : Int32} (hk : k < K) (hK : K ≤ 6) (hG : mr_G K h hs yv rf sp vv rd G) (hO : mr_O K fr us x ol nw G own) (h1 : ∀ a s, (a, s) ∈ G k → v = nI s → post (nI a)) (h0 : (∀ p ∈ G k, v ≠ nI p.2) → post (-1)) : wpX_exactly post (nI K, nI O, nI M, nI N, nI L, nI h, A, W, C, fr, us, rk, so, rs, sp, vv, rd, ol, nw) (nI k) v := by
  unfold wpX_exactly
  refine mj_aob hk hK hG hO ?_
  have g := hG k hk
  rcases mx_fS v (G k) g.1 with ⟨e, n⟩ | ⟨p, hp, e, n, mx⟩
  · rw [e]
    refine br_t (by decide) (h0 fun p hp z => ?_)
    have t := n p hp
    rw [z] at t
    exact absurd t Int32.lt_irrefl
  · rw [e]
    have p38 := mr_sl hO hk p hp
    have pv := g.2.1 p hp
    refine br_f (nI_pos (by omega)) ⟨vp_in_nI p38 (by omega), ?_⟩
    rw [nI_clamp (by omega), pv.2.1]
    refine br_c (fun z => h1 p.1 p.2 hp z.symm) (fun z => h0 fun q hq y => ?_)
    have q40 := (g.2.1 q hq).1
    have p40 := pv.1
    subst y
    have t1 := mx q hq Int32.lt_irrefl
    rw [nI_ltI (by omega) (by omega)] at n
    exact z (congrArg nI (show p.2 = q.2 by omega))
/-- those in the way, as bits -/
theorem mj_iw {k t : Nat} (h1 : 1 ≤ h) (ht : h ≤ t) (t40 : t ≤ 40) (hk : k < K) (hK : K ≤ 6) (hH : mr_H K L ts hs) (hF : mr_F K L ts hs rf) (hG : mr_G K h hs yv rf sp vv rd G) (hO : mr_O K fr us x ol nw G own) : ∃ w : Int64, (∀ u, ml_b w u = true ↔ u ≤ 40 ∧ mr_iw rf u t k) ∧ ∀ post : Int64 → Prop, post w → wpX_inTheWay post (nI K, nI O, nI M, nI N, nI L, nI h, A, W, C, fr, us, rk, so, rs, sp, vv, rd, ol, nw) (nI t) (nI k) := by
  obtain ⟨a, s, hm, e, st, hv, nh, nt⟩ := mr_find (t := t) h1 (by omega) (by omega) (by omega) hk hK hH hG
  have pv := (hG k hk).2.1 _ hm
  have a38 : a < 38 := mr_sl hO hk _ hm
  refine ⟨rd a &&& ((-2 : Int64) <<< ((nI t).toInt64 &&& 63)), fun u => ?_, fun post hp => ?_⟩
  · rw [ml_above (by omega), show ml_b (rd a) u = true ↔ _ from pv.2.2.2 u]
    constructor
    · rintro ⟨⟨_, u40, r⟩, tu⟩
      exact ⟨u40, tu, s, st, r⟩
    · rintro ⟨u40, tu, s', st', r⟩
      have f := mr_Fs hF u40 (show k < 6 by omega) (by omega) r
      have : s' = s := by
        rcases Nat.lt_trichotomy s s' with z | z | z
        · exact absurd f.2.1 (nt s' z st' (by omega))
        · exact z.symm
        · exact absurd hv (f.2.2.1 s z (by omega))
      subst this
      exact ⟨⟨by omega, u40, r⟩, tu⟩
  · unfold wpX_inTheWay
    refine mj_aob hk hK hG hO ?_
    rw [e]
    refine br_t (nI_pos' (by omega)) ⟨vp_in_nI a38 (by omega), ?_⟩
    rw [nI_clamp (by omega)]
    exact hp
/-- the bits of the unfinished -/
theorem mr_AW (hB : mr_B ts A W C) (s : Nat) : ml_b (A ||| W) s = true ↔ s ≤ 40 ∧ mr_uf ts s := by
  rw [ml_orI, (hB s).1, (hB s).2.1]
  unfold mr_uf
  constructor
  · rintro (z | z)
    · exact ⟨z.1, Or.inl z.2⟩
    · exact ⟨z.1, Or.inr z.2⟩
  · rintro ⟨a, z | z⟩
    · exact Or.inl ⟨a, z⟩
    · exact Or.inr ⟨a, z⟩
theorem mr_tx (v : Int32) (hL : L ≤ 40) : (v < 1 ∨ ¬ v ≤ nI L) ∨ ∃ t, 1 ≤ t ∧ t ≤ L ∧ v = nI t := by
  by_cases e : v < 1
  · exact Or.inl (Or.inl e)
  · by_cases f : v ≤ nI L
    · have e0 : ¬ v < 0 := fun z => e (Int32.lt_trans z (by decide))
      obtain ⟨t, ht, rfl⟩ := nI_of e0
      rw [nI_leI ht (by omega)] at f
      refine Or.inr ⟨t, ?_, f, rfl⟩
      apply Classical.byContradiction
      intro z
      exact e (nI_lt (b := 1) (by omega) (by omega))
    · exact Or.inl (Or.inr f)
/-- who is unfinished has begun, and not below the horizon -/
theorem mr_ufL {t : Nat} (hT : mr_T L ts) (hZ : mr_Z h ts) (t40 : t ≤ 40) (u : mr_uf ts t) : 1 ≤ t ∧ t ≤ L ∧ h ≤ t := by
  have a : ¬ (t = 0 ∨ L < t) := fun z => by
    rcases u with u | u
    · rw [hT.1 t t40 z] at u; exact absurd u (by decide)
    · rw [hT.1 t t40 z] at u; exact absurd u (by decide)
  refine ⟨by omega, by omega, ?_⟩
  apply Classical.byContradiction
  intro z
  exact hZ t (by omega) (by omega) u
/-- the checks of t and k: one refusal for both, or none -/
theorem mj_acc (hP : mr_P K O M N L h) (hB : mr_B ts A W C) (v1 v2 : Int32) : (∃ r : Int32, r ≠ 0 ∧ (∀ post : Int32 → Prop, post r → wpX_accessRefusal post (nI K, nI O, nI M, nI N, nI L, nI h, A, W, C, fr, us, rk, so, rs, sp, vv, rd, ol, nw) v1 v2 v2) ∧ (∀ post : Int32 → Prop, post r → wpY_check post (nI K, nI O, nI M, nI N, nI L, nI h, ts, yk, hs, yv, rf, dm) v1 v2)) ∨ (∃ t k, v1 = nI t ∧ v2 = nI k ∧ 1 ≤ t ∧ t ≤ L ∧ ts t = 1 ∧ k < K ∧ (∀ post : Int32 → Prop, post 0 → wpX_accessRefusal post (nI K, nI O, nI M, nI N, nI L, nI h, A, W, C, fr, us, rk, so, rs, sp, vv, rd, ol, nw) v1 v2 v2) ∧ (∀ post : Int32 → Prop, post 0 → wpY_check post (nI K, nI O, nI M, nI N, nI L, nI h, ts, yk, hs, yv, rf, dm) v1 v2)) := by
  have hL : L ≤ 40 := by unfold mr_P at hP; omega
  have hK : K ≤ 6 := by unfold mr_P at hP; omega
  rcases mr_tx (L := L) v1 hL with z | ⟨t, a, b, rfl⟩
  · exact Or.inl ⟨-1, by decide, fun _ hp => mx_acc1 z hp, fun _ hp => my_chk1 z hp⟩
  · by_cases e : ts t = 1
    · have hA : ml_b A t = true := (hB t).1.mpr ⟨by omega, e⟩
      rcases pk_ix v2 (n := K) (by omega) with z | z | ⟨k, c, rfl⟩
      · exact Or.inl ⟨-3, by decide, fun _ hp => mx_acc3 a b hL hA (Or.inl z) hp, fun _ hp => my_chk3 a b hL e (Or.inl z) hp⟩
      · exact Or.inl ⟨-3, by decide, fun _ hp => mx_acc3 a b hL hA (Or.inr (Or.inl z)) hp, fun _ hp => my_chk3 a b hL e (Or.inr z) hp⟩
      · exact Or.inr ⟨t, k, rfl, rfl, a, b, e, c, fun _ hp => mx_acc0 a b hL hA (nI_pos (by omega)) (nI_ge c (by omega)) (Int32.le_refl _) hp, fun _ hp => my_chk0 a b hL e c hK hp⟩
    · have hA : ml_b A t = false := ts_nt fun z => e ((hB t).1.mp z).2
      exact Or.inl ⟨-2, by decide, fun _ hp => mx_acc2 a b hL hA hp, fun _ hp => my_chk2 a b hL e hp⟩
theorem mj_ufr (hP : mr_P K O M N L h) (hB : mr_B ts A W C) (v1 : Int32) : (∃ r : Int32, r < 0 ∧ (∀ post : Int32 → Prop, post r → wpX_unfinishedRefusal post (nI K, nI O, nI M, nI N, nI L, nI h, A, W, C, fr, us, rk, so, rs, sp, vv, rd, ol, nw) v1) ∧ (∀ post : Int32 → Prop, post r → wpY_checkUnfinished post (nI K, nI O, nI M, nI N, nI L, nI h, ts, yk, hs, yv, rf, dm) v1)) ∨ (∃ t, v1 = nI t ∧ 1 ≤ t ∧ t ≤ L ∧ mr_uf ts t ∧ (∀ post : Int32 → Prop, post 0 → wpX_unfinishedRefusal post (nI K, nI O, nI M, nI N, nI L, nI h, A, W, C, fr, us, rk, so, rs, sp, vv, rd, ol, nw) v1) ∧ (∀ post : Int32 → Prop, post 0 → wpY_checkUnfinished post (nI K, nI O, nI M, nI N, nI L, nI h, ts, yk, hs, yv, rf, dm) v1)) := by
  have hL : L ≤ 40 := by unfold mr_P at hP; omega
  rcases mr_tx (L := L) v1 hL with z | ⟨t, a, b, rfl⟩
  · exact Or.inl ⟨-1, by decide, fun _ hp => mx_ufr1 z hp, fun _ hp => my_cuf1 z hp⟩
  · by_cases e : mr_uf ts t
    · exact Or.inr ⟨t, rfl, a, b, e, fun _ hp => mx_ufr0 a b hL ((mr_AW hB t).mpr ⟨by omega, e⟩) hp, fun _ hp => my_cuf0 a b hL e hp⟩
    · exact Or.inl ⟨-9, by decide, fun _ hp => mx_ufr2 a b hL (ts_nt fun z => e ((mr_AW hB t).mp z).2) hp, fun _ hp => my_cuf2 a b hL e hp⟩
end
end
section
section
variable {K O M N L h : Nat} {A W C : Int64} {fr us : Int32} {rk rs sp vv ol nw : Nat → Int32} {so rd : Nat → Int64} {ts yk hs yv rf dm : Nat → Int32} {G : Nat → List (Nat × Nat)} {own : Nat → Nat}
theorem my_st1 {post : Int32 → Prop} {v : Int32} (hq : v < 1 ∨ ¬ v ≤ nI L) (hp : post (-1)) : wpY_status post (nI K, nI O, nI M, nI N, nI L, nI h, ts, yk, hs, yv, rf, dm) v :=
  br_c (fun _ => hp) (fun z => br_f (by rcases hq with w | w; exact absurd w z; exact w) hp)
theorem my_st0 {post : Int32 → Prop} {t : Nat} (h1 : 1 ≤ t) (h2 : t ≤ L) (hL : L ≤ 40) (hp : post (ts t)) : wpY_status post (nI K, nI O, nI M, nI N, nI L, nI h, ts, yk, hs, yv, rf, dm) (nI t) := by
  refine br_f (nI_nlt (b := 1) h1 (by omega)) (br_t (nI_le h2 (by omega)) ⟨vp_in_nI (by omega) (by omega), ?_⟩)
  rw [nI_clamp (by omega)]
  exact hp
theorem my_rk1 {post : Int32 → Prop} {v : Int32} (hq : v < 1 ∨ ¬ v ≤ nI L) (hp : post (-1)) : wpY_rank post (nI K, nI O, nI M, nI N, nI L, nI h, ts, yk, hs, yv, rf, dm) v :=
  br_c (fun _ => hp) (fun z => br_f (by rcases hq with w | w; exact absurd w z; exact w) hp)
theorem my_rk0 {post : Int32 → Prop} {t : Nat} (h1 : 1 ≤ t) (h2 : t ≤ L) (hL : L ≤ 40) (hp : post (yk t)) : wpY_rank post (nI K, nI O, nI M, nI N, nI L, nI h, ts, yk, hs, yv, rf, dm) (nI t) := by
  refine br_f (nI_nlt (b := 1) h1 (by omega)) (br_t (nI_le h2 (by omega)) ⟨vp_in_nI (by omega) (by omega), ?_⟩)
  rw [nI_clamp (by omega)]
  exact hp
theorem mx_held {post : Int32 → Prop} {n : Nat} (hu : us = nI (K + n)) (hp : post (nI n)) : wpX_held post (nI K, nI O, nI M, nI N, nI L, nI h, A, W, C, fr, us, rk, so, rs, sp, vv, rd, ol, nw) := by
  show post (us - nI K)
  rw [hu, pk_sub (by omega), Nat.add_sub_cancel_left]
  exact hp
theorem mj_U (hP : mr_P K O M N L h) (hH : mr_H K L ts hs) (hG : mr_G K h hs yv rf sp vv rd G) (hO : mr_O K fr us (-1) ol nw G own) : us = nI (K + mr_held h hs) := by
  unfold mr_P at hP
  rw [hO.2.1, mr_cnt (by omega) (by omega) (by omega) hH hG]
/-- the watermark, one number for both -/
theorem mj_wm (hP : mr_P K O M N L h) (hT : mr_T L ts) (hZ : mr_Z h ts) (hB : mr_B ts A W C) : ∃ w, h ≤ w ∧ w ≤ L + 1 ∧ (∀ j, 1 ≤ j → j < w → ¬ mr_uf ts j) ∧ (∀ post : Int32 → Prop, post (nI w) → wpX_watermark post (nI K, nI O, nI M, nI N, nI L, nI h, A, W, C, fr, us, rk, so, rs, sp, vv, rd, ol, nw)) ∧ (∀ post : Int32 → Prop, post (nI w) → wpY_watermark post (nI K, nI O, nI M, nI N, nI L, nI h, ts, yk, hs, yv, rf, dm)) := by
  unfold mr_P at hP
  by_cases e : ∃ j, j ≤ 40 ∧ mr_uf ts j
  · obtain ⟨w, ⟨w40, uw⟩, lw⟩ := pk_least _ e
    have wl := mr_ufL hT hZ w40 uw
    refine ⟨w, wl.2.2, by omega, fun j _ b c => lw j b ⟨by omega, c⟩, fun post hp => ?_, fun post hp => ?_⟩
    · refine nm_e (br_f (ml_nz.mpr ⟨w, by omega, (mr_AW hB w).mpr ⟨w40, uw⟩⟩) (mx_low _ _ fun a ha _ h2 => ?_))
      have t := h2 (ml_nz.mpr ⟨w, by omega, (mr_AW hB w).mpr ⟨w40, uw⟩⟩)
      have : a = w := by
        rcases Nat.lt_trichotomy a w with z | z | z
        · exact absurd ((mr_AW hB a).mp t.1) (lw a z)
        · exact z
        · have y := t.2 w z
          rw [(mr_AW hB w).mpr ⟨w40, uw⟩] at y
          cases y
      rw [this]
      exact hp
    · refine my_wm (fun t a b c d => ?_) (fun n => absurd uw (n w (by omega) w40))
      have : t = w := by
        rcases Nat.lt_trichotomy t w with z | z | z
        · exact absurd ⟨b, c⟩ (lw t z)
        · exact z
        · exact absurd uw (d w (by omega) z)
      rw [this]
      exact hp
  · refine ⟨L + 1, by omega, by omega, fun j a b c => e ⟨j, by omega, c⟩, fun post hp => ?_, fun post hp => ?_⟩
    · refine nm_e (br_t (ml_z.mpr fun s _ => ts_nt fun z => e ⟨s, (mr_AW hB s).mp z⟩) ?_)
      rw [nI_1]
      exact hp
    · exact my_wm (fun t a b c d => absurd ⟨t, b, c⟩ e) (fun _ => hp)
end
theorem i_vc_status {k : Nat} {u : SX} {v : SY} (I : i_Rel k u v) (hk : k + 4 ≤ 2052) (v1 : Int32) : wpX_status (fun r => wpY_status (fun r' => r' = r ∧ i_Rel (k + 4) u v) v v1) u v1 := by
  refine I (fun u v => wpX_status (fun r => wpY_status (fun r' => r' = r ∧ i_Rel (k + 4) u v) v v1) u v1) ?_
  intro K O M N L h A W C fr us rk so rs sp vv rd ol nw ts yk hs yv rf dm G own hY hX
  have J : i_Rel (k + 4) (nI K, nI O, nI M, nI N, nI L, nI h, A, W, C, fr, us, rk, so, rs, sp, vv, rd, ol, nw) (nI K, nI O, nI M, nI N, nI L, nI h, ts, yk, hs, yv, rf, dm) := mr_in hY hX
  obtain ⟨hP, hT, hH, hF, hC, hZ, hN, hM⟩ := hY
  obtain ⟨hB, hQ, hS, hR, hG, hO⟩ := hX
  have P := hP
  unfold mr_P at P
  unfold wpX_status
  have hL : L ≤ 40 := by omega
  rcases mr_tx (L := L) v1 hL with z | ⟨t, a, b, rfl⟩
  · exact mx_unk1 z (br_f (by decide) (my_st1 z ⟨rfl, J⟩))
  · have bt := hB t
    refine mx_unk0 a b hL (br_t rfl ?_)
    rcases hT.2 t a b with e | e | e | e
    · exact mx_has (by omega) (fun _ => br_f (by decide) (my_st0 a b hL ⟨e, J⟩)) (fun z => by rw [bt.1.mpr ⟨by omega, e⟩] at z; cases z)
    · refine mx_has (by omega) (fun z => absurd (bt.1.mp z).2 (by rw [e]; decide)) (fun _ => br_t rfl ?_)
      exact mx_has (by omega) (fun _ => br_f (by decide) (my_st0 a b hL ⟨e, J⟩)) (fun z => by rw [bt.2.1.mpr ⟨by omega, e⟩] at z; cases z)
    · refine mx_has (by omega) (fun z => absurd (bt.1.mp z).2 (by rw [e]; decide)) (fun _ => br_t rfl ?_)
      refine mx_has (by omega) (fun z => absurd (bt.2.1.mp z).2 (by rw [e]; decide)) (fun _ => br_t rfl ?_)
      exact mx_has (by omega) (fun _ => br_f (by decide) (my_st0 a b hL ⟨e, J⟩)) (fun z => by rw [bt.2.2.mpr ⟨by omega, e⟩] at z; cases z)
    · refine mx_has (by omega) (fun z => absurd (bt.1.mp z).2 (by rw [e]; decide)) (fun _ => br_t rfl ?_)
      refine mx_has (by omega) (fun z => absurd (bt.2.1.mp z).2 (by rw [e]; decide)) (fun _ => br_t rfl ?_)
      exact mx_has (by omega) (fun z => absurd (bt.2.2.mp z).2 (by rw [e]; decide)) (fun _ => br_t rfl (my_st0 a b hL ⟨e, J⟩))
theorem i_vc_rank {k : Nat} {u : SX} {v : SY} (I : i_Rel k u v) (hk : k + 4 ≤ 2052) (v1 : Int32) : wpX_rank (fun r => wpY_rank (fun r' => r' = r ∧ i_Rel (k + 4) u v) v v1) u v1 := by
  refine I (fun u v => wpX_rank (fun r => wpY_rank (fun r' => r' = r ∧ i_Rel (k + 4) u v) v v1) u v1) ?_
  intro K O M N L h A W C fr us rk so rs sp vv rd ol nw ts yk hs yv rf dm G own hY hX
  have J : i_Rel (k + 4) (nI K, nI O, nI M, nI N, nI L, nI h, A, W, C, fr, us, rk, so, rs, sp, vv, rd, ol, nw) (nI K, nI O, nI M, nI N, nI L, nI h, ts, yk, hs, yv, rf, dm) := mr_in hY hX
  obtain ⟨hP, hT, hH, hF, hC, hZ, hN, hM⟩ := hY
  obtain ⟨hB, hQ, hS, hR, hG, hO⟩ := hX
  have P := hP
  unfold mr_P at P
  unfold wpX_rank
  have hL : L ≤ 40 := by omega
  rcases mr_tx (L := L) v1 hL with z | ⟨t, a, b, rfl⟩
  · exact mx_unk1 z (br_f (by decide) (my_rk1 z ⟨rfl, J⟩))
  · refine mx_unk0 a b hL (br_t rfl ⟨vp_in_nI (by omega) (by omega), my_rk0 a b hL ⟨?_, J⟩⟩)
    rw [nI_clamp (by omega)]
    exact (hQ.1 t a b).symm
theorem i_vc_horizon {k : Nat} {u : SX} {v : SY} (I : i_Rel k u v) (hk : k + 4 ≤ 2052) : wpX_horizon (fun r => wpY_horizon (fun r' => r' = r ∧ i_Rel (k + 4) u v) v) u := by
  refine I (fun u v => wpX_horizon (fun r => wpY_horizon (fun r' => r' = r ∧ i_Rel (k + 4) u v) v) u) ?_
  intro K O M N L h A W C fr us rk so rs sp vv rd ol nw ts yk hs yv rf dm G own hY hX
  have J : i_Rel (k + 4) (nI K, nI O, nI M, nI N, nI L, nI h, A, W, C, fr, us, rk, so, rs, sp, vv, rd, ol, nw) (nI K, nI O, nI M, nI N, nI L, nI h, ts, yk, hs, yv, rf, dm) := mr_in hY hX
  obtain ⟨hP, hT, hH, hF, hC, hZ, hN, hM⟩ := hY
  obtain ⟨hB, hQ, hS, hR, hG, hO⟩ := hX
  have P := hP
  unfold mr_P at P
  exact And.intro rfl J
theorem i_vc_held {k : Nat} {u : SX} {v : SY} (I : i_Rel k u v) (hk : k + 4 ≤ 2052) : wpX_held (fun r => wpY_held (fun r' => r' = r ∧ i_Rel (k + 4) u v) v) u := by
  refine I (fun u v => wpX_held (fun r => wpY_held (fun r' => r' = r ∧ i_Rel (k + 4) u v) v) u) ?_
  intro K O M N L h A W C fr us rk so rs sp vv rd ol nw ts yk hs yv rf dm G own hY hX
  have J : i_Rel (k + 4) (nI K, nI O, nI M, nI N, nI L, nI h, A, W, C, fr, us, rk, so, rs, sp, vv, rd, ol, nw) (nI K, nI O, nI M, nI N, nI L, nI h, ts, yk, hs, yv, rf, dm) := mr_in hY hX
  obtain ⟨hP, hT, hH, hF, hC, hZ, hN, hM⟩ := hY
  obtain ⟨hB, hQ, hS, hR, hG, hO⟩ := hX
  have P := hP
  unfold mr_P at P
  exact mx_held (mj_U hP hH hG hO) (my_held (by omega) ⟨rfl, J⟩)
theorem i_vc_watermark {k : Nat} {u : SX} {v : SY} (I : i_Rel k u v) (hk : k + 4 ≤ 2052) : wpX_watermark (fun r => wpY_watermark (fun r' => r' = r ∧ i_Rel (k + 4) u v) v) u := by
  refine I (fun u v => wpX_watermark (fun r => wpY_watermark (fun r' => r' = r ∧ i_Rel (k + 4) u v) v) u) ?_
  intro K O M N L h A W C fr us rk so rs sp vv rd ol nw ts yk hs yv rf dm G own hY hX
  have J : i_Rel (k + 4) (nI K, nI O, nI M, nI N, nI L, nI h, A, W, C, fr, us, rk, so, rs, sp, vv, rd, ol, nw) (nI K, nI O, nI M, nI N, nI L, nI h, ts, yk, hs, yv, rf, dm) := mr_in hY hX
  obtain ⟨hP, hT, hH, hF, hC, hZ, hN, hM⟩ := hY
  obtain ⟨hB, hQ, hS, hR, hG, hO⟩ := hX
  have P := hP
  unfold mr_P at P
  obtain ⟨w, _, _, _, hx, hy⟩ := mj_wm hP hT hZ hB
  exact hx _ (hy _ ⟨rfl, J⟩)
theorem i_vc_blocker {k : Nat} {u : SX} {v : SY} (I : i_Rel k u v) (hk : k + 4 ≤ 2052) (v1 : Int32) : wpX_blocker (fun r => wpY_blocker (fun r' => r' = r ∧ i_Rel (k + 4) u v) v v1) u v1 := by
  refine I (fun u v => wpX_blocker (fun r => wpY_blocker (fun r' => r' = r ∧ i_Rel (k + 4) u v) v v1) u v1) ?_
  intro K O M N L h A W C fr us rk so rs sp vv rd ol nw ts yk hs yv rf dm G own hY hX
  have J : i_Rel (k + 4) (nI K, nI O, nI M, nI N, nI L, nI h, A, W, C, fr, us, rk, so, rs, sp, vv, rd, ol, nw) (nI K, nI O, nI M, nI N, nI L, nI h, ts, yk, hs, yv, rf, dm) := mr_in hY hX
  obtain ⟨hP, hT, hH, hF, hC, hZ, hN, hM⟩ := hY
  obtain ⟨hB, hQ, hS, hR, hG, hO⟩ := hX
  have P := hP
  unfold mr_P at P
  unfold wpX_blocker wpY_blocker
  rcases mj_ufr hP hB v1 with ⟨r, hr, hx, hy⟩ | ⟨t, rfl, a, b, hu, hx, hy⟩
  · have hr : ¬ r = 0 := fun z => by rw [z] at hr; exact absurd hr (by decide)
    exact hx _ (br_f hr (hy _ (br_f hr ⟨rfl, J⟩)))
  · refine hx _ (br_t rfl ⟨vp_in_nI (by omega) (by omega), ?_⟩)
    rw [nI_clamp (by omega)]
    have bits : ∀ s, ml_b (so t &&& (A ||| W)) s = true ↔ 1 ≤ s ∧ s ≤ 40 ∧ ∃ c, c < 6 ∧ rf (t * 6 + c) = nI s ∧ mr_uf ts s := fun s => by
      rw [ml_andI, hS t a b s, mr_AW hB s]
      constructor
      · rintro ⟨⟨p, q, c, d, e⟩, _, g⟩; exact ⟨p, q, c, d, e, g⟩
      · rintro ⟨p, q, c, d, e, g⟩; exact ⟨⟨p, q, c, d, e⟩, q, g⟩
    refine mx_low _ _ fun n n64 n0 n1 => hy _ (br_t rfl (my_fb (by omega) (fun s p q c d => ⟨?_, J⟩) (fun c => ⟨?_, J⟩)))
    · have sb := (bits s).mpr ⟨p, q, c⟩
      have y := n1 (ml_nz.mpr ⟨s, by omega, sb⟩)
      have yb := (bits n).mp y.1
      congr 1
      rcases Nat.lt_trichotomy s n with z | z | z
      · have := y.2 s z
        rw [sb] at this
        cases this
      · exact z
      · exact absurd yb.2.2 (d n yb.1 z)
    · rw [n0]
      · rfl
      · refine ml_z.mpr fun s _ => ts_nt fun z => ?_
        have zb := (bits s).mp z
        exact c s zb.1 zb.2.1 zb.2.2
theorem i_vc_source {k : Nat} {u : SX} {v : SY} (I : i_Rel k u v) (hk : k + 4 ≤ 2052) (v1 : Int32) (v2 : Int32) : wpX_source (fun r => wpY_source (fun r' => r' = r ∧ i_Rel (k + 4) u v) v v1 v2) u v1 v2 := by
  refine I (fun u v => wpX_source (fun r => wpY_source (fun r' => r' = r ∧ i_Rel (k + 4) u v) v v1 v2) u v1 v2) ?_
  intro K O M N L h A W C fr us rk so rs sp vv rd ol nw ts yk hs yv rf dm G own hY hX
  have J : i_Rel (k + 4) (nI K, nI O, nI M, nI N, nI L, nI h, A, W, C, fr, us, rk, so, rs, sp, vv, rd, ol, nw) (nI K, nI O, nI M, nI N, nI L, nI h, ts, yk, hs, yv, rf, dm) := mr_in hY hX
  obtain ⟨hP, hT, hH, hF, hC, hZ, hN, hM⟩ := hY
  obtain ⟨hB, hQ, hS, hR, hG, hO⟩ := hX
  have P := hP
  unfold mr_P at P
  unfold wpX_source wpY_source
  rcases mj_ufr hP hB v1 with ⟨r, hr, hx, hy⟩ | ⟨t, rfl, a, b, hu, hx, hy⟩
  · have hr : ¬ r = 0 := fun z => by rw [z] at hr; exact absurd hr (by decide)
    exact hx _ (br_f hr (hy _ (br_f hr ⟨rfl, J⟩)))
  · refine hx _ (br_t rfl ?_)
    rcases pk_ix v2 (n := K) (by omega) with z | z | ⟨c, hc, rfl⟩
    · exact mx_nk1 (Or.inl z) (br_f (by decide) (hy _ (br_t rfl (br_t z ⟨rfl, J⟩))))
    · exact mx_nk1 (Or.inr z) (br_f (by decide) (hy _ (br_t rfl (br_c (fun _ => ⟨rfl, J⟩) fun _ => br_f (Int32.not_lt.mpr z) ⟨rfl, J⟩))))
    · refine mx_nk0 hc (by omega) (br_t rfl ?_)
      rw [mr_ix, mr_cl (by omega)]
      refine ⟨vp_in_nI (by omega) (by omega), nm_e ?_⟩
      rcases hR t c a b hu hc with ⟨e1, e2⟩ | ⟨p, s, e1, e2, e3⟩
      · rw [e2]
        refine br_f (by decide) (hy _ (br_t rfl (br_f (nI_pos (by omega)) (br_t (nI_lt hc (by omega)) ?_))))
        rw [e1]
        exact ⟨vp_in_nI (by omega) (by omega), br_f (by decide) ⟨rfl, J⟩⟩
      · rw [e2]
        have g := (hG c hc).2.1 _ e3
        have p38 : p < 38 := mr_sl hO hc _ e3
        have s40 : s ≤ 40 := g.1
        have gs : sp p = nI s := g.2.1
        refine br_t (nI_pos' (by omega)) ⟨vp_in_nI (by omega) (by omega), hy _ (br_t rfl (br_f (nI_pos (by omega)) (br_t (nI_lt hc (by omega)) ?_)))⟩
        rw [nI_clamp (by omega), e1, gs]
        exact ⟨vp_in_nI (by omega) (by omega), br_t (nI_pos' (by omega)) ⟨vp_in_nI (by omega) (by omega), rfl, J⟩⟩
end
section
/-- the chain from the first stamp not above s -/
def mx_d (s : Int32) : List (Nat × Nat) → List (Nat × Nat)
  | [] => []
  | p :: l => if s < nI p.2 then mx_d s l else p :: l
theorem mx_dC {ol : Nat → Int32} {s : Int32} : ∀ (l : List (Nat × Nat)) (x : Int32), mh_ch ol x l → mh_ch ol (mx_f s l) (mx_d s l) := by
  intro l
  induction l with
  | nil => intro x h; rfl
  | cons p l ih =>
    intro x h
    by_cases e : s < nI p.2
    · rw [show mx_f s (p :: l) = _ from if_pos e, show mx_d s (p :: l) = _ from if_pos e]
      exact ih _ h.2.2
    · rw [show mx_f s (p :: l) = _ from if_neg e, show mx_d s (p :: l) = _ from if_neg e]
      rw [← h.1]
      exact h
theorem mx_dM {s : Int32} : ∀ (l : List (Nat × Nat)), (∀ p ∈ mx_d s l, p ∈ l) ∧ (∀ p ∈ l, ¬ s < nI p.2 → p ∈ mx_d s l) ∧ (mx_d s l).length ≤ l.length ∧ (l.Pairwise (fun p q => q.2 < p.2) → (mx_d s l).Pairwise (fun p q => q.2 < p.2)) ∧ (l.Pairwise (fun p q => q.2 < p.2) → (∀ p ∈ l, p.2 ≤ 40) → ∀ p ∈ mx_d s l, ¬ s < nI p.2) := by
  intro l
  induction l with
  | nil => exact ⟨fun p h => h, fun p h _ => h, Nat.le_refl _, fun h => h, fun _ _ p h => by cases h⟩
  | cons p l ih =>
    obtain ⟨i1, i2, i3, i4, i5⟩ := ih
    by_cases e : s < nI p.2
    · rw [show mx_d s (p :: l) = _ from if_pos e]
      refine ⟨fun q h => List.mem_cons_of_mem _ (i1 q h), fun q h n => ?_, Nat.le_succ_of_le i3, fun h => i4 (List.pairwise_cons.mp h).2, fun h h40 => i5 (List.pairwise_cons.mp h).2 fun q hq => h40 q (List.mem_cons_of_mem _ hq)⟩
      rcases List.mem_cons.mp h with z | z
      · rw [z] at n; exact absurd e n
      · exact i2 q z n
    · rw [show mx_d s (p :: l) = _ from if_neg e]
      refine ⟨fun q h => h, fun q h _ => h, Nat.le_refl _, fun h => h, fun h h40 q hq w => ?_⟩
      rcases List.mem_cons.mp hq with z | z
      · rw [z] at w; exact e w
      · have t := (List.pairwise_cons.mp h).1 q z
        have p40 := h40 p (List.mem_cons_self ..)
        exact e (Int32.lt_trans w (nI_lt t (by omega)))
section
variable {K O M N L h : Nat} {A W C : Int64} {fr us : Int32} {rk rs sp vv ol nw : Nat → Int32} {so rd : Nat → Int64} {ts yk hs yv rf dm : Nat → Int32} {G : Nat → List (Nat × Nat)} {own : Nat → Nat}
/-- the first committed version of a chain -/
theorem mx_caL {post : Int32 → Prop} {a : Nat × Nat} (hp : post (vv a.1)) (hz : ∀ s, ml_b C s = true → s ≤ 40) : ∀ (l : List (Nat × Nat)) (x : Int32) (j : Nat), mh_ch ol x l → (∀ p ∈ l, p.2 ≤ 40 ∧ sp p.1 = nI p.2) → l.Pairwise (fun p q => q.2 < p.2) → j + l.length ≤ 38 → a ∈ l → (a.2 = 0 ∨ ml_b C a.2 = true) → (∀ q ∈ l, (q.2 = 0 ∨ ml_b C q.2 = true) → q.2 ≤ a.2) → wX_committedAt_34 post (nI K) (nI O) (nI M) (nI N) (nI L) (nI h) A W C fr us rk so rs sp vv rd ol nw (l.length + 1) x (nI j) := by
  intro l
  induction l with
  | nil => intro x j _ _ _ _ ha; cases ha
  | cons p l ih =>
    intro x j hc hsp hso hj ha ga mx
    have hj : j + (l.length + 1) ≤ 38 := hj
    obtain ⟨rfl, h38, hc⟩ := hc
    rw [List.pairwise_cons] at hso
    have hq := hsp p (List.mem_cons_self ..)
    have fin : (p.2 = 0 ∨ ml_b C p.2 = true) → p = a := fun g => by
      rcases List.mem_cons.mp ha with z | z
      · exact z.symm
      · have t1 := hso.1 a z
        have t2 := mx p (List.mem_cons_self ..) g
        omega
    have nxt : ¬ (p.2 = 0 ∨ ml_b C p.2 = true) → wX_committedAt_34 post (nI K) (nI O) (nI M) (nI N) (nI L) (nI h) A W C fr us rk so rs sp vv rd ol nw (l.length + 1) (ol p.1) (nI (j + 1)) := fun g => by
      refine ih _ _ hc (fun q hq => hsp q (List.mem_cons_of_mem _ hq)) hso.2 (by omega) ?_ ga (fun q hq => mx q (List.mem_cons_of_mem _ hq))
      rcases List.mem_cons.mp ha with z | z
      · rw [z] at ga; exact absurd ga g
      · exact z
    refine br_f (nI_ge (b := 38) (by omega) (by omega)) (br_f (nI_pos (by omega)) ?_)
    rw [nI_clamp (by omega), hq.2]
    refine ⟨vp_in_nI h38 (by omega), br_c (fun e => ⟨vp_in_nI h38 (by omega), ?_⟩) (fun e => ⟨vp_in_nI h38 (by omega), mx_has (by omega) (fun z => br_f (by decide) ⟨vp_in_nI h38 (by omega), ?_⟩) (fun z => br_t rfl ⟨vp_in_nI h38 (by omega), nm_e (nm_r (nI_1 j) (nxt fun w => ?_))⟩)⟩)⟩
    · rw [fin (Or.inl (mr_inj (b := 0) hq.1 (by omega) e))]
      exact hp
    · rw [fin (Or.inr z)]
      exact hp
    · rcases w with w | w
      · exact e (by rw [w]; rfl)
      · rw [w] at z; cases z
/-- the last committed version not above t, in the reference -/
theorem my_caL {post : Int32 → Prop} {q t b : Nat} (hq : q < 6) (t31 : t < 2 ^ 31) (hb : b ≤ 40) (hp : post (yv (b * 6 + q))) : ∀ d i (f : Int32), 1 ≤ i → i + d = 41 → (b < i → f = yv (b * 6 + q)) → (i ≤ b → b ≤ t ∧ mr_hv hs b q ∧ ts b = 3) → (∀ x, i ≤ x → b < x → x ≤ 40 → x ≤ t → mr_hv hs x q → ¬ ts x = 3) → wY_committedAt_38 post (nI q) (nI t) (nI K) (nI O) (nI M) (nI N) (nI L) (nI h) ts yk hs yv rf dm (d + 1) f (nI i) := by
  intro d
  induction d with
  | zero =>
    intro i f h1 hi hf _ _
    rw [hf (by omega)]
    exact br_t (nI_lt (a := 40) (by omega) (by omega)) hp
  | succ d ih =>
    intro i f h1 hi hf hg hn
    have nx : i ≠ b → wY_committedAt_38 post (nI q) (nI t) (nI K) (nI O) (nI M) (nI N) (nI L) (nI h) ts yk hs yv rf dm (d + 1) f (nI (i + 1)) := fun ne =>
      ih (i + 1) f (by omega) (by omega) (fun z => hf (by omega)) (fun z => hg (by omega)) (fun x a => hn x (by omega))
    refine br_f (nI_nlt (a := 40) (by omega) (by omega)) (br_c (fun e => nm_r (nI_1 i) (nx fun z => ?_)) (fun e => ?_))
    · rw [nI_ltI t31 (by omega)] at e
      have := (hg (by omega)).1
      omega
    · rw [nI_ltI t31 (by omega)] at e
      rw [mr_ix, mr_cl (by omega), nI_clamp (n := i) (by omega)]
      refine ⟨vp_in_nI (by omega) (by omega), br_c (fun z => nm_r (nI_1 i) (nx fun y => ?_)) (fun z => ⟨vp_in_nI (by omega) (by omega), br_c (fun w => ⟨vp_in_nI (by omega) (by omega), nm_e (nm_r (nI_1 i) ?_)⟩) (fun w => nm_r (nI_1 i) (nx fun y => ?_))⟩)⟩
      · rw [y] at z
        exact (hg (by omega)).2.1 z
      · have ib : i ≤ b := by
          apply Classical.byContradiction
          intro y
          exact hn i (by omega) (by omega) (by omega) (by omega) z w
        refine ih (i + 1) _ (by omega) (by omega) (fun y => ?_) (fun y => hg (by omega)) (fun x a => hn x (by omega))
        have : i = b := by omega
        rw [this]
      · rw [y] at w
        exact w (hg (by omega)).2.2
/-- what is below the horizon is committed -/
theorem mr_old {s c : Nat} (hP : mr_P K O M N L h) (hT : mr_T L ts) (hH : mr_H K L ts hs) (hZ : mr_Z h ts) (c6 : c < 6) (s1 : 1 ≤ s) (sh : s < h) (hv : mr_hv hs s c) : ts s = 3 := by
  unfold mr_P at hP
  have a := hH.2 s c s1 (by omega) c6 hv
  have z := hZ s s1 sh
  rcases hT.2 s s1 a.2.1 with e | e | e | e
  · exact absurd (Or.inl e) z
  · exact absurd (Or.inr e) z
  · exact e
  · exact absurd e a.2.2
/-- the greatest number below b with p -/
theorem mr_max {p : Nat → Prop} (h0 : p 0) : ∀ b, ∃ s, s ≤ b ∧ p s ∧ ∀ x, s < x → x ≤ b → ¬ p x := by
  intro b
  induction b with
  | zero => exact ⟨0, by omega, h0, fun x a c => by omega⟩
  | succ b ih =>
    by_cases e : p (b + 1)
    · exact ⟨b + 1, by omega, e, fun x a c => by omega⟩
    · obtain ⟨s, a, c, d⟩ := ih
      refine ⟨s, by omega, c, fun x u w => ?_⟩
      by_cases y : x = b + 1
      · subst y; exact e
      · exact d x u (by omega)
end
theorem i_vc_committedAt {k : Nat} {u : SX} {v : SY} (I : i_Rel k u v) (hk : k + 4 ≤ 2052) (v1 : Int32) (v2 : Int32) : wpX_committedAt (fun r => wpY_committedAt (fun r' => r' = r ∧ i_Rel (k + 4) u v) v v1 v2) u v1 v2 := by
  refine I (fun u v => wpX_committedAt (fun r => wpY_committedAt (fun r' => r' = r ∧ i_Rel (k + 4) u v) v v1 v2) u v1 v2) ?_
  intro K O M N L h A W C fr us rk so rs sp vv rd ol nw ts yk hs yv rf dm G own hY hX
  have J : i_Rel (k + 4) (nI K, nI O, nI M, nI N, nI L, nI h, A, W, C, fr, us, rk, so, rs, sp, vv, rd, ol, nw) (nI K, nI O, nI M, nI N, nI L, nI h, ts, yk, hs, yv, rf, dm) := mr_in hY hX
  obtain ⟨hP, hT, hH, hF, hC, hZ, hN, hM⟩ := hY
  obtain ⟨hB, hQ, hS, hR, hG, hO⟩ := hX
  have P := hP
  unfold mr_P at P
  unfold wpX_committedAt
  have eh : nI h - 1 = nI (h - 1) := by
    rw [show (1 : Int32) = nI 1 from rfl, pk_sub (by omega)]
  rcases pk_ix v1 (n := K) (by omega) with z | z | ⟨c, hc, rfl⟩
  · exact mx_nk1 (Or.inl z) (br_f (by decide) (br_t z ⟨rfl, J⟩))
  · exact mx_nk1 (Or.inr z) (br_f (by decide) (br_c (fun _ => ⟨rfl, J⟩) fun _ => br_f (Int32.not_lt.mpr z) ⟨rfl, J⟩))
  · refine mx_nk0 hc (by omega) (br_t rfl ?_)
    have yy : ∀ post : Int32 → Prop, ((nI (h - 1) ≤ v2 → (vp_in (nI c) 246 ∧ ∀ x3_5, x3_5 = yv (nI c).toNatClampNeg → ∃ n38 : Nat, wY_committedAt_38 post (nI c) v2 (nI K) (nI O) (nI M) (nI N) (nI L) (nI h) ts yk hs yv rf dm n38 x3_5 1)) ∧ (¬ nI (h - 1) ≤ v2 → post (-10))) → wpY_committedAt post (nI K, nI O, nI M, nI N, nI L, nI h, ts, yk, hs, yv, rf, dm) (nI c) v2 := fun post hp => by
      refine br_f (nI_pos (by omega)) (br_t (nI_lt hc (by omega)) ?_)
      rw [eh]
      exact hp
    rw [eh]
    refine br_c (fun e => ?_) (fun e => yy _ (br_f e ⟨rfl, J⟩))
    have n0 : ¬ v2 < 0 := fun w => absurd (Int32.lt_of_le_of_lt e w) (nI_pos (by omega))
    obtain ⟨t, t31, rfl⟩ := nI_of n0
    have ht := e
    rw [nI_leI (by omega) t31] at ht
    have g := hG c hc
    obtain ⟨b, hb, pb, nb⟩ := mr_max (p := fun s => s = 0 ∨ (s ≤ t ∧ mr_hv hs s c ∧ ts s = 3)) (Or.inl rfl) 40
    have pb' : mr_hv hs b c ∧ b ≤ t := by
      rcases pb with z | z
      · rw [z]; exact ⟨hH.1 c (by omega), by omega⟩
      · exact ⟨z.2.1, z.1⟩
    have kb : mr_kp h hs c b := by
      refine ⟨pb'.1, fun x a d f => ?_⟩
      exact nb x a (by omega) (Or.inr ⟨by omega, f, mr_old hP hT hH hZ (by omega) (by omega) d f⟩)
    obtain ⟨a, ha⟩ := (g.2.2 b hb).mpr kb
    have D := mx_dM (s := nI t) (G c)
    have ca : ∀ s, s ≤ 40 → ((s = 0 ∨ ml_b C s = true) ↔ (s = 0 ∨ ts s = 3)) := fun s s40 => by
      rw [(hB s).2.2]
      exact ⟨fun z => z.imp id fun y => y.2, fun z => z.imp id fun y => ⟨s40, y⟩⟩
    have hq := (g.2.1 _ ha)
    refine mj_aob hc (by omega) hG hO ⟨(mx_d (nI t) (G c)).length + 1, ?_⟩
    refine mx_caL (a := (a, b)) ?_ (fun s hs => ((hB s).2.2.mp hs).1) _ _ 0 (mx_dC _ _ (mr_ch hO hc)) (fun p hp => ?_) (D.2.2.2.1 g.1) ?_ (D.2.1 _ ha (nI_nlt (show b ≤ t from pb'.2) t31)) ?_ ?_
    · refine yy _ (br_t e ⟨vp_in_nI (by omega) (by omega), nm_e ⟨41, ?_⟩⟩)
      rw [nI_clamp (by omega)]
      have hv : vv a = yv (b * 6 + c) := hq.2.2.1
      refine my_caL (b := b) (by omega) t31 hb ⟨hv.symm, J⟩ 40 1 _ (by omega) (by omega) (fun z => ?_) (fun z => ?_) (fun x x1 bx x40 xt xv x3 => ?_)
      · have : b = 0 := by omega
        rw [this, Nat.zero_mul, Nat.zero_add]
      · rcases pb with y | y
        · omega
        · exact y
      · exact nb x bx x40 (Or.inr ⟨xt, xv, x3⟩)
    · have y := g.2.1 p (D.1 p hp)
      exact ⟨y.1, y.2.1⟩
    · have := mr_len hO hc
      have := D.2.2.1
      omega
    · refine (ca b hb).mpr ?_
      rcases pb with z | z
      · exact Or.inl z
      · exact Or.inr z.2.2
    · intro p hp hgood
      have pm := D.1 p hp
      have p40 := (g.2.1 p pm).1
      have pt := D.2.2.2.2 g.1 (fun q hq => (g.2.1 q hq).1) p hp
      rw [nI_ltI t31 (by omega)] at pt
      have kp := (g.2.2 p.2 p40).mp ⟨p.1, pm⟩
      apply Classical.byContradiction
      intro y
      have y : ¬ p.2 ≤ b := y
      refine nb p.2 (by omega) p40 ?_
      rcases (ca p.2 p40).mp hgood with z | z
      · omega
      · exact Or.inr ⟨by omega, kp.1, z⟩
end
section
section
variable {K O M N L h : Nat} {A W C : Int64} {fr us : Int32} {rk rs sp vv ol nw : Nat → Int32} {so rd : Nat → Int64} {ts yk hs yv rf dm : Nat → Int32} {G : Nat → List (Nat × Nat)} {own : Nat → Nat}
theorem mx_clL {post : Int32 → Prop} : ∀ (l : List (Nat × Nat)) (x : Int32) (c j : Nat), mh_ch ol x l → j + l.length ≤ 38 → post (nI (c + l.length)) → wX_chainLength_12 post (nI K) (nI O) (nI M) (nI N) (nI L) (nI h) A W C fr us rk so rs sp vv rd ol nw (l.length + 1) (nI c) x (nI j) := by
  intro l
  induction l with
  | nil =>
    intro x c j hc hj hp
    refine br_c (fun _ => hp) (fun _ => br_t ?_ hp)
    rw [show x = -1 from hc]; decide
  | cons p l ih =>
    intro x c j hc hj hp
    have hj : j + (l.length + 1) ≤ 38 := hj
    obtain ⟨rfl, h38, hc⟩ := hc
    refine br_f (nI_ge (b := 38) (by omega) (by omega)) (br_f (nI_pos (by omega)) (nm_r (nI_1 c) ⟨vp_in_nI h38 (by omega), ?_⟩))
    rw [nI_clamp (by omega)]
    refine nm_e (nm_r (nI_1 j) (ih _ _ _ hc (by omega) ?_))
    have hp : post (nI (c + (l.length + 1))) := hp
    rw [show c + 1 + l.length = c + (l.length + 1) by omega]
    exact hp
theorem mx_cl {post : Int32 → Prop} {q : Nat} {x : Int32} (hq : q < K) (hK : K ≤ 6) (hO : mr_O K fr us x ol nw G own) (hp : post (nI (G q).length)) : wpX_chainLength post (nI K, nI O, nI M, nI N, nI L, nI h, A, W, C, fr, us, rk, so, rs, sp, vv, rd, ol, nw) (nI q) := by
  refine And.intro (vp_in_nI (by omega) (by omega)) (nm_e ⟨(G q).length + 1, ?_⟩)
  rw [nI_clamp (by omega)]
  exact mx_clL _ _ 0 0 (mr_ch hO hq) (by have := mr_len hO hq; omega) (by rw [Nat.zero_add]; exact hp)
/-- down the chain to the one that has i behind it -/
theorem mx_vsL {post : Int32 → Prop} {i : Nat} : ∀ (l : List (Nat × Nat)) (x : Int32), mh_ch ol x l → (∀ p ∈ l, sp p.1 = nI p.2) → i < l.length → l.length ≤ 38 → (∀ Q p R, l = Q ++ p :: R → R.length = i → post (nI p.2)) → wX_versionStamp_42 post (nI i) (nI K) (nI O) (nI M) (nI N) (nI L) (nI h) A W C fr us rk so rs sp vv rd ol nw (l.length + 1) x (nI (l.length - 1)) := by
  intro l
  induction l with
  | nil => intro x _ _ hi; exact absurd hi (by simp)
  | cons p l ih =>
    intro x hc hsp hi hl hp
    have hi : i < l.length + 1 := hi
    have hl : l.length + 1 ≤ 38 := hl
    obtain ⟨rfl, h38, hc⟩ := hc
    rw [show (p :: l).length - 1 = l.length from rfl]
    by_cases e : l.length ≤ i
    · refine br_t (nI_le e (by omega)) (br_t (nI_pos' (by omega)) ⟨vp_in_nI h38 (by omega), ?_⟩)
      rw [nI_clamp (by omega), hsp p (List.mem_cons_self ..)]
      exact hp [] p l rfl (by omega)
    · refine br_f (nI_ge (by omega) (by omega)) (br_f (nI_pos (by omega)) ⟨vp_in_nI h38 (by omega), ?_⟩)
      rw [nI_clamp (by omega)]
      refine nm_e (nm_r (e' := nI (l.length - 1)) ?_ (ih _ hc (fun q hq => hsp q (List.mem_cons_of_mem _ hq)) (by omega) (by omega) fun Q r R e1 e2 => hp (p :: Q) r R (by rw [e1]; rfl) e2))
      have := pk_m1 (l.length - 1)
      rw [show l.length - 1 + 1 = l.length by omega] at this
      exact this
/-- the reference counts the kept ones upwards -/
theorem my_vsL {post : Int32 → Prop} {q : Nat} {w : Int32} (hq : q < 6) (hL : L ≤ 40) (hh : h ≤ 41) (hH : mr_H K L ts hs) (h1 : ∀ s, s ≤ 40 → mr_kp h hs q s → w = nI (mc_n (mr_kb h hs q) 0 s) → post (nI s)) (h0 : (∀ s, s ≤ 40 → mr_kp h hs q s → w ≠ nI (mc_n (mr_kb h hs q) 0 s)) → post (-8)) : ∀ d s, s + d = 41 → (∀ x, x < s → mr_kp h hs q x → w ≠ nI (mc_n (mr_kb h hs q) 0 x)) → wY_versionStamp_20 post (nI q) w (nI K) (nI O) (nI M) (nI N) (nI L) (nI h) ts yk hs yv rf dm (d + 1) (nI (mc_n (mr_kb h hs q) 0 s)) (nI s) := by
  intro d
  induction d with
  | zero =>
    intro s hsd hn
    exact br_t (nI_lt (a := 40) (by omega) (by omega)) (h0 fun x a => hn x (by omega))
  | succ d ih =>
    intro s hsd hn
    have el : mc_n (mr_kb h hs q) 0 (s + 1) = mc_n (mr_kb h hs q) 0 s + (if mr_kb h hs q (0 + s) = true then 1 else 0) := mc_last _ s 0
    rw [Nat.zero_add] at el
    refine br_f (nI_nlt (a := 40) (by omega) (by omega)) (my_kept hq hL hh (fun s' a e kp => br_f (by decide) (br_c (fun z => ?_) (fun z => nm_r (e' := nI (mc_n (mr_kb h hs q) 0 (s + 1))) ?_ (nm_r (nI_1 s) (ih (s + 1) (by omega) fun x a b => ?_))))) (fun n => br_t rfl (nm_r (nI_1 s) ?_)))
    · have : s = s' := mr_inj (by omega) (by omega) e
      subst this
      exact h1 s (by omega) kp z.symm
    · have : s = s' := mr_inj (by omega) (by omega) e
      subst this
      rw [if_pos (mr_kbI.mpr kp)] at el
      rw [el]
      exact nI_1 _
    · by_cases y : x = s
      · subst y; exact fun t => z t.symm
      · exact hn x (by omega) b
    · have nk : ¬ mr_kp h hs q s := fun kp => n ⟨s, by
        by_cases s0 : s = 0
        · omega
        · exact (hH.2 s q (by omega) (by omega) hq kp.1).2.1, rfl, kp⟩
      rw [if_neg fun t => nk (mr_kbI.mp t)] at el
      have el : mc_n (mr_kb h hs q) 0 (s + 1) = mc_n (mr_kb h hs q) 0 s := by omega
      rw [← el]
      refine ih (s + 1) (by omega) fun x a b => ?_
      by_cases y : x = s
      · subst y; exact absurd b nk
      · exact hn x (by omega) b
theorem my_vs {post : Int32 → Prop} {q : Nat} {w : Int32} (hq : q < K) (hK : K ≤ 6) (hL : L ≤ 40) (hh : h ≤ 41) (hH : mr_H K L ts hs) (h1 : ∀ s, s ≤ 40 → mr_kp h hs q s → w = nI (mc_n (mr_kb h hs q) 0 s) → post (nI s)) (h0 : (∀ s, s ≤ 40 → mr_kp h hs q s → w ≠ nI (mc_n (mr_kb h hs q) 0 s)) → post (-8)) : wpY_versionStamp post (nI K, nI O, nI M, nI N, nI L, nI h, ts, yk, hs, yv, rf, dm) (nI q) w :=
  br_f (nI_pos (by omega)) (br_t (nI_lt hq (by omega)) ⟨42, my_vsL (by omega) hL hh hH h1 h0 41 0 (by omega) fun x a => by omega⟩)
theorem mr_kbS {q s t : Nat} (st : s < t) (ks : mr_kp h hs q s) : mc_n (mr_kb h hs q) 0 s < mc_n (mr_kb h hs q) 0 t := by
  have e := mc_split (fun s => if mr_kb h hs q s = true then 1 else 0) s 0 (t - s)
  rw [show s + (t - s) = t by omega] at e
  have e : mc_n (mr_kb h hs q) 0 t = mc_n (mr_kb h hs q) 0 s + mc_n (mr_kb h hs q) (0 + s) (t - s) := e
  have p := mc_pos (p := mr_kb h hs q) (i := 0 + s) (d := t - s) (a := s) (by omega) (by omega) (mr_kbI.mpr ks)
  omega
/-- the last reader, in the reference -/
theorem my_rsL {post : Int32 → Prop} {q : Nat} {w z : Int32} (hq : q < 6) : ∀ d i (f : Int32), 1 ≤ i → i + d = 41 → (∀ x, i ≤ x → x ≤ 40 → rf (x * 6 + q) = w ∧ (z = 0 ∨ ts x = 3) → (∀ y, x < y → y ≤ 40 → ¬ (rf (y * 6 + q) = w ∧ (z = 0 ∨ ts y = 3))) → post (nI x)) → ((∀ y, i ≤ y → y ≤ 40 → ¬ (rf (y * 6 + q) = w ∧ (z = 0 ∨ ts y = 3))) → post f) → wY_readStamp_33 post (nI q) w z (nI K) (nI O) (nI M) (nI N) (nI L) (nI h) ts yk hs yv rf dm (d + 1) f (nI i) := by
  intro d
  induction d with
  | zero =>
    intro i f h1 hi _ hb
    exact br_t (nI_lt (a := 40) (by omega) (by omega)) (hb fun y a b => by omega)
  | succ d ih =>
    intro i f h1 hi ha hb
    have no : ¬ (rf (i * 6 + q) = w ∧ (z = 0 ∨ ts i = 3)) → wY_readStamp_33 post (nI q) w z (nI K) (nI O) (nI M) (nI N) (nI L) (nI h) ts yk hs yv rf dm (d + 1) f (nI (i + 1)) := fun n =>
      ih (i + 1) f (by omega) (by omega) (fun x a => ha x (by omega)) (fun m => hb fun y a b => by
        by_cases e : y = i
        · subst e; exact n
        · exact m y (by omega) b)
    have yes : rf (i * 6 + q) = w ∧ (z = 0 ∨ ts i = 3) → wY_readStamp_33 post (nI q) w z (nI K) (nI O) (nI M) (nI N) (nI L) (nI h) ts yk hs yv rf dm (d + 1) (nI i) (nI (i + 1)) := fun n =>
      ih (i + 1) (nI i) (by omega) (by omega) (fun x a => ha x (by omega)) (fun m => ha i (by omega) (by omega) n fun y a b => m y (by omega) b)
    refine br_f (nI_nlt (a := 40) (by omega) (by omega)) ?_
    rw [mr_ix, mr_cl (by omega), nI_clamp (n := i) (by omega)]
    exact ⟨vp_in_nI (by omega) (by omega), br_c (fun e => br_c (fun e2 => nm_r (nI_1 i) (yes ⟨e, Or.inl e2⟩)) (fun e2 => ⟨vp_in_nI (by omega) (by omega), br_c (fun e3 => nm_r (nI_1 i) (yes ⟨e, Or.inr e3⟩)) (fun e3 => nm_r (nI_1 i) (no fun t => by rcases t.2 with t | t; exact e2 t; exact e3 t))⟩)) (fun e => nm_r (nI_1 i) (no fun t => e t.1))⟩
end
theorem i_vc_versionStamp {k : Nat} {u : SX} {v : SY} (I : i_Rel k u v) (hk : k + 4 ≤ 2052) (v1 : Int32) (v2 : Int32) : wpX_versionStamp (fun r => wpY_versionStamp (fun r' => r' = r ∧ i_Rel (k + 4) u v) v v1 v2) u v1 v2 := by
  refine I (fun u v => wpX_versionStamp (fun r => wpY_versionStamp (fun r' => r' = r ∧ i_Rel (k + 4) u v) v v1 v2) u v1 v2) ?_
  intro K O M N L h A W C fr us rk so rs sp vv rd ol nw ts yk hs yv rf dm G own hY hX
  have J : i_Rel (k + 4) (nI K, nI O, nI M, nI N, nI L, nI h, A, W, C, fr, us, rk, so, rs, sp, vv, rd, ol, nw) (nI K, nI O, nI M, nI N, nI L, nI h, ts, yk, hs, yv, rf, dm) := mr_in hY hX
  obtain ⟨hP, hT, hH, hF, hC, hZ, hN, hM⟩ := hY
  obtain ⟨hB, hQ, hS, hR, hG, hO⟩ := hX
  have P := hP
  unfold mr_P at P
  unfold wpX_versionStamp
  rcases pk_ix v1 (n := K) (by omega) with z | z | ⟨c, hc, rfl⟩
  · exact mx_nk1 (Or.inl z) (br_f (by decide) (br_t z ⟨rfl, J⟩))
  · exact mx_nk1 (Or.inr z) (br_f (by decide) (br_c (fun _ => ⟨rfl, J⟩) fun _ => br_f (Int32.not_lt.mpr z) ⟨rfl, J⟩))
  · have g := hG c hc
    have l38 := mr_len hO hc
    have hL : L ≤ 40 := by omega
    have hh : h ≤ 41 := by omega
    have len : (G c).length = mc_n (mr_kb h hs c) 0 41 := mc_len _ 41 _ g.1 (fun a ha => by have := (g.2.1 a ha).1; omega) (fun s hs => by rw [mr_kbI]; exact g.2.2 s (by omega))
    refine mx_nk0 hc (by omega) (br_t rfl (mx_cl hc (by omega) hO ?_))
    rcases pk_ix v2 (n := (G c).length) (by omega) with z | z | ⟨i, hi, rfl⟩
    · refine br_t z (my_vs hc (by omega) hL hh hH (fun s s40 ks e => ?_) (fun _ => ⟨rfl, J⟩))
      have := mr_kbS (t := 41) (by omega) ks
      rw [e] at z
      exact absurd z (nI_pos (by omega))
    · refine br_c (fun _ => ?_) (fun _ => br_f (Int32.not_lt.mpr z) ?_)
      all_goals
        refine my_vs hc (by omega) hL hh hH (fun s s40 ks e => ?_) (fun _ => ⟨rfl, J⟩)
        have := mr_kbS (t := 41) (by omega) ks
        rw [e] at z
        exact absurd z (nI_ge (by omega) (by omega))
    · refine br_f (nI_pos (by omega)) (br_t (nI_lt hi (by omega)) ⟨vp_in_nI (by omega) (by omega), ?_⟩)
      rw [nI_clamp (by omega), show (1 : Int32) = nI 1 from rfl, pk_sub (by omega)]
      refine nm_e (nm_e ⟨(G c).length + 1, mx_vsL (G c) _ (mr_ch hO hc) (fun p hp => (g.2.1 p hp).2.1) hi l38 fun Q p R e1 e2 => ?_⟩)
      have g1 := g.1
      rw [e1, List.pairwise_append] at g1
      have gR := List.pairwise_cons.mp g1.2.1
      have pm : p ∈ G c := by rw [e1]; exact List.mem_append_right _ (List.mem_cons_self ..)
      have p40 := (g.2.1 p pm).1
      have kp := (g.2.2 p.2 p40).mp ⟨p.1, pm⟩
      have lr : R.length = mc_n (mr_kb h hs c) 0 p.2 := by
        refine mc_len _ p.2 R gR.2 gR.1 fun s sp => ?_
        rw [mr_kbI, ← g.2.2 s (by omega), e1]
        constructor
        · rintro ⟨a, ha⟩; exact ⟨a, List.mem_append_right _ (List.mem_cons_of_mem _ ha)⟩
        · rintro ⟨a, ha⟩
          rcases List.mem_append.mp ha with y | y
          · have t := g1.2.2 _ y p (List.mem_cons_self ..)
            have t : p.2 < s := t
            omega
          · rcases List.mem_cons.mp y with y | y
            · have : s = p.2 := by rw [← y]
              omega
            · exact ⟨a, y⟩
      refine my_vs hc (by omega) hL hh hH (fun s s40 ks e => ⟨?_, J⟩) (fun n => absurd (by rw [← lr, e2]) (n p.2 p40 kp))
      have b1 := mr_kbS (t := 41) (by omega) ks
      have : i = mc_n (mr_kb h hs c) 0 s := (nI_eq (by omega) (by omega)).mp e
      congr 1
      rcases Nat.lt_trichotomy s p.2 with y | y | y
      · have := mr_kbS y ks
        omega
      · exact y
      · have := mr_kbS y kp
        omega
theorem i_vc_versionValue {k : Nat} {u : SX} {v : SY} (I : i_Rel k u v) (hk : k + 4 ≤ 2052) (v1 : Int32) (v2 : Int32) : wpX_versionValue (fun r => wpY_versionValue (fun r' => r' = r ∧ i_Rel (k + 4) u v) v v1 v2) u v1 v2 := by
  refine I (fun u v => wpX_versionValue (fun r => wpY_versionValue (fun r' => r' = r ∧ i_Rel (k + 4) u v) v v1 v2) u v1 v2) ?_
  intro K O M N L h A W C fr us rk so rs sp vv rd ol nw ts yk hs yv rf dm G own hY hX
  have J : i_Rel (k + 4) (nI K, nI O, nI M, nI N, nI L, nI h, A, W, C, fr, us, rk, so, rs, sp, vv, rd, ol, nw) (nI K, nI O, nI M, nI N, nI L, nI h, ts, yk, hs, yv, rf, dm) := mr_in hY hX
  obtain ⟨hP, hT, hH, hF, hC, hZ, hN, hM⟩ := hY
  obtain ⟨hB, hQ, hS, hR, hG, hO⟩ := hX
  have P := hP
  unfold mr_P at P
  unfold wpX_versionValue
  rcases pk_ix v1 (n := K) (by omega) with z | z | ⟨c, hc, rfl⟩
  · exact mx_nk1 (Or.inl z) (br_f (by decide) (br_t z ⟨rfl, J⟩))
  · exact mx_nk1 (Or.inr z) (br_f (by decide) (br_c (fun _ => ⟨rfl, J⟩) fun _ => br_f (Int32.not_lt.mpr z) ⟨rfl, J⟩))
  · have g := hG c hc
    have hL : L ≤ 40 := by omega
    have hh : h ≤ 41 := by omega
    have yy : ∀ post : Int32 → Prop, (∀ s, s ≤ L → v2 = nI s → mr_kp h hs c s → post (yv (s * 6 + c))) → ((¬ ∃ s, s ≤ L ∧ v2 = nI s ∧ mr_kp h hs c s) → post (-8)) → wpY_versionValue post (nI K, nI O, nI M, nI N, nI L, nI h, ts, yk, hs, yv, rf, dm) (nI c) v2 := fun post h1 h0 => by
      refine br_f (nI_pos (by omega)) (br_t (nI_lt hc (by omega)) (my_kept (by omega) hL hh (fun s a e kp => br_f (by decide) ?_) (fun n => br_t rfl (h0 n))))
      have r := h1 s a e kp
      subst e
      rw [mr_ix, mr_cl (by omega)]
      exact ⟨vp_in_nI (by omega) (by omega), r⟩
    refine mx_nk0 hc (by omega) (br_t rfl (mj_exact hc (by omega) hG hO (fun a s m e => ?_) (fun n => br_f (by decide) (yy _ (fun s a e kp => ?_) (fun _ => ⟨rfl, J⟩)))))
    · have q := g.2.1 _ m
      have a38 : a < 38 := mr_sl hO hc _ m
      have s40 : s ≤ 40 := q.1
      have kp := (g.2.2 s s40).mp ⟨a, m⟩
      refine br_t (nI_pos' (by omega)) ⟨vp_in_nI a38 (by omega), yy _ (fun s' a' e' kp' => ⟨?_, J⟩) (fun n => absurd ⟨s, ?_, e, kp⟩ n)⟩
      · rw [nI_clamp (by omega)]
        have : s' = s := mr_inj (by omega) s40 (e'.symm.trans e)
        rw [this]
        exact q.2.2.1.symm
      · by_cases s0 : s = 0
        · omega
        · exact (hH.2 s c (by omega) s40 (by omega) kp.1).2.1
    · obtain ⟨b, m⟩ := (g.2.2 s (by omega)).mpr kp
      exact absurd e (n _ m)
theorem i_vc_readStamp {k : Nat} {u : SX} {v : SY} (I : i_Rel k u v) (hk : k + 4 ≤ 2052) (v1 : Int32) (v2 : Int32) (v3 : Int32) : wpX_readStamp (fun r => wpY_readStamp (fun r' => r' = r ∧ i_Rel (k + 4) u v) v v1 v2 (lw_bz v3)) u v1 v2 (lw_bz v3) := by
  refine I (fun u v => wpX_readStamp (fun r => wpY_readStamp (fun r' => r' = r ∧ i_Rel (k + 4) u v) v v1 v2 (lw_bz v3)) u v1 v2 (lw_bz v3)) ?_
  intro K O M N L h A W C fr us rk so rs sp vv rd ol nw ts yk hs yv rf dm G own hY hX
  have J : i_Rel (k + 4) (nI K, nI O, nI M, nI N, nI L, nI h, A, W, C, fr, us, rk, so, rs, sp, vv, rd, ol, nw) (nI K, nI O, nI M, nI N, nI L, nI h, ts, yk, hs, yv, rf, dm) := mr_in hY hX
  obtain ⟨hP, hT, hH, hF, hC, hZ, hN, hM⟩ := hY
  obtain ⟨hB, hQ, hS, hR, hG, hO⟩ := hX
  have P := hP
  unfold mr_P at P
  generalize lw_bz v3 = z3
  unfold wpX_readStamp
  rcases pk_ix v1 (n := K) (by omega) with z | z | ⟨c, hc, rfl⟩
  · exact mx_nk1 (Or.inl z) (br_f (by decide) (br_t z ⟨rfl, J⟩))
  · exact mx_nk1 (Or.inr z) (br_f (by decide) (br_c (fun _ => ⟨rfl, J⟩) fun _ => br_f (Int32.not_lt.mpr z) ⟨rfl, J⟩))
  · have g := hG c hc
    have hL : L ≤ 40 := by omega
    have hh : h ≤ 41 := by omega
    have yy : ∀ post : Int32 → Prop, (∀ s, s ≤ L → v2 = nI s → mr_kp h hs c s → ∃ n33 : Nat, wY_readStamp_33 post (nI c) v2 z3 (nI K) (nI O) (nI M) (nI N) (nI L) (nI h) ts yk hs yv rf dm n33 v2 1) → ((¬ ∃ s, s ≤ L ∧ v2 = nI s ∧ mr_kp h hs c s) → post (-8)) → wpY_readStamp post (nI K, nI O, nI M, nI N, nI L, nI h, ts, yk, hs, yv, rf, dm) (nI c) v2 z3 := fun post h1 h0 =>
      br_f (nI_pos (by omega)) (br_t (nI_lt hc (by omega)) (my_kept (by omega) hL hh (fun s a e kp => br_f (by decide) (h1 s a e kp)) (fun n => br_t rfl (h0 n))))
    refine mx_nk0 hc (by omega) (br_t rfl (mj_exact hc (by omega) hG hO (fun a s m e => ?_) (fun n => br_f (by decide) (yy _ (fun s a e kp => ?_) (fun _ => ⟨rfl, J⟩)))))
    · subst e
      have q := g.2.1 _ m
      have a38 : a < 38 := mr_sl hO hc _ m
      have s40 : s ≤ 40 := q.1
      have kp := (g.2.2 s s40).mp ⟨a, m⟩
      have sL : s ≤ L := by
        by_cases s0 : s = 0
        · omega
        · exact (hH.2 s c (by omega) s40 (by omega) kp.1).2.1
      have fin : ∀ w : Int64, (∀ x, ml_b w x = true ↔ 1 ≤ x ∧ x ≤ 40 ∧ rf (x * 6 + c) = nI s ∧ (z3 = 0 ∨ ts x = 3)) → wX_readStamp_49 (fun r => wpY_readStamp (fun r' => r' = r ∧ i_Rel (k + 4) (nI K, nI O, nI M, nI N, nI L, nI h, A, W, C, fr, us, rk, so, rs, sp, vv, rd, ol, nw) (nI K, nI O, nI M, nI N, nI L, nI h, ts, yk, hs, yv, rf, dm)) (nI K, nI O, nI M, nI N, nI L, nI h, ts, yk, hs, yv, rf, dm) (nI c) (nI s) z3) (nI s) w (nI K) (nI O) (nI M) (nI N) (nI L) (nI h) A W C fr us rk so rs sp vv rd ol nw := fun w hw => by
        refine br_c (fun w0 => yy _ (fun s' a' e' kp' => ⟨41, my_rsL (by omega) 40 1 _ (by omega) (by omega) (fun x x1 x40 xr _ => ?_) (fun _ => ⟨rfl, J⟩)⟩) (fun n => absurd ⟨s, sL, rfl, kp⟩ n)) (fun w0 => mx_high _ _ fun b b64 _ b1 => yy _ (fun s' a' e' kp' => ⟨41, my_rsL (by omega) 40 1 _ (by omega) (by omega) (fun x x1 x40 xr xm => ⟨?_, J⟩) (fun n => ?_)⟩) (fun n => absurd ⟨s, sL, rfl, kp⟩ n))
        · have y := (hw x).mpr ⟨x1, x40, xr⟩
          rw [ml_z.mp w0 x (by omega)] at y
          cases y
        · have y := (hw x).mpr ⟨x1, x40, xr⟩
          have b2 := b1 w0
          have b3 := (hw b).mp b2.1
          congr 1
          rcases Nat.lt_trichotomy x b with t | t | t
          · exact absurd b3.2.2 (xm b t b3.2.1)
          · exact t
          · rw [b2.2 x t] at y
            cases y
        · have b3 := (hw b).mp (b1 w0).1
          exact absurd b3.2.2 (n b b3.1 b3.2.1)
      refine br_t (nI_pos' (by omega)) ⟨vp_in_nI a38 (by omega), ?_⟩
      rw [nI_clamp (by omega)]
      have qr : ∀ u, ml_b (rd a) u = true ↔ 1 ≤ u ∧ u ≤ 40 ∧ rf (u * 6 + c) = nI s := q.2.2.2
      refine nm_e (br_c (fun e => fin _ fun x => ?_) (fun e => nm_e (fin _ fun x => ?_)))
      · rw [qr x]
        exact ⟨fun t => ⟨t.1, t.2.1, t.2.2, Or.inl e⟩, fun t => ⟨t.1, t.2.1, t.2.2.1⟩⟩
      · rw [ml_andI, qr x, (hB x).2.2]
        constructor
        · rintro ⟨⟨t1, t2, t3⟩, _, t4⟩; exact ⟨t1, t2, t3, Or.inr t4⟩
        · rintro ⟨t1, t2, t3, t4⟩
          rcases t4 with t4 | t4
          · exact absurd t4 e
          · exact ⟨⟨t1, t2, t3⟩, t2, t4⟩
    · obtain ⟨b, m⟩ := (g.2.2 s (by omega)).mpr kp
      exact absurd e (n _ m)
end
section
section
variable {K O M N L h : Nat} {A W C : Int64} {fr us : Int32} {rk rs sp vv ol nw : Nat → Int32} {so rd : Nat → Int64} {ts yk hs yv rf dm : Nat → Int32} {G : Nat → List (Nat × Nat)} {own : Nat → Nat}
/-- the running ones, counted by both -/
theorem mj_cnt (hL : L ≤ 40) (hT : mr_T L ts) (hB : mr_B ts A W C) : mc_n (ml_b (A ||| W)) 1 L = mc_n (mr_ub ts) 1 40 := by
  refine mc_ext hL (fun s a b => ?_) (fun s a b => ts_nt fun z => ?_)
  · rw [mr_AW hB s, mr_ubI]
    exact ⟨fun z => z.2, fun z => ⟨by omega, z⟩⟩
  · have z := mr_ubI.mp z
    rcases z with z | z
    · rw [hT.1 s b (Or.inr a)] at z; exact absurd z (by decide)
    · rw [hT.1 s b (Or.inr a)] at z; exact absurd z (by decide)
theorem mb_Y (hY : mr_Y K O M N L h ts hs rf) (hL : L < N) (hn : mc_n (mr_ub ts) 1 40 < O) : mr_Y K O M N (L + 1) h (upd ts (L + 1) 1) hs rf := by
  obtain ⟨hP, hT, hH, hF, hC, hZ, hN, hM⟩ := hY
  unfold mr_P at hP
  have e1 : upd ts (L + 1) 1 (L + 1) = 1 := pk_us
  have e2 : ∀ s, s ≠ L + 1 → upd ts (L + 1) 1 s = ts s := fun s z => pk_un z
  have e0 : ts (L + 1) = 0 := hT.1 _ (by omega) (Or.inr (by omega))
  refine ⟨by unfold mr_P; omega, ⟨fun s a b => ?_, fun s a b => ?_⟩, ⟨hH.1, fun s c a b d e => ?_⟩, fun u c a b => ?_, fun u c s a b d e f g => ?_, fun s a b => ?_, ?_, hM⟩
  · rw [e2 s (by omega)]; exact hT.1 s a (by omega)
  · by_cases z : s = L + 1
    · rw [z]; exact Or.inl e1
    · rw [e2 s z]; exact hT.2 s a (by omega)
  · have t := hH.2 s c a b d e
    rw [e2 s (by omega)]
    exact ⟨t.1, by omega, t.2.2⟩
  · rcases hF u c a b with z | ⟨s, z1, z2, z3, z4, z5, z6, z7⟩
    · exact Or.inl z
    · refine Or.inr ⟨s, z1, z2, z3, z4, z5, by omega, ?_⟩
      rw [e2 u (by omega)]; exact z7
  · have un : u ≠ L + 1 := fun z => by rw [z, e1] at d; exact absurd d (by decide)
    rw [e2 u un] at d
    have t := hC u c s a b d e f g
    have sn : s ≠ L + 1 := fun z => by rw [z, e0] at t; exact absurd t (by decide)
    rw [e2 s sn]; exact t
  · have t := hZ s a b
    unfold mr_uf at t ⊢
    rw [e2 s (by omega)]; exact t
  · unfold mr_N
    have t := mc_one (f := fun s => if mr_ub (upd ts (L + 1) 1) s = true then 1 else 0) (g := fun s => if mr_ub ts s = true then 1 else 0) (a := L + 1) 40 1 (by omega) (by omega) (fun s _ _ z => by
      have : mr_ub (upd ts (L + 1) 1) s = mr_ub ts s := by unfold mr_ub; rw [e2 s z]
      show (if mr_ub (upd ts (L + 1) 1) s = true then 1 else 0) = _
      rw [this])
    have t : mc_n (mr_ub (upd ts (L + 1) 1)) 1 40 + (if mr_ub ts (L + 1) = true then 1 else 0) = mc_n (mr_ub ts) 1 40 + (if mr_ub (upd ts (L + 1) 1) (L + 1) = true then 1 else 0) := t
    rw [if_neg (fun z => by
      rcases mr_ubI.mp z with z | z
      · rw [e0] at z; exact absurd z (by decide)
      · rw [e0] at z; exact absurd z (by decide)), if_pos (mr_ubI.mpr (Or.inl e1))] at t
    omega
theorem mb_X {rs' : Nat → Int32} (hY : mr_Y K O M N L h ts hs rf) (hL : L < N) (hX : mr_X K L h A W C fr us rk so rs sp vv rd ol nw ts yk hs yv rf G own) (r1 : ∀ c, c < 6 → rs' ((L + 1) * 6 + c) = -1) (r2 : ∀ j, (∀ c, c < 6 → j ≠ (L + 1) * 6 + c) → rs' j = rs j) : mr_X K (L + 1) h (A ||| ((1 : Int64) <<< ((nI (L + 1)).toInt64 &&& 63))) W C fr us (upd rk (L + 1) 0) (vp_updL so (L + 1) 0) rs' sp vv rd ol nw (upd ts (L + 1) 1) yk hs yv rf G own := by
  obtain ⟨hP, hT, hH, hF, hC, hZ, hN, hM⟩ := hY
  obtain ⟨hB, hQ, hS, hR, hG, hO⟩ := hX
  unfold mr_P at hP
  have e1 : upd ts (L + 1) 1 (L + 1) = 1 := pk_us
  have e2 : ∀ s, s ≠ L + 1 → upd ts (L + 1) 1 s = ts s := fun s z => pk_un z
  have e0 : ts (L + 1) = 0 := hT.1 _ (by omega) (Or.inr (by omega))
  have nr : ∀ c, c < 6 → rf ((L + 1) * 6 + c) = -1 := fun c hc => by
    rcases hF (L + 1) c (by omega) hc with z | ⟨s, _, _, _, _, _, z, _⟩
    · exact z
    · omega
  refine ⟨fun s => ?_, ⟨fun s a b => ?_, fun s a b => hQ.2 s (by omega) b⟩, fun u a b s => ?_, fun u c a b d e => ?_, hG, hO⟩
  · have t := hB s
    by_cases z : s = L + 1
    · subst z
      rw [e1, ml_set (by omega), t.2.1, t.2.2, e0]
      refine ⟨⟨fun _ => ⟨by omega, rfl⟩, fun _ => Or.inr rfl⟩, ⟨fun y => absurd y.2 (by decide), fun y => absurd y.2 (by decide)⟩, ⟨fun y => absurd y.2 (by decide), fun y => absurd y.2 (by decide)⟩⟩
    · rw [e2 s z, ml_set (by omega), t.1]
      refine ⟨⟨fun y => ?_, fun y => Or.inl y⟩, t.2.1, t.2.2⟩
      rcases y with y | y
      · exact y
      · exact absurd y z
  · by_cases z : s = L + 1
    · rw [z, pk_us]; exact (hQ.2 (L + 1) (by omega) (by omega)).symm
    · rw [pk_un z]; exact hQ.1 s a (by omega)
  · by_cases z : u = L + 1
    · rw [z, pk_uLs, ml_0]
      constructor
      · intro y; cases y
      · rintro ⟨_, s40, c, c6, e⟩
        rw [nr c c6] at e
        exact absurd e.symm (mr_m1 s (by omega))
    · rw [pk_uLn z]; exact hS u a (by omega) s
  · by_cases z : u = L + 1
    · subst z
      exact Or.inl ⟨nr c (by omega), r1 c (by omega)⟩
    · unfold mr_uf at d
      rw [e2 u z] at d
      rw [r2 (u * 6 + c) (fun c' hc' => by omega)]
      exact hR u c a (by omega) d e
end
theorem i_vc_begin {k : Nat} {u : SX} {v : SY} (I : i_Rel k u v) (hk : k + 4 ≤ 2052) : wpX_begin (fun r u' => wpY_begin (fun r' v' => r' = r ∧ i_Rel (k + 4) u' v') v) u := by
  refine I (fun u v => wpX_begin (fun r u' => wpY_begin (fun r' v' => r' = r ∧ i_Rel (k + 4) u' v') v) u) ?_
  intro K O M N L h A W C fr us rk so rs sp vv rd ol nw ts yk hs yv rf dm G own hY hX
  have J : i_Rel (k + 4) (nI K, nI O, nI M, nI N, nI L, nI h, A, W, C, fr, us, rk, so, rs, sp, vv, rd, ol, nw) (nI K, nI O, nI M, nI N, nI L, nI h, ts, yk, hs, yv, rf, dm) := mr_in hY hX
  have P := hY.1
  unfold mr_P at P
  have hN := hY.2.2.2.2.2.2.1
  unfold mr_N at hN
  by_cases e : L < N
  · refine br_t (nI_lt e (by omega)) (nm_e (mx_count (by omega) ?_))
    rw [mj_cnt (by omega) hY.2.1 hX.1]
    by_cases f : mc_n (mr_ub ts) 1 40 < O
    · refine br_t (nI_lt f (by omega)) (nm_r (nI_1 L) (nm_e ⟨vp_in_nI (by omega) (by omega), nm_r (e' := upd rk (L + 1) 0) (by rw [nI_clamp (by omega)]) (mx_forget (by omega) fun rs' r1 r2 => ?_)⟩))
      refine br_f (fun z => ?_) (my_cu (br_f (fun z => ?_) (nm_r (nI_1 L) ⟨vp_in_nI (by omega) (by omega), nm_r (e' := upd ts (L + 1) 1) (by rw [nI_clamp (by omega)]) ⟨rfl, ?_⟩⟩)))
      · have := (nI_eq (by omega) (by omega)).mp z
        omega
      · have := (nI_eq (by omega) (by omega)).mp z
        omega
      · exact mr_in (mb_Y hY e f) (mb_X hY e hX r1 r2)
    · have f' : mc_n (mr_ub ts) 1 40 = O := by omega
      refine br_f (nI_nlt (by omega) (by omega)) (br_f (fun z => ?_) (my_cu (br_t (by rw [f']) ⟨rfl, J⟩)))
      have := (nI_eq (by omega) (by omega)).mp z
      omega
  · have e' : L = N := by omega
    exact br_f (nI_nlt (by omega) (by omega)) (br_t (by rw [e']) ⟨rfl, J⟩)
end
section
theorem mr_pw : ∀ (l : List (Nat × Nat)), l.Pairwise (fun p q => q.2 < p.2) → ∀ p ∈ l, ∀ q ∈ l, p.2 = q.2 → p = q := by
  intro l
  induction l with
  | nil => intro _ p hp; cases hp
  | cons a l ih =>
    intro hs p hp q hq e
    rw [List.pairwise_cons] at hs
    rcases List.mem_cons.mp hp with x | x
    · rcases List.mem_cons.mp hq with y | y
      · rw [x, y]
      · have := hs.1 q y
        rw [x] at e
        omega
    · rcases List.mem_cons.mp hq with y | y
      · have := hs.1 p x
        rw [y] at e
        omega
      · exact ih hs.2 p x q y e
section
variable {K O M N L h : Nat} {A W C : Int64} {fr us : Int32} {rk rs sp vv ol nw : Nat → Int32} {so rd : Nat → Int64} {ts yk hs yv rf dm : Nat → Int32} {G : Nat → List (Nat × Nat)} {own : Nat → Nat} {x : Int32}
/-- one slot, one key -/
theorem mr_key {c d : Nat} {p q : Nat × Nat} (hO : mr_O K fr us x ol nw G own) (hp : p ∈ G c) (hq : q ∈ G d) (e : p.1 = q.1) : c = d := by
  rw [← (hO.1 c).2.2 p hp, e]; exact (hO.1 d).2.2 q hq
/-- one slot, one stamp -/
theorem mr_one {c : Nat} {p q : Nat × Nat} (hc : c < K) (hG : mr_G K h hs yv rf sp vv rd G) (hp : p ∈ G c) (hq : q ∈ G c) (e : p.1 = q.1) : p = q := by
  have a := (hG c hc).2.1 p hp
  have b := (hG c hc).2.1 q hq
  have t : p.2 = q.2 := mr_inj a.1 b.1 (by rw [← a.2.1, ← b.2.1, e])
  exact Prod.ext e t
/-- what a record of t on q can be: none, or the newest version below t -/
theorem mr_rec {t q s : Nat} (hF : mr_F K L ts hs rf) (t40 : t ≤ 40) (q6 : q < 6) (st : s < t) (hv : mr_hv hs s q) (hn : ∀ x, s < x → x < t → ¬ mr_hv hs x q) : rf (t * 6 + q) = -1 ∨ rf (t * 6 + q) = nI s := by
  rcases hF t q t40 q6 with z | ⟨s', e, a, b, c, _⟩
  · exact Or.inl z
  · refine Or.inr ?_
    rw [e]
    congr 1
    rcases Nat.lt_trichotomy s s' with y | y | y
    · exact absurd b (hn s' y a)
    · exact y.symm
    · exact absurd hv (c s y st)
theorem mf_Y {t q s : Nat} (hY : mr_Y K O M N L h ts hs rf) (a : ts t = 1) (t1 : 1 ≤ t) (tL : t ≤ L) (hq : q < K) (st : s < t) (hv : mr_hv hs s q) (hn : ∀ x, s < x → x < t → ¬ mr_hv hs x q) : mr_Y K O M N L h ts hs (upd rf (t * 6 + q) (nI s)) := by
  obtain ⟨hP, hT, hH, hF, hC, hZ, hN, hM⟩ := hY
  have P := hP
  unfold mr_P at P
  refine ⟨hP, hT, hH, fun u c u40 c6 => ?_, fun u c s' u40 c6 d e f g => ?_, hZ, hN, hM⟩
  · by_cases z : u * 6 + c = t * 6 + q
    · have : u = t := by omega
      have : c = q := by omega
      subst u c
      refine Or.inr ⟨s, pk_us, st, hv, hn, hq, tL, ?_⟩
      rw [a]; decide
    · rw [pk_un z]; exact hF u c u40 c6
  · have un : u ≠ t := fun z => by rw [z, a] at d; exact absurd d (by decide)
    rw [pk_un (by omega)] at e
    exact hC u c s' u40 c6 d e f g
theorem mf_X {t q s b : Nat} {so' : Nat → Int64} (hY : mr_Y K O M N L h ts hs rf) (hX : mr_X K L h A W C fr us rk so rs sp vv rd ol nw ts yk hs yv rf G own) (a : ts t = 1) (t1 : 1 ≤ t) (tL : t ≤ L) (hq : q < K) (st : s < t) (hv : mr_hv hs s q) (hn : ∀ x, s < x → x < t → ¬ mr_hv hs x q) (hm : (b, s) ∈ G q) (s1 : ∀ u, u ≠ t → so' u = so u) (s2 : ∀ n, ml_b (so' t) n = true ↔ ml_b (so t) n = true ∨ (1 ≤ n ∧ n = s)) : mr_X K L h A W C fr us rk so' (upd rs (t * 6 + q) (nI b)) sp vv (vp_updL rd b (rd b ||| ((1 : Int64) <<< ((nI t).toInt64 &&& 63)))) ol nw ts yk hs yv (upd rf (t * 6 + q) (nI s)) G own := by
  obtain ⟨hP, hT, hH, hF, hC, hZ, hN, hM⟩ := hY
  obtain ⟨hB, hQ, hS, hR, hG, hO⟩ := hX
  unfold mr_P at hP
  have old := mr_rec hF (show t ≤ 40 by omega) (show q < 6 by omega) st hv hn
  have gb := (hG q hq).2.1 _ hm
  refine ⟨hB, hQ, fun u u1 uL n => ?_, fun u c u1 uL uu cK => ?_, fun c hc => ⟨(hG c hc).1, fun p hp => ?_, (hG c hc).2.2⟩, hO⟩
  · by_cases z : u = t
    · subst z
      rw [s2 n, hS u u1 uL n]
      constructor
      · rintro (⟨n1, n40, c, c6, e⟩ | ⟨n1, rfl⟩)
        · refine ⟨n1, n40, c, c6, ?_⟩
          by_cases y : c = q
          · subst y
            rw [pk_us]
            rcases old with o | o
            · rw [o] at e; exact absurd e.symm (mr_m1 n (by omega))
            · rw [← o]; exact e
          · rw [pk_un (by omega)]; exact e
        · exact ⟨n1, by omega, q, by omega, pk_us⟩
      · rintro ⟨n1, n40, c, c6, e⟩
        by_cases y : c = q
        · subst y
          rw [pk_us] at e
          exact Or.inr ⟨n1, (mr_inj (by omega) n40 e).symm⟩
        · rw [pk_un (by omega)] at e
          exact Or.inl ⟨n1, n40, c, c6, e⟩
    · rw [s1 u z, hS u u1 uL n]
      have : ∀ c, c < 6 → upd rf (t * 6 + q) (nI s) (u * 6 + c) = rf (u * 6 + c) := fun c c6 => pk_un (by omega)
      constructor
      · rintro ⟨n1, n40, c, c6, e⟩; exact ⟨n1, n40, c, c6, by rw [this c c6]; exact e⟩
      · rintro ⟨n1, n40, c, c6, e⟩; exact ⟨n1, n40, c, c6, by rw [← this c c6]; exact e⟩
  · by_cases z : u * 6 + c = t * 6 + q
    · have : u = t := by omega
      have : c = q := by omega
      subst u c
      exact Or.inr ⟨b, s, pk_us, pk_us, hm⟩
    · rw [pk_un z, pk_un z]; exact hR u c u1 uL uu cK
  · have g := (hG c hc).2.1 p hp
    refine ⟨g.1, g.2.1, g.2.2.1, fun u => ?_⟩
    by_cases y : c = q
    · subst y
      by_cases w : p.1 = b
      · have ps : p = (b, s) := mr_one hc hG hp hm w
        rw [ps]
        show ml_b (vp_updL rd b _ b) u = true ↔ _
        rw [pk_uLs, ml_set (by omega), show ml_b (rd b) u = true ↔ _ from gb.2.2.2 u]
        constructor
        · rintro (⟨u1, u40, e⟩ | rfl)
          · refine ⟨u1, u40, ?_⟩
            by_cases ut : u = t
            · rw [ut, pk_us]
            · rw [pk_un (by omega)]; exact e
          · exact ⟨t1, by omega, pk_us⟩
        · rintro ⟨u1, u40, e⟩
          by_cases ut : u = t
          · exact Or.inr ut
          · rw [pk_un (by omega)] at e
            exact Or.inl ⟨u1, u40, e⟩
      · rw [pk_uLn w, g.2.2.2 u]
        have ps : p.2 ≠ s := fun e => w (by rw [mr_pw _ (hG c hc).1 p hp (b, s) hm e])
        constructor
        · rintro ⟨u1, u40, e⟩
          refine ⟨u1, u40, ?_⟩
          by_cases ut : u = t
          · subst ut
            rcases old with o | o
            · rw [o] at e; exact absurd e.symm (mr_m1 _ (by have := g.1; omega))
            · rw [o] at e; exact absurd (mr_inj (by omega) g.1 e).symm ps
          · rw [pk_un (by omega)]; exact e
        · rintro ⟨u1, u40, e⟩
          refine ⟨u1, u40, ?_⟩
          by_cases ut : u = t
          · subst ut
            rw [pk_us] at e
            exact absurd (mr_inj (by omega) g.1 e).symm ps
          · rw [pk_un (by omega)] at e; exact e
    · have w : p.1 ≠ b := fun e => y (mr_key hO hp hm e)
      rw [pk_uLn w, g.2.2.2 u]
      constructor
      · rintro ⟨u1, u40, e⟩; exact ⟨u1, u40, by rw [pk_un (by omega)]; exact e⟩
      · rintro ⟨u1, u40, e⟩; rw [pk_un (by omega)] at e; exact ⟨u1, u40, e⟩
/-- READ: one answer for both, and related states -/
theorem mj_read {t q : Nat} (hY : mr_Y K O M N L h ts hs rf) (hX : mr_X K L h A W C fr us rk so rs sp vv rd ol nw ts yk hs yv rf G own) (a : ts t = 1) (t40 : t ≤ 40) (hq : q < K) : ∃ (r : Int32) (so' : Nat → Int64) (rs' : Nat → Int32) (rd' : Nat → Int64) (rf' : Nat → Int32), mr_Y K O M N L h ts hs rf' ∧ mr_X K L h A W C fr us rk so' rs' sp vv rd' ol nw ts yk hs yv rf' G own ∧ (∀ u c, u ≠ t → c < 6 → rf' (u * 6 + c) = rf (u * 6 + c)) ∧ (∀ post : Int32 → SX → Prop, post r (nI K, nI O, nI M, nI N, nI L, nI h, A, W, C, fr, us, rk, so', rs', sp, vv, rd', ol, nw) → wpX_readIn post (nI K, nI O, nI M, nI N, nI L, nI h, A, W, C, fr, us, rk, so, rs, sp, vv, rd, ol, nw) (nI t) (nI q)) ∧ (∀ (dm : Nat → Int32) (post : Int32 → SY → Prop), post r (nI K, nI O, nI M, nI N, nI L, nI h, ts, yk, hs, yv, rf', dm) → wpY_fetch post (nI K, nI O, nI M, nI N, nI L, nI h, ts, yk, hs, yv, rf, dm) (nI t) (nI q)) := by
  have P := hY.1
  unfold mr_P at P
  obtain ⟨t1, tL, th⟩ := mr_ufL hY.2.1 hY.2.2.2.2.2.1 t40 (Or.inl a)
  have hH := hY.2.2.1
  have hG := hX.2.2.2.2.1
  have hO := hX.2.2.2.2.2
  obtain ⟨b, s, hm, e, st, hv, nh, nt⟩ := mr_find (t := t) (by omega) (by omega) (by omega) (by omega) hq (by omega) hH hG
  have g := (hG q hq).2.1 _ hm
  have b38 : b < 38 := mr_sl hO hq _ hm
  have gs : sp b = nI s := g.2.1
  have gv : vv b = yv (s * 6 + q) := g.2.2.1
  by_cases z : s = t
  · subst z
    refine ⟨yv (s * 6 + q), so, rs, rd, rf, hY, hX, fun _ _ _ _ => rfl, fun post hp => ?_, fun dm post hp => my_fetch1 t40 (by omega) hv hp⟩
    unfold wpX_readIn
    refine mj_aob hq (by omega) hG hO ?_
    rw [e]
    refine br_t (nI_pos' (by omega)) ⟨vp_in_nI b38 (by omega), ?_⟩
    rw [nI_clamp (by omega)]
    refine nm_r gs (br_t rfl ⟨vp_in_nI b38 (by omega), ?_⟩)
    rw [gv]
    exact hp
  · have st' : s < t := by omega
    have nt' : ∀ x, s < x → x < t → ¬ mr_hv hs x q := fun x u w => nt x u (by omega) (by omega)
    have hx1 : ∀ (post : Int32 → SX → Prop), (∀ so', (s = 0 → so' = so) → (s ≠ 0 → so' = vp_updL so t (so t ||| ((1 : Int64) <<< ((nI s).toInt64 &&& 63)))) → post (yv (s * 6 + q)) (nI K, nI O, nI M, nI N, nI L, nI h, A, W, C, fr, us, rk, so', upd rs (t * 6 + q) (nI b), sp, vv, vp_updL rd b (rd b ||| ((1 : Int64) <<< ((nI t).toInt64 &&& 63))), ol, nw)) → wpX_readIn post (nI K, nI O, nI M, nI N, nI L, nI h, A, W, C, fr, us, rk, so, rs, sp, vv, rd, ol, nw) (nI t) (nI q) := fun post hp => by
      unfold wpX_readIn
      refine mj_aob hq (by omega) hG hO ?_
      rw [e]
      refine br_t (nI_pos' (by omega)) ⟨vp_in_nI b38 (by omega), ?_⟩
      rw [nI_clamp (by omega)]
      refine nm_r gs (br_f (fun w => z (mr_inj (by omega) t40 w)) ?_)
      rw [mr_ix, mr_cl (by omega), gv, nI_clamp (n := t) (by omega)]
      refine ⟨vp_in_nI (by omega) (by omega), nm_e ⟨vp_in_nI b38 (by omega), vp_in_nI b38 (by omega), nm_e ?_⟩⟩
      by_cases s0 : s = 0
      · refine br_t (by rw [s0]; decide) ⟨vp_in_nI b38 (by omega), hp so (fun _ => rfl) (fun w => absurd s0 w)⟩
      · exact br_f (nI_nle (by omega) (by omega)) ⟨vp_in_nI (by omega) (by omega), vp_in_nI (by omega) (by omega), nm_e ⟨vp_in_nI b38 (by omega), hp _ (fun w => absurd w s0) (fun _ => rfl)⟩⟩
    have nv : ¬ mr_hv hs t q := nt t (by omega) (by omega) t40
    by_cases s0 : s = 0
    · refine ⟨yv (s * 6 + q), so, _, _, _, mf_Y hY a t1 tL hq st' hv nt', mf_X hY hX a t1 tL hq st' hv nt' hm (fun _ _ => rfl) (fun n => ⟨Or.inl, fun w => ?_⟩), fun u c ut c6 => pk_un (by omega), fun post hp => hx1 post fun so' h1 _ => ?_, fun dm post hp => my_fetch0 t40 (by omega) nv st' hv nt' hp⟩
      · rcases w with w | w
        · exact w
        · omega
      · rw [h1 s0]; exact hp
    · refine ⟨yv (s * 6 + q), vp_updL so t (so t ||| ((1 : Int64) <<< ((nI s).toInt64 &&& 63))), _, _, _, mf_Y hY a t1 tL hq st' hv nt', mf_X hY hX a t1 tL hq st' hv nt' hm (fun u w => pk_uLn w) (fun n => ?_), fun u c ut c6 => pk_un (by omega), fun post hp => hx1 post fun so' _ h2 => ?_, fun dm post hp => my_fetch0 t40 (by omega) nv st' hv nt' hp⟩
      · rw [pk_uLs, ml_set (by omega)]
        constructor
        · rintro (w | w)
          · exact Or.inl w
          · exact Or.inr ⟨by omega, w⟩
        · rintro (w | w)
          · exact Or.inl w
          · exact Or.inr w.2
      · rw [h2 s0]; exact hp
end
theorem i_vc_read {k : Nat} {u : SX} {v : SY} (I : i_Rel k u v) (hk : k + 4 ≤ 2052) (v1 : Int32) (v2 : Int32) : wpX_read (fun r u' => wpY_read (fun r' v' => r' = r ∧ i_Rel (k + 4) u' v') v v1 v2) u v1 v2 := by
  refine I (fun u v => wpX_read (fun r u' => wpY_read (fun r' v' => r' = r ∧ i_Rel (k + 4) u' v') v v1 v2) u v1 v2) ?_
  intro K O M N L h A W C fr us rk so rs sp vv rd ol nw ts yk hs yv rf dm G own hY hX
  have J : i_Rel (k + 4) (nI K, nI O, nI M, nI N, nI L, nI h, A, W, C, fr, us, rk, so, rs, sp, vv, rd, ol, nw) (nI K, nI O, nI M, nI N, nI L, nI h, ts, yk, hs, yv, rf, dm) := mr_in hY hX
  have P := hY.1
  unfold mr_P at P
  unfold wpX_read wpY_read
  rcases mj_acc hY.1 hX.1 v1 v2 with ⟨r, hr, hx, hy⟩ | ⟨t, c, rfl, rfl, t1, tL, a, hc, hx, hy⟩
  · exact hx _ (br_f hr (hy _ (br_f hr ⟨rfl, J⟩)))
  · obtain ⟨r, so', rs', rd', rf', hY', hX', _, rx, ry⟩ := mj_read hY hX a (by omega) hc
    exact hx _ (br_t rfl (rx _ (hy _ (br_t rfl (ry dm _ ⟨rfl, mr_in hY' hX'⟩)))))
end
section
section
variable {K O M N L h : Nat} {A W C : Int64} {fr us : Int32} {rk rs sp vv ol nw : Nat → Int32} {so rd : Nat → Int64} {ts yk hs yv rf dm : Nat → Int32} {G : Nat → List (Nat × Nat)} {own : Nat → Nat}
theorem my_totE {post : Int32 → SY → Prop} {t lo hi : Nat} {sum : Int32} (hp : post sum (nI K, nI O, nI M, nI N, nI L, nI h, ts, yk, hs, yv, rf, dm)) : ∀ e c, c + e = 6 → hi < c → lo ≤ c → wY_total_42 post (nI t) (nI lo) (nI hi) (e + 1) sum (nI c) (nI K) (nI O) (nI M) (nI N) (nI L) (nI h) ts yk hs yv rf dm := by
  intro e
  induction e with
  | zero =>
    intro c hc _ _
    exact br_t (nI_le (a := 6) (by omega) (by omega)) hp
  | succ e ih =>
    intro c hc h1 h2
    exact br_f (nI_ge (b := 6) (by omega) (by omega)) (br_f (nI_nlt h2 (by omega)) (br_t (nI_lt h1 (by omega)) (nm_r (nI_1 c) (ih (c + 1) (by omega) (by omega) (by omega)))))
theorem my_totS {post : Int32 → SY → Prop} {t lo hi : Nat} {sum : Int32} (h6 : lo < 6) (hp : wY_total_42 post (nI t) (nI lo) (nI hi) (6 - lo + 1) sum (nI lo) (nI K) (nI O) (nI M) (nI N) (nI L) (nI h) ts yk hs yv rf dm) : ∀ e c, c + e = lo → wY_total_42 post (nI t) (nI lo) (nI hi) (6 - c + 1) sum (nI c) (nI K) (nI O) (nI M) (nI N) (nI L) (nI h) ts yk hs yv rf dm := by
  intro e
  induction e with
  | zero =>
    intro c hc
    have : c = lo := by omega
    subst this
    exact hp
  | succ e ih =>
    intro c hc
    rw [show 6 - c + 1 = 6 - (c + 1) + 1 + 1 by omega]
    exact br_f (nI_ge (b := 6) (by omega) (by omega)) (br_t (nI_lt (by omega) (by omega)) (nm_r (nI_1 c) (ih (c + 1) (by omega))))
theorem mj_totL {t lo hi : Nat} (a : ts t = 1) (t40 : t ≤ 40) (hh : hi < K) (hK : K ≤ 6) : ∀ (d c : Nat) (sum : Int32) (so : Nat → Int64) (rs : Nat → Int32) (rd : Nat → Int64) (rf : Nat → Int32), c + d = hi + 1 → lo ≤ c → mr_Y K O M N L h ts hs rf → mr_X K L h A W C fr us rk so rs sp vv rd ol nw ts yk hs yv rf G own → ∃ (r : Int32) (so' : Nat → Int64) (rs' : Nat → Int32) (rd' : Nat → Int64) (rf' : Nat → Int32), mr_Y K O M N L h ts hs rf' ∧ mr_X K L h A W C fr us rk so' rs' sp vv rd' ol nw ts yk hs yv rf' G own ∧ (∀ post : Int32 → SX → Prop, post r (nI K, nI O, nI M, nI N, nI L, nI h, A, W, C, fr, us, rk, so', rs', sp, vv, rd', ol, nw) → wX_total_23 post (nI t) (nI hi) (d + 1) sum (nI c) (nI K) (nI O) (nI M) (nI N) (nI L) (nI h) A W C fr us rk so rs sp vv rd ol nw) ∧ (∀ (dm : Nat → Int32) (post : Int32 → SY → Prop), post r (nI K, nI O, nI M, nI N, nI L, nI h, ts, yk, hs, yv, rf', dm) → wY_total_42 post (nI t) (nI lo) (nI hi) (6 - c + 1) sum (nI c) (nI K) (nI O) (nI M) (nI N) (nI L) (nI h) ts yk hs yv rf dm) := by
  intro d
  induction d with
  | zero =>
    intro c sum so rs rd rf hc lc hY hX
    exact ⟨sum, so, rs, rd, rf, hY, hX, fun post hp => br_t (nI_lt (by omega) (by omega)) hp, fun dm post hp => my_totE hp (6 - c) c (by omega) (by omega) lc⟩
  | succ d ih =>
    intro c sum so rs rd rf hc lc hY hX
    obtain ⟨r, so1, rs1, rd1, rf1, hY1, hX1, _, rx, ry⟩ := mj_read hY hX a t40 (show c < K by omega)
    obtain ⟨r2, so2, rs2, rd2, rf2, hY2, hX2, rx2, ry2⟩ := ih (c + 1) (sum + r) so1 rs1 rd1 rf1 (by omega) (by omega) hY1 hX1
    refine ⟨r2, so2, rs2, rd2, rf2, hY2, hX2, fun post hp => br_f (nI_nlt (by omega) (by omega)) (rx _ (nm_e (nm_r (nI_1 c) (rx2 post hp)))), fun dm post hp => ?_⟩
    rw [show 6 - c + 1 = 6 - (c + 1) + 1 + 1 by omega]
    exact br_f (nI_ge (b := 6) (by omega) (by omega)) (br_f (nI_nlt lc (by omega)) (br_f (nI_nlt (by omega) (by omega)) (ry dm _ (nm_e (nm_r (nI_1 c) (ry2 dm post hp))))))
end
theorem i_vc_total {k : Nat} {u : SX} {v : SY} (I : i_Rel k u v) (hk : k + 4 ≤ 2052) (v1 : Int32) (v2 : Int32) (v3 : Int32) : wpX_total (fun r u' => wpY_total (fun r' v' => r' = r ∧ i_Rel (k + 4) u' v') v v1 v2 v3) u v1 v2 v3 := by
  refine I (fun u v => wpX_total (fun r u' => wpY_total (fun r' v' => r' = r ∧ i_Rel (k + 4) u' v') v v1 v2 v3) u v1 v2 v3) ?_
  intro K O M N L h A W C fr us rk so rs sp vv rd ol nw ts yk hs yv rf dm G own hY hX
  have J : i_Rel (k + 4) (nI K, nI O, nI M, nI N, nI L, nI h, A, W, C, fr, us, rk, so, rs, sp, vv, rd, ol, nw) (nI K, nI O, nI M, nI N, nI L, nI h, ts, yk, hs, yv, rf, dm) := mr_in hY hX
  have P := hY.1
  unfold mr_P at P
  have hB := hX.1
  have hL : L ≤ 40 := by omega
  unfold wpX_total wpY_total
  rcases mr_tx (L := L) v1 hL with z | ⟨t, t1, tL, rfl⟩
  · exact mx_acc1 z (br_f (by decide) (my_chk1 z (br_f (by decide) ⟨rfl, J⟩)))
  · by_cases a : ts t = 1
    · have hA : ml_b A t = true := (hB t).1.mpr ⟨by omega, a⟩
      have cy : ∀ post : Int32 → Prop, post 0 → wpY_check post (nI K, nI O, nI M, nI N, nI L, nI h, ts, yk, hs, yv, rf, dm) (nI t) 0 := fun post hp => my_chk0 (k := 0) t1 tL hL a (by omega) (by omega) hp
      by_cases z1 : v2 < 0
      · exact mx_acc3 t1 tL hL hA (Or.inl z1) (br_f (by decide) (cy _ (br_t rfl (br_t z1 ⟨rfl, J⟩))))
      · by_cases z2 : nI K ≤ v3
        · exact mx_acc3 t1 tL hL hA (Or.inr (Or.inl z2)) (br_f (by decide) (cy _ (br_t rfl (br_f z1 (br_t z2 ⟨rfl, J⟩)))))
        · by_cases z3 : v2 ≤ v3
          · obtain ⟨lo, lo31, rfl⟩ := nI_of z1
            have z4 : ¬ v3 < 0 := fun w => z1 (Int32.lt_of_le_of_lt z3 w)
            obtain ⟨hi, hi31, rfl⟩ := nI_of z4
            have y2 : ¬ K ≤ hi := fun w => z2 (nI_le w hi31)
            have y3 := (nI_leI lo31 hi31).mp z3
            obtain ⟨r, so', rs', rd', rf', hY', hX', rx, ry⟩ := mj_totL (lo := lo) (hi := hi) a (by omega) (by omega) (by omega) (hi + 1 - lo) lo 0 so rs rd rf (by omega) (by omega) hY hX
            exact mx_acc0 t1 tL hL hA z1 z2 z3 (br_t rfl ⟨_, rx _ (cy _ (br_t rfl (br_f z1 (br_f z2 (br_t z3 ⟨7, my_totS (by omega) (ry dm _ ⟨rfl, mr_in hY' hX'⟩) lo 0 (by omega)⟩)))))⟩)
          · exact mx_acc3 t1 tL hL hA (Or.inr (Or.inr z3)) (br_f (by decide) (cy _ (br_t rfl (br_f z1 (br_f z2 (br_f z3 ⟨rfl, J⟩))))))
    · have hA : ml_b A t = false := ts_nt fun z => a ((hB t).1.mp z).2
      exact mx_acc2 t1 tL hL hA (br_f (by decide) (my_chk2 t1 tL hL a (br_f (by decide) ⟨rfl, J⟩)))
end
section
section
variable {K O M N L h : Nat} {A W C : Int64} {fr us : Int32} {rk rs sp vv ol nw : Nat → Int32} {so rd : Nat → Int64} {ts yk hs yv rf dm : Nat → Int32} {G : Nat → List (Nat × Nat)} {own : Nat → Nat} {x : Int32}
theorem mx_insL {q t : Nat} (t40 : t ≤ 40) : ∀ (R Q : List (Nat × Nat)) (j : Nat), mh_ch ol (mh_top R) R → (∀ p ∈ R, sp p.1 = nI p.2 ∧ p.2 ≤ 40) → j + R.length ≤ 38 → (∀ p ∈ Q, t < p.2) → ∃ Q' R', List.reverseAux Q' R' = List.reverseAux Q R ∧ (∀ p ∈ Q', t < p.2) ∧ (∀ p R'', R' = p :: R'' → p.2 ≤ t) ∧ ∀ (post : Int32 → SX → Prop) (f : Int32), wX_insert_87 post (nI q) (nI t) f (mh_top Q') (mh_top R') (nI K) (nI O) (nI M) (nI N) (nI L) (nI h) A W C fr us rk so rs sp vv rd ol nw → wX_insert_45 post (nI q) (nI t) f (nI K) (nI O) (nI M) (nI N) (nI L) (nI h) A W C fr us rk so rs sp vv rd ol nw (R.length + 1) (mh_top Q) (mh_top R) (nI j) := by
  intro R
  induction R with
  | nil =>
    intro Q j hc _ hj hQ
    exact ⟨Q, [], rfl, hQ, fun p R' z => (by cases z), fun post f K => br_c (fun _ => K) (fun _ => br_t (show (-1 : Int32) < 0 by decide) K)⟩
  | cons p R ih =>
    intro Q j hc hs hj hQ
    have hj : j + (R.length + 1) ≤ 38 := hj
    have h38 := hc.2.1
    have hp := hs p (List.mem_cons_self ..)
    by_cases z : p.2 ≤ t
    · refine ⟨Q, p :: R, rfl, hQ, fun p' R' y => (by cases y; exact z), fun post f K => ?_⟩
      refine br_f (nI_ge (b := 38) (by omega) (by omega)) (br_f (nI_pos (by omega)) ⟨vp_in_nI h38 (by omega), ?_⟩)
      rw [show (mh_top (p :: R)).toNatClampNeg = p.1 from nI_clamp (show p.1 < 2 ^ 31 by omega), hp.1]
      exact br_t (nI_le z (by omega)) K
    · obtain ⟨Q', R', e1, e2, e3, e4⟩ := ih (p :: Q) (j + 1) (mh_tail [p] R _ hc) (fun r hr => hs r (List.mem_cons_of_mem _ hr)) (by omega) (fun r hr => by
        rcases List.mem_cons.mp hr with y | y
        · rw [y]; omega
        · exact hQ r y)
      refine ⟨Q', R', e1, e2, e3, fun post f K => ?_⟩
      refine br_f (nI_ge (b := 38) (by omega) (by omega)) (br_f (nI_pos (by omega)) ⟨vp_in_nI h38 (by omega), ?_⟩)
      rw [show (mh_top (p :: R)).toNatClampNeg = p.1 from nI_clamp (show p.1 < 2 ^ 31 by omega), hp.1]
      exact br_f (nI_ge (by omega) (by omega)) ⟨vp_in_nI h38 (by omega), nm_r (mh_next hc) (nm_r (nI_1 j) (e4 post f K))⟩
theorem mx_insert {q t : Nat} {f : Nat × Nat} {F : List (Nat × Nat)} (hq : q < K) (hK : K ≤ 6) (t40 : t ≤ 40) (hG : mr_G K h hs yv rf sp vv rd G) (hO : mr_O K fr us x ol nw G own) (hF : G 6 = f :: F) : ∃ Q R ol' nw', G q = List.reverseAux Q R ∧ (∀ p ∈ Q, t < p.2) ∧ (∀ p R', R = p :: R' → p.2 ≤ t) ∧ (Q = [] → nw' = upd nw q (nI f.1) ∧ ol' = upd ol f.1 (mh_top R)) ∧ (∀ p Q', Q = p :: Q' → nw' = nw ∧ ol' = upd (upd ol f.1 (mh_top R)) p.1 (nI f.1)) ∧ ∀ post : Int32 → SX → Prop, post (nI f.1) (nI K, nI O, nI M, nI N, nI L, nI h, A, W, C, mh_top F, us + 1, rk, so, rs, upd sp f.1 (nI t), upd vv f.1 0, vp_updL rd f.1 0, ol', nw') → wpX_insert post (nI K, nI O, nI M, nI N, nI L, nI h, A, W, C, fr, us, rk, so, rs, sp, vv, rd, ol, nw) (nI q) (nI t) := by
  have c6 := (hO.1 6).1
  rw [hF, show mh_hd K nw fr x 6 = fr from by unfold mh_hd; rw [if_neg (by omega), if_pos rfl]] at c6
  obtain ⟨hfr, f38, c6⟩ := c6
  subst hfr
  have hc := mr_ch hO hq
  have g := hG q hq
  obtain ⟨Q, R, e, hQ, hR, W4⟩ := mx_insL (K := K) (O := O) (M := M) (N := N) (L := L) (h := h) (A := A) (W := W) (C := C) (fr := mh_top F) (us := us + 1) (rk := rk) (so := so) (rs := rs) (vv := vv) (rd := rd) (nw := nw) (q := q) t40 (G q) [] 0 (mh_tail [] _ _ hc) (fun p hp => ⟨(g.2.1 p hp).2.1, (g.2.1 p hp).1⟩) (by have := mr_len hO hq; omega) (fun p hp => by cases hp)
  have e : G q = List.reverseAux Q R := e.symm
  have W5 : ∀ post : Int32 → SX → Prop, wX_insert_87 post (nI q) (nI t) (nI f.1) (mh_top Q) (mh_top R) (nI K) (nI O) (nI M) (nI N) (nI L) (nI h) A W C (mh_top F) (us + 1) rk so rs sp vv rd ol nw → wpX_insert post (nI K, nI O, nI M, nI N, nI L, nI h, A, W, C, nI f.1, us, rk, so, rs, sp, vv, rd, ol, nw) (nI q) (nI t) := fun post hp => by
    refine br_t (nI_pos' (by omega)) ⟨vp_in_nI f38 (by omega), ?_⟩
    rw [nI_clamp (show f.1 < 2 ^ 31 by omega)]
    refine nm_r (mh_topx c6) (nm_e ⟨vp_in_nI (by omega) (by omega), ?_⟩)
    rw [nI_clamp (show q < 2 ^ 31 by omega)]
    exact nm_r (mh_topx hc) ⟨(G q).length + 1, W4 post _ hp⟩
  cases Q with
  | nil =>
    refine ⟨[], R, upd ol f.1 (mh_top R), upd nw q (nI f.1), e, hQ, hR, fun _ => ⟨rfl, rfl⟩, fun p Q' z => (by cases z), fun post hp => W5 post ?_⟩
    unfold wX_insert_87
    rw [nI_clamp (show f.1 < 2 ^ 31 by omega)]
    refine ⟨vp_in_nI f38 (by omega), nm_e ⟨vp_in_nI f38 (by omega), nm_e ⟨vp_in_nI f38 (by omega), nm_e ⟨vp_in_nI f38 (by omega), nm_e ?_⟩⟩⟩⟩
    refine br_f (show ¬ (0 : Int32) ≤ -1 by decide) ⟨vp_in_nI (by omega) (by omega), nm_e ?_⟩
    rw [nI_clamp (show q < 2 ^ 31 by omega)]
    exact hp
  | cons p Q =>
    have p38 : p.1 < 38 := mr_sl hO hq p (by rw [e]; exact mh_mem.mpr (Or.inl (List.mem_cons_self ..)))
    refine ⟨p :: Q, R, upd (upd ol f.1 (mh_top R)) p.1 (nI f.1), nw, e, hQ, hR, fun z => (by cases z), fun p' Q' z => (by cases z; exact ⟨rfl, rfl⟩), fun post hp => W5 post ?_⟩
    unfold wX_insert_87
    rw [nI_clamp (show f.1 < 2 ^ 31 by omega)]
    refine ⟨vp_in_nI f38 (by omega), nm_e ⟨vp_in_nI f38 (by omega), nm_e ⟨vp_in_nI f38 (by omega), nm_e ⟨vp_in_nI f38 (by omega), nm_e ?_⟩⟩⟩⟩
    refine br_t (nI_pos' (by omega)) ⟨vp_in_nI p38 (by omega), nm_e ?_⟩
    rw [show (mh_top (p :: Q)).toNatClampNeg = p.1 from nI_clamp (show p.1 < 2 ^ 31 by omega)]
    exact hp
theorem mr_heldU {t q : Nat} (ht : h ≤ t) (t1 : 1 ≤ t) (t40 : t ≤ 40) (q6 : q < 6) : mr_held h (upd hs (t * 6 + q) 1) + (if mr_hb h hs t q = true then 1 else 0) = mr_held h hs + 1 := by
  have e2 : ∀ s c, c < 6 → ¬ (s = t ∧ c = q) → mr_hb h (upd hs (t * 6 + q) 1) s c = mr_hb h hs s c := fun s c c6 z => by
    unfold mr_hb
    rw [pk_un (by omega)]
  have e1 : mr_hb h (upd hs (t * 6 + q) 1) t q = true := mr_hbI.mpr ⟨ht, by unfold mr_hv; rw [pk_us]; decide⟩
  have a := mc_one (f := fun s => mc_n (fun k => mr_hb h (upd hs (t * 6 + q) 1) s k) 0 6) (g := fun s => mc_n (fun k => mr_hb h hs s k) 0 6) (a := t) 40 1 t1 (by omega) (fun s _ _ z => mc_ncong fun c _ c6 => by rw [e2 s c (by omega) (fun y => z y.1)])
  have b := mc_one (f := fun k => if mr_hb h (upd hs (t * 6 + q) 1) t k = true then 1 else 0) (g := fun k => if mr_hb h hs t k = true then 1 else 0) (a := q) 6 0 (by omega) (by omega) (fun c _ c6 z => by
    show (if mr_hb h (upd hs (t * 6 + q) 1) t c = true then 1 else 0) = _
    rw [e2 t c (by omega) (fun y => z y.2)])
  have a : mr_held h (upd hs (t * 6 + q) 1) + mc_n (fun k => mr_hb h hs t k) 0 6 = mr_held h hs + mc_n (fun k => mr_hb h (upd hs (t * 6 + q) 1) t k) 0 6 := a
  have b : mc_n (fun k => mr_hb h (upd hs (t * 6 + q) 1) t k) 0 6 + (if mr_hb h hs t q = true then 1 else 0) = mc_n (fun k => mr_hb h hs t k) 0 6 + (if mr_hb h (upd hs (t * 6 + q) 1) t q = true then 1 else 0) := b
  rw [if_pos e1] at b
  omega
theorem ms_Y {t q : Nat} (hY : mr_Y K O M N L h ts hs rf) (a : ts t = 1) (t40 : t ≤ 40) (hq : q < K) (hw : ∀ u, u ≤ 40 → ¬ mr_iw rf u t q) (room : mr_hv hs t q ∨ mr_held h hs < M) : mr_Y K O M N L h ts (upd hs (t * 6 + q) 1) rf := by
  obtain ⟨hP, hT, hH, hF, hC, hZ, hN, hM⟩ := hY
  have P := hP
  unfold mr_P at P
  obtain ⟨t1, tL, th⟩ := mr_ufL hT hZ t40 (Or.inl a)
  have mono : ∀ s c, mr_hv hs s c → mr_hv (upd hs (t * 6 + q) 1) s c := fun s c z => by
    unfold mr_hv at z ⊢
    by_cases e : s * 6 + c = t * 6 + q
    · rw [e, pk_us]; decide
    · rw [pk_un e]; exact z
  have back : ∀ s c, c < 6 → mr_hv (upd hs (t * 6 + q) 1) s c → mr_hv hs s c ∨ (s = t ∧ c = q) := fun s c c6 z => by
    unfold mr_hv at z ⊢
    by_cases e : s * 6 + c = t * 6 + q
    · exact Or.inr ⟨by omega, by omega⟩
    · rw [pk_un e] at z; exact Or.inl z
  refine ⟨hP, hT, ⟨fun c c6 => mono 0 c (hH.1 c c6), fun s c s1 s40 c6 z => ?_⟩, fun u c u40 c6 => ?_, hC, hZ, hN, ?_⟩
  · rcases back s c c6 z with z | ⟨rfl, rfl⟩
    · exact hH.2 s c s1 s40 c6 z
    · exact ⟨hq, tL, by rw [a]; decide⟩
  · rcases hF u c u40 c6 with z | ⟨s, z1, z2, z3, z4, z5⟩
    · exact Or.inl z
    · refine Or.inr ⟨s, z1, z2, mono s c z3, fun x x1 x2 y => ?_, z5⟩
      rcases back x c c6 y with y | ⟨rfl, rfl⟩
      · exact z4 x x1 x2 y
      · exact hw u u40 ⟨x2, s, by omega, z1⟩
  · unfold mr_M at hM ⊢
    have e := mr_heldU (hs := hs) th t1 t40 (show q < 6 by omega)
    rcases room with z | z
    · rw [if_pos (mr_hbI.mpr ⟨th, z⟩)] at e
      omega
    · split at e <;> omega
/-- over the own version -/
theorem ms_X1 {t q b : Nat} {w : Int32} (hP : mr_P K O M N L h) (hX : mr_X K L h A W C fr us rk so rs sp vv rd ol nw ts yk hs yv rf G own) (hq : q < K) (hm : (b, t) ∈ G q) (hv : mr_hv hs t q) : mr_X K L h A W C fr us rk so rs sp (upd vv b w) rd ol nw ts yk (upd hs (t * 6 + q) 1) (upd yv (t * 6 + q) w) rf G own := by
  obtain ⟨hB, hQ, hS, hR, hG, hO⟩ := hX
  unfold mr_P at hP
  have same : ∀ s c, mr_hv (upd hs (t * 6 + q) 1) s c ↔ mr_hv hs s c := fun s c => by
    unfold mr_hv at hv ⊢
    by_cases e : s * 6 + c = t * 6 + q
    · rw [e, pk_us]; exact ⟨fun _ => hv, fun _ => by decide⟩
    · rw [pk_un e]
  refine ⟨hB, hQ, hS, hR, fun c hc => ⟨(hG c hc).1, fun p hp => ?_, fun s s40 => ?_⟩, hO⟩
  · have g := (hG c hc).2.1 p hp
    refine ⟨g.1, g.2.1, ?_, g.2.2.2⟩
    by_cases e : p.1 = b
    · have : c = q := mr_key hO hp hm e
      subst this
      have : p = (b, t) := mr_one hc hG hp hm e
      rw [this]
      show upd vv b w b = upd yv (t * 6 + c) w (t * 6 + c)
      rw [pk_us, pk_us]
    · rw [pk_un e, pk_un]
      · exact g.2.2.1
      · intro z
        have : c = q := by omega
        subst this
        exact e (by rw [mr_pw _ (hG c hc).1 p hp (b, t) hm (by show p.2 = t; omega)])
  · rw [(hG c hc).2.2 s s40]
    unfold mr_kp
    rw [same s c]
    exact ⟨fun z => ⟨z.1, fun x a b y => z.2 x a b ((same x c).mp y)⟩, fun z => ⟨z.1, fun x a b y => z.2 x a b ((same x c).mpr y)⟩⟩
/-- a new version -/
theorem ms_X2 {t q : Nat} {w : Int32} {f : Nat × Nat} {F Q R : List (Nat × Nat)} {ol' nw' : Nat → Int32} (hY : mr_Y K O M N L h ts hs rf) (hX : mr_X K L h A W C fr us rk so rs sp vv rd ol nw ts yk hs yv rf G own) (a : ts t = 1) (t40 : t ≤ 40) (hq : q < K) (nv : ¬ mr_hv hs t q) (hF6 : G 6 = f :: F) (hGq : G q = List.reverseAux Q R) (hQ1 : ∀ p ∈ Q, t < p.2) (hR1 : ∀ p R', R = p :: R' → p.2 ≤ t) (o1 : Q = [] → nw' = upd nw q (nI f.1) ∧ ol' = upd ol f.1 (mh_top R)) (o2 : ∀ p Q', Q = p :: Q' → nw' = nw ∧ ol' = upd (upd ol f.1 (mh_top R)) p.1 (nI f.1)) : mr_X K L h A W C (mh_top F) (us + 1) rk so rs (upd sp f.1 (nI t)) (upd (upd vv f.1 0) f.1 w) (vp_updL rd f.1 0) ol' nw' ts yk (upd hs (t * 6 + q) 1) (upd yv (t * 6 + q) w) rf (mh_g (mh_g G 6 F) q (List.reverseAux Q ((f.1, t) :: R))) (fun c => if c = f.1 then q else own c) := by
  obtain ⟨hP, hT, hH, hF, hC, hZ, hN, hM⟩ := hY
  obtain ⟨hB, hQ, hS, hR, hG, hO⟩ := hX
  unfold mr_P at hP
  obtain ⟨t1, tL, th⟩ := mr_ufL hT hZ t40 (Or.inl a)
  have of6 : ∀ c p, c < K → p ∈ G c → p.1 ≠ f.1 := fun c p hc hp e => by
    have := mr_key hO hp (show f ∈ G 6 by rw [hF6]; exact List.mem_cons_self ..) e
    omega
  have memq : ∀ p, p ∈ Q ∨ p ∈ R → p ∈ G q := fun p hp => by rw [hGq]; exact mh_mem.mpr hp
  have off : ∀ s c, c < 6 → ¬ (s = t ∧ c = q) → (mr_hv (upd hs (t * 6 + q) 1) s c ↔ mr_hv hs s c) := fun s c c6 z => by
    unfold mr_hv
    rw [pk_un (by omega)]
  have hvt : mr_hv (upd hs (t * 6 + q) 1) t q := by unfold mr_hv; rw [pk_us]; decide
  have Gq := hG q hq
  have nt : ∀ p ∈ G q, p.2 ≠ t := fun p hp e => nv (by
    have := ((Gq.2.2 p.2 (Gq.2.1 p hp).1).mp ⟨p.1, hp⟩).1
    rw [e] at this; exact this)
  have so := Gq.1
  rw [hGq, mh_so] at so
  have Rlt : ∀ p ∈ R, p.2 < t := fun p hp => by
    have n1 := nt p (memq p (Or.inr hp))
    cases R with
    | nil => cases hp
    | cons r R =>
      have h1 := hR1 r R rfl
      rcases List.mem_cons.mp hp with z | z
      · rw [z] at n1 ⊢; omega
      · have := (List.pairwise_cons.mp so.2.1).1 p z
        omega
  refine ⟨hB, hQ, hS, fun u c u1 uL uu cK => ?_, fun c hc => ?_, ?_, ?_, ?_⟩
  · rcases hR u c u1 uL uu cK with z | ⟨b, s, e1, e2, e3⟩
    · exact Or.inl z
    · refine Or.inr ⟨b, s, e1, e2, ?_⟩
      by_cases e : c = q
      · subst e
        rw [mh_gs]
        rw [hGq] at e3
        rcases mh_mem.mp e3 with y | y
        · exact mh_mem.mpr (Or.inl y)
        · exact mh_mem.mpr (Or.inr (List.mem_cons_of_mem _ y))
      · rw [mh_gn e, mh_gn (by omega)]; exact e3
  · have old : ∀ p ∈ G c, mr_V (upd yv (t * 6 + q) w) rf (upd sp f.1 (nI t)) (upd (upd vv f.1 0) f.1 w) (vp_updL rd f.1 0) c p := fun p hp => by
      have g := (hG c hc).2.1 p hp
      have n := of6 c p hc hp
      refine ⟨g.1, ?_, ?_, ?_⟩
      · rw [pk_un n]; exact g.2.1
      · rw [pk_un n, pk_un n, pk_un]
        · exact g.2.2.1
        · intro z
          have : c = q := by omega
          subst this
          exact nt p hp (by omega)
      · rw [pk_uLn n]; exact g.2.2.2
    by_cases e : c = q
    · subst e
      rw [mh_gs]
      refine ⟨mh_so.mpr ⟨so.1, List.pairwise_cons.mpr ⟨Rlt, so.2.1⟩, fun p hp b hb => ?_⟩, fun p hp => ?_, fun s s40 => ?_⟩
      · rcases List.mem_cons.mp hb with z | z
        · rw [z]; exact hQ1 p hp
        · exact so.2.2 p hp b z
      · rcases mh_mem.mp hp with z | z
        · exact old p (memq p (Or.inl z))
        · rcases List.mem_cons.mp z with z | z
          · rw [z]
            refine ⟨t40, pk_us, ?_, fun u => ?_⟩
            · show upd (upd vv f.1 0) f.1 w f.1 = upd yv (t * 6 + c) w (t * 6 + c)
              rw [pk_us, pk_us]
            · show ml_b (vp_updL rd f.1 0 f.1) u = true ↔ 1 ≤ u ∧ u ≤ 40 ∧ rf (u * 6 + c) = nI t
              rw [pk_uLs, ml_0]
              constructor
              · intro y; cases y
              · rintro ⟨u1, u40, y⟩
                exact absurd (mr_Fs hF u40 (by omega) (by omega) y).2.1 nv
          · exact old p (memq p (Or.inr z))
      · by_cases y : s = t
        · subst y
          exact ⟨fun _ => ⟨hvt, fun x x1 x2 => by omega⟩, fun _ => ⟨f.1, mh_mem.mpr (Or.inr (List.mem_cons_self ..))⟩⟩
        · have k1 : mr_kp h (upd hs (t * 6 + c) 1) c s ↔ mr_kp h hs c s := by
            unfold mr_kp
            rw [off s c (by omega) (fun z => y z.1)]
            exact ⟨fun z => ⟨z.1, fun x a b d => z.2 x a b ((off x c (by omega) (fun z => by omega)).mpr d)⟩, fun z => ⟨z.1, fun x a b d => z.2 x a b ((off x c (by omega) (fun z => by omega)).mp d)⟩⟩
          rw [k1, ← Gq.2.2 s s40, hGq]
          constructor
          · rintro ⟨b, hb⟩
            refine ⟨b, ?_⟩
            rcases mh_mem.mp hb with z | z
            · exact mh_mem.mpr (Or.inl z)
            · rcases List.mem_cons.mp z with z | z
              · exact absurd (congrArg Prod.snd z) y
              · exact mh_mem.mpr (Or.inr z)
          · rintro ⟨b, hb⟩
            refine ⟨b, ?_⟩
            rcases mh_mem.mp hb with z | z
            · exact mh_mem.mpr (Or.inl z)
            · exact mh_mem.mpr (Or.inr (List.mem_cons_of_mem _ z))
    · rw [mh_gn e, mh_gn (by omega)]
      refine ⟨(hG c hc).1, old, fun s s40 => ?_⟩
      rw [(hG c hc).2.2 s s40]
      unfold mr_kp
      rw [off s c (by omega) (fun z => e z.2)]
      exact ⟨fun z => ⟨z.1, fun x a b d => z.2 x a b ((off x c (by omega) (fun z => e z.2)).mp d)⟩, fun z => ⟨z.1, fun x a b d => z.2 x a b ((off x c (by omega) (fun z => e z.2)).mpr d)⟩⟩
  · have hd6 : mh_hd K nw' (mh_top F) (-1) 6 = mh_top F := by unfold mh_hd; rw [if_neg (by omega), if_pos rfl]
    have hdq : ∀ n : Nat → Int32, ∀ y z, mh_hd K n y z q = n q := fun n y z => if_pos hq
    refine mh_ins hO.1 (by omega) hF6 hGq hd6 (fun z => ?_) (fun z => ?_) (fun c c1 c2 => ?_) ?_ (fun p Q' z => ?_) (fun b b1 b2 => ?_)
    · rw [hdq, (o1 z).1, pk_us]
    · cases Q with
      | nil => exact absurd rfl z
      | cons p Q => rw [hdq, hdq, (o2 p Q rfl).1]
    · unfold mh_hd
      by_cases y : c < K
      · rw [if_pos y, if_pos y]
        cases Q with
        | nil => rw [(o1 rfl).1, pk_un c1]
        | cons p Q => rw [(o2 p Q rfl).1]
      · rw [if_neg y, if_neg y, if_neg c2, if_neg c2]
    · cases Q with
      | nil => rw [(o1 rfl).2, pk_us]
      | cons p Q => rw [(o2 p Q rfl).2, pk_un (fun z => of6 q p hq (memq p (Or.inl (List.mem_cons_self ..))) z.symm), pk_us]
    · rw [(o2 p Q' z).2, pk_us]
    · cases Q with
      | nil => rw [(o1 rfl).2, pk_un b1]
      | cons p Q => rw [(o2 p Q rfl).2, pk_un (b2 p Q rfl), pk_un b1]
  · have e1 := mh_Ug (G := mh_g G 6 F) (l := List.reverseAux Q ((f.1, t) :: R)) hq
    rw [mh_Un (G := G) (k := 6) (l := F) (by omega), mh_gn (by omega), hGq, mh_rl, mh_rl] at e1
    have e2 : ((f.1, t) :: R).length = R.length + 1 := rfl
    rw [hO.2.1, show (1 : Int32) = nI 1 from rfl, nI_add]
    congr 1
    omega
  · have e1 := mh_Ug (G := mh_g G 6 F) (l := List.reverseAux Q ((f.1, t) :: R)) hq
    rw [mh_Un (G := G) (k := 6) (l := F) (by omega), mh_gn (by omega), hGq, mh_rl, mh_rl] at e1
    have e2 : ((f.1, t) :: R).length = R.length + 1 := rfl
    have e3 := hO.2.2
    rw [mh_gn (show 6 ≠ q by omega), mh_gs, mh_gn (show 7 ≠ q by omega), mh_gn (show 7 ≠ 6 by omega)]
    have e4 : (G 6).length = F.length + 1 := by rw [hF6]; rfl
    omega
/-- STORE -/
theorem mj_store {t q : Nat} {w : Int32} (hY : mr_Y K O M N L h ts hs rf) (hX : mr_X K L h A W C fr us rk so rs sp vv rd ol nw ts yk hs yv rf G own) (a : ts t = 1) (t40 : t ≤ 40) (hq : q < K) (hw : ∀ u, u ≤ 40 → ¬ mr_iw rf u t q) (room : mr_hv hs t q ∨ mr_held h hs < M) : ∃ (fr' us' : Int32) (sp' vv' : Nat → Int32) (rd' : Nat → Int64) (ol' nw' : Nat → Int32), (∀ (k : Nat) (dm : Nat → Int32), i_Rel k (nI K, nI O, nI M, nI N, nI L, nI h, A, W, C, fr', us', rk, so, rs, sp', vv', rd', ol', nw') (nI K, nI O, nI M, nI N, nI L, nI h, ts, yk, upd hs (t * 6 + q) 1, upd yv (t * 6 + q) (w &&& 65535), rf, dm)) ∧ (∀ post : SX → Prop, post (nI K, nI O, nI M, nI N, nI L, nI h, A, W, C, fr', us', rk, so, rs, sp', vv', rd', ol', nw') → wpX_store post (nI K, nI O, nI M, nI N, nI L, nI h, A, W, C, fr, us, rk, so, rs, sp, vv, rd, ol, nw) (nI t) (nI q) w) := by
  have P := hY.1
  unfold mr_P at P
  have hY' := ms_Y hY a t40 hq hw room
  obtain ⟨t1, tL, th⟩ := mr_ufL hY.2.1 hY.2.2.2.2.2.1 t40 (Or.inl a)
  have hG := hX.2.2.2.2.1
  have hO := hX.2.2.2.2.2
  have g := hG q hq
  by_cases hv : mr_hv hs t q
  · obtain ⟨b, hm⟩ := (g.2.2 t t40).mpr ⟨hv, fun x a b => by omega⟩
    have b38 : b < 38 := mr_sl hO hq _ hm
    refine ⟨fr, us, sp, upd vv b (w &&& 65535), rd, ol, nw, fun k dm => mr_in hY' (ms_X1 hY.1 hX hq hm hv), fun post hp => ?_⟩
    unfold wpX_store
    refine mj_exact hq (by omega) hG hO (fun b' s hm' e => ?_) (fun n => absurd rfl (n _ hm))
    have : t = s := mr_inj t40 (g.2.1 _ hm').1 e
    subst this
    have : b' = b := by
      have := mr_pw _ g.1 _ hm' _ hm rfl
      exact congrArg Prod.fst this
    subst this
    refine br_t (nI_pos' (by omega)) (br_f (nI_pos (by omega)) ⟨vp_in_nI b38 (by omega), ?_⟩)
    rw [nI_clamp (by omega)]
    exact nm_e hp
  · have hl : mr_held h hs < M := by
      rcases room with z | z
      · exact absurd z hv
      · exact z
    have hU := mr_cnt (by omega) (by omega) (by omega) hY.2.2.1 hG
    have h7 : G 7 = [] := by
      have t := (hO.1 7).1
      rw [show mh_hd K nw fr (-1) 7 = -1 from by unfold mh_hd; rw [if_neg (by omega), if_neg (by omega), if_pos rfl]] at t
      exact mh_nil t
    have h38 := hO.2.2
    rw [h7] at h38
    have h38 : mh_U G K + (G 6).length + 0 = 38 := h38
    cases hF6 : G 6 with
    | nil =>
      rw [hF6] at h38
      have h38 : mh_U G K + 0 + 0 = 38 := h38
      omega
    | cons f F =>
      have f38 : f.1 < 38 := mh_lt _ _ (hO.1 6).1 f (by rw [hF6]; exact List.mem_cons_self ..)
      obtain ⟨Q, R, ol', nw', e1, e2, e3, e4, e5, e6⟩ := mx_insert (O := O) (M := M) (N := N) (L := L) (A := A) (W := W) (C := C) (rk := rk) (so := so) (rs := rs) hq (by omega) t40 hG hO hF6
      refine ⟨mh_top F, us + 1, upd sp f.1 (nI t), upd (upd vv f.1 0) f.1 (w &&& 65535), vp_updL rd f.1 0, ol', nw', fun k dm => mr_in hY' (ms_X2 hY hX a t40 hq hv hF6 e1 e2 e3 e4 e5), fun post hp => ?_⟩
      unfold wpX_store
      refine mj_exact hq (by omega) hG hO (fun b' s hm' e => ?_) (fun n => ?_)
      · have : t = s := mr_inj t40 (g.2.1 _ hm').1 e
        subst this
        exact absurd ((g.2.2 t t40).mp ⟨b', hm'⟩).1 hv
      · refine br_f (by decide) (e6 _ ?_)
        refine br_f (nI_pos (by omega)) ⟨vp_in_nI f38 (by omega), ?_⟩
        rw [nI_clamp (show f.1 < 2 ^ 31 by omega)]
        exact nm_e hp
end
end
section
section
variable {K O M N L h : Nat} {A W C : Int64} {fr us : Int32} {rk rs sp vv ol nw : Nat → Int32} {so rd : Nat → Int64} {ts yk hs yv rf dm : Nat → Int32} {G : Nat → List (Nat × Nat)} {own : Nat → Nat}
theorem mx_sr {post : Int32 → Prop} {t q : Nat} {w bar : Int64} (hY : mr_Y K O M N L h ts hs rf) (hX : mr_X K L h A W C fr us rk so rs sp vv rd ol nw ts yk hs yv rf G own) (a : ts t = 1) (t40 : t ≤ 40) (hq : q < K) (hx : ∀ post : Int32 → Prop, post 0 → wpX_accessRefusal post (nI K, nI O, nI M, nI N, nI L, nI h, A, W, C, fr, us, rk, so, rs, sp, vv, rd, ol, nw) (nI t) (nI q) (nI q)) (hw : ∀ post : Int64 → Prop, post w → wpX_inTheWay post (nI K, nI O, nI M, nI N, nI L, nI h, A, W, C, fr, us, rk, so, rs, sp, vv, rd, ol, nw) (nI t) (nI q)) (h4 : ¬ w &&& bar = 0 → post (-4)) (h0 : w &&& bar = 0 → (mr_hv hs t q ∨ mr_held h hs < M) → post 0) (h5 : w &&& bar = 0 → ¬ mr_hv hs t q → mr_held h hs = M → post (-5)) : wpX_storeRefusal post (nI K, nI O, nI M, nI N, nI L, nI h, A, W, C, fr, us, rk, so, rs, sp, vv, rd, ol, nw) (nI t) (nI q) bar := by
  have P := hY.1
  unfold mr_P at P
  obtain ⟨t1, tL, th⟩ := mr_ufL hY.2.1 hY.2.2.2.2.2.1 t40 (Or.inl a)
  have hM := hY.2.2.2.2.2.2.2
  unfold mr_M at hM
  have hG := hX.2.2.2.2.1
  have hO := hX.2.2.2.2.2
  have g := hG q hq
  unfold wpX_storeRefusal
  refine hx _ (br_t rfl (hw _ (br_c (fun e => ?_) (fun e => h4 e))))
  refine mj_exact hq (by omega) hG hO (fun b s hm e2 => ?_) (fun n => ?_)
  · have b38 : b < 38 := mr_sl hO hq _ hm
    have : t = s := mr_inj t40 (g.2.1 _ hm).1 e2
    subst this
    exact br_t (nI_pos' (by omega)) (h0 e (Or.inl ((g.2.2 t t40).mp ⟨b, hm⟩).1))
  · have nv : ¬ mr_hv hs t q := fun hv => by
      obtain ⟨b, hm⟩ := (g.2.2 t t40).mpr ⟨hv, fun x a b => by omega⟩
      exact n _ hm rfl
    refine br_f (by decide) (mx_held (mj_U hY.1 hY.2.2.1 hG hO) (br_c (fun z => ?_) (fun z => ?_)))
    · exact h0 e (Or.inr ((nI_ltI (by omega) (by omega)).mp z))
    · rw [nI_ltI (by omega) (by omega)] at z
      exact h5 e nv (by omega)
/-- the five checks -/
theorem mj_cw (hY : mr_Y K O M N L h ts hs rf) (hX : mr_X K L h A W C fr us rk so rs sp vv rd ol nw ts yk hs yv rf G own) (v1 v2 : Int32) : (∃ r : Int32, r ≠ 0 ∧ (∀ post : Int32 → Prop, post r → wpX_storeRefusal post (nI K, nI O, nI M, nI N, nI L, nI h, A, W, C, fr, us, rk, so, rs, sp, vv, rd, ol, nw) v1 v2 (-1)) ∧ (∀ post : Int32 → Prop, post r → wpY_checkWrite post (nI K, nI O, nI M, nI N, nI L, nI h, ts, yk, hs, yv, rf, dm) v1 v2)) ∨ (∃ t q, v1 = nI t ∧ v2 = nI q ∧ t ≤ 40 ∧ ts t = 1 ∧ q < K ∧ (∀ u, u ≤ 40 → ¬ mr_iw rf u t q) ∧ (mr_hv hs t q ∨ mr_held h hs < M) ∧ (∀ post : Int32 → Prop, post 0 → wpX_storeRefusal post (nI K, nI O, nI M, nI N, nI L, nI h, A, W, C, fr, us, rk, so, rs, sp, vv, rd, ol, nw) v1 v2 (-1)) ∧ (∀ post : Int32 → Prop, post 0 → wpY_checkWrite post (nI K, nI O, nI M, nI N, nI L, nI h, ts, yk, hs, yv, rf, dm) v1 v2)) := by
  have P := hY.1
  unfold mr_P at P
  rcases mj_acc hY.1 hX.1 v1 v2 with ⟨r, hr, hx, hy⟩ | ⟨t, q, rfl, rfl, t1, tL, a, hq, hx, hy⟩
  · refine Or.inl ⟨r, hr, fun post hp => ?_, fun post hp => ?_⟩
    · unfold wpX_storeRefusal
      exact hx _ (br_f hr hp)
    · unfold wpY_checkWrite
      exact hy _ (br_f hr hp)
  · have t40 : t ≤ 40 := by omega
    obtain ⟨_, _, th⟩ := mr_ufL hY.2.1 hY.2.2.2.2.2.1 t40 (Or.inl a)
    have hF := hY.2.2.2.1
    have hM := hY.2.2.2.2.2.2.2
    unfold mr_M at hM
    obtain ⟨w, wb, hw⟩ := mj_iw (by omega) th t40 hq (by omega) hY.2.2.1 hF hX.2.2.2.2.1 hX.2.2.2.2.2
    have w1 : w &&& (-1) = 0 ↔ w = 0 := by
      rw [ml_z, ml_z]
      have e : ∀ s, s < 64 → ml_b (w &&& (-1)) s = ml_b w s := fun s s64 => by
        have m : ml_b (-1) s = true := by
          have := ml_not 0 s64
          rw [ml_0, show (0 : Int64) ^^^ (-1) = -1 from by decide] at this
          exact this
        rw [ml_and, m, Bool.and_true]
      exact ⟨fun z s s64 => by rw [← e s s64]; exact z s s64, fun z s s64 => by rw [e s s64]; exact z s s64⟩
    have cw : ∀ post : Int32 → Prop, ((∃ u, 1 ≤ u ∧ u ≤ 40 ∧ mr_iw rf u t q) → post (-4)) → ((¬ ∃ u, 1 ≤ u ∧ u ≤ 40 ∧ mr_iw rf u t q) → wpY_noRoom (fun r_16 => (((r_16 = 0 → (post 0)) ∧ (¬ r_16 = 0 → (post (-5)))))) (nI K, nI O, nI M, nI N, nI L, nI h, ts, yk, hs, yv, rf, dm) (nI t) (nI q)) → wpY_checkWrite post (nI K, nI O, nI M, nI N, nI L, nI h, ts, yk, hs, yv, rf, dm) (nI t) (nI q) := fun post h1 h0 => by
      unfold wpY_checkWrite
      exact hy _ (br_t rfl ⟨41, my_cwL hF t40 (by omega) 40 1 (by omega) h1 h0⟩)
    by_cases way : ∃ u, u ≤ 40 ∧ mr_iw rf u t q
    · obtain ⟨u, u40, uw⟩ := way
      have wn : ¬ w &&& (-1) = 0 := fun z => by
        have := ml_z.mp (w1.mp z) u (by omega)
        rw [(wb u).mpr ⟨u40, uw⟩] at this
        cases this
      have ue : ∃ u, 1 ≤ u ∧ u ≤ 40 ∧ mr_iw rf u t q := ⟨u, by have := uw.1; omega, u40, uw⟩
      exact Or.inl ⟨-4, by decide, fun post hp => mx_sr hY hX a t40 hq hx hw (fun _ => hp) (fun z => absurd z wn) (fun z => absurd z wn), fun post hp => cw post (fun _ => hp) (fun z => absurd ue z)⟩
    · have nw' : ∀ u, u ≤ 40 → ¬ mr_iw rf u t q := fun u u40 z => way ⟨u, u40, z⟩
      have w0 : w &&& (-1) = 0 := w1.mpr (ml_z.mpr fun s _ => ts_nt fun z => by
        have := (wb s).mp z
        exact nw' s this.1 this.2)
      have ue : ¬ ∃ u, 1 ≤ u ∧ u ≤ 40 ∧ mr_iw rf u t q := fun ⟨u, _, b, c⟩ => nw' u b c
      by_cases room : mr_hv hs t q ∨ mr_held h hs < M
      · refine Or.inr ⟨t, q, rfl, rfl, t40, a, hq, nw', room, fun post hp => mx_sr hY hX a t40 hq hx hw (fun z => absurd w0 z) (fun _ _ => hp) (fun _ z1 z2 => ?_), fun post hp => cw post (fun z => absurd z ue) (fun _ => my_noRoom t40 (by omega) (by omega) (by omega) (fun z1 z2 => ?_) (fun _ => br_t rfl hp))⟩
        · rcases room with y | y
          · exact absurd y z1
          · omega
        · rcases room with y | y
          · exact absurd y z1
          · omega
      · have nv : ¬ mr_hv hs t q := fun z => room (Or.inl z)
        have full : mr_held h hs = M := by
          have : ¬ mr_held h hs < M := fun z => room (Or.inr z)
          omega
        refine Or.inl ⟨-5, by decide, fun post hp => mx_sr hY hX a t40 hq hx hw (fun z => absurd w0 z) (fun _ z => absurd z room) (fun _ _ _ => hp), fun post hp => cw post (fun z => absurd z ue) (fun _ => my_noRoom t40 (by omega) (by omega) (by omega) (fun _ _ => br_f (by decide) hp) (fun z => ?_))⟩
        rcases z with z | z
        · exact absurd z nv
        · exact absurd full z
end
theorem i_vc_write {k : Nat} {u : SX} {v : SY} (I : i_Rel k u v) (hk : k + 4 ≤ 2052) (v1 : Int32) (v2 : Int32) (v3 : Int32) : wpX_write (fun r u' => wpY_write (fun r' v' => r' = r ∧ i_Rel (k + 4) u' v') v v1 v2 v3) u v1 v2 v3 := by
  refine I (fun u v => wpX_write (fun r u' => wpY_write (fun r' v' => r' = r ∧ i_Rel (k + 4) u' v') v v1 v2 v3) u v1 v2 v3) ?_
  intro K O M N L h A W C fr us rk so rs sp vv rd ol nw ts yk hs yv rf dm G own hY hX
  have J : i_Rel (k + 4) (nI K, nI O, nI M, nI N, nI L, nI h, A, W, C, fr, us, rk, so, rs, sp, vv, rd, ol, nw) (nI K, nI O, nI M, nI N, nI L, nI h, ts, yk, hs, yv, rf, dm) := mr_in hY hX
  have P := hY.1
  unfold mr_P at P
  unfold wpX_write wpY_write
  rcases mj_cw hY hX v1 v2 with ⟨r, hr, hx, hy⟩ | ⟨t, q, rfl, rfl, t40, a, hq, nway, room, hx, hy⟩
  · exact hx _ (br_f hr (hy _ (br_f hr ⟨rfl, J⟩)))
  · obtain ⟨fr', us', sp', vv', rd', ol', nw', rel, sx⟩ := mj_store (w := v3) hY hX a t40 hq nway room
    exact hx _ (br_t rfl (sx _ (hy _ (br_t rfl (my_store t40 (by omega) ⟨rfl, rel (k + 4) dm⟩)))))
theorem i_vc_add {k : Nat} {u : SX} {v : SY} (I : i_Rel k u v) (hk : k + 4 ≤ 2052) (v1 : Int32) (v2 : Int32) (v3 : Int32) : wpX_add (fun r u' => wpY_add (fun r' v' => r' = r ∧ i_Rel (k + 4) u' v') v v1 v2 v3) u v1 v2 v3 := by
  refine I (fun u v => wpX_add (fun r u' => wpY_add (fun r' v' => r' = r ∧ i_Rel (k + 4) u' v') v v1 v2 v3) u v1 v2 v3) ?_
  intro K O M N L h A W C fr us rk so rs sp vv rd ol nw ts yk hs yv rf dm G own hY hX
  have J : i_Rel (k + 4) (nI K, nI O, nI M, nI N, nI L, nI h, A, W, C, fr, us, rk, so, rs, sp, vv, rd, ol, nw) (nI K, nI O, nI M, nI N, nI L, nI h, ts, yk, hs, yv, rf, dm) := mr_in hY hX
  have P := hY.1
  unfold mr_P at P
  unfold wpX_add wpY_add
  rcases mj_cw hY hX v1 v2 with ⟨r, hr, hx, hy⟩ | ⟨t, q, rfl, rfl, t40, a, hq, nway, room, hx, hy⟩
  · exact hx _ (br_f hr (hy _ (br_f hr ⟨rfl, J⟩)))
  · obtain ⟨r, so', rs', rd', rf', hY', hX', keep, rx, ry⟩ := mj_read hY hX a t40 hq
    have nway' : ∀ u, u ≤ 40 → ¬ mr_iw rf' u t q := fun u u40 z => by
      obtain ⟨tu, s, st, e⟩ := z
      rw [keep u q (by omega) (by omega)] at e
      exact nway u u40 ⟨tu, s, st, e⟩
    obtain ⟨fr', us', sp', vv', rd2, ol', nw', rel, sx⟩ := mj_store (w := r + v3) hY' hX' a t40 hq nway' room
    refine hx _ (br_t rfl (rx _ (nm_e (sx _ (hy _ (br_t rfl (ry dm _ (my_store t40 (by omega) ?_))))))))
    rw [mr_ix, mr_cl (by omega)]
    dsimp only
    rw [pk_us]
    exact ⟨vp_in_nI (by omega) (by omega), rfl, rel (k + 4) dm⟩
end
section
def mr_cb (ts : Nat → Int32) (s : Nat) : Bool := decide (ts s = 3)
theorem mr_cbI {ts : Nat → Int32} {s : Nat} : mr_cb ts s = true ↔ ts s = 3 := decide_eq_true_iff
section
variable {K O M N L h : Nat} {A W C : Int64} {fr us : Int32} {rk rs sp vv ol nw : Nat → Int32} {so rd : Nat → Int64} {ts yk hs yv rf dm : Nat → Int32} {G : Nat → List (Nat × Nat)} {own : Nat → Nat}
theorem my_c69 {post : Int32 → SY → Prop} {J : Int32 → Int32 → (Nat → Int32) → (Nat → Int32) → (Nat → Int32) → (Nat → Int32) → (Nat → Int32) → (Nat → Int32) → Prop} {x3 : Int32} {i : Nat} (i40 : i ≤ 40) : ∀ d j c, j + d = 41 → J x3 (nI (i + 1)) ts (upd yk i (nI (c + mc_n (mr_cb ts) j d))) hs yv rf dm → wY_commit_69 post J x3 (nI i) (nI K) (nI O) (nI M) (nI N) (nI L) (nI h) ts yk hs yv rf dm (d + 1) (nI c) (nI j) := by
  intro d
  induction d with
  | zero =>
    intro j c hj hp
    refine br_t (nI_lt (a := 40) (by omega) (by omega)) ⟨vp_in_nI (by omega) (by omega), ?_⟩
    rw [nI_clamp (by omega)]
    exact nm_e (nm_r (nI_1 i) hp)
  | succ d ih =>
    intro j c hj hp
    refine br_f (nI_nlt (a := 40) (by omega) (by omega)) ⟨vp_in_nI (by omega) (by omega), ?_⟩
    rw [nI_clamp (n := j) (by omega)]
    refine br_c (fun e => nm_r (nI_1 c) (nm_r (nI_1 j) (ih (j + 1) (c + 1) (by omega) ?_))) (fun e => nm_r (nI_1 j) (ih (j + 1) c (by omega) ?_))
    · rw [mc_nt (mr_cbI.mpr e), ← Nat.add_assoc] at hp
      exact hp
    · rw [mc_nf (ts_nt fun z => e (mr_cbI.mp z))] at hp
      exact hp
theorem my_comE {post : Int32 → SY → Prop} {sum : Int32} (hT : mr_T L ts) (hp : post sum (nI K, nI O, nI M, nI N, nI L, nI h, ts, yk, hs, yv, rf, dm)) : ∀ e c, c + e = 41 → L < c → wY_commit_25 post (nI K) (nI O) (nI M) (nI N) (nI L) (nI h) (e + 1) sum (nI c) ts yk hs yv rf dm := by
  intro e
  induction e with
  | zero =>
    intro c hc _
    exact br_t (nI_lt (a := 40) (by omega) (by omega)) hp
  | succ e ih =>
    intro c hc hL
    refine br_f (nI_nlt (a := 40) (by omega) (by omega)) ⟨vp_in_nI (by omega) (by omega), ?_⟩
    rw [nI_clamp (by omega)]
    refine br_f (fun z => ?_) (nm_r (nI_1 c) (ih (c + 1) (by omega) (by omega)))
    rw [hT.1 c (by omega) (Or.inr hL)] at z
    exact absurd z (by decide)
/-- t waits now -/
theorem mw_Y {t : Nat} (hY : mr_Y K O M N L h ts hs rf) (a : ts t = 1) (t40 : t ≤ 40) : mr_Y K O M N L h (upd ts t 2) hs rf := by
  obtain ⟨hP, hT, hH, hF, hC, hZ, hN, hM⟩ := hY
  obtain ⟨t1, tL, th⟩ := mr_ufL hT hZ t40 (Or.inl a)
  have e1 : upd ts t 2 t = 2 := pk_us
  have e2 : ∀ s, s ≠ t → upd ts t 2 s = ts s := fun s z => pk_un z
  have e4 : ∀ s, ts s ≠ 4 → upd ts t 2 s ≠ 4 := fun s z => by
    by_cases y : s = t
    · rw [y, e1]; decide
    · rw [e2 s y]; exact z
  have e3 : ∀ s, upd ts t 2 s = 3 ↔ ts s = 3 := fun s => by
    by_cases y : s = t
    · rw [y, e1, a]; decide
    · rw [e2 s y]
  have eu : ∀ s, mr_uf (upd ts t 2) s ↔ mr_uf ts s := fun s => by
    unfold mr_uf
    by_cases y : s = t
    · rw [y, e1, a]; decide
    · rw [e2 s y]
  refine ⟨hP, ⟨fun s s40 z => ?_, fun s s1 sL => ?_⟩, ⟨hH.1, fun s c s1 s40 c6 z => ?_⟩, fun u c u40 c6 => ?_, fun u c s u40 c6 d e f g => ?_, fun s s1 sh z => hZ s s1 sh ((eu s).mp z), ?_, hM⟩
  · rw [e2 s (by omega)]; exact hT.1 s s40 z
  · by_cases y : s = t
    · rw [y]; exact Or.inr (Or.inl e1)
    · rw [e2 s y]; exact hT.2 s s1 sL
  · have r := hH.2 s c s1 s40 c6 z
    exact ⟨r.1, r.2.1, e4 s r.2.2⟩
  · rcases hF u c u40 c6 with z | ⟨s, z1, z2, z3, z4, z5, z6, z7⟩
    · exact Or.inl z
    · exact Or.inr ⟨s, z1, z2, z3, z4, z5, z6, e4 u z7⟩
  · exact (e3 s).mpr (hC u c s u40 c6 ((e3 u).mp d) e f g)
  · unfold mr_N at hN ⊢
    rw [mc_ncong (q := mr_ub ts) fun s _ _ => by rw [mr_ubI, mr_ubI]; exact eu s]
    exact hN
theorem mw_X {t : Nat} (hY : mr_Y K O M N L h ts hs rf) (hX : mr_X K L h A W C fr us rk so rs sp vv rd ol nw ts yk hs yv rf G own) (a : ts t = 1) (t40 : t ≤ 40) : mr_X K L h (A &&& (((1 : Int64) <<< ((nI t).toInt64 &&& 63)) ^^^ (-1))) (W ||| ((1 : Int64) <<< ((nI t).toInt64 &&& 63))) C fr us rk so rs sp vv rd ol nw (upd ts t 2) yk hs yv rf G own := by
  obtain ⟨hB, hQ, hS, hR, hG, hO⟩ := hX
  have e1 : upd ts t 2 t = 2 := pk_us
  have e2 : ∀ s, s ≠ t → upd ts t 2 s = ts s := fun s z => pk_un z
  refine ⟨fun s => ?_, hQ, hS, fun u c u1 uL uu cK => hR u c u1 uL ?_ cK, hG, hO⟩
  · have b := hB s
    rw [ml_clr (by omega), ml_set (by omega), b.1, b.2.1, b.2.2]
    by_cases y : s = t
    · subst y
      rw [e1, a]
      refine ⟨⟨fun z => absurd rfl z.2, fun z => absurd z.2 (by decide)⟩, ⟨fun _ => ⟨t40, rfl⟩, fun _ => Or.inr rfl⟩, ⟨fun z => absurd z.2 (by decide), fun z => absurd z.2 (by decide)⟩⟩
    · rw [e2 s y]
      refine ⟨⟨fun z => z.1, fun z => ⟨z, y⟩⟩, ⟨fun z => ?_, Or.inl⟩, Iff.rfl⟩
      rcases z with z | z
      · exact z
      · exact absurd z y
  · unfold mr_uf at uu ⊢
    by_cases y : u = t
    · rw [y]; exact Or.inl a
    · rw [e2 u y] at uu; exact uu
/-- i is committed now -/
theorem mc_Y {i : Nat} (hY : mr_Y K O M N L h ts hs rf) (a : ts i = 2) (i40 : i ≤ 40) (nb : ∀ s, 1 ≤ s → s ≤ 40 → ¬ ∃ c, c < 6 ∧ rf (i * 6 + c) = nI s ∧ mr_uf ts s) : mr_Y K O M N L h (upd ts i 3) hs rf := by
  obtain ⟨hP, hT, hH, hF, hC, hZ, hN, hM⟩ := hY
  obtain ⟨t1, tL, th⟩ := mr_ufL hT hZ i40 (Or.inr a)
  have e1 : upd ts i 3 i = 3 := pk_us
  have e2 : ∀ s, s ≠ i → upd ts i 3 s = ts s := fun s z => pk_un z
  have e4 : ∀ s, ts s ≠ 4 → upd ts i 3 s ≠ 4 := fun s z => by
    by_cases y : s = i
    · rw [y, e1]; decide
    · rw [e2 s y]; exact z
  have e3 : ∀ s, ts s = 3 → upd ts i 3 s = 3 := fun s z => by
    by_cases y : s = i
    · rw [y, e1]
    · rw [e2 s y]; exact z
  have eu : ∀ s, mr_uf (upd ts i 3) s → mr_uf ts s := fun s => by
    unfold mr_uf
    by_cases y : s = i
    · rw [y, e1]; intro z; rcases z with z | z <;> exact absurd z (by decide)
    · rw [e2 s y]; exact id
  refine ⟨hP, ⟨fun s s40 z => ?_, fun s s1 sL => ?_⟩, ⟨hH.1, fun s c s1 s40 c6 z => ?_⟩, fun u c u40 c6 => ?_, fun u c s u40 c6 d e f g => ?_, fun s s1 sh z => hZ s s1 sh (eu s z), ?_, hM⟩
  · rw [e2 s (by omega)]; exact hT.1 s s40 z
  · by_cases y : s = i
    · rw [y]; exact Or.inr (Or.inr (Or.inl e1))
    · rw [e2 s y]; exact hT.2 s s1 sL
  · have r := hH.2 s c s1 s40 c6 z
    exact ⟨r.1, r.2.1, e4 s r.2.2⟩
  · rcases hF u c u40 c6 with z | ⟨s, z1, z2, z3, z4, z5, z6, z7⟩
    · exact Or.inl z
    · exact Or.inr ⟨s, z1, z2, z3, z4, z5, z6, e4 u z7⟩
  · by_cases y : u = i
    · subst y
      have r := mr_Fs hF u40 c6 (by omega) e
      have v := hH.2 s c f (by omega) c6 r.2.1
      have n : ¬ mr_uf ts s := fun z => nb s f (by omega) ⟨c, c6, e, z⟩
      refine e3 s ?_
      rcases hT.2 s f v.2.1 with z | z | z | z
      · exact absurd (Or.inl z) n
      · exact absurd (Or.inr z) n
      · exact z
      · exact absurd z v.2.2
    · rw [e2 u y] at d
      exact e3 s (hC u c s u40 c6 d e f g)
  · unfold mr_N at hN ⊢
    exact Nat.le_trans (mc_nmono fun s _ _ z => mr_ubI.mpr (eu s (mr_ubI.mp z))) hN
theorem mc_X {i : Nat} {r : Int32} (hX : mr_X K L h A W C fr us rk so rs sp vv rd ol nw ts yk hs yv rf G own) (a : ts i = 2) (iL : i ≤ L) (i40 : i ≤ 40) : mr_X K L h A (W &&& (((1 : Int64) <<< ((nI i).toInt64 &&& 63)) ^^^ (-1))) (C ||| ((1 : Int64) <<< ((nI i).toInt64 &&& 63))) fr us (upd rk i r) so rs sp vv rd ol nw (upd ts i 3) (upd yk i r) hs yv rf G own := by
  obtain ⟨hB, hQ, hS, hR, hG, hO⟩ := hX
  have e1 : upd ts i 3 i = 3 := pk_us
  have e2 : ∀ s, s ≠ i → upd ts i 3 s = ts s := fun s z => pk_un z
  refine ⟨fun s => ?_, ⟨fun s s1 sL => ?_, fun s s1 s40 => ?_⟩, hS, fun u c u1 uL uu cK => hR u c u1 uL ?_ cK, hG, hO⟩
  · have b := hB s
    rw [ml_clr (by omega), ml_set (by omega), b.1, b.2.1, b.2.2]
    by_cases y : s = i
    · subst y
      rw [e1, a]
      refine ⟨⟨fun z => absurd z.2 (by decide), fun z => absurd z.2 (by decide)⟩, ⟨fun z => absurd rfl z.2, fun z => absurd z.2 (by decide)⟩, ⟨fun _ => ⟨i40, rfl⟩, fun _ => Or.inr rfl⟩⟩
    · rw [e2 s y]
      refine ⟨Iff.rfl, ⟨fun z => z.1, fun z => ⟨z, y⟩⟩, ⟨fun z => ?_, Or.inl⟩⟩
      rcases z with z | z
      · exact z
      · exact absurd z y
  · by_cases y : s = i
    · rw [y, pk_us, pk_us]
    · rw [pk_un y, pk_un y]; exact hQ.1 s s1 sL
  · rw [pk_un (by omega)]; exact hQ.2 s s1 s40
  · unfold mr_uf at uu ⊢
    by_cases y : u = i
    · rw [y]; exact Or.inr a
    · rw [e2 u y] at uu; exact uu
theorem mj_setL : ∀ (d i : Nat) (sum : Int32) (W C : Int64) (rk ts yk : Nat → Int32), 1 ≤ i → i + d = L + 1 → mr_Y K O M N L h ts hs rf → mr_X K L h A W C fr us rk so rs sp vv rd ol nw ts yk hs yv rf G own → ∃ (r : Int32) (W' C' : Int64) (rk' ts' yk' : Nat → Int32), mr_Y K O M N L h ts' hs rf ∧ mr_X K L h A W' C' fr us rk' so rs sp vv rd ol nw ts' yk' hs yv rf G own ∧ (∀ post : Int32 → SX → Prop, post r (nI K, nI O, nI M, nI N, nI L, nI h, A, W', C', fr, us, rk', so, rs, sp, vv, rd, ol, nw) → wX_settle_4 post (nI K) (nI O) (nI M) (nI N) (nI L) (nI h) A fr us (d + 1) sum (nI i) W C rk so rs sp vv rd ol nw) ∧ (∀ (dm : Nat → Int32) (post : Int32 → SY → Prop), post r (nI K, nI O, nI M, nI N, nI L, nI h, ts', yk', hs, yv, rf, dm) → wY_commit_25 post (nI K) (nI O) (nI M) (nI N) (nI L) (nI h) (41 - i + 1) sum (nI i) ts yk hs yv rf dm) := by
  intro d
  induction d with
  | zero =>
    intro i sum W C rk ts yk i1 hi hY hX
    have P := hY.1
    unfold mr_P at P
    exact ⟨sum, W, C, rk, ts, yk, hY, hX, fun post hp => br_t (nI_lt (by omega) (by omega)) hp, fun dm post hp => my_comE hY.2.1 hp (41 - i) i (by omega) (by omega)⟩
  | succ d ih =>
    intro i sum W C rk ts yk i1 hi hY hX
    have P := hY.1
    unfold mr_P at P
    have hB := hX.1
    have hS := hX.2.2.1
    have f1 : 41 - i + 1 = 41 - (i + 1) + 1 + 1 := by omega
    by_cases w : ts i = 2
    · have hw : ml_b W i = true := (hB i).2.1.mpr ⟨by omega, w⟩
      have bits : ∀ s, ml_b (so i &&& (A ||| W)) s = true ↔ 1 ≤ s ∧ s ≤ 40 ∧ ∃ c, c < 6 ∧ rf (i * 6 + c) = nI s ∧ mr_uf ts s := fun s => by
        rw [ml_andI, hS i i1 (by omega) s, mr_AW hB s]
        constructor
        · rintro ⟨⟨p, q, c, d, e⟩, _, g⟩; exact ⟨p, q, c, d, e, g⟩
        · rintro ⟨p, q, c, d, e, g⟩; exact ⟨⟨p, q, c, d, e⟩, q, g⟩
      by_cases bl : ∃ s, 1 ≤ s ∧ s ≤ 40 ∧ ∃ c, c < 6 ∧ rf (i * 6 + c) = nI s ∧ mr_uf ts s
      · obtain ⟨r, W', C', rk', ts', yk', hY', hX', rx, ry⟩ := ih (i + 1) sum W C rk ts yk (by omega) (by omega) hY hX
        refine ⟨r, W', C', rk', ts', yk', hY', hX', fun post hp => ?_, fun dm post hp => ?_⟩
        · refine br_f (nI_nlt (by omega) (by omega)) (mx_has (by omega) (fun _ => br_f (by decide) ⟨vp_in_nI (by omega) (by omega), ?_⟩) (fun z => by rw [hw] at z; cases z))
          rw [nI_clamp (by omega)]
          refine br_f ?_ (nm_r (nI_1 i) (rx post hp))
          obtain ⟨s, b1, b2, b3⟩ := bl
          exact ml_nz.mpr ⟨s, by omega, (bits s).mpr ⟨b1, b2, b3⟩⟩
        · rw [f1]
          refine br_f (nI_nlt (a := 40) (by omega) (by omega)) ⟨vp_in_nI (by omega) (by omega), ?_⟩
          rw [nI_clamp (by omega)]
          refine br_t w (my_fb (by omega) (fun s s1 s40 _ _ => br_f (nI_ne0 (by omega) (by omega)) (nm_r (nI_1 i) (ry dm post hp))) (fun n => ?_))
          obtain ⟨s, b1, b2, b3⟩ := bl
          exact absurd b3 (n s b1 b2)
      · have nb : ∀ s, 1 ≤ s → s ≤ 40 → ¬ ∃ c, c < 6 ∧ rf (i * 6 + c) = nI s ∧ mr_uf ts s := fun s a b c => bl ⟨s, a, b, c⟩
        have z0 : so i &&& (A ||| W) = 0 := ml_z.mpr fun s _ => ts_nt fun z => by
          have y := (bits s).mp z
          exact nb s y.1 y.2.1 y.2.2
        have hY1 := mc_Y hY w (by omega) nb
        have hX1 := mc_X (r := nI (mc_n (mr_cb (upd ts i 3)) 1 40)) hX w (by omega) (by omega)
        obtain ⟨r, W', C', rk', ts', yk', hY', hX', rx, ry⟩ := ih (i + 1) (sum + 1) _ _ _ _ _ (by omega) (by omega) hY1 hX1
        refine ⟨r, W', C', rk', ts', yk', hY', hX', fun post hp => ?_, fun dm post hp => ?_⟩
        · refine br_f (nI_nlt (by omega) (by omega)) (mx_has (by omega) (fun _ => br_f (by decide) ⟨vp_in_nI (by omega) (by omega), ?_⟩) (fun z => by rw [hw] at z; cases z))
          rw [nI_clamp (by omega)]
          refine br_t z0 (nm_e (nm_e (mx_count (by omega) ⟨vp_in_nI (by omega) (by omega), ?_⟩)))
          have ec : mc_n (ml_b (C ||| ((1 : Int64) <<< ((nI i).toInt64 &&& 63)))) 1 L = mc_n (mr_cb (upd ts i 3)) 1 40 := by
            refine mc_ext (by omega) (fun s s1 sL => ?_) (fun s s1 s40 => ts_nt fun z => ?_)
            · rw [(hX1.1 s).2.2, mr_cbI]
              exact ⟨fun z => z.2, fun z => ⟨by omega, z⟩⟩
            · have z := mr_cbI.mp z
              rw [hY1.2.1.1 s s40 (Or.inr s1)] at z
              exact absurd z (by decide)
          rw [ec]
          exact nm_e (nm_e (nm_r (nI_1 i) (rx post hp)))
        · rw [f1]
          refine br_f (nI_nlt (a := 40) (by omega) (by omega)) ⟨vp_in_nI (by omega) (by omega), ?_⟩
          rw [nI_clamp (by omega)]
          refine br_t w (my_fb (by omega) (fun s s1 s40 b _ => absurd b (nb s s1 s40)) (fun n => br_t rfl ⟨vp_in_nI (by omega) (by omega), nm_e (nm_e ⟨41, my_c69 (by omega) 40 1 0 (by omega) ?_⟩)⟩))
          rw [Nat.zero_add]
          exact ry dm post hp
    · obtain ⟨r, W', C', rk', ts', yk', hY', hX', rx, ry⟩ := ih (i + 1) sum W C rk ts yk (by omega) (by omega) hY hX
      have hw : ml_b W i = false := ts_nt fun z => w ((hB i).2.1.mp z).2
      refine ⟨r, W', C', rk', ts', yk', hY', hX', fun post hp => ?_, fun dm post hp => ?_⟩
      · exact br_f (nI_nlt (by omega) (by omega)) (mx_has (by omega) (fun z => by rw [hw] at z; cases z) (fun _ => br_t rfl (nm_r (nI_1 i) (rx post hp))))
      · rw [f1]
        refine br_f (nI_nlt (a := 40) (by omega) (by omega)) ⟨vp_in_nI (by omega) (by omega), ?_⟩
        rw [nI_clamp (by omega)]
        exact br_f w (nm_r (nI_1 i) (ry dm post hp))
end
theorem i_vc_commit {k : Nat} {u : SX} {v : SY} (I : i_Rel k u v) (hk : k + 4 ≤ 2052) (v1 : Int32) : wpX_commit (fun r u' => wpY_commit (fun r' v' => r' = r ∧ i_Rel (k + 4) u' v') v v1) u v1 := by
  refine I (fun u v => wpX_commit (fun r u' => wpY_commit (fun r' v' => r' = r ∧ i_Rel (k + 4) u' v') v v1) u v1) ?_
  intro K O M N L h A W C fr us rk so rs sp vv rd ol nw ts yk hs yv rf dm G own hY hX
  have J : i_Rel (k + 4) (nI K, nI O, nI M, nI N, nI L, nI h, A, W, C, fr, us, rk, so, rs, sp, vv, rd, ol, nw) (nI K, nI O, nI M, nI N, nI L, nI h, ts, yk, hs, yv, rf, dm) := mr_in hY hX
  have P := hY.1
  unfold mr_P at P
  have hB := hX.1
  have hL : L ≤ 40 := by omega
  unfold wpX_commit wpY_commit
  rcases mr_tx (L := L) v1 hL with z | ⟨t, t1, tL, rfl⟩
  · exact mx_unk1 z (br_f (by decide) (my_chk1 z (br_f (by decide) ⟨rfl, J⟩)))
  · by_cases a : ts t = 1
    · have hA : ml_b A t = true := (hB t).1.mpr ⟨by omega, a⟩
      obtain ⟨r, W', C', rk', ts', yk', hY', hX', rx, ry⟩ := mj_setL L 1 0 _ _ _ _ _ (by omega) (by omega) (mw_Y hY a (by omega)) (mw_X hY hX a (by omega))
      refine mx_unk0 t1 tL hL (br_t rfl (mx_has (by omega) (fun _ => br_f (by decide) (nm_e (nm_e (Exists.intro (L + 1) (rx _ ?_))))) (fun z => by rw [hA] at z; cases z)))
      refine my_chk0 (k := 0) t1 tL hL a (by omega) (by omega) (br_t rfl ⟨vp_in_nI (by omega) (by omega), ?_⟩)
      rw [nI_clamp (by omega)]
      exact nm_e ⟨41, ry dm _ ⟨rfl, mr_in hY' hX'⟩⟩
    · have hA : ml_b A t = false := ts_nt fun z => a ((hB t).1.mp z).2
      exact mx_unk0 t1 tL hL (br_t rfl (mx_has (by omega) (fun z => by rw [hA] at z; cases z) (fun _ => br_t rfl (my_chk2 t1 tL hL a (br_f (by decide) ⟨rfl, J⟩)))))
end
section
/-- all that must fall with S0: the least set that holds it and every reader of a member -/
def ma_C (rf : Nat → Int32) (S0 : Nat → Prop) (t : Nat) : Prop := ∀ S : Nat → Prop, (∀ x, S0 x → S x) → (∀ x c s, x ≤ 40 → c < 6 → rf (x * 6 + c) = nI s → 1 ≤ s → s ≤ 40 → S s → S x) → S t
theorem ma_in {rf : Nat → Int32} {S0 : Nat → Prop} {t : Nat} (h : S0 t) : ma_C rf S0 t := fun _ a _ => a t h
theorem ma_st {rf : Nat → Int32} {S0 : Nat → Prop} {t c s : Nat} (t40 : t ≤ 40) (c6 : c < 6) (e : rf (t * 6 + c) = nI s) (s1 : 1 ≤ s) (s40 : s ≤ 40) (h : ma_C rf S0 s) : ma_C rf S0 t := fun S a b => b t c s t40 c6 e s1 s40 (h S a b)
theorem ma_inv {rf : Nat → Int32} {S0 : Nat → Prop} {t : Nat} (h : ma_C rf S0 t) : S0 t ∨ ∃ c s, t ≤ 40 ∧ c < 6 ∧ rf (t * 6 + c) = nI s ∧ 1 ≤ s ∧ s ≤ 40 ∧ ma_C rf S0 s := by
  have k := h (fun t => ma_C rf S0 t ∧ (S0 t ∨ ∃ c s, t ≤ 40 ∧ c < 6 ∧ rf (t * 6 + c) = nI s ∧ 1 ≤ s ∧ s ≤ 40 ∧ ma_C rf S0 s)) (fun x hx => ⟨ma_in hx, Or.inl hx⟩) (fun x c s x40 c6 e s1 s40 hs => ⟨ma_st x40 c6 e s1 s40 hs.1, Or.inr ⟨c, s, x40, c6, e, s1, s40, hs.1⟩⟩)
  exact k.2
noncomputable def ma_b (rf : Nat → Int32) (S0 : Nat → Prop) (t : Nat) : Bool := @decide (ma_C rf S0 t) (Classical.propDecidable _)
theorem ma_bI {rf : Nat → Int32} {S0 : Nat → Prop} {t : Nat} : ma_b rf S0 t = true ↔ ma_C rf S0 t := @decide_eq_true_iff _ (Classical.propDecidable _)
section
variable {K O M N L h : Nat} {A W C : Int64} {fr us : Int32} {rk rs sp vv ol nw : Nat → Int32} {so rd : Nat → Int64} {ts yk hs yv rf dm : Nat → Int32} {G : Nat → List (Nat × Nat)} {own : Nat → Nat} {S0 : Nat → Prop}
/-- only unfinished ones fall -/
theorem ma_uf (hY : mr_Y K O M N L h ts hs rf) (hS0 : ∀ x, S0 x → x ≤ 40 ∧ mr_uf ts x) {t : Nat} (a : ma_C rf S0 t) : t ≤ 40 ∧ mr_uf ts t := by
  obtain ⟨hP, hT, hH, hF, hC, hZ, hN, hM⟩ := hY
  refine a (fun t => t ≤ 40 ∧ mr_uf ts t) hS0 fun x c s x40 c6 e s1 s40 hs => ⟨x40, ?_⟩
  have r := mr_Fs hF x40 c6 (by omega) e
  rcases hT.2 x (by omega) r.2.2.2.2.1 with z | z | z | z
  · exact Or.inl z
  · exact Or.inr z
  · have y := hC x c s x40 c6 z e s1 r.1
    rcases hs.2 with w | w
    · rw [y] at w; exact absurd w (by decide)
    · rw [y] at w; exact absurd w (by decide)
  · exact absurd z r.2.2.2.2.2
theorem ma_L (hY : mr_Y K O M N L h ts hs rf) (hS0 : ∀ x, S0 x → x ≤ 40 ∧ mr_uf ts x) {t : Nat} (a : ma_C rf S0 t) : 1 ≤ t ∧ t ≤ L ∧ h ≤ t := by
  have y := ma_uf hY hS0 a
  exact mr_ufL hY.2.1 hY.2.2.2.2.2.1 y.1 y.2
theorem mx_cloL {post : Int64 → Prop} (hY : mr_Y K O M N L h ts hs rf) (hB : mr_B ts A W C) (hS : mr_S L rf so) (hS0 : ∀ x, S0 x → x ≤ 40 ∧ mr_uf ts x) (hp : ∀ D, (∀ x, ml_b D x = true ↔ ma_C rf S0 x) → post D) : ∀ (d i : Nat) (D : Int64), 1 ≤ i → i + d = L + 1 → (∀ x, ml_b D x = true ↔ (x < i ∧ ma_C rf S0 x) ∨ (i ≤ x ∧ S0 x)) → wX_closure_16 post (A ||| W) (nI K) (nI O) (nI M) (nI N) (nI L) (nI h) A W C fr us rk so rs sp vv rd ol nw (d + 1) D (nI i) := by
  have P := hY.1
  unfold mr_P at P
  intro d
  induction d with
  | zero =>
    intro i D i1 hi hD
    refine br_t (nI_lt (by omega) (by omega)) (hp D fun x => ?_)
    rw [hD x]
    constructor
    · rintro (z | z)
      · exact z.2
      · exact ma_in z.2
    · intro z
      have := (ma_L hY hS0 z).2.1
      exact Or.inl ⟨by omega, z⟩
  | succ d ih =>
    intro i D i1 hi hD
    have hF := hY.2.2.2.1
    have keep : (ma_C rf S0 i → S0 i) → ∀ x, ml_b D x = true ↔ (x < i + 1 ∧ ma_C rf S0 x) ∨ (i + 1 ≤ x ∧ S0 x) := fun k x => by
      rw [hD x]
      constructor
      · rintro (z | z)
        · exact Or.inl ⟨by omega, z.2⟩
        · by_cases e : x = i
          · subst e; exact Or.inl ⟨by omega, ma_in z.2⟩
          · exact Or.inr ⟨by omega, z.2⟩
      · rintro (z | z)
        · by_cases e : x = i
          · subst e; exact Or.inr ⟨by omega, k z.2⟩
          · exact Or.inl ⟨by omega, z.2⟩
        · exact Or.inr ⟨by omega, z.2⟩
    refine br_f (nI_nlt (by omega) (by omega)) (mx_has (by omega) (fun z => br_f (by decide) ⟨vp_in_nI (by omega) (by omega), ?_⟩) (fun z => br_t rfl (nm_r (nI_1 i) (ih (i + 1) D (by omega) (by omega) (keep fun y => ?_)))))
    · rw [nI_clamp (by omega)]
      refine br_c (fun e => nm_r (nI_1 i) (ih (i + 1) D (by omega) (by omega) (keep fun y => ?_))) (fun e => nm_e (nm_r (nI_1 i) (ih (i + 1) _ (by omega) (by omega) fun x => ?_)))
      · rcases ma_inv y with w | ⟨c, s, _, c6, r, s1, s40, w⟩
        · exact w
        · have si := (mr_Fs hF (by omega) c6 (by omega) r).1
          have := ml_z.mp e s (by omega)
          rw [ml_and, (hS i i1 (by omega) s).mpr ⟨s1, s40, c, c6, r⟩, (hD s).mpr (Or.inl ⟨si, w⟩)] at this
          cases this
      · rw [ml_set (by omega), hD x]
        obtain ⟨s, s64, sb⟩ := ml_nz.mp e
        rw [ml_andI, hS i i1 (by omega) s, hD s] at sb
        obtain ⟨⟨s1, s40, c, c6, r⟩, w⟩ := sb
        have si := (mr_Fs hF (by omega) c6 (by omega) r).1
        have ci : ma_C rf S0 i := by
          rcases w with w | w
          · exact ma_st (by omega) c6 r s1 s40 w.2
          · omega
        constructor
        · rintro ((z | z) | z)
          · exact Or.inl ⟨by omega, z.2⟩
          · by_cases e : x = i
            · rw [e]; exact Or.inl ⟨by omega, ci⟩
            · exact Or.inr ⟨by omega, z.2⟩
          · rw [z]; exact Or.inl ⟨by omega, ci⟩
        · rintro (z | z)
          · by_cases e : x = i
            · exact Or.inr e
            · exact Or.inl (Or.inl ⟨by omega, z.2⟩)
          · exact Or.inl (Or.inr ⟨by omega, z.2⟩)
    · have u := ma_uf hY hS0 y
      rw [(mr_AW hB i).mpr u] at z
      cases z
theorem mx_clo {post : Int64 → Prop} {seed : Int64} (hY : mr_Y K O M N L h ts hs rf) (hB : mr_B ts A W C) (hS : mr_S L rf so) (hS0 : ∀ x, S0 x → x ≤ 40 ∧ mr_uf ts x) (hs : ∀ x, ml_b seed x = true ↔ S0 x) (hp : ∀ D, (∀ x, ml_b D x = true ↔ ma_C rf S0 x) → post D) : wpX_closure post (nI K, nI O, nI M, nI N, nI L, nI h, A, W, C, fr, us, rk, so, rs, sp, vv, rd, ol, nw) seed := by
  refine nm_e (Exists.intro (L + 1) (mx_cloL hY hB hS hS0 hp L 1 seed (by omega) (by omega) fun x => ?_))
  rw [hs x]
  constructor
  · intro z
    have := ma_L hY hS0 (ma_in z)
    exact Or.inr ⟨by omega, z⟩
  · rintro (z | z)
    · have := ma_L hY hS0 z.2
      omega
    · exact z.2
theorem my_empL {post : SY → Prop} (hp : ∀ dm', (∀ t, t ≤ 40 → dm' t = 0) → post (nI K, nI O, nI M, nI N, nI L, nI h, ts, yk, hs, yv, rf, dm')) : ∀ (d i : Nat) (dm : Nat → Int32), i + d = 41 → (∀ t, t < i → dm t = 0) → wY_emptySet_2 post (nI K) (nI O) (nI M) (nI N) (nI L) (nI h) (d + 1) (nI i) ts yk hs yv rf dm := by
  intro d
  induction d with
  | zero =>
    intro i dm hi hd
    exact br_t (nI_le (a := 41) (by omega) (by omega)) (hp dm fun t t40 => hd t (by omega))
  | succ d ih =>
    intro i dm hi hd
    refine br_f (nI_ge (b := 41) (by omega) (by omega)) ⟨vp_in_nI (by omega) (by omega), ?_⟩
    rw [nI_clamp (by omega)]
    refine nm_e (nm_r (nI_1 i) (ih (i + 1) _ (by omega) fun t ht => ?_))
    by_cases e : t = i
    · rw [e, pk_us]; rfl
    · rw [pk_un e]; exact hd t (by omega)
theorem my_emp {post : SY → Prop} (hp : ∀ dm', (∀ t, t ≤ 40 → dm' t = 0) → post (nI K, nI O, nI M, nI N, nI L, nI h, ts, yk, hs, yv, rf, dm')) : wpY_emptySet post (nI K, nI O, nI M, nI N, nI L, nI h, ts, yk, hs, yv, rf, dm) :=
  Exists.intro 42 (my_empL hp 41 0 dm (by omega) fun t ht => by omega)
/-- sound, and above the seed -/
def ma_E (rf : Nat → Int32) (S0 : Nat → Prop) (dm : Nat → Int32) : Prop := (∀ t, 1 ≤ t → t ≤ 40 → ¬ dm t = 0 → ma_C rf S0 t) ∧ (∀ t, S0 t → ¬ dm t = 0)
def ma_D (rf : Nat → Int32) (S0 : Nat → Prop) (dm : Nat → Int32) (b : Nat) : Prop := ∀ t, t < b → t ≤ 40 → ma_C rf S0 t → ¬ dm t = 0
theorem my_e18 {post : Int32 → SY → Prop} {J2 J10 : Int32 → (Nat → Int32) → (Nat → Int32) → (Nat → Int32) → (Nat → Int32) → (Nat → Int32) → (Nat → Int32) → Prop} {x1 : Int32} {t : Nat} (hF : mr_F K L ts hs rf) (t1 : 1 ≤ t) (t40 : t ≤ 40) (hp : ∀ dm', ma_E rf S0 dm' → ma_D rf S0 dm' (t + 1) → J10 (nI (t + 1)) ts yk hs yv rf dm') : ∀ (d c : Nat) (dm : Nat → Int32), c + d = 6 → ma_E rf S0 dm → ma_D rf S0 dm t → (∀ c' s, c' < c → rf (t * 6 + c') = nI s → 1 ≤ s → s ≤ 40 → ma_C rf S0 s → ¬ dm t = 0) → wY_enlarge_18 post J2 J10 x1 (nI t) (nI K) (nI O) (nI M) (nI N) (nI L) (nI h) (d + 1) (nI c) ts yk hs yv rf dm := by
  intro d
  induction d with
  | zero =>
    intro c dm hc hE hD hg
    refine br_t (nI_le (a := 6) (by omega) (by omega)) (nm_r (nI_1 t) (hp dm hE fun x x1 x40 xc => ?_))
    by_cases e : x = t
    · subst e
      rcases ma_inv xc with z | ⟨c', s, _, c6, r, s1, s40, z⟩
      · exact hE.2 x z
      · exact hg c' s (by omega) r s1 s40 z
    · exact hD x (by omega) x40 xc
  | succ d ih =>
    intro c dm hc hE hD hg
    have skip : (∀ s, rf (t * 6 + c) = nI s → 1 ≤ s → s ≤ 40 → ma_C rf S0 s → ¬ dm t = 0) → wY_enlarge_18 post J2 J10 x1 (nI t) (nI K) (nI O) (nI M) (nI N) (nI L) (nI h) (d + 1) (nI (c + 1)) ts yk hs yv rf dm := fun z =>
      ih (c + 1) dm (by omega) hE hD fun c' s hc' r s1 s40 w => by
        by_cases e : c' = c
        · subst e; exact z s r s1 s40 w
        · exact hg c' s (by omega) r s1 s40 w
    refine br_f (nI_ge (b := 6) (by omega) (by omega)) ?_
    rw [mr_ix, mr_cl (by omega), nI_clamp (n := t) (by omega)]
    refine ⟨vp_in_nI (by omega) (by omega), nm_e ?_⟩
    rcases hF t c t40 (by omega) with z | ⟨s, z, st, _⟩
    · rw [z]
      refine br_t (by decide) (nm_r (nI_1 c) (skip fun s r s1 s40 _ => ?_))
      exact absurd (r.symm.trans z) (mr_m1 s (by omega))
    · rw [z]
      by_cases s0 : s = 0
      · refine br_t (by rw [s0]; decide) (nm_r (nI_1 c) (skip fun s' r s1 s40 _ => ?_))
        have := mr_inj (by omega) s40 (z.symm.trans r)
        omega
      · refine br_f (nI_nlt (b := 1) (by omega) (by omega)) (br_f (nI_nlt (a := 40) (by omega) (by omega)) ⟨vp_in_nI (by omega) (by omega), ?_⟩)
        rw [nI_clamp (by omega)]
        refine br_c (fun e => nm_r (nI_1 c) (skip fun s' r s1 s40 w => ?_)) (fun e => ⟨vp_in_nI (by omega) (by omega), nm_e (nm_r (nI_1 c) ?_)⟩)
        · have := mr_inj (by omega) s40 (z.symm.trans r)
          subst this
          exact absurd e (hD s st (by omega) w)
        · have ct : ma_C rf S0 t := ma_st t40 (show c < 6 by omega) z (by omega) (by omega) (hE.1 s (by omega) (by omega) e)
          have n1 : ¬ upd dm t (vp_nar .boolean 1) t = 0 := by rw [pk_us]; exact (by decide : ¬ (1 : Int32) = 0)
          have mono : ∀ x, ¬ dm x = 0 → ¬ upd dm t (vp_nar .boolean 1) x = 0 := fun x y => by
            by_cases e : x = t
            · rw [e]; exact n1
            · rw [pk_un e]; exact y
          refine ih (c + 1) _ (by omega) ⟨fun x x1 x40 y => ?_, fun x y => mono x (hE.2 x y)⟩ (fun x x1 x40 y => mono x (hD x x1 x40 y)) (fun _ _ _ _ _ _ _ => n1)
          by_cases e : x = t
          · rw [e]; exact ct
          · rw [pk_un e] at y; exact hE.1 x x1 x40 y
theorem my_e10 {post : Int32 → SY → Prop} {J2 : Int32 → (Nat → Int32) → (Nat → Int32) → (Nat → Int32) → (Nat → Int32) → (Nat → Int32) → (Nat → Int32) → Prop} {r : Nat} (hF : mr_F K L ts hs rf) (hp : ∀ dm', ma_E rf S0 dm' → ma_D rf S0 dm' 41 → J2 (nI (r + 1)) ts yk hs yv rf dm') : ∀ (d t : Nat) (dm : Nat → Int32), 1 ≤ t → t + d = 41 → ma_E rf S0 dm → ma_D rf S0 dm t → wY_enlarge_10 post J2 (nI r) (nI K) (nI O) (nI M) (nI N) (nI L) (nI h) (d + 1) (nI t) ts yk hs yv rf dm := by
  intro d
  induction d with
  | zero =>
    intro t dm t1 ht hE hD
    have : t = 41 := by omega
    subst this
    exact br_t (nI_lt (a := 40) (by omega) (by omega)) (nm_r (nI_1 r) (hp dm hE hD))
  | succ d ih =>
    intro t dm t1 ht hE hD
    exact br_f (nI_nlt (a := 40) (by omega) (by omega)) ⟨7, my_e18 hF t1 (by omega) (fun dm' e1 e2 => ih (t + 1) dm' (by omega) (by omega) e1 e2) 6 0 dm (by omega) hE hD (fun _ _ z => by omega)⟩
theorem my_e89 {post : Int32 → SY → Prop} : ∀ d i c, i + d = 41 → post (nI (c + mc_n (fun t => !decide (dm t = 0)) i d)) (nI K, nI O, nI M, nI N, nI L, nI h, ts, yk, hs, yv, rf, dm) → wY_enlarge_89 post (nI K) (nI O) (nI M) (nI N) (nI L) (nI h) ts yk hs yv rf dm (d + 1) (nI c) (nI i) := by
  intro d
  induction d with
  | zero =>
    intro i c hi hp
    exact br_t (nI_lt (a := 40) (by omega) (by omega)) hp
  | succ d ih =>
    intro i c hi hp
    refine br_f (nI_nlt (a := 40) (by omega) (by omega)) ⟨vp_in_nI (by omega) (by omega), ?_⟩
    rw [nI_clamp (by omega)]
    refine br_c (fun e => nm_r (nI_1 i) (ih (i + 1) c (by omega) ?_)) (fun e => nm_r (nI_1 c) (nm_r (nI_1 i) (ih (i + 1) (c + 1) (by omega) ?_)))
    · rw [mc_nf (p := fun t => !decide (dm t = 0)) (by show (!decide (dm i = 0)) = false; rw [decide_eq_true e]; rfl)] at hp
      exact hp
    · rw [mc_nt (p := fun t => !decide (dm t = 0)) (by show (!decide (dm i = 0)) = true; rw [decide_eq_false e]; rfl), ← Nat.add_assoc] at hp
      exact hp
theorem my_e2 {post : Int32 → SY → Prop} (hF : mr_F K L ts hs rf) (h0 : ¬ ma_C rf S0 0) (hp : ∀ dm', ma_E rf S0 dm' → ma_D rf S0 dm' 41 → post (nI (mc_n (ma_b rf S0) 1 40)) (nI K, nI O, nI M, nI N, nI L, nI h, ts, yk, hs, yv, rf, dm')) : ∀ (d r : Nat) (dm : Nat → Int32), r + d = 41 → ma_E rf S0 dm → (d = 0 → ma_D rf S0 dm 41) → wY_enlarge_2 post (nI K) (nI O) (nI M) (nI N) (nI L) (nI h) (d + 1) (nI r) ts yk hs yv rf dm := by
  intro d
  induction d with
  | zero =>
    intro r dm hr hE hD
    refine br_t (nI_lt (a := 40) (by omega) (by omega)) ⟨41, my_e89 40 1 0 (by omega) ?_⟩
    have D := hD rfl
    have e : mc_n (fun t => !decide (dm t = 0)) 1 40 = mc_n (ma_b rf S0) 1 40 := mc_ncong fun s s1 s40 => by
      rw [ma_bI, Bool.not_eq_true', decide_eq_false_iff_not]
      exact ⟨fun z => hE.1 s s1 (by omega) z, fun z => D s (by omega) (by omega) z⟩
    rw [Nat.zero_add, e]
    exact hp dm hE D
  | succ d ih =>
    intro r dm hr hE hD
    refine br_f (nI_nlt (a := 40) (by omega) (by omega)) ⟨41, my_e10 hF (fun dm' e1 e2 => ih (r + 1) dm' (by omega) e1 fun _ => e2) 40 1 dm (by omega) (by omega) hE fun t t1 t40 c => ?_⟩
    have : t = 0 := by omega
    rw [this] at c
    exact absurd c h0
theorem my_enl {post : Int32 → SY → Prop} (hF : mr_F K L ts hs rf) (h0 : ¬ ma_C rf S0 0) (hE : ma_E rf S0 dm) (hp : ∀ dm', ma_E rf S0 dm' → ma_D rf S0 dm' 41 → post (nI (mc_n (ma_b rf S0) 1 40)) (nI K, nI O, nI M, nI N, nI L, nI h, ts, yk, hs, yv, rf, dm')) : wpY_enlarge post (nI K, nI O, nI M, nI N, nI L, nI h, ts, yk, hs, yv, rf, dm) :=
  Exists.intro 41 (my_e2 hF h0 hp 40 1 dm (by omega) hE fun z => by omega)
/-- the fallen ones, counted by both -/
theorem ma_cnt {D : Int64} (hY : mr_Y K O M N L h ts hs rf) (hS0 : ∀ x, S0 x → x ≤ 40 ∧ mr_uf ts x) (hD : ∀ x, ml_b D x = true ↔ ma_C rf S0 x) : mc_n (ml_b D) 1 L = mc_n (ma_b rf S0) 1 40 := by
  have P := hY.1
  unfold mr_P at P
  refine mc_ext (by omega) (fun s s1 sL => ?_) (fun s s1 s40 => ts_nt fun z => ?_)
  · rw [hD s, ma_bI]
  · have := (ma_L hY hS0 (ma_bI.mp z)).2.1
    omega
theorem my_doom {post : Int32 → SY → Prop} {t : Nat} (hY : mr_Y K O M N L h ts hs rf) (hu : mr_uf ts t) (t40 : t ≤ 40) (hy : ∀ post : Int32 → Prop, post 0 → wpY_checkUnfinished post (nI K, nI O, nI M, nI N, nI L, nI h, ts, yk, hs, yv, rf, dm) (nI t)) (hp : ∀ dm', ma_E rf (fun x => x = t) dm' → ma_D rf (fun x => x = t) dm' 41 → post (nI (mc_n (ma_b rf (fun x => x = t)) 1 40)) (nI K, nI O, nI M, nI N, nI L, nI h, ts, yk, hs, yv, rf, dm')) : wpY_doom post (nI K, nI O, nI M, nI N, nI L, nI h, ts, yk, hs, yv, rf, dm) (nI t) := by
  unfold wpY_doom
  have hS0 : ∀ x, x = t → x ≤ 40 ∧ mr_uf ts x := fun x e => by rw [e]; exact ⟨t40, hu⟩
  refine hy _ (br_t rfl (my_emp fun dm' hd => ⟨vp_in_nI (by omega) (by omega), ?_⟩))
  rw [nI_clamp (by omega)]
  refine nm_e (my_enl (S0 := fun x => x = t) hY.2.2.2.1 (fun z => ?_) ⟨fun x x1 x40 y => ?_, fun x y => ?_⟩ hp)
  · have := (ma_L hY hS0 z).1
    omega
  · by_cases e : x = t
    · exact ma_in e
    · rw [pk_un e] at y
      exact absurd (hd x x40) y
  · rw [y, pk_us]; exact (by decide : ¬ (1 : Int32) = 0)
end
theorem i_vc_doom {k : Nat} {u : SX} {v : SY} (I : i_Rel k u v) (hk : k + 4 ≤ 2052) (v1 : Int32) : wpX_doom (fun r => wpY_doom (fun r' v' => r' = r ∧ i_Rel (k + 4) u v') v v1) u v1 := by
  refine I (fun u v => wpX_doom (fun r => wpY_doom (fun r' v' => r' = r ∧ i_Rel (k + 4) u v') v v1) u v1) ?_
  intro K O M N L h A W C fr us rk so rs sp vv rd ol nw ts yk hs yv rf dm G own hY hX
  have J : i_Rel (k + 4) (nI K, nI O, nI M, nI N, nI L, nI h, A, W, C, fr, us, rk, so, rs, sp, vv, rd, ol, nw) (nI K, nI O, nI M, nI N, nI L, nI h, ts, yk, hs, yv, rf, dm) := mr_in hY hX
  have P := hY.1
  unfold mr_P at P
  unfold wpX_doom
  rcases mj_ufr hY.1 hX.1 v1 with ⟨r, hr, hx, hy⟩ | ⟨t, rfl, t1, tL, hu, hx, hy⟩
  · have hr : ¬ r = 0 := fun z => by rw [z] at hr; exact absurd hr (by decide)
    refine hx _ (br_f hr ?_)
    unfold wpY_doom
    exact hy _ (br_f hr ⟨rfl, J⟩)
  · have hS0 : ∀ x, x = t → x ≤ 40 ∧ mr_uf ts x := fun x e => by rw [e]; exact ⟨by omega, hu⟩
    refine hx _ (br_t rfl (mx_clo (S0 := fun x => x = t) hY hX.1 hX.2.2.1 hS0 (fun x => ml_one (by omega)) fun D hD => mx_count (by omega) ?_))
    rw [ma_cnt hY hS0 hD]
    exact my_doom hY hu (by omega) hy fun dm' _ _ => ⟨rfl, mr_in hY hX⟩
end
section
section
variable {K O M N L h : Nat} {A W C : Int64} {fr us : Int32} {rk rs sp vv ol nw : Nat → Int32} {so rd : Nat → Int64} {ts yk hs yv rf dm : Nat → Int32} {G : Nat → List (Nat × Nat)} {own : Nat → Nat}
theorem mh_hd6 {x : Int32} (hK : K ≤ 6) : mh_hd K nw fr x 6 = fr := by unfold mh_hd; rw [if_neg (by omega), if_pos rfl]
theorem mh_hd7 {x : Int32} (hK : K ≤ 6) : mh_hd K nw fr x 7 = x := by unfold mh_hd; rw [if_neg (by omega), if_neg (by omega), if_pos rfl]
theorem mh_hdk {x : Int32} {c : Nat} (hc : c < K) : mh_hd K nw fr x c = nw c := if_pos hc
theorem mr_7 (hK : K ≤ 6) (hO : mr_O K fr us (-1) ol nw G own) : G 7 = [] := by
  have t := (hO.1 7).1
  rw [mh_hd7 hK] at t
  exact mh_nil t
/-- one version leaves its chain -/
theorem mr_drop {c : Nat} {Q R : List (Nat × Nat)} {p : Nat × Nat} {ol' nw' : Nat → Int32} (hK : K ≤ 6) (hc : c < K) (hO : mr_O K fr us (-1) ol nw G own) (hG : G c = List.reverseAux Q (p :: R)) (o1 : Q = [] → nw' = upd nw c (mh_top R) ∧ ol' = upd ol p.1 fr) (o2 : ∀ q Q', Q = q :: Q' → nw' = nw ∧ ol' = upd (upd ol q.1 (mh_top R)) p.1 fr) : mr_O K (nI p.1) (us - 1) (-1) ol' nw' (mh_g (mh_g G c (List.reverseAux Q R)) 6 (p :: G 6)) (fun a => if a = p.1 then 6 else own a) := by
  have nd := (hO.1 c).2.1
  rw [hG, mh_nd] at nd
  have e1 := mh_Ug (G := G) (l := List.reverseAux Q R) hc
  rw [hG, mh_rl, mh_rl] at e1
  have e2 : (p :: R).length = R.length + 1 := rfl
  have e3 : mh_U (mh_g (mh_g G c (List.reverseAux Q R)) 6 (p :: G 6)) K = mh_U (mh_g G c (List.reverseAux Q R)) K := mh_Un hK
  have e4 : (p :: G 6).length = (G 6).length + 1 := rfl
  have e5 := hO.2.2
  refine ⟨mh_move hO.1 (by omega) hG (mh_hd6 hK) (fun z => ?_) (fun z => ?_) (fun i i1 i2 => ?_) ?_ (fun q Q' z => ?_) (fun a a1 a2 => ?_), ?_, ?_⟩
  · rw [mh_hdk hc, (o1 z).1, pk_us]
  · cases Q with
    | nil => exact absurd rfl z
    | cons q Q => rw [mh_hdk hc, mh_hdk hc, (o2 q Q rfl).1]
  · unfold mh_hd
    by_cases y : i < K
    · rw [if_pos y, if_pos y]
      cases Q with
      | nil => rw [(o1 rfl).1, pk_un i1]
      | cons q Q => rw [(o2 q Q rfl).1]
    · rw [if_neg y, if_neg y, if_neg i2, if_neg i2]
  · rw [mh_hd6 hK]
    cases Q with
    | nil => rw [(o1 rfl).2, pk_us]
    | cons q Q => rw [(o2 q Q rfl).2, pk_us]
  · rw [(o2 q Q' z).2, pk_un, pk_us]
    exact nd.2.2 q (by rw [z]; exact List.mem_cons_self ..) p (List.mem_cons_self ..)
  · cases Q with
    | nil => rw [(o1 rfl).2, pk_un a1]
    | cons q Q => rw [(o2 q Q rfl).2, pk_un a1, pk_un (a2 q Q rfl)]
  · rw [hO.2.1, show (1 : Int32) = nI 1 from rfl, pk_sub (by omega), e3]
    congr 1
    omega
  · rw [mh_gs, mh_gn (show 7 ≠ 6 by omega), mh_gn (show 7 ≠ c by omega), e3]
    omega
theorem mx_swL {post : SX → Prop} {c : Nat} {D : Int64} (hK : K ≤ 6) (hc : c < K) : ∀ (R Q : List (Nat × Nat)) (j : Nat) (fr us : Int32) (rd : Nat → Int64) (ol nw : Nat → Int32) (G : Nat → List (Nat × Nat)) (own : Nat → Nat), mr_O K fr us (-1) ol nw G own → G c = List.reverseAux Q R → (∀ p ∈ R, sp p.1 = nI p.2 ∧ p.2 ≤ 40) → j + R.length ≤ 38 → (∀ fr' us' rd' ol' nw' G' own', mr_O K fr' us' (-1) ol' nw' G' own' → (∀ i, i < K → i ≠ c → G' i = G i) → (∀ p, p ∈ G' c ↔ (p ∈ Q ∨ (p ∈ R ∧ ¬ ml_b D p.2 = true))) → ((G c).Pairwise (fun p q => q.2 < p.2) → (G' c).Pairwise (fun p q => q.2 < p.2)) → (∀ p ∈ R, ¬ ml_b D p.2 = true → rd' p.1 = rd p.1 &&& (D ^^^ (-1))) → (∀ a, (∀ p ∈ R, p.1 ≠ a) → rd' a = rd a) → post (nI K, nI O, nI M, nI N, nI L, nI h, A, W, C, fr', us', rk, so, rs, sp, vv, rd', ol', nw')) → wX_sweep_14 post (nI c) D (R.length + 1) (mh_top Q) (mh_top R) (nI j) (nI K) (nI O) (nI M) (nI N) (nI L) (nI h) A W C fr us rk so rs sp vv rd ol nw := by
  intro R
  induction R with
  | nil =>
    intro Q j fr us rd ol nw G own hO hG _ hj hp
    have P := hp fr us rd ol nw G own hO (fun _ _ _ => rfl) (fun p => by
      rw [hG, mh_mem]
      exact ⟨fun z => z.imp id fun y => (by cases y), fun z => z.imp id fun y => y.1⟩) id (fun p hp => by cases hp) (fun _ _ => rfl)
    exact br_c (fun _ => P) (fun _ => br_t (show (-1 : Int32) < 0 by decide) P)
  | cons p R ih =>
    intro Q j fr us rd ol nw G own hO hG hs hj hp
    have hj : j + (R.length + 1) ≤ 38 := hj
    have nd := (hO.1 c).2.1
    rw [hG, mh_nd] at nd
    have ndR := List.pairwise_cons.mp nd.2.1
    have hch := mr_ch hO hc
    rw [hG] at hch
    have ht := mh_tail Q (p :: R) _ hch
    have p38 : p.1 < 38 := ht.2.1
    have hn : ol p.1 = mh_top R := mh_next ht
    have hsp := hs p (List.mem_cons_self ..)
    refine br_f (nI_ge (b := 38) (by omega) (by omega)) (br_f (nI_pos (by omega)) ⟨vp_in_nI p38 (by omega), ?_⟩)
    rw [show (mh_top (p :: R)).toNatClampNeg = p.1 from nI_clamp (show p.1 < 2 ^ 31 by omega), hsp.1]
    refine nm_r hn ⟨vp_in_nI p38 (by omega), mx_has (by omega) (fun z => br_f (by decide) ?_) (fun z => br_t rfl ⟨vp_in_nI p38 (by omega), vp_in_nI p38 (by omega), nm_e (nm_r (nI_1 j) ?_)⟩)⟩
    · have fin : ∀ ol' nw', (Q = [] → nw' = upd nw c (mh_top R) ∧ ol' = upd ol p.1 fr) → (∀ q Q', Q = q :: Q' → nw' = nw ∧ ol' = upd (upd ol q.1 (mh_top R)) p.1 fr) → wX_sweep_14 post (nI c) D (R.length + 1) (mh_top Q) (mh_top R) (nI (j + 1)) (nI K) (nI O) (nI M) (nI N) (nI L) (nI h) A W C (nI p.1) (us - 1) rk so rs sp vv rd ol' nw' := fun ol' nw' o1 o2 => by
        refine ih Q (j + 1) _ _ rd ol' nw' _ _ (mr_drop hK hc hO hG o1 o2) (by rw [mh_gn (show c ≠ 6 by omega), mh_gs]) (fun q hq => hs q (List.mem_cons_of_mem _ hq)) (by omega) fun fr' us' rd' ol2 nw2 G' own' h1 h2 h3 h4 h5 h6 => ?_
        refine hp fr' us' rd' ol2 nw2 G' own' h1 (fun i iK ic => ?_) (fun q => ?_) (fun so => h4 ?_) (fun q hq n => ?_) (fun a ha => h6 a fun q hq => ha q (List.mem_cons_of_mem _ hq))
        · rw [h2 i iK ic, mh_gn (show i ≠ 6 by omega), mh_gn ic]
        · rw [h3 q]
          constructor
          · exact fun y => y.imp id fun w => ⟨List.mem_cons_of_mem _ w.1, w.2⟩
          · rintro (y | ⟨y, w⟩)
            · exact Or.inl y
            · rcases List.mem_cons.mp y with v | v
              · rw [v] at w; exact absurd z w
              · exact Or.inr ⟨v, w⟩
        · rw [mh_gn (show c ≠ 6 by omega), mh_gs]
          rw [hG, mh_so] at so
          exact mh_so.mpr ⟨so.1, (List.pairwise_cons.mp so.2.1).2, fun a ha b hb => so.2.2 a ha b (List.mem_cons_of_mem _ hb)⟩
        · rcases List.mem_cons.mp hq with v | v
          · rw [v] at n; exact absurd z n
          · exact h5 q v n
      cases Q with
      | nil =>
        refine br_f (show ¬ (0 : Int32) ≤ -1 by decide) ⟨vp_in_nI (by omega) (by omega), ?_⟩
        rw [nI_clamp (show c < 2 ^ 31 by omega)]
        refine nm_e (And.intro (vp_in_nI p38 (by omega)) ?_)
        rw [show (mh_top (p :: R)).toNatClampNeg = p.1 from nI_clamp (show p.1 < 2 ^ 31 by omega)]
        exact nm_e (nm_e (nm_r (nI_1 j) (fin _ _ (fun _ => ⟨rfl, rfl⟩) (fun q Q' y => by cases y))))
      | cons q Q =>
        have q38 : q.1 < 38 := mr_sl hO hc q (by rw [hG]; exact mh_mem.mpr (Or.inl (List.mem_cons_self ..)))
        refine br_t (nI_pos' (by omega)) ⟨vp_in_nI q38 (by omega), ?_⟩
        rw [show (mh_top (q :: Q)).toNatClampNeg = q.1 from nI_clamp (show q.1 < 2 ^ 31 by omega)]
        refine nm_e (And.intro (vp_in_nI p38 (by omega)) ?_)
        rw [show (mh_top (p :: R)).toNatClampNeg = p.1 from nI_clamp (show p.1 < 2 ^ 31 by omega)]
        exact nm_e (nm_e (nm_r (nI_1 j) (fin _ _ (fun y => by cases y) (fun q' Q' y => by cases y; exact ⟨rfl, rfl⟩))))
    · have zn : ¬ ml_b D p.2 = true := fun y => by rw [z] at y; cases y
      refine ih (p :: Q) (j + 1) fr us _ ol nw G own hO hG (fun q hq => hs q (List.mem_cons_of_mem _ hq)) (by omega) fun fr' us' rd' ol2 nw2 G' own' h1 h2 h3 h4 h5 h6 => ?_
      refine hp fr' us' rd' ol2 nw2 G' own' h1 h2 (fun q => ?_) h4 (fun q hq n => ?_) (fun a ha => ?_)
      · rw [h3 q]
        constructor
        · rintro (y | y)
          · rcases List.mem_cons.mp y with v | v
            · rw [v]; exact Or.inr ⟨List.mem_cons_self .., zn⟩
            · exact Or.inl v
          · exact Or.inr ⟨List.mem_cons_of_mem _ y.1, y.2⟩
        · rintro (y | ⟨y, w⟩)
          · exact Or.inl (List.mem_cons_of_mem _ y)
          · rcases List.mem_cons.mp y with v | v
            · rw [v]; exact Or.inl (List.mem_cons_self ..)
            · exact Or.inr ⟨v, w⟩
      · rcases List.mem_cons.mp hq with v | v
        · rw [v, h6 p.1 fun r hr => (ndR.1 r hr).symm, pk_uLs]
        · rw [h5 q v n, pk_uLn (ndR.1 q v).symm]
      · rw [h6 a fun q hq => ha q (List.mem_cons_of_mem _ hq), pk_uLn (ha p (List.mem_cons_self ..)).symm]
/-- chains swept below c -/
def ma_S (K : Nat) (D : Int64) (G0 : Nat → List (Nat × Nat)) (rd0 : Nat → Int64) (c : Nat) (G : Nat → List (Nat × Nat)) (rd : Nat → Int64) : Prop := ∀ i, i < K → (i < c → (∀ p, p ∈ G i ↔ p ∈ G0 i ∧ ¬ ml_b D p.2 = true) ∧ (G i).Pairwise (fun p q => q.2 < p.2) ∧ ∀ p ∈ G i, rd p.1 = rd0 p.1 &&& (D ^^^ (-1))) ∧ (c ≤ i → G i = G0 i ∧ ∀ p ∈ G i, rd p.1 = rd0 p.1)
theorem mx_71 {post : Int32 → SX → Prop} {D : Int64} {G0 : Nat → List (Nat × Nat)} {rd0 : Nat → Int64} (hK : K ≤ 6) (hL : L ≤ 40) (hG0 : ∀ i, i < K → (G0 i).Pairwise (fun p q => q.2 < p.2) ∧ ∀ p ∈ G0 i, sp p.1 = nI p.2 ∧ p.2 ≤ 40) (hp : ∀ fr' us' rd' ol' nw' G' own', mr_O K fr' us' (-1) ol' nw' G' own' → ma_S K D G0 rd0 K G' rd' → post (nI (mc_n (ml_b D) 1 L)) (nI K, nI O, nI M, nI N, nI L, nI h, A, W, C, fr', us', rk, so, rs, sp, vv, rd', ol', nw')) : ∀ (d c : Nat) (fr us : Int32) (rd : Nat → Int64) (ol nw : Nat → Int32) (G : Nat → List (Nat × Nat)) (own : Nat → Nat), c + d = K → mr_O K fr us (-1) ol nw G own → ma_S K D G0 rd0 c G rd → wX_abortSet_71 post D (d + 1) (nI c) (nI K) (nI O) (nI M) (nI N) (nI L) (nI h) A W C fr us rk so rs sp vv rd ol nw := by
  intro d
  induction d with
  | zero =>
    intro c fr us rd ol nw G own hd hO hS
    have : c = K := by omega
    subst this
    exact br_t (Int32.le_refl _) (mx_count hL (hp _ _ _ _ _ _ _ hO hS))
  | succ d ih =>
    intro c fr us rd ol nw G own hd hO hS
    have hc : c < K := by omega
    have ge := ((hS c hc).2 (Nat.le_refl _)).1
    have g0 := hG0 c hc
    refine br_f (nI_ge (by omega) (by omega)) (And.intro (vp_in_nI (by omega) (by omega)) ?_)
    rw [nI_clamp (by omega)]
    refine nm_r (mh_topx (mr_ch hO hc)) ⟨(G c).length + 1, ?_⟩
    refine mx_swL hK hc (G c) [] 0 fr us rd ol nw G own hO rfl (fun p hp => g0.2 p (by rw [← ge]; exact hp)) (by have := mr_len hO hc; omega) fun fr' us' rd' ol' nw' G' own' h1 h2 h3 h4 h5 h6 => ?_
    refine nm_r (nI_1 c) (ih (c + 1) fr' us' rd' ol' nw' G' own' (by omega) h1 fun i iK => ?_)
    by_cases e : i = c
    · subst e
      refine ⟨fun _ => ⟨fun p => ?_, h4 (by rw [ge]; exact g0.1), fun p hp => ?_⟩, fun z => by omega⟩
      · rw [h3 p, ge]
        exact ⟨fun z => by rcases z with z | z; cases z; exact z, Or.inr⟩
      · rcases (h3 p).mp hp with z | z
        · cases z
        · rw [h5 p z.1 z.2, ((hS i iK).2 (Nat.le_refl _)).2 p z.1]
    · have gi := h2 i iK e
      have ri : ∀ p ∈ G' i, rd' p.1 = rd p.1 := fun p hp => h6 p.1 fun q hq z => e (by rw [gi] at hp; exact mr_key hO hp hq z.symm)
      refine ⟨fun z => ?_, fun z => ?_⟩
      · have t := (hS i iK).1 (by omega)
        rw [gi] at ri ⊢
        exact ⟨t.1, t.2.1, fun p hp => by rw [ri p hp]; exact t.2.2 p hp⟩
      · have t := (hS i iK).2 (by omega)
        rw [gi] at ri ⊢
        exact ⟨t.1, fun p hp => by rw [ri p hp]; exact t.2 p hp⟩
theorem mx_37 {post : Int32 → SX → Prop} {D : Int64} {so0 : Nat → Int64} {rs0 : Nat → Int32} (hL : L ≤ 40) (hp : ∀ so' rs', (∀ u, 1 ≤ u → u ≤ L → (ml_b D u = true → so' u = 0 ∧ ∀ c, c < 6 → rs' (u * 6 + c) = -1) ∧ (¬ ml_b D u = true → so' u = so0 u ∧ ∀ c, c < 6 → rs' (u * 6 + c) = rs0 (u * 6 + c))) → ∃ n71 : Nat, wX_abortSet_71 post D n71 0 (nI K) (nI O) (nI M) (nI N) (nI L) (nI h) A W C fr us rk so' rs' sp vv rd ol nw) : ∀ (d i : Nat) (so : Nat → Int64) (rs : Nat → Int32), 1 ≤ i → i + d = L + 1 → (∀ u, 1 ≤ u → u ≤ L → (u < i → ml_b D u = true → so u = 0 ∧ ∀ c, c < 6 → rs (u * 6 + c) = -1) ∧ (i ≤ u ∨ ¬ ml_b D u = true → so u = so0 u ∧ ∀ c, c < 6 → rs (u * 6 + c) = rs0 (u * 6 + c))) → wX_abortSet_37 post D (d + 1) (nI i) (nI K) (nI O) (nI M) (nI N) (nI L) (nI h) A W C fr us rk so rs sp vv rd ol nw := by
  intro d
  induction d with
  | zero =>
    intro i so rs i1 hi hs
    exact br_t (nI_lt (by omega) (by omega)) (hp so rs fun u u1 uL => ⟨(hs u u1 uL).1 (by omega), fun z => (hs u u1 uL).2 (Or.inr z)⟩)
  | succ d ih =>
    intro i so rs i1 hi hs
    refine br_f (nI_nlt (by omega) (by omega)) (mx_has (by omega) (fun z => br_f (by decide) (mx_forget (by omega) fun rs' r1 r2 => nm_r (nI_1 i) (ih (i + 1) _ rs' (by omega) (by omega) fun u u1 uL => ?_))) (fun z => br_t rfl (nm_r (nI_1 i) (ih (i + 1) so rs (by omega) (by omega) fun u u1 uL => ?_))))
    · by_cases e : u = i
      · subst e
        refine ⟨fun _ _ => ⟨pk_uLs, r1⟩, fun y => ?_⟩
        rcases y with y | y
        · omega
        · exact absurd z y
      · have t := hs u u1 uL
        have k : vp_updL so i 0 u = so u := pk_uLn e
        have k2 : ∀ c, c < 6 → rs' (u * 6 + c) = rs (u * 6 + c) := fun c c6 => r2 _ fun c' c6' => by omega
        refine ⟨fun a b => ?_, fun y => ?_⟩
        · have w := t.1 (by omega) b
          rw [k]
          exact ⟨w.1, fun c c6 => by rw [k2 c c6]; exact w.2 c c6⟩
        · have w := t.2 (y.imp (fun v => by omega) id)
          rw [k]
          exact ⟨w.1, fun c c6 => by rw [k2 c c6]; exact w.2 c c6⟩
    · have t := hs u u1 uL
      refine ⟨fun a b => ?_, fun y => t.2 (y.imp (fun v => by omega) id)⟩
      by_cases e : u = i
      · rw [e, z] at b; cases b
      · exact t.1 (by omega) b
end
end
section
/-- the reference's arrays when those of b below i have fallen -/
def mk_t (b : Nat → Bool) (i : Nat) (f : Nat → Int32) : Nat → Int32 := fun j => if 1 ≤ j ∧ j < i ∧ b j = true then 4 else f j
def mk_h (b : Nat → Bool) (i : Nat) (v : Int32) (f : Nat → Int32) : Nat → Int32 := fun j => if 1 ≤ j / 6 ∧ j / 6 < i ∧ b (j / 6) = true then v else f j
def mk_g (b : Nat → Bool) (i c : Nat) (v : Int32) (f : Nat → Int32) : Nat → Int32 := fun j => if (1 ≤ j / 6 ∧ j / 6 < i ∧ b (j / 6) = true) ∨ (j / 6 = i ∧ j % 6 < c) then v else f j
theorem mk_tn {b : Nat → Bool} {i : Nat} {f : Nat → Int32} (h : ¬ b i = true) : mk_t b (i + 1) f = mk_t b i f := by
  funext j
  unfold mk_t
  by_cases e : j = i
  · subst e
    rw [if_neg (fun z => h z.2.2), if_neg (fun z => h z.2.2)]
  · by_cases z : 1 ≤ j ∧ j < i ∧ b j = true
    · rw [if_pos z, if_pos ⟨z.1, by omega, z.2.2⟩]
    · rw [if_neg z, if_neg (fun y => z ⟨y.1, by omega, y.2.2⟩)]
theorem mk_ty {b : Nat → Bool} {i : Nat} {f : Nat → Int32} (h : b i = true) (i1 : 1 ≤ i) : upd (mk_t b i f) i 4 = mk_t b (i + 1) f := by
  funext j
  by_cases e : j = i
  · subst e
    rw [pk_us]
    exact (if_pos ⟨i1, by omega, h⟩).symm
  · rw [pk_un e]
    unfold mk_t
    by_cases z : 1 ≤ j ∧ j < i ∧ b j = true
    · rw [if_pos z, if_pos ⟨z.1, by omega, z.2.2⟩]
    · rw [if_neg z, if_neg (fun y => z ⟨y.1, by omega, y.2.2⟩)]
theorem mk_hn {b : Nat → Bool} {i : Nat} {v : Int32} {f : Nat → Int32} (h : ¬ b i = true) : mk_h b (i + 1) v f = mk_h b i v f := by
  funext j
  unfold mk_h
  by_cases e : j / 6 = i
  · rw [e, if_neg (fun z => h z.2.2), if_neg (fun z => h z.2.2)]
  · by_cases z : 1 ≤ j / 6 ∧ j / 6 < i ∧ b (j / 6) = true
    · rw [if_pos z, if_pos ⟨z.1, by omega, z.2.2⟩]
    · rw [if_neg z, if_neg (fun y => z ⟨y.1, by omega, y.2.2⟩)]
theorem mk_g0 {b : Nat → Bool} {i : Nat} {v : Int32} {f : Nat → Int32} : mk_g b i 0 v f = mk_h b i v f := by
  funext j
  unfold mk_g mk_h
  by_cases z : 1 ≤ j / 6 ∧ j / 6 < i ∧ b (j / 6) = true
  · rw [if_pos z, if_pos (Or.inl z)]
  · rw [if_neg z, if_neg]
    rintro (y | y)
    · exact z y
    · omega
theorem mk_g6 {b : Nat → Bool} {i : Nat} {v : Int32} {f : Nat → Int32} (h : b i = true) (i1 : 1 ≤ i) : mk_g b i 6 v f = mk_h b (i + 1) v f := by
  funext j
  unfold mk_g mk_h
  by_cases e : j / 6 = i
  · rw [if_pos (Or.inr ⟨e, by omega⟩), if_pos ⟨by omega, by omega, by rw [e]; exact h⟩]
  · by_cases z : 1 ≤ j / 6 ∧ j / 6 < i ∧ b (j / 6) = true
    · rw [if_pos (Or.inl z), if_pos ⟨z.1, by omega, z.2.2⟩]
    · rw [if_neg, if_neg (fun y => z ⟨y.1, by omega, y.2.2⟩)]
      rintro (y | y)
      · exact z y
      · exact e y.1
theorem mk_gu {b : Nat → Bool} {i c : Nat} {v : Int32} {f : Nat → Int32} (c6 : c < 6) : upd (mk_g b i c v f) (i * 6 + c) v = mk_g b i (c + 1) v f := by
  funext j
  by_cases e : j = i * 6 + c
  · rw [e, pk_us]
    exact (if_pos (Or.inr ⟨by omega, by omega⟩)).symm
  · rw [pk_un e]
    unfold mk_g
    by_cases z : (1 ≤ j / 6 ∧ j / 6 < i ∧ b (j / 6) = true) ∨ (j / 6 = i ∧ j % 6 < c)
    · rw [if_pos z, if_pos (z.imp id fun y => ⟨y.1, by omega⟩)]
    · rw [if_neg z, if_neg fun y => z (y.imp id fun w => ⟨w.1, by omega⟩)]
theorem mk_hP {b : Nat → Bool} {v : Int32} {f : Nat → Int32} {s c : Nat} (c6 : c < 6) (s1 : 1 ≤ s) (s40 : s ≤ 40) (h : b s = true) : mk_h b 41 v f (s * 6 + c) = v := by
  have e : (s * 6 + c) / 6 = s := by omega
  exact if_pos ⟨by omega, by omega, by rw [e]; exact h⟩
theorem mk_hN {b : Nat → Bool} {v : Int32} {f : Nat → Int32} {s c : Nat} (c6 : c < 6) (h : ¬ b s = true) : mk_h b 41 v f (s * 6 + c) = f (s * 6 + c) := by
  have e : (s * 6 + c) / 6 = s := by omega
  exact if_neg fun z => h (by rw [← e]; exact z.2.2)
theorem mk_tP {b : Nat → Bool} {f : Nat → Int32} {s : Nat} (s1 : 1 ≤ s) (s40 : s ≤ 40) (h : b s = true) : mk_t b 41 f s = 4 := if_pos ⟨s1, by omega, h⟩
theorem mk_tN {b : Nat → Bool} {f : Nat → Int32} {s : Nat} (h : ¬ b s = true) : mk_t b 41 f s = f s := if_neg fun z => h z.2.2
section
variable {K O M N L h : Nat} {A W C : Int64} {fr us : Int32} {rk rs sp vv ol nw : Nat → Int32} {so rd : Nat → Int64} {ts yk hs yv rf dm : Nat → Int32} {G : Nat → List (Nat × Nat)} {own : Nat → Nat} {S0 : Nat → Prop}
theorem my_k26 {post : SY → Prop} {J : Int32 → (Nat → Int32) → (Nat → Int32) → (Nat → Int32) → (Nat → Int32) → (Nat → Int32) → (Nat → Int32) → Prop} {b : Nat → Bool} {i : Nat} (i1 : 1 ≤ i) (i40 : i ≤ 40) (hb : b i = true) (hp : J (nI (i + 1)) ts yk (mk_h b (i + 1) 0 hs) yv (mk_h b (i + 1) (-1) rf) dm) : ∀ d c, c + d = 6 → wY_kill_26 post J (nI i) (nI K) (nI O) (nI M) (nI N) (nI L) (nI h) (d + 1) (nI c) ts yk (mk_g b i c 0 hs) yv (mk_g b i c (-1) rf) dm := by
  intro d
  induction d with
  | zero =>
    intro c hc
    have : c = 6 := by omega
    subst this
    rw [mk_g6 hb i1, mk_g6 hb i1]
    exact br_t (nI_le (a := 6) (by omega) (by omega)) (nm_r (nI_1 i) hp)
  | succ d ih =>
    intro c hc
    refine br_f (nI_ge (b := 6) (by omega) (by omega)) ?_
    rw [mr_ix, mr_cl (by omega)]
    exact ⟨vp_in_nI (by omega) (by omega), nm_r (mk_gu (show c < 6 by omega)) ⟨vp_in_nI (by omega) (by omega), nm_r (mk_gu (show c < 6 by omega)) (nm_r (nI_1 c) (ih (c + 1) (by omega)))⟩⟩
theorem my_k2 {post : SY → Prop} {b : Nat → Bool} (hb : ∀ t, 1 ≤ t → t ≤ 40 → (¬ dm t = 0 ↔ b t = true)) (hp : post (nI K, nI O, nI M, nI N, nI L, nI h, mk_t b 41 ts, yk, mk_h b 41 0 hs, yv, mk_h b 41 (-1) rf, dm)) : ∀ d i, 1 ≤ i → i + d = 41 → wY_kill_2 post (nI K) (nI O) (nI M) (nI N) (nI L) (nI h) (d + 1) (nI i) (mk_t b i ts) yk (mk_h b i 0 hs) yv (mk_h b i (-1) rf) dm := by
  intro d
  induction d with
  | zero =>
    intro i i1 hi
    have : i = 41 := by omega
    subst this
    exact br_t (nI_lt (a := 40) (by omega) (by omega)) hp
  | succ d ih =>
    intro i i1 hi
    refine br_f (nI_nlt (a := 40) (by omega) (by omega)) ⟨vp_in_nI (by omega) (by omega), ?_⟩
    rw [nI_clamp (by omega)]
    refine br_c (fun e => nm_r (nI_1 i) ?_) (fun e => ⟨vp_in_nI (by omega) (by omega), nm_r (mk_ty ((hb i i1 (by omega)).mp e) i1) ⟨7, ?_⟩⟩)
    · have n : ¬ b i = true := fun z => (hb i i1 (by omega)).mpr z e
      have t := ih (i + 1) (by omega) (by omega)
      rw [mk_tn n, mk_hn n, mk_hn n] at t
      exact t
    · have t := my_k26 (post := post) (K := K) (O := O) (M := M) (N := N) (L := L) (h := h) (hs := hs) (rf := rf) i1 (by omega) ((hb i i1 (by omega)).mp e) (ih (i + 1) (by omega) (by omega)) 6 0 (by omega)
      rw [mk_g0, mk_g0] at t
      exact t
theorem my_kill {post : SY → Prop} {b : Nat → Bool} (hb : ∀ t, 1 ≤ t → t ≤ 40 → (¬ dm t = 0 ↔ b t = true)) (hp : post (nI K, nI O, nI M, nI N, nI L, nI h, mk_t b 41 ts, yk, mk_h b 41 0 hs, yv, mk_h b 41 (-1) rf, dm)) : wpY_kill post (nI K, nI O, nI M, nI N, nI L, nI h, ts, yk, hs, yv, rf, dm) := by
  have t := my_k2 hb hp 40 1 (by omega) (by omega)
  have e1 : mk_t b 1 ts = ts := by funext j; exact if_neg fun z => by omega
  have e2 : ∀ v f, mk_h b 1 v f = f := fun v f => by funext j; exact if_neg fun z => by omega
  rw [e1, e2, e2] at t
  exact Exists.intro 41 t
/-- the reference after the fall -/
theorem mk_Y (hY : mr_Y K O M N L h ts hs rf) (hS0 : ∀ x, S0 x → x ≤ 40 ∧ mr_uf ts x) : mr_Y K O M N L h (mk_t (ma_b rf S0) 41 ts) (mk_h (ma_b rf S0) 41 0 hs) (mk_h (ma_b rf S0) 41 (-1) rf) := by
  have hY0 := hY
  obtain ⟨hP, hT, hH, hF, hC, hZ, hN, hM⟩ := hY
  have P := hP
  unfold mr_P at P
  have bL : ∀ s, ma_b rf S0 s = true → 1 ≤ s ∧ s ≤ L ∧ h ≤ s := fun s z => ma_L hY0 hS0 (ma_bI.mp z)
  have bu : ∀ s, ma_b rf S0 s = true → mr_uf ts s := fun s z => (ma_uf hY0 hS0 (ma_bI.mp z)).2
  have hv : ∀ s c, s ≤ 40 → c < 6 → (mr_hv (mk_h (ma_b rf S0) 41 0 hs) s c ↔ mr_hv hs s c ∧ ¬ ma_b rf S0 s = true) := fun s c s40 c6 => by
    unfold mr_hv
    by_cases z : ma_b rf S0 s = true
    · rw [mk_hP c6 (bL s z).1 s40 z]
      exact ⟨fun y => absurd rfl y, fun y => absurd z y.2⟩
    · rw [mk_hN c6 z]
      exact ⟨fun y => ⟨y, z⟩, fun y => y.1⟩
  have n4 : ∀ s, s ≤ 40 → mr_uf (mk_t (ma_b rf S0) 41 ts) s → ¬ ma_b rf S0 s = true ∧ mr_uf ts s := fun s s40 y => by
    by_cases z : ma_b rf S0 s = true
    · unfold mr_uf at y
      rw [mk_tP (bL s z).1 s40 z] at y
      rcases y with y | y <;> exact absurd y (by decide)
    · unfold mr_uf at y
      rw [mk_tN z] at y
      exact ⟨z, y⟩
  refine ⟨hP, ⟨fun s s40 z => ?_, fun s s1 sL => ?_⟩, ⟨fun c c6 => (hv 0 c (by omega) c6).mpr ⟨hH.1 c c6, fun z => ?_⟩, fun s c s1 s40 c6 z => ?_⟩, fun u c u40 c6 => ?_, fun u c s u40 c6 d e f g => ?_, fun s s1 sh z => hZ s s1 sh (n4 s (by omega) z).2, ?_, ?_⟩
  · rw [mk_tN]
    · exact hT.1 s s40 z
    · intro y
      have := bL s y
      omega
  · by_cases z : ma_b rf S0 s = true
    · rw [mk_tP s1 (by omega) z]; exact Or.inr (Or.inr (Or.inr rfl))
    · rw [mk_tN z]; exact hT.2 s s1 sL
  · have := bL 0 z
    omega
  · have y := (hv s c s40 c6).mp z
    have r := hH.2 s c s1 s40 c6 y.1
    rw [mk_tN y.2]
    exact r
  · by_cases z : ma_b rf S0 u = true
    · exact Or.inl (mk_hP c6 (bL u z).1 u40 z)
    · rw [mk_hN c6 z, mk_tN z]
      rcases hF u c u40 c6 with y | ⟨s, z1, z2, z3, z4, z5⟩
      · exact Or.inl y
      · refine Or.inr ⟨s, z1, z2, (hv s c (by omega) c6).mpr ⟨z3, fun w => ?_⟩, fun x x1 x2 w => z4 x x1 x2 ((hv x c (by omega) c6).mp w).1, z5⟩
        exact z (ma_bI.mpr (ma_st u40 c6 z1 (bL s w).1 (by omega) (ma_bI.mp w)))
  · by_cases z : ma_b rf S0 u = true
    · rw [mk_tP (bL u z).1 u40 z] at d
      exact absurd d (by decide)
    · rw [mk_tN z] at d
      rw [mk_hN c6 z] at e
      have t := hC u c s u40 c6 d e f g
      rw [mk_tN]
      · exact t
      · intro w
        rcases bu s w with y | y
        · rw [t] at y; exact absurd y (by decide)
        · rw [t] at y; exact absurd y (by decide)
  · unfold mr_N at hN ⊢
    exact Nat.le_trans (mc_nmono fun s s1 s40 z => mr_ubI.mpr (n4 s (by omega) (mr_ubI.mp z)).2) hN
  · unfold mr_M at hM ⊢
    refine Nat.le_trans (mc_mono _ _ fun s s1 s40 => mc_nmono fun c c0 c6 z => ?_) hM
    have y := mr_hbI.mp z
    exact mr_hbI.mpr ⟨y.1, ((hv s c (by omega) (by omega)).mp y.2).1⟩
theorem mk_X {D : Int64} {so' : Nat → Int64} {rs' : Nat → Int32} {fr' us' : Int32} {rd' : Nat → Int64} {ol' nw' : Nat → Int32} {G' : Nat → List (Nat × Nat)} {own' : Nat → Nat} (hY : mr_Y K O M N L h ts hs rf) (hX : mr_X K L h A W C fr us rk so rs sp vv rd ol nw ts yk hs yv rf G own) (hS0 : ∀ x, S0 x → x ≤ 40 ∧ mr_uf ts x) (hD : ∀ x, ml_b D x = true ↔ ma_C rf S0 x) (hf : ∀ u, 1 ≤ u → u ≤ L → (ml_b D u = true → so' u = 0 ∧ ∀ c, c < 6 → rs' (u * 6 + c) = -1) ∧ (¬ ml_b D u = true → so' u = so u ∧ ∀ c, c < 6 → rs' (u * 6 + c) = rs (u * 6 + c))) (hO' : mr_O K fr' us' (-1) ol' nw' G' own') (hsw : ma_S K D G rd K G' rd') : mr_X K L h (A &&& (D ^^^ (-1))) (W &&& (D ^^^ (-1))) C fr' us' rk so' rs' sp vv rd' ol' nw' (mk_t (ma_b rf S0) 41 ts) yk (mk_h (ma_b rf S0) 41 0 hs) yv (mk_h (ma_b rf S0) 41 (-1) rf) G' own' := by
  have hY0 := hY
  obtain ⟨hP, hT, hH, hF, hC, hZ, hN, hM⟩ := hY
  obtain ⟨hB, hQ, hS, hR, hG, hO⟩ := hX
  have P := hP
  unfold mr_P at P
  have bL : ∀ s, ma_b rf S0 s = true → 1 ≤ s ∧ s ≤ L ∧ h ≤ s := fun s z => ma_L hY0 hS0 (ma_bI.mp z)
  have bu : ∀ s, ma_b rf S0 s = true → mr_uf ts s := fun s z => (ma_uf hY0 hS0 (ma_bI.mp z)).2
  have db : ∀ s, ml_b D s = true ↔ ma_b rf S0 s = true := fun s => by rw [hD s, ma_bI]
  have hv : ∀ s c, s ≤ 40 → c < 6 → (mr_hv (mk_h (ma_b rf S0) 41 0 hs) s c ↔ mr_hv hs s c ∧ ¬ ma_b rf S0 s = true) := fun s c s40 c6 => by
    unfold mr_hv
    by_cases z : ma_b rf S0 s = true
    · rw [mk_hP c6 (bL s z).1 s40 z]
      exact ⟨fun y => absurd rfl y, fun y => absurd z y.2⟩
    · rw [mk_hN c6 z]
      exact ⟨fun y => ⟨y, z⟩, fun y => y.1⟩
  refine ⟨fun s => ?_, hQ, fun u u1 uL s => ?_, fun u c u1 uL uu cK => ?_, fun c hc => ?_, hO'⟩
  · have t := hB s
    rw [ml_diff, ml_diff, t.1, t.2.1, t.2.2, db s]
    by_cases z : ma_b rf S0 s = true
    · have s40 : s ≤ 40 := by have := bL s z; omega
      rw [mk_tP (bL s z).1 s40 z]
      refine ⟨⟨fun y => absurd z y.2, fun y => absurd y.2 (by decide)⟩, ⟨fun y => absurd z y.2, fun y => absurd y.2 (by decide)⟩, ⟨fun y => ?_, fun y => absurd y.2 (by decide)⟩⟩
      rcases bu s z with w | w
      · rw [y.2] at w; exact absurd w (by decide)
      · rw [y.2] at w; exact absurd w (by decide)
    · rw [mk_tN z]
      exact ⟨⟨fun y => y.1, fun y => ⟨y, z⟩⟩, ⟨fun y => y.1, fun y => ⟨y, z⟩⟩, Iff.rfl⟩
  · have f := hf u u1 uL
    by_cases z : ma_b rf S0 u = true
    · rw [(f.1 ((db u).mpr z)).1, ml_0]
      constructor
      · intro y; cases y
      · rintro ⟨_, s40, c, c6, e⟩
        rw [mk_hP c6 u1 (by omega) z] at e
        exact absurd e.symm (mr_m1 s (by omega))
    · rw [(f.2 (fun y => z ((db u).mp y))).1, hS u u1 uL s]
      constructor
      · rintro ⟨s1, s40, c, c6, e⟩; exact ⟨s1, s40, c, c6, by rw [mk_hN c6 z]; exact e⟩
      · rintro ⟨s1, s40, c, c6, e⟩; rw [mk_hN c6 z] at e; exact ⟨s1, s40, c, c6, e⟩
  · have c6 : c < 6 := by omega
    have f := hf u u1 uL
    by_cases z : ma_b rf S0 u = true
    · unfold mr_uf at uu
      rw [mk_tP u1 (by omega) z] at uu
      rcases uu with y | y <;> exact absurd y (by decide)
    · unfold mr_uf at uu
      rw [mk_tN z] at uu
      rw [mk_hN c6 z, (f.2 (fun y => z ((db u).mp y))).2 c c6]
      rcases hR u c u1 uL uu cK with y | ⟨a, s, e1, e2, e3⟩
      · exact Or.inl y
      · refine Or.inr ⟨a, s, e1, e2, (((hsw c cK).1 cK).1 (a, s)).mpr ⟨e3, fun w => ?_⟩⟩
        have w := (db s).mp w
        have sL := bL s w
        exact z (ma_bI.mpr (ma_st (by omega) c6 e1 sL.1 (by omega) (ma_bI.mp w)))
  · have c6 : c < 6 := by omega
    have t := (hsw c hc).1 hc
    have g := hG c hc
    refine ⟨t.2.1, fun p hp => ?_, fun s s40 => ?_⟩
    · have y := g.2.1 p ((t.1 p).mp hp).1
      refine ⟨y.1, y.2.1, y.2.2.1, fun u => ?_⟩
      rw [t.2.2 p hp, ml_diff, y.2.2.2 u, db u]
      by_cases z : ma_b rf S0 u = true
      · constructor
        · intro w; exact absurd z w.2
        · rintro ⟨u1, u40, e⟩
          rw [mk_hP c6 u1 u40 z] at e
          exact absurd e.symm (mr_m1 p.2 (by have := y.1; omega))
      · rw [mk_hN c6 z]
        exact ⟨fun w => w.1, fun w => ⟨w, z⟩⟩
    · have e1 : (∃ a, (a, s) ∈ G' c) ↔ (∃ a, (a, s) ∈ G c) ∧ ¬ ma_b rf S0 s = true := by
        constructor
        · rintro ⟨a, ha⟩
          have w := (t.1 (a, s)).mp ha
          exact ⟨⟨a, w.1⟩, fun z => w.2 ((db s).mpr z)⟩
        · rintro ⟨⟨a, ha⟩, z⟩
          exact ⟨a, (t.1 (a, s)).mpr ⟨ha, fun w => z ((db s).mp w)⟩⟩
      rw [e1, g.2.2 s s40]
      unfold mr_kp
      rw [hv s c s40 c6]
      constructor
      · rintro ⟨⟨a, b⟩, d⟩
        exact ⟨⟨a, d⟩, fun x x1 x2 w => b x x1 x2 ((hv x c (by omega) c6).mp w).1⟩
      · rintro ⟨⟨a, d⟩, b⟩
        refine ⟨⟨a, fun x x1 x2 w => b x x1 x2 ((hv x c (by omega) c6).mpr ⟨w, fun y => ?_⟩)⟩, d⟩
        have := bL x y
        omega
/-- ABORT a set, in the component -/
theorem mx_abort {post : Int32 → SX → Prop} {seed : Int64} (hY : mr_Y K O M N L h ts hs rf) (hX : mr_X K L h A W C fr us rk so rs sp vv rd ol nw ts yk hs yv rf G own) (hS0 : ∀ x, S0 x → x ≤ 40 ∧ mr_uf ts x) (hsd : ∀ x, ml_b seed x = true ↔ S0 x) (hp : ∀ A' W' fr' us' so' rs' rd' ol' nw' G' own', mr_X K L h A' W' C fr' us' rk so' rs' sp vv rd' ol' nw' (mk_t (ma_b rf S0) 41 ts) yk (mk_h (ma_b rf S0) 41 0 hs) yv (mk_h (ma_b rf S0) 41 (-1) rf) G' own' → post (nI (mc_n (ma_b rf S0) 1 40)) (nI K, nI O, nI M, nI N, nI L, nI h, A', W', C, fr', us', rk, so', rs', sp, vv, rd', ol', nw')) : wpX_abortSet post (nI K, nI O, nI M, nI N, nI L, nI h, A, W, C, fr, us, rk, so, rs, sp, vv, rd, ol, nw) seed := by
  have P := hY.1
  unfold mr_P at P
  have hL : L ≤ 40 := by omega
  have hK : K ≤ 6 := by omega
  have hG := hX.2.2.2.2.1
  unfold wpX_abortSet
  refine mx_clo hY hX.1 hX.2.2.1 hS0 hsd fun D hD => nm_e (nm_e (Exists.intro (L + 1) ?_))
  refine mx_37 (so0 := so) (rs0 := rs) hL (fun so' rs' hf => Exists.intro (K + 1) ?_) L 1 so rs (by omega) (by omega) (fun u u1 uL => ⟨fun z => by omega, fun _ => ⟨rfl, fun _ _ => rfl⟩⟩)
  refine mx_71 (G0 := G) (rd0 := rd) hK hL (fun i iK => ⟨(hG i iK).1, fun p hp => ⟨((hG i iK).2.1 p hp).2.1, ((hG i iK).2.1 p hp).1⟩⟩) (fun fr' us' rd' ol' nw' G' own' h1 h2 => ?_) K 0 fr us rd ol nw G own (by omega) hX.2.2.2.2.2 (fun i iK => ⟨fun z => by omega, fun _ => ⟨rfl, fun _ _ => rfl⟩⟩)
  rw [ma_cnt hY hS0 hD]
  exact hp _ _ _ _ _ _ _ _ _ _ _ (mk_X hY hX hS0 hD hf h1 h2)
end
theorem i_vc_abort {k : Nat} {u : SX} {v : SY} (I : i_Rel k u v) (hk : k + 4 ≤ 2052) (v1 : Int32) : wpX_abort (fun r u' => wpY_abort (fun r' v' => r' = r ∧ i_Rel (k + 4) u' v') v v1) u v1 := by
  refine I (fun u v => wpX_abort (fun r u' => wpY_abort (fun r' v' => r' = r ∧ i_Rel (k + 4) u' v') v v1) u v1) ?_
  intro K O M N L h A W C fr us rk so rs sp vv rd ol nw ts yk hs yv rf dm G own hY hX
  have J : i_Rel (k + 4) (nI K, nI O, nI M, nI N, nI L, nI h, A, W, C, fr, us, rk, so, rs, sp, vv, rd, ol, nw) (nI K, nI O, nI M, nI N, nI L, nI h, ts, yk, hs, yv, rf, dm) := mr_in hY hX
  have P := hY.1
  unfold mr_P at P
  unfold wpX_abort wpY_abort
  rcases mj_ufr hY.1 hX.1 v1 with ⟨r, hr, hx, hy⟩ | ⟨t, rfl, t1, tL, hu, hx, hy⟩
  · have hr0 : ¬ r = 0 := fun z => by rw [z] at hr; exact absurd hr (by decide)
    refine hx _ (br_f hr0 ?_)
    unfold wpY_doom
    exact hy _ (br_f hr0 (br_t (Int32.le_of_lt hr) ⟨rfl, J⟩))
  · have hS0 : ∀ x, x = t → x ≤ 40 ∧ mr_uf ts x := fun x e => by rw [e]; exact ⟨by omega, hu⟩
    refine hx _ (br_t rfl (mx_abort (S0 := fun x => x = t) hY hX hS0 (fun x => ml_one (by omega)) fun A' W' fr' us' so' rs' rd' ol' nw' G' own' hX' => ?_))
    refine my_doom hY hu (by omega) hy fun dm' e1 e2 => ?_
    have c1 : 0 < mc_n (ma_b rf (fun x => x = t)) 1 40 := mc_pos (a := t) t1 (by omega) (ma_bI.mpr (ma_in rfl))
    have c2 : mc_n (ma_b rf (fun x => x = t)) 1 40 ≤ 40 := mc_le _ _ _
    exact br_f (nI_nle c1 (by omega)) (my_kill (b := ma_b rf (fun x => x = t)) (fun s s1 s40 => ⟨fun z => ma_bI.mpr (e1.1 s s1 s40 z), fun z => e2 s (by omega) s40 (ma_bI.mp z)⟩) ⟨rfl, mr_in (mk_Y hY hS0) hX'⟩)
end
section
theorem mk_t0 {b : Nat → Bool} {i : Nat} {f : Nat → Int32} (h : ∀ s, ¬ b s = true) : mk_t b i f = f := by
  funext j; exact if_neg fun z => h _ z.2.2
theorem mk_h0 {b : Nat → Bool} {i : Nat} {v : Int32} {f : Nat → Int32} (h : ∀ s, ¬ b s = true) : mk_h b i v f = f := by
  funext j; exact if_neg fun z => h _ z.2.2
section
variable {K O M N L h : Nat} {A W C : Int64} {fr us : Int32} {rk rs sp vv ol nw : Nat → Int32} {so rd : Nat → Int64} {ts yk hs yv rf dm : Nat → Int32} {G : Nat → List (Nat × Nat)} {own : Nat → Nat}
theorem my_s19 {post : Int32 → SY → Prop} {t q : Nat} {v : Int32} (hF : mr_F K L ts hs rf) (t40 : t ≤ 40) (q6 : q < 6) : ∀ d i, i + d = 41 → ((∃ u, i ≤ u ∧ u ≤ 40 ∧ ts u = 3 ∧ mr_iw rf u t q) → post (-4) (nI K, nI O, nI M, nI N, nI L, nI h, ts, yk, hs, yv, rf, dm)) → ((¬ ∃ u, i ≤ u ∧ u ≤ 40 ∧ ts u = 3 ∧ mr_iw rf u t q) → wY_seize_19 post (nI t) (nI q) v (nI K) (nI O) (nI M) (nI N) (nI L) (nI h) ts yk hs yv rf dm 1 (nI 41)) → wY_seize_19 post (nI t) (nI q) v (nI K) (nI O) (nI M) (nI N) (nI L) (nI h) ts yk hs yv rf dm (d + 1) (nI i) := by
  intro d
  induction d with
  | zero =>
    intro i hi h1 h0
    have : i = 41 := by omega
    subst this
    refine h0 ?_
    rintro ⟨u, a, b, _⟩
    omega
  | succ d ih =>
    intro i hi h1 h0
    have nx : ¬ (ts i = 3 ∧ mr_iw rf i t q) → wY_seize_19 post (nI t) (nI q) v (nI K) (nI O) (nI M) (nI N) (nI L) (nI h) ts yk hs yv rf dm (d + 1) (nI (i + 1)) := fun z => by
      refine ih (i + 1) (by omega) ?_ ?_
      · rintro ⟨u, a, b, c⟩
        exact h1 ⟨u, by omega, b, c⟩
      · intro n
        refine h0 ?_
        rintro ⟨u, a, b, c⟩
        by_cases e : u = i
        · subst e; exact z c
        · exact n ⟨u, by omega, b, c⟩
    refine br_f (nI_nlt (a := 40) (by omega) (by omega)) ⟨vp_in_nI (by omega) (by omega), ?_⟩
    rw [nI_clamp (by omega)]
    exact br_c (fun e => my_iw hF (by omega) t40 q6 (fun z => br_f (by decide) (h1 ⟨i, by omega, by omega, e, z⟩)) (fun z => br_t rfl (nm_r (nI_1 i) (nx fun w => z w.2)))) (fun e => nm_r (nI_1 i) (nx fun w => e w.1))
theorem my_s76 {post : Int32 → SY → Prop} {t q : Nat} {v : Int32} (hF : mr_F K L ts hs rf) (t40 : t ≤ 40) (q6 : q < 6) (hp : ∀ dm', (∀ x, 1 ≤ x → x ≤ 40 → (¬ dm' x = 0 ↔ mr_iw rf x t q)) → wY_seize_76 post (nI t) (nI q) v (nI K) (nI O) (nI M) (nI N) (nI L) (nI h) 1 (nI 41) ts yk hs yv rf dm') : ∀ (d i : Nat) (dm : Nat → Int32), 1 ≤ i → i + d = 41 → (∀ x, 1 ≤ x → x < i → (¬ dm x = 0 ↔ mr_iw rf x t q)) → (∀ x, i ≤ x → x ≤ 40 → dm x = 0) → wY_seize_76 post (nI t) (nI q) v (nI K) (nI O) (nI M) (nI N) (nI L) (nI h) (d + 1) (nI i) ts yk hs yv rf dm := by
  intro d
  induction d with
  | zero =>
    intro i dm i1 hi h1 h2
    have : i = 41 := by omega
    subst this
    exact hp dm fun x x1 x40 => h1 x x1 (by omega)
  | succ d ih =>
    intro i dm i1 hi h1 h2
    refine br_f (nI_nlt (a := 40) (by omega) (by omega)) (my_iw hF (by omega) t40 q6 (fun z => br_f (by decide) ⟨vp_in_nI (by omega) (by omega), ?_⟩) (fun z => br_t rfl (nm_r (nI_1 i) (ih (i + 1) dm (by omega) (by omega) (fun x x1 x2 => ?_) (fun x x1 x2 => h2 x (by omega) x2)))))
    · rw [nI_clamp (by omega)]
      refine nm_e (nm_r (nI_1 i) (ih (i + 1) _ (by omega) (by omega) (fun x x1 x2 => ?_) (fun x x1 x2 => ?_)))
      · by_cases e : x = i
        · rw [e, pk_us]
          exact ⟨fun _ => z, fun _ => (by decide : ¬ (1 : Int32) = 0)⟩
        · rw [pk_un e]; exact h1 x x1 (by omega)
      · rw [pk_un (by omega)]; exact h2 x (by omega) x2
    · by_cases e : x = i
      · rw [e]
        exact ⟨fun y => absurd (h2 i (by omega) (by omega)) y, fun y => absurd y z⟩
      · exact h1 x x1 (by omega)
/-- the reference from the checks on -/
theorem my_seize {post : Int32 → SY → Prop} {t q : Nat} {v : Int32} (hY : mr_Y K O M N L h ts hs rf) (t40 : t ≤ 40) (q6 : q < 6) (hS0 : ∀ x, (x ≤ 40 ∧ mr_iw rf x t q) → x ≤ 40 ∧ mr_uf ts x) (room : mr_hv hs t q ∨ mr_held h hs ≠ M) (nc : ¬ ∃ u, 1 ≤ u ∧ u ≤ 40 ∧ ts u = 3 ∧ mr_iw rf u t q) (hp : ∀ dm', post (nI (mc_n (ma_b rf (fun x => x ≤ 40 ∧ mr_iw rf x t q)) 1 40)) (nI K, nI O, nI M, nI N, nI L, nI h, mk_t (ma_b rf (fun x => x ≤ 40 ∧ mr_iw rf x t q)) 41 ts, yk, upd (mk_h (ma_b rf (fun x => x ≤ 40 ∧ mr_iw rf x t q)) 41 0 hs) (t * 6 + q) 1, upd yv (t * 6 + q) (v &&& 65535), mk_h (ma_b rf (fun x => x ≤ 40 ∧ mr_iw rf x t q)) 41 (-1) rf, dm')) : wY_seize_19 post (nI t) (nI q) v (nI K) (nI O) (nI M) (nI N) (nI L) (nI h) ts yk hs yv rf dm 41 (nI 1) := by
  have P := hY.1
  unfold mr_P at P
  have hF := hY.2.2.2.1
  refine my_s19 hF t40 q6 40 1 (by omega) (fun z => absurd z nc) (fun _ => ?_)
  refine br_t (nI_lt (a := 40) (by omega) (by omega)) (my_noRoom t40 q6 (by omega) (by omega) (fun z1 z2 => ?_) (fun _ => br_t rfl (my_emp fun dm1 hd => ⟨41, my_s76 hF t40 q6 (fun dm2 h2 => ?_) 40 1 dm1 (by omega) (by omega) (fun x x1 x2 => by omega) (fun x x1 x2 => hd x x2)⟩)))
  · rcases room with y | y
    · exact absurd y z1
    · exact absurd z2 y
  · refine br_t (nI_lt (a := 40) (by omega) (by omega)) (my_enl (S0 := fun x => x ≤ 40 ∧ mr_iw rf x t q) hF (fun z => ?_) ⟨fun x x1 x40 y => ma_in ⟨x40, (h2 x x1 x40).mp y⟩, fun x y => (h2 x (by have := y.2.1; omega) y.1).mpr y.2⟩ fun dm3 e1 e2 => ?_)
    · have := (ma_L hY hS0 z).1
      omega
    · exact my_kill (b := ma_b rf (fun x => x ≤ 40 ∧ mr_iw rf x t q)) (fun s s1 s40 => ⟨fun z => ma_bI.mpr (e1.1 s s1 s40 z), fun z => e2 s (by omega) s40 (ma_bI.mp z)⟩) (my_store t40 q6 (hp dm3))
end
theorem i_vc_seize {k : Nat} {u : SX} {v : SY} (I : i_Rel k u v) (hk : k + 4 ≤ 2052) (v1 : Int32) (v2 : Int32) (v3 : Int32) : wpX_seize (fun r u' => wpY_seize (fun r' v' => r' = r ∧ i_Rel (k + 4) u' v') v v1 v2 v3) u v1 v2 v3 := by
  refine I (fun u v => wpX_seize (fun r u' => wpY_seize (fun r' v' => r' = r ∧ i_Rel (k + 4) u' v') v v1 v2 v3) u v1 v2 v3) ?_
  intro K O M N L h A W C fr us rk so rs sp vv rd ol nw ts yk hs yv rf dm G own hY hX
  have J : i_Rel (k + 4) (nI K, nI O, nI M, nI N, nI L, nI h, A, W, C, fr, us, rk, so, rs, sp, vv, rd, ol, nw) (nI K, nI O, nI M, nI N, nI L, nI h, ts, yk, hs, yv, rf, dm) := mr_in hY hX
  have P := hY.1
  unfold mr_P at P
  unfold wpX_seize wpY_seize
  rcases mj_acc hY.1 hX.1 v1 v2 with ⟨r, hr, hx, hy⟩ | ⟨t, q, rfl, rfl, t1, tL, a, hq, hx, hy⟩
  · have sx : ∀ post : Int32 → Prop, post r → wpX_storeRefusal post (nI K, nI O, nI M, nI N, nI L, nI h, A, W, C, fr, us, rk, so, rs, sp, vv, rd, ol, nw) v1 v2 C := fun post hp => by
      unfold wpX_storeRefusal
      exact hx _ (br_f hr hp)
    exact sx _ (br_f hr (hy _ (br_f hr ⟨rfl, J⟩)))
  · have t40 : t ≤ 40 := by omega
    have q6 : q < 6 := by omega
    obtain ⟨_, _, th⟩ := mr_ufL hY.2.1 hY.2.2.2.2.2.1 t40 (Or.inl a)
    have hT := hY.2.1
    have hH := hY.2.2.1
    have hF := hY.2.2.2.1
    have hB := hX.1
    have hM := hY.2.2.2.2.2.2.2
    unfold mr_M at hM
    obtain ⟨w, wb, hw⟩ := mj_iw (by omega) th t40 hq (by omega) hH hF hX.2.2.2.2.1 hX.2.2.2.2.2
    by_cases cm : ∃ u, 1 ≤ u ∧ u ≤ 40 ∧ ts u = 3 ∧ mr_iw rf u t q
    · have wn : ¬ w &&& C = 0 := by
        obtain ⟨x, x1, x40, x3, xw⟩ := cm
        exact ml_nz.mpr ⟨x, by omega, ml_andI.mpr ⟨(wb x).mpr ⟨x40, xw⟩, (hB x).2.2.mpr ⟨x40, x3⟩⟩⟩
      exact mx_sr hY hX a t40 hq hx hw (fun _ => br_f (by decide) (hy _ (br_t rfl ⟨41, my_s19 hF t40 q6 40 1 (by omega) (fun _ => ⟨rfl, J⟩) (fun z => absurd cm z)⟩))) (fun z => absurd z wn) (fun z => absurd z wn)
    · have w0 : w &&& C = 0 := ml_z.mpr fun s _ => ts_nt fun z => by
        have y := ml_andI.mp z
        have y1 := (wb s).mp y.1
        have y2 := (hB s).2.2.mp y.2
        exact cm ⟨s, by have := y1.2.1; omega, y1.1, y2.2, y1.2⟩
      have hS0 : ∀ x, (x ≤ 40 ∧ mr_iw rf x t q) → x ≤ 40 ∧ mr_uf ts x := fun x z => by
        refine ⟨z.1, ?_⟩
        obtain ⟨x40, tx, s, st, e⟩ := z
        have r := mr_Fs hF x40 q6 (by omega) e
        rcases hT.2 x (by omega) r.2.2.2.2.1 with y | y | y | y
        · exact Or.inl y
        · exact Or.inr y
        · exact absurd ⟨x, by omega, x40, y, tx, s, st, e⟩ cm
        · exact absurd y r.2.2.2.2.2
      refine mx_sr hY hX a t40 hq hx hw (fun z => absurd w0 z) (fun _ room => br_t rfl (hw _ ?_)) (fun _ nv full => br_f (by decide) (hy _ (br_t rfl ⟨41, my_s19 hF t40 q6 40 1 (by omega) (fun z => absurd z cm) (fun _ => br_t (nI_lt (a := 40) (by omega) (by omega)) (my_noRoom t40 q6 (by omega) (by omega) (fun _ _ => br_f (by decide) ⟨rfl, J⟩) (fun z => ?_)))⟩)))
      · have room' : mr_hv hs t q ∨ mr_held h hs ≠ M := room.imp id fun z => by omega
        refine br_c (fun z => ?_) (fun z => ?_)
        · have no : ∀ u, u ≤ 40 → ¬ mr_iw rf u t q := fun u u40 y => by
            have := ml_z.mp z u (by omega)
            rw [(wb u).mpr ⟨u40, y⟩] at this
            cases this
          have bn : ∀ s, ¬ ma_b rf (fun x => x ≤ 40 ∧ mr_iw rf x t q) s = true := fun s y =>
            (ma_bI.mp y) (fun _ => False) (fun x hx => no x hx.1 hx.2) (fun _ _ _ _ _ _ _ _ h => h)
          obtain ⟨fr', us', sp', vv', rd', ol', nw', rel, sx⟩ := mj_store (w := v3) hY hX a t40 hq no room
          refine sx _ (hy _ (br_t rfl ⟨41, my_seize hY t40 q6 hS0 room' cm fun dm' => ?_⟩))
          rw [mk_t0 bn, mk_h0 bn, mk_h0 bn]
          refine ⟨?_, rel (k + 4) dm'⟩
          rw [show mc_n (ma_b rf (fun x => x ≤ 40 ∧ mr_iw rf x t q)) 1 40 = 0 from mc_zero _ _ fun s _ _ => if_neg (bn s)]
          rfl
        · refine mx_abort (S0 := fun x => x ≤ 40 ∧ mr_iw rf x t q) hY hX hS0 wb fun A' W' fr' us' so' rs' rd' ol' nw' G' own' hX' => ?_
          have hY' := mk_Y (S0 := fun x => x ≤ 40 ∧ mr_iw rf x t q) hY hS0
          have bt : ∀ s, ma_b rf (fun x => x ≤ 40 ∧ mr_iw rf x t q) s = true → t < s := fun s y =>
            (ma_bI.mp y) (fun s => t < s) (fun x hx => hx.2.1) (fun x c s x40 c6 e s1 s40 hs => by
              have := (mr_Fs hF x40 c6 (by omega) e).1
              omega)
          have ntb : ¬ ma_b rf (fun x => x ≤ 40 ∧ mr_iw rf x t q) t = true := fun y => by
            have := bt t y
            omega
          have a' : mk_t (ma_b rf (fun x => x ≤ 40 ∧ mr_iw rf x t q)) 41 ts t = 1 := by rw [mk_tN ntb]; exact a
          have no : ∀ u, u ≤ 40 → ¬ mr_iw (mk_h (ma_b rf (fun x => x ≤ 40 ∧ mr_iw rf x t q)) 41 (-1) rf) u t q := fun u u40 y => by
            obtain ⟨tu, s, st, e⟩ := y
            by_cases b : ma_b rf (fun x => x ≤ 40 ∧ mr_iw rf x t q) u = true
            · rw [mk_hP q6 (by omega) u40 b] at e
              exact absurd e.symm (mr_m1 s (by omega))
            · rw [mk_hN q6 b] at e
              exact b (ma_bI.mpr (ma_in ⟨u40, tu, s, st, e⟩))
          have hle : mr_held h (mk_h (ma_b rf (fun x => x ≤ 40 ∧ mr_iw rf x t q)) 41 0 hs) ≤ mr_held h hs := by
            refine mc_mono _ _ fun s s1 s40 => mc_nmono fun c c0 c6 y => ?_
            have y := mr_hbI.mp y
            refine mr_hbI.mpr ⟨y.1, ?_⟩
            have y2 := y.2
            unfold mr_hv at y2 ⊢
            by_cases b : ma_b rf (fun x => x ≤ 40 ∧ mr_iw rf x t q) s = true
            · rw [mk_hP (by omega) s1 (by omega) b] at y2
              exact absurd rfl y2
            · rw [mk_hN (by omega) b] at y2
              exact y2
          have room2 : mr_hv (mk_h (ma_b rf (fun x => x ≤ 40 ∧ mr_iw rf x t q)) 41 0 hs) t q ∨ mr_held h (mk_h (ma_b rf (fun x => x ≤ 40 ∧ mr_iw rf x t q)) 41 0 hs) < M := by
            refine room.imp (fun y => ?_) (fun y => by omega)
            unfold mr_hv at y ⊢
            rw [mk_hN q6 ntb]
            exact y
          obtain ⟨fr2, us2, sp2, vv2, rd2, ol2, nw2, rel, sx⟩ := mj_store (w := v3) hY' hX' a' t40 hq no room2
          exact sx _ (hy _ (br_t rfl ⟨41, my_seize hY t40 q6 hS0 room' cm fun dm' => ⟨rfl, rel (k + 4) dm'⟩⟩))
      · rcases z with z | z
        · exact absurd z nv
        · exact absurd full z
end
section
theorem mx_fsp (s : Int32) : ∀ (l Q0 : List (Nat × Nat)), (mx_f s l = -1 ∧ ∀ q ∈ l, s < nI q.2) ∨ ∃ Q p R, List.reverseAux Q0 l = List.reverseAux (p :: Q) R ∧ mx_f s l = nI p.1 ∧ ¬ s < nI p.2 ∧ ∀ q ∈ Q, q ∈ Q0 ∨ s < nI q.2 := by
  intro l
  induction l with
  | nil => intro Q0; exact Or.inl ⟨rfl, fun q hq => by cases hq⟩
  | cons p l ih =>
    intro Q0
    by_cases e : s < nI p.2
    · rw [show mx_f s (p :: l) = _ from if_pos e]
      rcases ih (p :: Q0) with ⟨h1, h2⟩ | ⟨Q, r, R, h1, h2, h3, h4⟩
      · refine Or.inl ⟨h1, fun q hq => ?_⟩
        rcases List.mem_cons.mp hq with z | z
        · rw [z]; exact e
        · exact h2 q z
      · refine Or.inr ⟨Q, r, R, h1, h2, h3, fun q hq => ?_⟩
        rcases h4 q hq with z | z
        · rcases List.mem_cons.mp z with y | y
          · rw [y]; exact Or.inr e
          · exact Or.inl y
        · exact Or.inr z
    · rw [show mx_f s (p :: l) = _ from if_neg e]
      exact Or.inr ⟨Q0, p, l, rfl, rfl, e, fun q hq => Or.inl hq⟩
/-- the pool while a loose end is being freed -/
def mr_O2 (K : Nat) (fr us x : Int32) (ol nw : Nat → Int32) (G : Nat → List (Nat × Nat)) (own : Nat → Nat) : Prop := mh_ok ol (mh_hd K nw fr x) G own ∧ us = nI (mh_U G K + (G 7).length) ∧ mh_U G K + (G 6).length + (G 7).length = 38
section
variable {K O M N L h : Nat} {A W C : Int64} {fr us : Int32} {rk rs sp vv ol nw : Nat → Int32} {so rd : Nat → Int64} {ts yk hs yv rf dm : Nat → Int32} {G : Nat → List (Nat × Nat)} {own : Nat → Nat}
theorem mx_doL {post : SX → Prop} (hK : K ≤ 6) : ∀ (R : List (Nat × Nat)) (j : Nat) (fr us x : Int32) (ol : Nat → Int32) (G : Nat → List (Nat × Nat)) (own : Nat → Nat), mr_O2 K fr us x ol nw G own → G 7 = R → j + R.length ≤ 38 → (∀ fr' us' ol' G' own', mr_O K fr' us' (-1) ol' nw G' own' → (∀ i, i < K → G' i = G i) → post (nI K, nI O, nI M, nI N, nI L, nI h, A, W, C, fr', us', rk, so, rs, sp, vv, rd, ol', nw)) → wX_dropOlder_21 post (R.length + 1) x (nI j) (nI K) (nI O) (nI M) (nI N) (nI L) (nI h) A W C fr us rk so rs sp vv rd ol nw := by
  intro R
  induction R with
  | nil =>
    intro j fr us x ol G own hO h7 hj hp
    have hx := (hO.1 7).1
    rw [h7, mh_hd7 hK] at hx
    have hx : x = -1 := hx
    subst hx
    have P := hp fr us ol G own ⟨hO.1, by have := hO.2.1; rw [h7] at this; exact this, hO.2.2⟩ (fun _ _ => rfl)
    exact br_c (fun _ => P) (fun _ => br_t (show (-1 : Int32) < 0 by decide) P)
  | cons p R ih =>
    intro j fr us x ol G own hO h7 hj hp
    have hj : j + (R.length + 1) ≤ 38 := hj
    have hx := (hO.1 7).1
    rw [h7, mh_hd7 hK] at hx
    have hn := mh_next hx
    obtain ⟨rfl, p38, _⟩ := hx
    have e0 : (G 7).length = R.length + 1 := by rw [h7]; rfl
    have e1 := hO.2.1
    have e2 := hO.2.2
    refine br_f (nI_ge (b := 38) (by omega) (by omega)) (br_f (nI_pos (by omega)) ⟨vp_in_nI p38 (by omega), ?_⟩)
    rw [nI_clamp (show p.1 < 2 ^ 31 by omega)]
    refine nm_r hn (And.intro (vp_in_nI p38 (by omega)) ?_)
    rw [nI_clamp (show p.1 < 2 ^ 31 by omega)]
    refine nm_e (nm_e (nm_r (nI_1 j) (ih (j + 1) (nI p.1) (us - 1) (mh_top R) (upd ol p.1 fr) (mh_g (mh_g G 7 R) 6 (p :: G 6)) (fun a => if a = p.1 then 6 else own a) ⟨?_, ?_, ?_⟩ ?_ (by omega) fun fr' us' ol' G' own' h1 h2 => hp fr' us' ol' G' own' h1 fun i iK => ?_)))
    · refine mh_move (Q := []) (R := R) hO.1 (by omega) h7 (mh_hd6 hK) (fun _ => mh_hd7 hK) (fun z => absurd rfl z) (fun i i1 i2 => ?_) ?_ (fun q Q' z => by cases z) (fun a a1 _ => pk_un a1)
      · unfold mh_hd
        rw [if_neg i1, if_neg i1, if_neg i2, if_neg i2]
      · rw [pk_us, mh_hd6 hK]
    · rw [mh_Un hK, mh_Un (by omega), mh_gn (show 7 ≠ 6 by omega), mh_gs, e1, show (1 : Int32) = nI 1 from rfl, pk_sub (by omega)]
      congr 1
      omega
    · rw [mh_Un hK, mh_Un (by omega), mh_gs, mh_gn (show 7 ≠ 6 by omega), mh_gs]
      have : (p :: G 6).length = (G 6).length + 1 := rfl
      omega
    · rw [mh_gn (show 7 ≠ 6 by omega), mh_gs]
    · rw [h2 i iK, mh_gn (by omega), mh_gn (by omega)]
theorem mx_do {post : SX → Prop} {c : Nat} {p : Nat × Nat} {Q R : List (Nat × Nat)} (hK : K ≤ 6) (hc : c < K) (hO : mr_O K fr us (-1) ol nw G own) (hG : G c = List.reverseAux (p :: Q) R) (hp : ∀ fr' us' ol' G' own', mr_O K fr' us' (-1) ol' nw G' own' → G' c = List.reverseAux (p :: Q) [] → (∀ i, i < K → i ≠ c → G' i = G i) → post (nI K, nI O, nI M, nI N, nI L, nI h, A, W, C, fr', us', rk, so, rs, sp, vv, rd, ol', nw)) : wpX_dropOlder post (nI K, nI O, nI M, nI N, nI L, nI h, A, W, C, fr, us, rk, so, rs, sp, vv, rd, ol, nw) (nI p.1) := by
  have h7 := mr_7 hK hO
  have hch := mr_ch hO hc
  rw [hG] at hch
  have ht := mh_tail Q (p :: R) _ hch
  have p38 : p.1 < 38 := ht.2.1
  have hn : ol p.1 = mh_top R := mh_next ht
  have e1 := mh_Ug (G := G) (l := List.reverseAux (p :: Q) []) hc
  rw [hG, mh_rl, mh_rl] at e1
  have e2 : ([] : List (Nat × Nat)).length = 0 := rfl
  have e3 := hO.2.1
  have e4 := hO.2.2
  have e5 : (G 7).length = 0 := by rw [h7]; rfl
  have e6 := mr_len hO hc
  rw [hG, mh_rl] at e6
  refine br_t (nI_pos' (by omega)) ⟨vp_in_nI p38 (by omega), ?_⟩
  rw [nI_clamp (show p.1 < 2 ^ 31 by omega)]
  refine nm_r hn ⟨vp_in_nI p38 (by omega), nm_e ⟨R.length + 1, ?_⟩⟩
  refine mx_doL hK R 0 fr us (mh_top R) _ (mh_g (mh_g G c (List.reverseAux (p :: Q) [])) 7 R) (fun a => if a ∈ R.map Prod.fst then 7 else own a) ⟨?_, ?_, ?_⟩ mh_gs (by omega) fun fr' us' ol' G' own' h1 h2 => hp fr' us' ol' G' own' h1 ?_ fun i iK ic => ?_
  · refine mh_cut hO.1 (by omega) h7 hG (mh_hd7 hK) (fun i i7 => ?_) pk_us (fun a a1 => pk_un a1)
    unfold mh_hd
    rw [if_neg i7, if_neg i7]
  · rw [mh_Un (k := 7) (by omega), mh_gs, e3]
    congr 1
    omega
  · rw [mh_Un (k := 7) (by omega), mh_gn (show 6 ≠ 7 by omega), mh_gn (show 6 ≠ c by omega), mh_gs]
    omega
  · rw [h2 c hc, mh_gn (show c ≠ 7 by omega), mh_gs]
  · rw [h2 i iK, mh_gn (show i ≠ 7 by omega), mh_gn ic]
/-- chains cut below c -/
def mp_S (K w : Nat) (G0 : Nat → List (Nat × Nat)) (c : Nat) (G : Nat → List (Nat × Nat)) : Prop := ∀ i, i < K → (i < c → ∃ Q p R, G0 i = List.reverseAux (p :: Q) R ∧ G i = List.reverseAux (p :: Q) [] ∧ p.2 < w ∧ ∀ q ∈ Q, w ≤ q.2) ∧ (c ≤ i → G i = G0 i)
theorem mx_prL {post : Int32 → SX → Prop} {x1 : Int32} {G0 : Nat → List (Nat × Nat)} (hK : K ≤ 6) (h1 : 1 ≤ h) (h41 : h ≤ 41) (hG0 : ∀ i, i < K → (∀ p ∈ G0 i, sp p.1 = nI p.2 ∧ p.2 ≤ 40) ∧ ∃ p ∈ G0 i, p.2 < h) (hp : ∀ fr' us' ol' G' own', mr_O K fr' us' (-1) ol' nw G' own' → mp_S K h G0 K G' → wX_prune_15 post x1 1 (nI K) (nI K) (nI O) (nI M) (nI N) (nI L) (nI h) A W C fr' us' rk so rs sp vv rd ol' nw) : ∀ (d c : Nat) (fr us : Int32) (ol : Nat → Int32) (G : Nat → List (Nat × Nat)) (own : Nat → Nat), c + d = K → mr_O K fr us (-1) ol nw G own → mp_S K h G0 c G → wX_prune_15 post x1 (d + 1) (nI c) (nI K) (nI O) (nI M) (nI N) (nI L) (nI h) A W C fr us rk so rs sp vv rd ol nw := by
  intro d
  induction d with
  | zero =>
    intro c fr us ol G own hd hO hS
    have : c = K := by omega
    subst this
    exact hp _ _ _ _ _ hO hS
  | succ d ih =>
    intro c fr us ol G own hd hO hS
    have hc : c < K := by omega
    have ge := (hS c hc).2 (Nat.le_refl _)
    have g0 := hG0 c hc
    have eh : nI h - 1 = nI (h - 1) := by
      rw [show (1 : Int32) = nI 1 from rfl, pk_sub (by omega)]
    refine br_f (nI_ge (by omega) (by omega)) ?_
    rw [eh]
    refine mx_aob (G c) (by omega) (mr_ch hO hc) (fun p hp => (g0.1 p (by rw [← ge]; exact hp)).1) (mr_len hO hc) ?_
    rcases mx_fsp (nI (h - 1)) (G c) [] with ⟨_, n⟩ | ⟨Q, p, R, e1, e2, e3, e4⟩
    · obtain ⟨p, pm, ph⟩ := g0.2
      exact absurd (n p (by rw [ge]; exact pm)) (nI_nlt (by omega) (by omega))
    · have e1 : G c = List.reverseAux (p :: Q) R := e1
      rw [e2]
      have p40 := (g0.1 p (by rw [← ge, e1]; exact mh_mem.mpr (Or.inl (List.mem_cons_self ..)))).2
      refine mx_do hK hc hO e1 fun fr' us' ol' G' own' h1 h2 h3 => nm_r (nI_1 c) (ih (c + 1) fr' us' ol' G' own' (by omega) h1 fun i iK => ?_)
      by_cases e : i = c
      · subst e
        refine ⟨fun _ => ⟨Q, p, R, by rw [← ge]; exact e1, h2, ?_, fun q hq => ?_⟩, fun z => by omega⟩
        · rw [nI_ltI (by omega) (by omega)] at e3
          omega
        · rcases e4 q hq with z | z
          · cases z
          · have q40 := (g0.1 q (by rw [← ge, e1]; exact mh_mem.mpr (Or.inl (List.mem_cons_of_mem _ hq)))).2
            rw [nI_ltI (by omega) (by omega)] at z
            omega
      · rw [h3 i iK e]
        exact ⟨fun z => (hS i iK).1 (by omega), fun z => (hS i iK).2 (by omega)⟩
theorem mp_Y {w : Nat} (hY : mr_Y K O M N L h ts hs rf) (hw : h ≤ w) (wL : w ≤ L + 1) (hf : ∀ j, 1 ≤ j → j < w → ¬ mr_uf ts j) : mr_Y K O M N L w ts hs rf := by
  obtain ⟨hP, hT, hH, hF, hC, hZ, hN, hM⟩ := hY
  unfold mr_P at hP
  refine ⟨by unfold mr_P; omega, hT, hH, hF, hC, hf, hN, ?_⟩
  unfold mr_M at hM ⊢
  refine Nat.le_trans (mc_mono _ _ fun s s1 s40 => mc_nmono fun c c0 c6 z => ?_) hM
  have y := mr_hbI.mp z
  exact mr_hbI.mpr ⟨by omega, y.2⟩
theorem mp_X {w : Nat} {fr' us' : Int32} {ol' : Nat → Int32} {G' : Nat → List (Nat × Nat)} {own' : Nat → Nat} (hY : mr_Y K O M N L h ts hs rf) (hX : mr_X K L h A W C fr us rk so rs sp vv rd ol nw ts yk hs yv rf G own) (hw : h ≤ w) (wL : w ≤ L + 1) (hf : ∀ j, 1 ≤ j → j < w → ¬ mr_uf ts j) (hO' : mr_O K fr' us' (-1) ol' nw G' own') (hS : mp_S K w G K G') : mr_X K L w A W C fr' us' rk so rs sp vv rd ol' nw ts yk hs yv rf G' own' := by
  obtain ⟨hP, hT, hH, hF, hC, hZ, hN, hM⟩ := hY
  obtain ⟨hB, hQ, hSo, hR, hG, hO⟩ := hX
  unfold mr_P at hP
  refine ⟨hB, hQ, hSo, fun u c u1 uL uu cK => ?_, fun c hc => ?_, hO'⟩
  · rcases hR u c u1 uL uu cK with z | ⟨a, s, e1, e2, e3⟩
    · exact Or.inl z
    · refine Or.inr ⟨a, s, e1, e2, ?_⟩
      obtain ⟨Q, p, R, g1, g2, g3, g4⟩ := (hS c cK).1 cK
      have so := (hG c cK).1
      rw [g1, mh_so] at so
      have pm : p ∈ G c := by rw [g1]; exact mh_mem.mpr (Or.inl (List.mem_cons_self ..))
      have p40 := ((hG c cK).2.1 p pm).1
      have pv := (((hG c cK).2.2 p.2 p40).mp ⟨p.1, pm⟩).1
      have s40 : s ≤ 40 := ((hG c cK).2.1 _ e3).1
      rw [g1] at e3
      rw [g2]
      rcases mh_mem.mp e3 with y | y
      · exact mh_mem.mpr (Or.inl y)
      · have sp' := so.2.2 p (List.mem_cons_self ..) _ y
        have sp' : s < p.2 := sp'
        have uw : ¬ u < w := fun z => hf u u1 z uu
        exact absurd pv ((mr_Fs hF (by omega) (by omega) (by omega) e1).2.2.1 p.2 sp' (by omega))
  · obtain ⟨Q, p, R, g1, g2, g3, g4⟩ := (hS c hc).1 hc
    have g := hG c hc
    have so := g.1
    rw [g1, mh_so] at so
    have pm : p ∈ G c := by rw [g1]; exact mh_mem.mpr (Or.inl (List.mem_cons_self ..))
    have p40 := (g.2.1 p pm).1
    have pk := (g.2.2 p.2 p40).mp ⟨p.1, pm⟩
    have sub : ∀ r ∈ G' c, r ∈ G c := fun r hr => by
      rw [g2] at hr
      rw [g1]
      rcases mh_mem.mp hr with y | y
      · exact mh_mem.mpr (Or.inl y)
      · cases y
    have npw : ∀ x, p.2 < x → x < w → x ≤ 40 → ¬ mr_hv hs x c := fun x x1 x2 x40 xv => by
      rcases Nat.lt_or_ge x h with z | z
      · exact pk.2 x x1 z xv
      · obtain ⟨b, hb⟩ := (g.2.2 x x40).mpr ⟨xv, fun y y1 y2 => by omega⟩
        rw [g1] at hb
        rcases mh_mem.mp hb with y | y
        · rcases List.mem_cons.mp y with y | y
          · have : x = p.2 := congrArg Prod.snd y
            omega
          · have := g4 _ y
            have : w ≤ x := this
            omega
        · have := so.2.2 p (List.mem_cons_self ..) _ y
          have : x < p.2 := this
          omega
    refine ⟨by rw [g2, mh_so]; exact ⟨so.1, List.Pairwise.nil, fun a _ b hb => by cases hb⟩, fun r hr => g.2.1 r (sub r hr), fun s s40 => ?_⟩
    constructor
    · rintro ⟨a, ha⟩
      have k := (g.2.2 s s40).mp ⟨a, sub _ ha⟩
      refine ⟨k.1, fun x x1 x2 xv => ?_⟩
      rw [g2] at ha
      rcases mh_mem.mp ha with y | y
      · rcases List.mem_cons.mp y with y | y
        · have : s = p.2 := congrArg Prod.snd y
          exact npw x (by omega) x2 (by omega) xv
        · have := g4 _ y
          have : w ≤ s := this
          omega
      · cases y
    · rintro ⟨sv, sn⟩
      have ps : p.2 ≤ s := by
        apply Classical.byContradiction
        intro z
        exact sn p.2 (by omega) g3 pk.1
      have ks : mr_kp h hs c s := by
        refine ⟨sv, fun x x1 x2 => sn x x1 (by omega)⟩
      obtain ⟨b, hb⟩ := (g.2.2 s s40).mpr ks
      refine ⟨b, ?_⟩
      rw [g1] at hb
      rw [g2]
      rcases mh_mem.mp hb with y | y
      · exact mh_mem.mpr (Or.inl y)
      · have := so.2.2 p (List.mem_cons_self ..) _ y
        have : s < p.2 := this
        omega
end
theorem i_vc_prune {k : Nat} {u : SX} {v : SY} (I : i_Rel k u v) (hk : k + 4 ≤ 2052) : wpX_prune (fun r u' => wpY_prune (fun r' v' => r' = r ∧ i_Rel (k + 4) u' v') v) u := by
  refine I (fun u v => wpX_prune (fun r u' => wpY_prune (fun r' v' => r' = r ∧ i_Rel (k + 4) u' v') v) u) ?_
  intro K O M N L h A W C fr us rk so rs sp vv rd ol nw ts yk hs yv rf dm G own hY hX
  have P := hY.1
  unfold mr_P at P
  have hG := hX.2.2.2.2.1
  have hO := hX.2.2.2.2.2
  have hH := hY.2.2.1
  obtain ⟨w, hw, wL, hf, wx, wy⟩ := mj_wm hY.1 hY.2.1 hY.2.2.2.2.2.1 hX.1
  have hY' := mp_Y hY hw wL hf
  unfold wpX_prune wpY_prune
  refine mx_held (mj_U hY.1 hH hG hO) (wx _ (Exists.intro (K + 1) ?_))
  refine mx_prL (G0 := G) (by omega) (by omega) (by omega) (fun i iK => ⟨fun p hp => ⟨((hG i iK).2.1 p hp).2.1, ((hG i iK).2.1 p hp).1⟩, ?_⟩) (fun fr' us' ol' G' own' h1 h2 => ?_) K 0 fr us ol G own (by omega) hO (fun i iK => ⟨fun z => by omega, fun _ => rfl⟩)
  · obtain ⟨s0, a, b, c⟩ := mr_new (hH.1 i (by omega)) h (by omega)
    obtain ⟨a0, m0⟩ := ((hG i iK).2.2 s0 (by omega)).mpr ⟨b, c⟩
    exact ⟨_, m0, by show s0 < w; omega⟩
  · have hX' := mp_X hY hX hw wL hf h1 h2
    refine br_t (Int32.le_refl _) (mx_held (mj_U hY'.1 hY'.2.2.1 hX'.2.2.2.2.1 hX'.2.2.2.2.2) ?_)
    exact my_held (by omega) (wy _ (my_held (by omega) ⟨rfl, mr_in hY' hX'⟩))
end
section
section
variable {K O M N L h : Nat} {A W C : Int64} {fr us : Int32} {rk rs sp vv ol nw : Nat → Int32} {so rd : Nat → Int64} {ts yk hs yv rf dm : Nat → Int32} {G : Nat → List (Nat × Nat)} {own : Nat → Nat}
/-- a new epoch, the reference -/
theorem mi_Y (hP : mr_P K O M N 0 1) (t0 : ∀ s, s ≤ 40 → ts s = 0) (r0 : ∀ c, c < 246 → rf c = -1) (h1 : ∀ c, c < 6 → hs c = 1) (h0 : ∀ c, 6 ≤ c → c < 246 → hs c = 0) : mr_Y K O M N 0 1 ts hs rf := by
  have nv : ∀ s c, 1 ≤ s → s ≤ 40 → c < 6 → ¬ mr_hv hs s c := fun s c s1 s40 c6 z => z (h0 _ (by omega) (by omega))
  have nu : ∀ s, s ≤ 40 → ¬ mr_uf ts s := fun s s40 z => by
    rcases z with z | z
    · rw [t0 s s40] at z; exact absurd z (by decide)
    · rw [t0 s s40] at z; exact absurd z (by decide)
  refine ⟨hP, ⟨fun s s40 _ => t0 s s40, fun s s1 sL => by omega⟩, ⟨fun c c6 z => ?_, fun s c s1 s40 c6 z => absurd z (nv s c s1 s40 c6)⟩, fun u c u40 c6 => Or.inl (r0 _ (by omega)), fun u c s u40 c6 d => ?_, fun s s1 sh => by omega, ?_, ?_⟩
  · rw [h1 (0 * 6 + c) (by omega)] at z
    exact absurd z (by decide)
  · rw [t0 u u40] at d
    exact absurd d (by decide)
  · unfold mr_N
    rw [show mc_n (mr_ub ts) 1 40 = 0 from mc_zero _ _ fun s s1 s40 => if_neg fun z => nu s (by omega) (mr_ubI.mp z)]
    exact Nat.zero_le _
  · unfold mr_M
    rw [show mr_held 1 hs = 0 from mc_zero _ _ fun s s1 s40 => mc_zero _ _ fun c c0 c6 => if_neg fun z => nv s c s1 (by omega) (by omega) (mr_hbI.mp z).2]
    exact Nat.zero_le _
/-- a new epoch, the component -/
theorem mi_X (hK : K ≤ 6) (t0 : ∀ s, s ≤ 40 → ts s = 0) (y0 : ∀ s, s ≤ 40 → yk s = 0) (r0 : ∀ c, c < 246 → rf c = -1) (h1 : ∀ c, c < 6 → hs c = 1) (h0 : ∀ c, 6 ≤ c → c < 246 → hs c = 0) (g : ∀ c, c < K → ∃ a, G c = [(a, 0)] ∧ sp a = 0 ∧ vv a = yv c ∧ rd a = 0) (hO : mr_O K fr us (-1) ol nw G own) : mr_X K 0 1 0 0 0 fr us rk so rs sp vv rd ol nw ts yk hs yv rf G own := by
  refine ⟨fun s => ?_, ⟨fun s s1 sL => by omega, fun s _ s40 => y0 s s40⟩, fun u u1 uL => by omega, fun u c u1 uL => by omega, fun c hc => ?_, hO⟩
  · have n : ∀ x : Int32, x ≠ 0 → ¬ (s ≤ 40 ∧ ts s = x) := fun x hx z => by
      rw [t0 s z.1] at z
      exact hx z.2.symm
    rw [ml_0]
    exact ⟨⟨fun z => (by cases z), fun z => absurd z (n 1 (by decide))⟩, ⟨fun z => (by cases z), fun z => absurd z (n 2 (by decide))⟩, ⟨fun z => (by cases z), fun z => absurd z (n 3 (by decide))⟩⟩
  · obtain ⟨a, e, a1, a2, a3⟩ := g c hc
    rw [e]
    refine ⟨List.pairwise_cons.mpr ⟨fun b hb => (by cases hb), List.Pairwise.nil⟩, fun p hp => ?_, fun s s40 => ?_⟩
    · have hp : p = (a, 0) := by
        rcases List.mem_cons.mp hp with z | z
        · exact z
        · cases z
      subst hp
      refine ⟨by omega, a1, ?_, fun u => ?_⟩
      · show vv a = yv (0 * 6 + c)
        rw [Nat.zero_mul, Nat.zero_add]; exact a2
      · show ml_b (rd a) u = true ↔ 1 ≤ u ∧ u ≤ 40 ∧ rf (u * 6 + c) = nI 0
        rw [a3, ml_0]
        constructor
        · intro z; cases z
        · rintro ⟨_, u40, z⟩
          rw [r0 _ (by omega)] at z
          exact absurd z (by decide)
    · have e0 : (∃ b, (b, s) ∈ [(a, 0)]) ↔ s = 0 := by
        constructor
        · rintro ⟨b, hb⟩
          rcases List.mem_cons.mp hb with z | z
          · exact congrArg Prod.snd z
          · cases z
        · intro z; exact ⟨a, by rw [z]; exact List.mem_cons_self ..⟩
      rw [e0]
      constructor
      · intro z
        subst z
        refine ⟨fun z => ?_, fun x x1 x2 => by omega⟩
        rw [h1 (0 * 6 + c) (by omega)] at z
        exact absurd z (by decide)
      · intro z
        apply Classical.byContradiction
        intro y
        exact z.1 (h0 _ (by omega) (by omega))
theorem my_f40 {post : SY → Prop} {yv0 : Nat → Int32} (hp : ∀ hs' yv' rf', (∀ c, c < 246 → rf' c = -1) → (∀ c, c < 6 → hs' c = 1) → (∀ c, 6 ≤ c → c < 246 → hs' c = 0) → (∀ c, c < 6 → yv' c = yv0 c) → post (nI K, nI O, nI M, nI N, nI L, nI h, ts, yk, hs', yv', rf', dm)) : ∀ (d i : Nat) (hs yv rf : Nat → Int32), i + d = 246 → (∀ c, c < i → rf c = -1) → (∀ c, c < i → c < 6 → hs c = 1) → (∀ c, 6 ≤ c → c < i → hs c = 0) → (∀ c, c < 6 → yv c = yv0 c) → wY_forget_40 post (nI K) (nI O) (nI M) (nI N) (nI L) (nI h) (d + 1) (nI i) ts yk hs yv rf dm := by
  intro d
  induction d with
  | zero =>
    intro i hs yv rf hi h1 h2 h3 h4
    exact br_t (nI_le (a := 246) (by omega) (by omega)) (hp hs yv rf (fun c hc => h1 c (by omega)) (fun c hc => h2 c (by omega) hc) (fun c c1 c2 => h3 c c1 (by omega)) h4)
  | succ d ih =>
    intro i hs yv rf hi h1 h2 h3 h4
    have r : ∀ c, c < i + 1 → upd rf i (-1) c = -1 := fun c hc => by
      by_cases e : c = i
      · rw [e, pk_us]
      · rw [pk_un e]; exact h1 c (by omega)
    refine br_f (nI_ge (b := 246) (by omega) (by omega)) ⟨vp_in_nI (by omega) (by omega), ?_⟩
    rw [nI_clamp (by omega)]
    refine nm_e ?_
    by_cases z : 6 ≤ i
    · refine br_t (nI_le (a := 6) z (by omega)) ?_
      unfold wY_forget_70
      rw [nI_clamp (by omega)]
      refine ⟨vp_in_nI (by omega) (by omega), nm_e (br_f (nI_nlt (b := 6) z (by omega)) ⟨vp_in_nI (by omega) (by omega), nm_e (nm_r (nI_1 i) (ih (i + 1) _ _ _ (by omega) r (fun c c1 c6 => ?_) (fun c c6 c1 => ?_) (fun c c6 => ?_)))⟩)⟩
      · rw [pk_un (by omega)]; exact h2 c (by omega) c6
      · by_cases e : c = i
        · rw [e, pk_us]; rfl
        · rw [pk_un e]; exact h3 c c6 (by omega)
      · rw [pk_un (by omega)]; exact h4 c c6
    · refine br_f (nI_ge (b := 6) (by omega) (by omega)) ?_
      unfold wY_forget_70
      rw [nI_clamp (by omega)]
      refine ⟨vp_in_nI (by omega) (by omega), nm_e (br_t (nI_lt (b := 6) (by omega) (by omega)) (nm_r (nI_1 i) (ih (i + 1) _ yv _ (by omega) r (fun c c1 c6 => ?_) (fun c c6 c1 => by omega) h4)))⟩
      by_cases e : c = i
      · rw [e, pk_us]; rfl
      · rw [pk_un e]; exact h2 c (by omega) c6
theorem my_f12 {post : SY → Prop} (hp : ∀ ts' yk' hs' yv' rf', (∀ s, s ≤ 40 → ts' s = 0) → (∀ s, s ≤ 40 → yk' s = 0) → (∀ c, c < 246 → rf' c = -1) → (∀ c, c < 6 → hs' c = 1) → (∀ c, 6 ≤ c → c < 246 → hs' c = 0) → (∀ c, c < 6 → yv' c = yv c) → post (nI K, nI O, nI M, nI N, nI L, nI h, ts', yk', hs', yv', rf', dm)) : ∀ (d i : Nat) (ts yk : Nat → Int32), i + d = 41 → (∀ s, s < i → ts s = 0 ∧ yk s = 0) → wY_forget_12 post (nI K) (nI O) (nI M) (nI N) (nI L) (nI h) (d + 1) (nI i) ts yk hs yv rf dm := by
  intro d
  induction d with
  | zero =>
    intro i ts yk hi h1
    exact br_t (nI_le (a := 41) (by omega) (by omega)) ⟨247, my_f40 (yv0 := yv) (fun hs' yv' rf' a b c d => hp ts yk hs' yv' rf' (fun s hs => (h1 s (by omega)).1) (fun s hs => (h1 s (by omega)).2) a b c d) 246 0 hs yv rf (by omega) (fun c hc => by omega) (fun c hc => by omega) (fun c c1 c2 => by omega) (fun _ _ => rfl)⟩
  | succ d ih =>
    intro i ts yk hi h1
    refine br_f (nI_ge (b := 41) (by omega) (by omega)) ⟨vp_in_nI (by omega) (by omega), ?_⟩
    rw [nI_clamp (by omega)]
    refine nm_e ⟨vp_in_nI (by omega) (by omega), nm_e (nm_r (nI_1 i) (ih (i + 1) _ _ (by omega) fun s hs => ?_))⟩
    by_cases e : s = i
    · rw [e, pk_us, pk_us]; exact ⟨rfl, rfl⟩
    · rw [pk_un e, pk_un e]; exact h1 s (by omega)
theorem my_forget {post : SY → Prop} (hp : ∀ ts' yk' hs' yv' rf', (∀ s, s ≤ 40 → ts' s = 0) → (∀ s, s ≤ 40 → yk' s = 0) → (∀ c, c < 246 → rf' c = -1) → (∀ c, c < 6 → hs' c = 1) → (∀ c, 6 ≤ c → c < 246 → hs' c = 0) → (∀ c, c < 6 → yv' c = yv c) → post (nI K, nI O, nI M, nI N, nI 0, nI 1, ts', yk', hs', yv', rf', dm)) {l0 h0 : Int32} : wpY_forget post (nI K, nI O, nI M, nI N, l0, h0, ts, yk, hs, yv, rf, dm) :=
  Exists.intro 42 (my_f12 (L := 0) (h := 1) hp 41 0 ts yk (by omega) fun s hs => by omega)
/-- the newest value of key q goes to its base -/
theorem my_rn20 {post : Int32 → SY → Prop} {J : Int32 → (Nat → Int32) → (Nat → Int32) → (Nat → Int32) → (Nat → Int32) → (Nat → Int32) → (Nat → Int32) → Prop} {q s0 : Nat} {V : Int32} {yv0 : Nat → Int32} (q6 : q < 6) (s40 : s0 ≤ 40) (hv : mr_hv hs s0 q) (hn : ∀ x, s0 < x → x ≤ 40 → ¬ mr_hv hs x q) (hV : V = yv0 (s0 * 6 + q)) (hp : ∀ yv', yv' q = V → (∀ j, j ≠ q → yv' j = yv0 j) → J (nI (q + 1)) ts yk hs yv' rf dm) : ∀ (d i : Nat) (yv : Nat → Int32), 1 ≤ i → i + d = 41 → (s0 < i → yv q = V) → (∀ j, j ≠ q → yv j = yv0 j) → wY_renew_20 post J (nI q) (nI K) (nI O) (nI M) (nI N) (nI L) (nI h) (d + 1) (nI i) ts yk hs yv rf dm := by
  intro d
  induction d with
  | zero =>
    intro i yv i1 hi h1 h2
    exact br_t (nI_lt (a := 40) (by omega) (by omega)) (nm_r (nI_1 q) (hp yv (h1 (by omega)) h2))
  | succ d ih =>
    intro i yv i1 hi h1 h2
    refine br_f (nI_nlt (a := 40) (by omega) (by omega)) ?_
    rw [mr_ix, mr_cl (by omega), nI_clamp (n := q) (by omega)]
    refine ⟨vp_in_nI (by omega) (by omega), br_c (fun z => nm_r (nI_1 i) (ih (i + 1) yv (by omega) (by omega) (fun y => h1 ?_) h2)) (fun z => ⟨vp_in_nI (by omega) (by omega), vp_in_nI (by omega) (by omega), nm_e (nm_r (nI_1 i) (ih (i + 1) _ (by omega) (by omega) (fun y => ?_) (fun j hj => ?_)))⟩)⟩
    · have : s0 ≠ i := fun w => hv (by rw [w]; exact z)
      omega
    · have : ¬ s0 < i := fun w => hn i w (by omega) z
      have : i = s0 := by omega
      subst this
      rw [pk_us, h2 _ (by omega)]
      exact hV.symm
    · rw [pk_un hj]; exact h2 j hj
theorem my_rn12 {post : Int32 → SY → Prop} {s0 : Nat → Nat} {yv0 : Nat → Int32} (hv : ∀ q, q < 6 → s0 q ≤ 40 ∧ mr_hv hs (s0 q) q ∧ ∀ x, s0 q < x → x ≤ 40 → ¬ mr_hv hs x q) (hp : ∀ yv', (∀ q, q < 6 → yv' q = yv0 (s0 q * 6 + q)) → wY_renew_12 post (nI K) (nI O) (nI M) (nI N) (nI L) (nI h) 1 (nI 6) ts yk hs yv' rf dm) : ∀ (d q : Nat) (yv : Nat → Int32), q + d = 6 → (∀ c, c < q → yv c = yv0 (s0 c * 6 + c)) → (∀ j, q ≤ j → yv j = yv0 j) → wY_renew_12 post (nI K) (nI O) (nI M) (nI N) (nI L) (nI h) (d + 1) (nI q) ts yk hs yv rf dm := by
  intro d
  induction d with
  | zero =>
    intro q yv hq h1 h2
    have : q = 6 := by omega
    subst this
    exact hp yv h1
  | succ d ih =>
    intro q yv hq h1 h2
    have t := hv q (by omega)
    refine br_f (nI_ge (b := 6) (by omega) (by omega)) ⟨41, my_rn20 (s0 := s0 q) (yv0 := yv) (by omega) t.1 t.2.1 t.2.2 rfl (fun yv' a b => ih (q + 1) yv' (by omega) (fun c hc => ?_) (fun j hj => ?_)) 40 1 yv (by omega) (by omega) (fun z => ?_) (fun _ _ => rfl)⟩
    · by_cases e : c = q
      · subst e
        rw [a]
        by_cases z : s0 c = 0
        · rw [z]; exact h2 _ (by omega)
        · exact h2 _ (by omega)
      · rw [b c e]; exact h1 c (by omega)
    · rw [b j (by omega)]; exact h2 j (by omega)
    · have : s0 q = 0 := by omega
      rw [this, Nat.zero_mul, Nat.zero_add]
/-- one slot, another stamp -/
theorem mr_relab {c s : Nat} {p : Nat × Nat} (hK : K ≤ 6) (hc : c < K) (hO : mr_O K fr us (-1) ol nw G own) (e : G c = [p]) : mr_O K fr us (-1) ol nw (mh_g G c [(p.1, s)]) own := by
  have e1 := mh_Ug (G := G) (l := [(p.1, s)]) hc
  rw [e] at e1
  have e2 : mh_U (mh_g G c [(p.1, s)]) K = mh_U G K := by
    have a : [p].length = 1 := rfl
    have b : [(p.1, s)].length = 1 := rfl
    omega
  refine ⟨fun i => ?_, by rw [e2]; exact hO.2.1, by rw [e2, mh_gn (show 6 ≠ c by omega), mh_gn (show 7 ≠ c by omega)]; exact hO.2.2⟩
  by_cases z : i = c
  · subst z
    rw [mh_gs]
    have t := hO.1 i
    rw [e] at t
    refine ⟨t.1, List.pairwise_cons.mpr ⟨fun b hb => (by cases hb), List.Pairwise.nil⟩, fun r hr => ?_⟩
    rcases List.mem_cons.mp hr with y | y
    · rw [y]; exact t.2.2 p (List.mem_cons_self ..)
    · cases y
  · rw [mh_gn z]; exact hO.1 i
/-- chains renewed below c -/
def mn_S (K : Nat) (G0 : Nat → List (Nat × Nat)) (c : Nat) (G : Nat → List (Nat × Nat)) (sp : Nat → Int32) (rd : Nat → Int64) : Prop := ∀ i, i < K → (i < c → ∃ p R, G0 i = p :: R ∧ G i = [(p.1, 0)] ∧ sp p.1 = 0 ∧ rd p.1 = 0) ∧ (c ≤ i → G i = G0 i)
theorem mx_rnL {post : Int32 → SX → Prop} {G0 : Nat → List (Nat × Nat)} (hK : K ≤ 6) (hG0 : ∀ i, i < K → G0 i ≠ []) (hp : ∀ fr' us' sp' rd' ol' G' own', mr_O K fr' us' (-1) ol' nw G' own' → mn_S K G0 K G' sp' rd' → wX_renew_19 post 1 (nI K) (nI K) (nI O) (nI M) (nI N) (nI L) (nI h) A W C fr' us' rk so rs sp' vv rd' ol' nw) : ∀ (d c : Nat) (fr us : Int32) (sp : Nat → Int32) (rd : Nat → Int64) (ol : Nat → Int32) (G : Nat → List (Nat × Nat)) (own : Nat → Nat), c + d = K → mr_O K fr us (-1) ol nw G own → mn_S K G0 c G sp rd → wX_renew_19 post (d + 1) (nI c) (nI K) (nI O) (nI M) (nI N) (nI L) (nI h) A W C fr us rk so rs sp vv rd ol nw := by
  intro d
  induction d with
  | zero =>
    intro c fr us sp rd ol G own hd hO hS
    have : c = K := by omega
    subst this
    exact hp _ _ _ _ _ _ _ hO hS
  | succ d ih =>
    intro c fr us sp rd ol G own hd hO hS
    have hc : c < K := by omega
    have ge := (hS c hc).2 (Nat.le_refl _)
    cases g0 : G0 c with
    | nil => exact absurd g0 (hG0 c hc)
    | cons p R =>
      have gc : G c = List.reverseAux [p] R := by rw [ge, g0]; rfl
      have hch := mr_ch hO hc
      rw [ge, g0] at hch
      have p38 : p.1 < 38 := hch.2.1
      refine br_f (nI_ge (by omega) (by omega)) ⟨vp_in_nI (by omega) (by omega), ?_⟩
      rw [nI_clamp (by omega)]
      refine nm_r hch.1 (mx_do hK hc hO gc fun fr' us' ol' G' own' h1 h2 h3 => ?_)
      rw [nI_clamp (show p.1 < 2 ^ 31 by omega)]
      have h2 : G' c = [p] := h2
      refine ⟨vp_in_nI p38 (by omega), nm_e ⟨vp_in_nI p38 (by omega), nm_e (nm_r (nI_1 c) (ih (c + 1) fr' us' _ _ ol' (mh_g G' c [(p.1, 0)]) own' (by omega) (mr_relab hK hc h1 h2) fun i iK => ?_))⟩⟩
      by_cases e : i = c
      · subst e
        exact ⟨fun _ => ⟨p, R, g0, mh_gs, pk_us, pk_uLs⟩, fun z => by omega⟩
      · rw [mh_gn e, h3 i iK e]
        refine ⟨fun z => ?_, fun z => (hS i iK).2 (by omega)⟩
        obtain ⟨r, R', r1, r2, r3, r4⟩ := (hS i iK).1 (by omega)
        have ne : r.1 ≠ p.1 := fun z => e (mr_key h1 (p := (r.1, 0)) (q := p) (by rw [h3 i iK e, r2]; exact List.mem_cons_self ..) (by rw [h2]; exact List.mem_cons_self ..) z)
        exact ⟨r, R', r1, r2, by rw [pk_un ne]; exact r3, by rw [pk_uLn ne]; exact r4⟩
end
theorem i_vc_renew {k : Nat} {u : SX} {v : SY} (I : i_Rel k u v) (hk : k + 4 ≤ 2052) : wpX_renew (fun r u' => wpY_renew (fun r' v' => r' = r ∧ i_Rel (k + 4) u' v') v) u := by
  refine I (fun u v => wpX_renew (fun r u' => wpY_renew (fun r' v' => r' = r ∧ i_Rel (k + 4) u' v') v) u) ?_
  intro K O M N L h A W C fr us rk so rs sp vv rd ol nw ts yk hs yv rf dm G own hY hX
  have J : i_Rel (k + 4) (nI K, nI O, nI M, nI N, nI L, nI h, A, W, C, fr, us, rk, so, rs, sp, vv, rd, ol, nw) (nI K, nI O, nI M, nI N, nI L, nI h, ts, yk, hs, yv, rf, dm) := mr_in hY hX
  have P := hY.1
  unfold mr_P at P
  have hB := hX.1
  have hG := hX.2.2.2.2.1
  have hO := hX.2.2.2.2.2
  have hH := hY.2.2.1
  have hT := hY.2.1
  have c40 : mc_n (mr_ub ts) 1 40 ≤ 40 := mc_le _ _ _
  unfold wpY_renew
  by_cases e : A ||| W = 0
  · have c0 : mc_n (mr_ub ts) 1 40 = 0 := mc_zero _ _ fun s s1 s40 => if_neg fun z => by
      have := ml_z.mp e s (by omega)
      rw [(mr_AW hB s).mpr ⟨by omega, mr_ubI.mp z⟩] at this
      cases this
    obtain ⟨s0, hs0⟩ : ∃ s0 : Nat → Nat, ∀ q, q < 6 → s0 q ≤ 40 ∧ mr_hv hs (s0 q) q ∧ ∀ x, s0 q < x → x ≤ 40 → ¬ mr_hv hs x q := by
      refine ⟨fun q => if hq : q < 6 then (mr_max (p := fun s => mr_hv hs s q) (hH.1 q hq) 40).choose else 0, fun q q6 => ?_⟩
      dsimp only
      rw [dif_pos q6]
      exact (mr_max (p := fun s => mr_hv hs s q) (hH.1 q q6) 40).choose_spec
    have top : ∀ c, c < K → ∃ b R, G c = (b, s0 c) :: R := fun c hc => by
      have g := hG c hc
      have t := hs0 c (by omega)
      obtain ⟨b, hb⟩ := (g.2.2 (s0 c) t.1).mpr ⟨t.2.1, fun x x1 x2 => t.2.2 x x1 (by omega)⟩
      cases gc : G c with
      | nil => rw [gc] at hb; cases hb
      | cons p R =>
        have pm : p ∈ G c := by rw [gc]; exact List.mem_cons_self ..
        have p40 := (g.2.1 p pm).1
        have pv := ((g.2.2 p.2 p40).mp ⟨p.1, pm⟩).1
        have ps : p.2 = s0 c := by
          rcases Nat.lt_trichotomy p.2 (s0 c) with z | z | z
          · rw [gc] at hb
            rcases List.mem_cons.mp hb with y | y
            · have : s0 c = p.2 := congrArg Prod.snd y
              omega
            · have so := g.1
              rw [gc, List.pairwise_cons] at so
              have := so.1 _ y
              have : s0 c < p.2 := this
              omega
          · exact z
          · exact absurd pv (t.2.2 p.2 z p40)
        exact ⟨p.1, R, by rw [← ps]⟩
    refine br_t e (Exists.intro (K + 1) ?_)
    refine mx_rnL (G0 := G) (by omega) (fun i iK z => ?_) (fun fr' us' sp' rd' ol' G' own' h1 h2 => ?_) K 0 fr us sp rd ol G own (by omega) hO (fun i iK => ⟨fun z => by omega, fun _ => rfl⟩)
    · obtain ⟨b, R, y⟩ := top i iK
      rw [y] at z
      cases z
    · refine br_t (Int32.le_refl _) (my_cu ?_)
      rw [c0]
      refine br_t (by decide) ⟨7, my_rn12 hs0 (yv0 := yv) (fun yv' hyv => br_t (Int32.le_refl _) ?_) 6 0 yv (by omega) (fun c hc => by omega) (fun _ _ => rfl)⟩
      refine my_forget fun ts2 yk2 hs2 yv2 rf2 a1 a2 a3 a4 a5 a6 => ⟨rfl, ?_⟩
      have P0 : mr_P K O M N 0 1 := by unfold mr_P; omega
      refine mr_in (L := 0) (h := 1) (mi_Y P0 a1 a3 a4 a5) (mi_X (by omega) a1 a2 a3 a4 a5 (fun c hc => ?_) h1)
      obtain ⟨p, R, r1, r2, r3, r4⟩ := (h2 c hc).1 hc
      obtain ⟨b, R', y⟩ := top c hc
      rw [y] at r1
      have pe : p = (b, s0 c) := (List.cons.inj r1).1.symm
      have pv := (hG c hc).2.1 (b, s0 c) (by rw [y]; exact List.mem_cons_self ..)
      refine ⟨p.1, r2, r3, ?_, r4⟩
      rw [a6 c (by omega), hyv c (by omega), pe]
      exact pv.2.2.1
  · have c1 : 0 < mc_n (mr_ub ts) 1 40 := by
      obtain ⟨s, s64, sb⟩ := ml_nz.mp e
      have sb := (mr_AW hB s).mp sb
      have sl := mr_ufL hT hY.2.2.2.2.2.1 sb.1 sb.2
      exact mc_pos (a := s) sl.1 (by omega) (mr_ubI.mpr sb.2)
    exact br_f e (my_cu (br_f (nI_nle c1 (by omega)) ⟨rfl, J⟩))
end
section
theorem mj_clamp (p : Int32) (lo hi : Nat) (hl : lo ≤ hi) (hh : hi < 2 ^ 31) : ∃ n, lo ≤ n ∧ n ≤ hi ∧ (∀ (u : SX) (post : Int32 → Prop), post (nI n) → wpX_clamp post u p (nI lo) (nI hi)) ∧ (∀ (v : SY) (post : Int32 → Prop), post (nI n) → wpY_clamp post v p (nI lo) (nI hi)) := by
  have key : ∃ n, lo ≤ n ∧ n ≤ hi ∧ ∀ post : Int32 → Prop, post (nI n) → ((nI lo ≤ p → (((p ≤ nI hi → (post p)) ∧ (¬ p ≤ nI hi → (post (nI hi)))))) ∧ (¬ nI lo ≤ p → (post (nI lo)))) := by
    by_cases a : nI lo ≤ p
    · by_cases b : p ≤ nI hi
      · have n0 : ¬ p < 0 := fun z => absurd (Int32.lt_of_le_of_lt a z) (nI_pos (by omega))
        obtain ⟨n, hn, rfl⟩ := nI_of n0
        rw [nI_leI (by omega) hn] at a
        rw [nI_leI hn hh] at b
        exact ⟨n, a, b, fun post hp => br_t (nI_le a hn) (br_t (nI_le b hh) hp)⟩
      · exact ⟨hi, hl, Nat.le_refl _, fun post hp => br_t a (br_f b hp)⟩
    · exact ⟨lo, Nat.le_refl _, hl, fun post hp => br_f a hp⟩
  obtain ⟨n, a, b, c⟩ := key
  refine ⟨n, a, b, fun u post hp => ?_, fun v post hp => ?_⟩
  · obtain ⟨_, _, _, _, _, _, _, _, _, _, _, _, _, _, _, _, _, _, _⟩ := u
    exact c post hp
  · obtain ⟨_, _, _, _, _, _, _, _, _, _, _, _⟩ := v
    exact c post hp
/-- the free slots a, a+1, .. -/
def mi_l : Nat → Nat → List (Nat × Nat)
  | _, 0 => []
  | a, d + 1 => (a, 0) :: mi_l (a + 1) d
theorem mi_len : ∀ d a, (mi_l a d).length = d := by
  intro d
  induction d with
  | zero => intro a; rfl
  | succ d ih => intro a; show (mi_l (a + 1) d).length + 1 = d + 1; rw [ih]
theorem mi_mem : ∀ d a, ∀ p ∈ mi_l a d, a ≤ p.1 := by
  intro d
  induction d with
  | zero => intro a p hp; cases hp
  | succ d ih =>
    intro a p hp
    rcases List.mem_cons.mp hp with z | z
    · rw [z]; exact Nat.le_refl _
    · have := ih (a + 1) p z
      omega
theorem mi_nd : ∀ d a, (mi_l a d).Pairwise (fun p q => p.1 ≠ q.1) := by
  intro d
  induction d with
  | zero => intro a; exact List.Pairwise.nil
  | succ d ih =>
    intro a
    refine List.pairwise_cons.mpr ⟨fun q hq => ?_, ih (a + 1)⟩
    have := mi_mem d (a + 1) q hq
    show a ≠ q.1
    omega
theorem mi_ch {ol : Nat → Int32} (h37 : ol 37 = -1) : ∀ d a, a + (d + 1) = 38 → (∀ s, a ≤ s → s < 37 → ol s = nI (s + 1)) → mh_ch ol (nI a) (mi_l a (d + 1)) := by
  intro d
  induction d with
  | zero =>
    intro a ha _
    have : a = 37 := by omega
    subst this
    exact ⟨rfl, by omega, h37⟩
  | succ d ih =>
    intro a ha h1
    refine ⟨rfl, by omega, ?_⟩
    show mh_ch ol (ol a) (mi_l (a + 1) (d + 1))
    rw [h1 a (by omega) (by omega)]
    exact ih (a + 1) (by omega) fun s s1 s2 => h1 s (by omega) s2
def mi_G (K : Nat) : Nat → List (Nat × Nat) := fun i => if i < K then [(i, 0)] else if i = 6 then mi_l K (38 - K) else []
def mi_o (K : Nat) : Nat → Nat := fun a => if a < K then a else 6
theorem mi_O {K : Nat} {ol nw : Nat → Int32} (hK : K ≤ 6) (h1 : ∀ s, s < K → ol s = -1 ∧ nw s = nI s) (h2 : ∀ s, K ≤ s → s < 37 → ol s = nI (s + 1)) (h37 : ol 37 = -1) : mr_O K (nI K) (nI K) (-1) ol nw (mi_G K) (mi_o K) := by
  have e5 : ∀ n i, mc_s (fun _ => 1) i n = n := by
    intro n
    induction n with
    | zero => intro i; rfl
    | succ n ih => intro i; show 1 + mc_s (fun _ => 1) (i + 1) n = n + 1; rw [ih]; omega
  have g6 : mi_G K 6 = mi_l K (38 - K) := by unfold mi_G; rw [if_neg (by omega), if_pos rfl]
  have g7 : mi_G K 7 = [] := by unfold mi_G; rw [if_neg (by omega), if_neg (by omega)]
  have eU : mh_U (mi_G K) K = K := by
    have t : mh_U (mi_G K) K = mc_s (fun _ => 1) 0 K := mc_cong _ _ fun s _ s2 => by
      show (mi_G K s).length = 1
      unfold mi_G
      rw [if_pos (by omega)]; rfl
    rw [t, e5]
  refine ⟨fun i => ?_, by rw [eU], ?_⟩
  · by_cases a : i < K
    · rw [mh_hdk a, show mi_G K i = [(i, 0)] from if_pos a]
      refine ⟨⟨(h1 i a).2, by show i < 38; omega, (h1 i a).1⟩, List.pairwise_cons.mpr ⟨fun b hb => (by cases hb), List.Pairwise.nil⟩, fun p hp => ?_⟩
      rcases List.mem_cons.mp hp with z | z
      · rw [z]; exact if_pos a
      · cases z
    · by_cases b : i = 6
      · subst b
        rw [mh_hd6 hK, g6]
        refine ⟨?_, mi_nd _ _, fun p hp => ?_⟩
        · rw [show 38 - K = 37 - K + 1 by omega]
          exact mi_ch h37 (37 - K) K (by omega) h2
        · have := mi_mem _ _ p hp
          exact if_neg (by omega)
      · rw [show mi_G K i = [] from by unfold mi_G; rw [if_neg a, if_neg b]]
        refine ⟨?_, List.Pairwise.nil, fun p hp => by cases hp⟩
        show mh_hd K nw (nI K) (-1) i = -1
        unfold mh_hd
        rw [if_neg a, if_neg b]
        split <;> rfl
  · rw [eU, g6, g7, mi_len]
    show K + (38 - K) + 0 = 38
    omega
section
variable {K O M N L h : Nat} {A W C : Int64} {fr us : Int32} {rk rs sp vv ol nw : Nat → Int32} {so rd : Nat → Int64} {ts yk hs yv rf dm : Nat → Int32} {l0 h0 : Int32}
theorem mx_i157 {post : SX → Prop} {ol0 : Nat → Int32} (hK : K ≤ 6) (hp : ∀ ol' nw', (∀ s, s < K → ol' s = -1 ∧ nw' s = nI s) → (∀ s, K ≤ s → ol' s = ol0 s) → post (nI K, nI O, nI M, nI N, 0, 1, 0, 0, 0, nI K, nI K, rk, so, rs, sp, vv, rd, ol', nw')) : ∀ (d c : Nat) (ol nw : Nat → Int32), c + d = K → (∀ s, s < c → ol s = -1 ∧ nw s = nI s) → (∀ s, c ≤ s → ol s = ol0 s) → wX_init_157 post (nI K) (nI O) (nI M) (nI N) l0 h0 A W C fr us (d + 1) (nI c) rk so rs sp vv rd ol nw := by
  intro d
  induction d with
  | zero =>
    intro c ol nw hc h1 h2
    have : c = K := by omega
    subst this
    exact br_t (Int32.le_refl _) (hp ol nw h1 h2)
  | succ d ih =>
    intro c ol nw hc h1 h2
    refine br_f (nI_ge (by omega) (by omega)) ⟨vp_in_nI (by omega) (by omega), ?_⟩
    rw [nI_clamp (by omega)]
    refine nm_e ⟨vp_in_nI (by omega) (by omega), nm_e (nm_r (nI_1 c) (ih (c + 1) _ _ (by omega) (fun s hs => ?_) (fun s hs => ?_)))⟩
    · by_cases e : s = c
      · rw [e, pk_us, pk_us]; exact ⟨rfl, rfl⟩
      · rw [pk_un e, pk_un e]; exact h1 s (by omega)
    · rw [pk_un (by omega)]; exact h2 s (by omega)
theorem mx_i122 {post : SX → Prop} (hp : ∀ ol', (∀ s, s < 37 → ol' s = nI (s + 1)) → ol' 37 = -1 → ∃ n157 : Nat, wX_init_157 post (nI K) (nI O) (nI M) (nI N) l0 h0 A W C fr us n157 0 rk so rs sp vv rd ol' nw) : ∀ (d i : Nat) (ol : Nat → Int32), i + d = 38 → (∀ s, s < i → ol s = nI (s + 1)) → wX_init_122 post (nI K) (nI O) (nI M) (nI N) l0 h0 A W C fr us (d + 1) (nI i) rk so rs sp vv rd ol nw := by
  intro d
  induction d with
  | zero =>
    intro i ol hi h1
    refine br_t (nI_le (a := 38) (by omega) (by omega)) (nm_e (hp _ (fun s hs => ?_) pk_us))
    rw [pk_un (by omega)]; exact h1 s (by omega)
  | succ d ih =>
    intro i ol hi h1
    refine br_f (nI_ge (b := 38) (by omega) (by omega)) ⟨vp_in_nI (by omega) (by omega), ?_⟩
    rw [nI_clamp (by omega), nI_1]
    refine nm_e (nm_e (ih (i + 1) _ (by omega) fun s hs => ?_))
    by_cases e : s = i
    · rw [e, pk_us]
    · rw [pk_un e]; exact h1 s (by omega)
end
theorem i_vc0 (k0 : Int32) (k1 : Int32) (k2 : Int32) (k3 : Int32) : wpX_init (fun u => wpY_init (fun v => i_Rel 4 u v) k0 k1 k2 k3) k0 k1 k2 k3 := by
  obtain ⟨K, K1, K2, xK, yK⟩ := mj_clamp k0 2 6 (by omega) (by omega)
  obtain ⟨O, O1, O2, xO, yO⟩ := mj_clamp k1 2 10 (by omega) (by omega)
  obtain ⟨M, M1, M2, xM, yM⟩ := mj_clamp k2 2 32 (by omega) (by omega)
  obtain ⟨N, N1, N2, xN, yN⟩ := mj_clamp k3 8 40 (by omega) (by omega)
  unfold wpX_init wpY_init
  refine xK _ _ (xO _ _ (xM _ _ (xN _ _ ⟨39, ?_⟩)))
  refine mx_i122 (fun ol1 a1 a2 => ⟨K + 1, mx_i157 (ol0 := ol1) (by omega) (fun ol' nw' b1 b2 => ?_) K 0 ol1 _ (by omega) (fun s hs => by omega) (fun _ _ => rfl)⟩) 38 0 _ (by omega) (fun s hs => by omega)
  refine yK _ _ (yO _ _ (yM _ _ (yN _ _ (my_forget fun ts2 yk2 hs2 yv2 rf2 c1 c2 c3 c4 c5 c6 => ?_))))
  have P0 : mr_P K O M N 0 1 := by unfold mr_P; omega
  have hO : mr_O K (nI K) (nI K) (-1) ol' nw' (mi_G K) (mi_o K) := mi_O (by omega) b1 (fun s s1 s2 => by rw [b2 s s1]; exact a1 s s2) (by rw [b2 37 (by omega)]; exact a2)
  refine mr_in (L := 0) (h := 1) (mi_Y P0 c1 c3 c4 c5) (mi_X (by omega) c1 c2 c3 c4 c5 (fun c hc => ⟨c, if_pos hc, rfl, ?_, rfl⟩) hO)
  exact (c6 c (by omega)).symm
end
