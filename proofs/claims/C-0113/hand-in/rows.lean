section
/-! pure rows to paste: stores, nI and lN arithmetic, masks, shifts, narrowing, branches by naturals (pk_le, pk_lt, pk_eq), loops (lp1 .. lp16: the measure of the state; rp1 ..: recursion), negatives. Take what you need -/
theorem pk_us {f : Nat → Int32} {k : Nat} {x : Int32} : upd f k x k = x := if_pos rfl
theorem pk_un {f : Nat → Int32} {k j : Nat} {x : Int32} (h : j ≠ k) : upd f k x j = f j := if_neg h
theorem pk_uLs {f : Nat → Int64} {k : Nat} {x : Int64} : vp_updL f k x k = x := if_pos rfl
theorem pk_uLn {f : Nat → Int64} {k j : Nat} {x : Int64} (h : j ≠ k) : vp_updL f k x j = f j := if_neg h
theorem pk_sub {a b : Nat} (h : b ≤ a) : nI a - nI b = nI (a - b) := by
  obtain ⟨c, rfl⟩ : ∃ c, a = c + b := ⟨a - b, by omega⟩
  rw [← nI_add, Int32.add_sub_cancel, Nat.add_sub_cancel]
theorem pk_m1 (n : Nat) : nI (n + 1) + (-1) = nI n := by
  rw [← nI_1, Int32.add_assoc, show (1 : Int32) + (-1) = 0 from rfl, Int32.add_zero]
theorem pk_mul (a b : Nat) : nI a * nI b = nI (a * b) := (Int32.ofNat_mul a b).symm
theorem pk_div {a d : Nat} (ha : a < 2 ^ 31) (h0 : 0 < d) (hd : d < 2 ^ 31) : nI a / nI d = nI (a / d) := by
  apply Int32.toInt_inj.mp
  rw [lg_idiv_nonneg (by rw [nI_toInt ha]; omega) (by rw [nI_toInt hd]; omega), nI_toInt ha, nI_toInt hd, nI_toInt (Nat.lt_of_le_of_lt (Nat.div_le_self a d) ha)]
  first | rfl | exact (Int.natCast_ediv _ _).symm
theorem pk_rem {a d : Nat} (ha : a < 2 ^ 31) (h0 : 0 < d) (hd : d < 2 ^ 31) : nI a - nI a / nI d * nI d = nI (a % d) := by
  rw [pk_div ha h0 hd, pk_mul, pk_sub (Nat.div_mul_le_self a d)]
  exact congrArg nI (by have := Nat.div_add_mod' a d; omega)
theorem pk_sub_toInt {a b : Nat} (ha : a < 2 ^ 30) (hb : b < 2 ^ 30) : (nI a - nI b).toInt = (a : Int) - b := by
  rw [Int32.toInt_sub, nI_toInt (by omega), nI_toInt (by omega)]
  exact Int.bmod_eq_of_le (by omega) (by omega)
theorem pk_sneg {a b : Nat} (hb : b < 2 ^ 30) (h : a < b) : nI a - nI b < 0 := by
  rw [Int32.lt_iff_toInt_lt, pk_sub_toInt (by omega) hb, show (0 : Int32).toInt = 0 from by decide]
  omega
theorem pk_ix (x : Int32) {n : Nat} (hn : n < 2 ^ 31) : x < 0 ∨ nI n ≤ x ∨ ∃ j : Nat, j < n ∧ x = nI j := by
  by_cases h : x < 0
  · exact Or.inl h
  · obtain ⟨j, hj, rfl⟩ := nI_of h
    by_cases h2 : j < n
    · exact Or.inr (Or.inr ⟨j, h2, rfl⟩)
    · exact Or.inr (Or.inl (nI_le (by omega) hj))
theorem pk_le {x y : Int32} {A B : Prop} (a b : Nat) (f : a ≤ b → A) (g : b < a → B) (hx : x = nI a := by rfl) (hy : y = nI b := by rfl) (ha : a < 2 ^ 31 := by omega) (hb : b < 2 ^ 31 := by omega) : (x ≤ y → A) ∧ (¬ x ≤ y → B) := by
  subst hx hy
  rw [nI_leI ha hb]
  exact ⟨f, fun z => g (by omega)⟩
theorem pk_lt {x y : Int32} {A B : Prop} (a b : Nat) (f : a < b → A) (g : b ≤ a → B) (hx : x = nI a := by rfl) (hy : y = nI b := by rfl) (ha : a < 2 ^ 31 := by omega) (hb : b < 2 ^ 31 := by omega) : (x < y → A) ∧ (¬ x < y → B) := by
  subst hx hy
  rw [nI_ltI ha hb]
  exact ⟨f, fun z => g (by omega)⟩
theorem pk_eq {x y : Int32} {A B : Prop} (a b : Nat) (f : a = b → A) (g : a ≠ b → B) (hx : x = nI a := by rfl) (hy : y = nI b := by rfl) (ha : a < 2 ^ 31 := by omega) (hb : b < 2 ^ 31 := by omega) : (x = y → A) ∧ (¬ x = y → B) := by
  subst hx hy
  rw [nI_eq ha hb]
  exact ⟨f, g⟩
theorem pk_in {x : Int32} (n N : Nat) (h : n < N) (hx : x = nI n := by rfl) (hN : N < 2 ^ 31 := by omega) : vp_in x N := by
  subst hx
  exact vp_in_nI h hN
theorem pk_cl {x : Int32} (n : Nat) (hx : x = nI n := by rfl) (h : n < 2 ^ 31 := by omega) : x.toNatClampNeg = n := by
  subst hx
  exact nI_clamp h
theorem pk_tn {n : Nat} (h : n < 2 ^ 32) : (nI n).toBitVec.toNat = n := Nat.mod_eq_of_lt h
theorem pk_and (x : Int32) {m : Int32} (k : Nat) (hm : m.toBitVec.toNat = 2 ^ k - 1) : x &&& m = nI (x.toBitVec.toNat % 2 ^ k) := by
  apply Int32.toBitVec_inj.mp
  apply BitVec.eq_of_toNat_eq
  rw [Int32.toBitVec_and, BitVec.toNat_and, hm, Nat.and_two_pow_sub_one_eq_mod]
  show _ = (BitVec.ofNat 32 _).toNat
  rw [BitVec.toNat_ofNat]
  exact (Nat.mod_eq_of_lt (Nat.lt_of_le_of_lt (Nat.mod_le _ _) x.toBitVec.isLt)).symm
theorem pk_andN {n : Nat} (h : n < 2 ^ 32) {m : Int32} (k : Nat) (hm : m.toBitVec.toNat = 2 ^ k - 1) : nI n &&& m = nI (n % 2 ^ k) := by
  rw [pk_and _ k hm, pk_tn h]
theorem pk_andE (x : Int32) {m : Int32} (k : Nat) (hm : m.toBitVec.toNat = 2 ^ k - 1) : ∃ j : Nat, j < 2 ^ k ∧ x &&& m = nI j := ⟨_, Nat.mod_lt _ (Nat.two_pow_pos k), pk_and x k hm⟩
theorem pk_andIn (x : Int32) {m : Int32} (k : Nat) (hm : m.toBitVec.toNat = 2 ^ k - 1) (hk : k ≤ 30) : vp_in (x &&& m) (2 ^ k) := by
  obtain ⟨j, hj, e⟩ := pk_andE x k hm
  rw [e]
  exact vp_in_nI hj (Nat.lt_of_le_of_lt (Nat.pow_le_pow_right (by decide) hk) (by decide))
theorem pk_shl (a s : Int32) (k : Nat) (hs : (s.toBitVec.smod 32).toNat = k) : (a <<< s).toBitVec.toNat = a.toBitVec.toNat * 2 ^ k % 2 ^ 32 := by
  show (a.toBitVec <<< (s.toBitVec.smod 32).toNat).toNat = _
  rw [hs, BitVec.toNat_shiftLeft, Nat.shiftLeft_eq]
theorem pk_shlN {n : Nat} (s : Int32) (k : Nat) (hs : (s.toBitVec.smod 32).toNat = k) (h : n * 2 ^ k < 2 ^ 32) : nI n <<< s = nI (n * 2 ^ k) := by
  apply Int32.toBitVec_inj.mp
  apply BitVec.eq_of_toNat_eq
  have hn : n < 2 ^ 32 := Nat.lt_of_le_of_lt (Nat.le_mul_of_pos_right n (Nat.two_pow_pos k)) h
  rw [pk_shl _ _ k hs, pk_tn hn, pk_tn h, Nat.mod_eq_of_lt h]
theorem pk_shr (a s : Int32) (k : Nat) (hs : (s.toBitVec.smod 32).toNat = k) : (a >>> s).toInt = a.toInt >>> k := by
  show (a.toBitVec.sshiftRight (s.toBitVec.smod 32).toNat).toInt = _
  rw [hs, BitVec.toInt_sshiftRight]
  rfl
theorem pk_shrN {n : Nat} (h : n < 2 ^ 31) (s : Int32) (k : Nat) (hs : (s.toBitVec.smod 32).toNat = k) : nI n >>> s = nI (n / 2 ^ k) := by
  apply Int32.toInt_inj.mp
  have h2 : n / 2 ^ k ≤ n := Nat.div_le_self _ _
  rw [pk_shr _ _ k hs, nI_toInt h, nI_toInt (by omega), Int.shiftRight_eq_div_pow]
  rfl
theorem pk_ushr (x s : Int32) (k : Nat) (hs : ((s.toUInt32 &&& Int32.toUInt32 31).toBitVec % 32).toNat = k) : (x.toUInt32 >>> (s.toUInt32 &&& Int32.toUInt32 31)).toInt32.toBitVec.toNat = x.toBitVec.toNat / 2 ^ k := by
  have e : (x.toUInt32 >>> (s.toUInt32 &&& Int32.toUInt32 31)).toInt32.toBitVec = x.toBitVec >>> k := by
    rw [← hs]
    exact UInt32.toBitVec_shiftRight _ _
  rw [e, BitVec.toNat_ushiftRight, Nat.shiftRight_eq_div_pow]
theorem pk_ushrN {n : Nat} (hn : n < 2 ^ 32) (s : Int32) (k : Nat) (hs : ((s.toUInt32 &&& Int32.toUInt32 31).toBitVec % 32).toNat = k) : ((nI n).toUInt32 >>> (s.toUInt32 &&& Int32.toUInt32 31)).toInt32 = nI (n / 2 ^ k) := by
  apply Int32.toBitVec_inj.mp
  apply BitVec.eq_of_toNat_eq
  rw [pk_ushr _ s k hs, pk_tn hn, pk_tn (Nat.lt_of_le_of_lt (Nat.div_le_self _ _) hn)]
theorem pk_nb (z : Int32) : narrow .byte (.int z.toInt8.toInt32) = .int z.toInt8.toInt32 := congrArg Value.int (by simp)
theorem pk_ns (z : Int32) : narrow .short (.int z.toInt16.toInt32) = .int z.toInt16.toInt32 := congrArg Value.int (by simp)
theorem pk_fb (r : Int32) : fits .byte (.int r.toInt8.toInt32) = true := by
  have ⟨a, b⟩ := lg_i2b_range r
  have h1 : (-128 : Int32).toInt = -128 := by decide
  have h2 : (127 : Int32).toInt = 127 := by decide
  simp only [fits, Bool.and_eq_true, decide_eq_true_eq, Int32.le_iff_toInt_le, h1, h2]
  omega
theorem pk_fs (r : Int32) : fits .short (.int r.toInt16.toInt32) = true := by
  have ⟨a, b⟩ := lg_i2s_range r
  have h1 : (-32768 : Int32).toInt = -32768 := by decide
  have h2 : (32767 : Int32).toInt = 32767 := by decide
  simp only [fits, Bool.and_eq_true, decide_eq_true_eq, Int32.le_iff_toInt_le, h1, h2]
  omega
theorem pk_charN {q : Nat} (hq : q < 65536) : narrow .char (.int (nI q)) = .int (nI q) ∧ fits .char (.int (nI q)) = true := by
  constructor
  · have e : (nI q).toUInt32.toUInt16.toUInt32.toInt32 = nI q := by
      apply Int32.toBitVec_inj.mp
      apply BitVec.eq_of_toNat_eq
      show (nI q).toUInt32.toUInt16.toUInt32.toNat = q % 2 ^ 32
      rw [UInt16.toNat_toUInt32, UInt32.toNat_toUInt16, show (nI q).toUInt32.toNat = q % 2 ^ 32 from rfl]
      omega
    exact congrArg Value.int e
  · have a : (0 : Int32) ≤ nI q := nI_pos' (by omega)
    have b : nI q ≤ 65535 := nI_le (b := 65535) (by omega) (by decide)
    show (decide ((0 : Int32) ≤ nI q) && decide (nI q ≤ 65535)) = true
    rw [decide_eq_true a, decide_eq_true b]
    rfl
theorem pk_char (x : Int32) : (x.toUInt32 % 65536).toInt32 = nI (x.toBitVec.toNat % 65536) := by
  apply Int32.toBitVec_inj.mp
  apply BitVec.eq_of_toNat_eq
  rw [pk_tn (by omega)]
  show (x.toUInt32 % 65536).toNat = _
  rw [UInt32.toNat_mod]
  rfl
theorem pk_nc (x : Int32) : narrow .char (.int (x.toUInt32 % 65536).toInt32) = .int (x.toUInt32 % 65536).toInt32 := by
  rw [pk_char]
  exact (pk_charN (Nat.mod_lt _ (by decide))).1
theorem pk_fc (x : Int32) : fits .char (.int (x.toUInt32 % 65536).toInt32) = true := by
  rw [pk_char]
  exact (pk_charN (Nat.mod_lt _ (by decide))).2
theorem pk_vb (z : Int32) : vp_nar .byte z.toInt8.toInt32 = z.toInt8.toInt32 := by rw [vp_nar_byte]; simp
theorem pk_vs (z : Int32) : vp_nar .short z.toInt16.toInt32 = z.toInt16.toInt32 := by rw [vp_nar_short]; simp
theorem pk_vc (z : Int32) : vp_nar .char (z.toUInt32 % 65536).toInt32 = (z.toUInt32 % 65536).toInt32 := Value.int.inj (pk_nc z)
theorem pk_lT {n : Nat} (h : n < 2 ^ 63) : (lN n).toInt = (n : Int) := lg_ofNat_toInt h
theorem pk_lLT {a b : Nat} (ha : a < 2 ^ 63) (hb : b < 2 ^ 63) : lN a < lN b ↔ a < b := by
  rw [Int64.lt_iff_toInt_lt, pk_lT ha, pk_lT hb]; omega
theorem pk_lLE {a b : Nat} (ha : a < 2 ^ 63) (hb : b < 2 ^ 63) : lN a ≤ lN b ↔ a ≤ b := by
  rw [Int64.le_iff_toInt_le, pk_lT ha, pk_lT hb]; omega
theorem pk_lEQ {a b : Nat} (ha : a < 2 ^ 63) (hb : b < 2 ^ 63) : lN a = lN b ↔ a = b := by
  rw [← Int64.toInt_inj, pk_lT ha, pk_lT hb]; omega
theorem pk_lOf {x : Int64} (h : ¬ x < 0) : ∃ k : Nat, k < 2 ^ 63 ∧ x = lN k := by
  rw [Int64.lt_iff_toInt_lt] at h
  have h0 : (0 : Int64).toInt = 0 := by decide
  have hx := Int64.toInt_lt x
  refine ⟨x.toInt.toNat, by omega, Int64.toInt_inj.mp ?_⟩
  rw [pk_lT (by omega)]
  omega
theorem pk_lDiv {a b : Nat} (ha : a < 2 ^ 63) (h0 : 0 < b) (hb : b < 2 ^ 63) : lN a / lN b = lN (a / b) := by
  apply Int64.toInt_inj.mp
  rw [lg_ldiv_nonneg (by rw [pk_lT ha]; omega) (by rw [pk_lT hb]; omega), pk_lT ha, pk_lT hb, pk_lT (Nat.lt_of_le_of_lt (Nat.div_le_self a b) ha)]
  rfl
theorem pk_lRem {a b : Nat} (ha : a < 2 ^ 63) (h0 : 0 < b) (hb : b < 2 ^ 63) : lN a - lN a / lN b * lN b = lN (a % b) := by
  rw [pk_lDiv ha h0 hb, lN_mul, lN_sub (Nat.div_mul_le_self a b)]
  exact congrArg lN (by have := Nat.div_add_mod' a b; omega)
theorem pk_loop {σ : Type} (W : Nat → Nat → σ → Prop) (I : Nat → σ → Prop) (e i0 : Nat) (s : σ) (hi : i0 ≤ e) (h0 : I i0 s) (hx : ∀ n s, I e s → W (n + 1) e s)
    (hs : ∀ n i s, i < e → I i s → (∀ s', I (i + 1) s' → W n (i + 1) s') → W (n + 1) i s) : ∃ n, W n i0 s :=
  ⟨e + 1, loop_i W I e hx hs (e + 1) i0 s hi (by omega) h0⟩
theorem pk_loopD {σ : Type} (W : Nat → Nat → σ → Prop) (I : Nat → σ → Prop) (hx : ∀ n s, I 0 s → W (n + 1) 0 s)
    (hs : ∀ n i s, I (i + 1) s → (∀ s', I i s' → W n i s') → W (n + 1) (i + 1) s) : ∀ (e : Nat) (s : σ), I e s → W (e + 1) e s := by
  intro e
  induction e with
  | zero => exact fun s h => hx 0 s h
  | succ e ih => exact fun s h => hs (e + 1) e s h (fun s' h' => ih s' h')
theorem lp1 {A1 : Type} (W : Nat → A1 → Prop) (I : A1 → Prop) (μ : A1 → Nat) (hs : ∀ (n : Nat) (a1 : A1), I a1 → (∀ (b1 : A1), I b1 → μ b1 < μ a1 → W n b1) → W (n + 1) a1) (a1 : A1) (h : I a1) : ∃ n, W n a1 :=
  loop_m (σ := A1) (fun n s => W n s) (fun s => I s) (fun s => μ s) (fun n s hI hk => hs n s hI (fun b1 h9 hm => hk b1 h9 hm)) a1 h
theorem lp2 {A1 A2 : Type} (W : Nat → A1 → A2 → Prop) (I : A1 → A2 → Prop) (μ : A1 → A2 → Nat) (hs : ∀ (n : Nat) (a1 : A1) (a2 : A2), I a1 a2 → (∀ (b1 : A1) (b2 : A2), I b1 b2 → μ b1 b2 < μ a1 a2 → W n b1 b2) → W (n + 1) a1 a2) (a1 : A1) (a2 : A2) (h : I a1 a2) : ∃ n, W n a1 a2 :=
  loop_m (σ := A1 × A2) (fun n s => W n s.1 s.2) (fun s => I s.1 s.2) (fun s => μ s.1 s.2) (fun n s hI hk => hs n s.1 s.2 hI (fun b1 b2 h9 hm => hk (b1, b2) h9 hm)) (a1, a2) h
theorem lp3 {A1 A2 A3 : Type} (W : Nat → A1 → A2 → A3 → Prop) (I : A1 → A2 → A3 → Prop) (μ : A1 → A2 → A3 → Nat) (hs : ∀ (n : Nat) (a1 : A1) (a2 : A2) (a3 : A3), I a1 a2 a3 → (∀ (b1 : A1) (b2 : A2) (b3 : A3), I b1 b2 b3 → μ b1 b2 b3 < μ a1 a2 a3 → W n b1 b2 b3) → W (n + 1) a1 a2 a3) (a1 : A1) (a2 : A2) (a3 : A3) (h : I a1 a2 a3) : ∃ n, W n a1 a2 a3 :=
  loop_m (σ := A1 × A2 × A3) (fun n s => W n s.1 s.2.1 s.2.2) (fun s => I s.1 s.2.1 s.2.2) (fun s => μ s.1 s.2.1 s.2.2) (fun n s hI hk => hs n s.1 s.2.1 s.2.2 hI (fun b1 b2 b3 h9 hm => hk (b1, b2, b3) h9 hm)) (a1, a2, a3) h
theorem lp4 {A1 A2 A3 A4 : Type} (W : Nat → A1 → A2 → A3 → A4 → Prop) (I : A1 → A2 → A3 → A4 → Prop) (μ : A1 → A2 → A3 → A4 → Nat) (hs : ∀ (n : Nat) (a1 : A1) (a2 : A2) (a3 : A3) (a4 : A4), I a1 a2 a3 a4 → (∀ (b1 : A1) (b2 : A2) (b3 : A3) (b4 : A4), I b1 b2 b3 b4 → μ b1 b2 b3 b4 < μ a1 a2 a3 a4 → W n b1 b2 b3 b4) → W (n + 1) a1 a2 a3 a4) (a1 : A1) (a2 : A2) (a3 : A3) (a4 : A4) (h : I a1 a2 a3 a4) : ∃ n, W n a1 a2 a3 a4 :=
  loop_m (σ := A1 × A2 × A3 × A4) (fun n s => W n s.1 s.2.1 s.2.2.1 s.2.2.2) (fun s => I s.1 s.2.1 s.2.2.1 s.2.2.2) (fun s => μ s.1 s.2.1 s.2.2.1 s.2.2.2) (fun n s hI hk => hs n s.1 s.2.1 s.2.2.1 s.2.2.2 hI (fun b1 b2 b3 b4 h9 hm => hk (b1, b2, b3, b4) h9 hm)) (a1, a2, a3, a4) h
theorem lp5 {A1 A2 A3 A4 A5 : Type} (W : Nat → A1 → A2 → A3 → A4 → A5 → Prop) (I : A1 → A2 → A3 → A4 → A5 → Prop) (μ : A1 → A2 → A3 → A4 → A5 → Nat) (hs : ∀ (n : Nat) (a1 : A1) (a2 : A2) (a3 : A3) (a4 : A4) (a5 : A5), I a1 a2 a3 a4 a5 → (∀ (b1 : A1) (b2 : A2) (b3 : A3) (b4 : A4) (b5 : A5), I b1 b2 b3 b4 b5 → μ b1 b2 b3 b4 b5 < μ a1 a2 a3 a4 a5 → W n b1 b2 b3 b4 b5) → W (n + 1) a1 a2 a3 a4 a5) (a1 : A1) (a2 : A2) (a3 : A3) (a4 : A4) (a5 : A5) (h : I a1 a2 a3 a4 a5) : ∃ n, W n a1 a2 a3 a4 a5 :=
  loop_m (σ := A1 × A2 × A3 × A4 × A5) (fun n s => W n s.1 s.2.1 s.2.2.1 s.2.2.2.1 s.2.2.2.2) (fun s => I s.1 s.2.1 s.2.2.1 s.2.2.2.1 s.2.2.2.2) (fun s => μ s.1 s.2.1 s.2.2.1 s.2.2.2.1 s.2.2.2.2) (fun n s hI hk => hs n s.1 s.2.1 s.2.2.1 s.2.2.2.1 s.2.2.2.2 hI (fun b1 b2 b3 b4 b5 h9 hm => hk (b1, b2, b3, b4, b5) h9 hm)) (a1, a2, a3, a4, a5) h
theorem lp6 {A1 A2 A3 A4 A5 A6 : Type} (W : Nat → A1 → A2 → A3 → A4 → A5 → A6 → Prop) (I : A1 → A2 → A3 → A4 → A5 → A6 → Prop) (μ : A1 → A2 → A3 → A4 → A5 → A6 → Nat) (hs : ∀ (n : Nat) (a1 : A1) (a2 : A2) (a3 : A3) (a4 : A4) (a5 : A5) (a6 : A6), I a1 a2 a3 a4 a5 a6 → (∀ (b1 : A1) (b2 : A2) (b3 : A3) (b4 : A4) (b5 : A5) (b6 : A6), I b1 b2 b3 b4 b5 b6 → μ b1 b2 b3 b4 b5 b6 < μ a1 a2 a3 a4 a5 a6 → W n b1 b2 b3 b4 b5 b6) → W (n + 1) a1 a2 a3 a4 a5 a6) (a1 : A1) (a2 : A2) (a3 : A3) (a4 : A4) (a5 : A5) (a6 : A6) (h : I a1 a2 a3 a4 a5 a6) : ∃ n, W n a1 a2 a3 a4 a5 a6 :=
  loop_m (σ := A1 × A2 × A3 × A4 × A5 × A6) (fun n s => W n s.1 s.2.1 s.2.2.1 s.2.2.2.1 s.2.2.2.2.1 s.2.2.2.2.2) (fun s => I s.1 s.2.1 s.2.2.1 s.2.2.2.1 s.2.2.2.2.1 s.2.2.2.2.2) (fun s => μ s.1 s.2.1 s.2.2.1 s.2.2.2.1 s.2.2.2.2.1 s.2.2.2.2.2) (fun n s hI hk => hs n s.1 s.2.1 s.2.2.1 s.2.2.2.1 s.2.2.2.2.1 s.2.2.2.2.2 hI (fun b1 b2 b3 b4 b5 b6 h9 hm => hk (b1, b2, b3, b4, b5, b6) h9 hm)) (a1, a2, a3, a4, a5, a6) h
theorem lp7 {A1 A2 A3 A4 A5 A6 A7 : Type} (W : Nat → A1 → A2 → A3 → A4 → A5 → A6 → A7 → Prop) (I : A1 → A2 → A3 → A4 → A5 → A6 → A7 → Prop) (μ : A1 → A2 → A3 → A4 → A5 → A6 → A7 → Nat) (hs : ∀ (n : Nat) (a1 : A1) (a2 : A2) (a3 : A3) (a4 : A4) (a5 : A5) (a6 : A6) (a7 : A7), I a1 a2 a3 a4 a5 a6 a7 → (∀ (b1 : A1) (b2 : A2) (b3 : A3) (b4 : A4) (b5 : A5) (b6 : A6) (b7 : A7), I b1 b2 b3 b4 b5 b6 b7 → μ b1 b2 b3 b4 b5 b6 b7 < μ a1 a2 a3 a4 a5 a6 a7 → W n b1 b2 b3 b4 b5 b6 b7) → W (n + 1) a1 a2 a3 a4 a5 a6 a7) (a1 : A1) (a2 : A2) (a3 : A3) (a4 : A4) (a5 : A5) (a6 : A6) (a7 : A7) (h : I a1 a2 a3 a4 a5 a6 a7) : ∃ n, W n a1 a2 a3 a4 a5 a6 a7 :=
  loop_m (σ := A1 × A2 × A3 × A4 × A5 × A6 × A7) (fun n s => W n s.1 s.2.1 s.2.2.1 s.2.2.2.1 s.2.2.2.2.1 s.2.2.2.2.2.1 s.2.2.2.2.2.2) (fun s => I s.1 s.2.1 s.2.2.1 s.2.2.2.1 s.2.2.2.2.1 s.2.2.2.2.2.1 s.2.2.2.2.2.2) (fun s => μ s.1 s.2.1 s.2.2.1 s.2.2.2.1 s.2.2.2.2.1 s.2.2.2.2.2.1 s.2.2.2.2.2.2) (fun n s hI hk => hs n s.1 s.2.1 s.2.2.1 s.2.2.2.1 s.2.2.2.2.1 s.2.2.2.2.2.1 s.2.2.2.2.2.2 hI (fun b1 b2 b3 b4 b5 b6 b7 h9 hm => hk (b1, b2, b3, b4, b5, b6, b7) h9 hm)) (a1, a2, a3, a4, a5, a6, a7) h
theorem lp8 {A1 A2 A3 A4 A5 A6 A7 A8 : Type} (W : Nat → A1 → A2 → A3 → A4 → A5 → A6 → A7 → A8 → Prop) (I : A1 → A2 → A3 → A4 → A5 → A6 → A7 → A8 → Prop) (μ : A1 → A2 → A3 → A4 → A5 → A6 → A7 → A8 → Nat) (hs : ∀ (n : Nat) (a1 : A1) (a2 : A2) (a3 : A3) (a4 : A4) (a5 : A5) (a6 : A6) (a7 : A7) (a8 : A8), I a1 a2 a3 a4 a5 a6 a7 a8 → (∀ (b1 : A1) (b2 : A2) (b3 : A3) (b4 : A4) (b5 : A5) (b6 : A6) (b7 : A7) (b8 : A8), I b1 b2 b3 b4 b5 b6 b7 b8 → μ b1 b2 b3 b4 b5 b6 b7 b8 < μ a1 a2 a3 a4 a5 a6 a7 a8 → W n b1 b2 b3 b4 b5 b6 b7 b8) → W (n + 1) a1 a2 a3 a4 a5 a6 a7 a8) (a1 : A1) (a2 : A2) (a3 : A3) (a4 : A4) (a5 : A5) (a6 : A6) (a7 : A7) (a8 : A8) (h : I a1 a2 a3 a4 a5 a6 a7 a8) : ∃ n, W n a1 a2 a3 a4 a5 a6 a7 a8 :=
  loop_m (σ := A1 × A2 × A3 × A4 × A5 × A6 × A7 × A8) (fun n s => W n s.1 s.2.1 s.2.2.1 s.2.2.2.1 s.2.2.2.2.1 s.2.2.2.2.2.1 s.2.2.2.2.2.2.1 s.2.2.2.2.2.2.2) (fun s => I s.1 s.2.1 s.2.2.1 s.2.2.2.1 s.2.2.2.2.1 s.2.2.2.2.2.1 s.2.2.2.2.2.2.1 s.2.2.2.2.2.2.2) (fun s => μ s.1 s.2.1 s.2.2.1 s.2.2.2.1 s.2.2.2.2.1 s.2.2.2.2.2.1 s.2.2.2.2.2.2.1 s.2.2.2.2.2.2.2) (fun n s hI hk => hs n s.1 s.2.1 s.2.2.1 s.2.2.2.1 s.2.2.2.2.1 s.2.2.2.2.2.1 s.2.2.2.2.2.2.1 s.2.2.2.2.2.2.2 hI (fun b1 b2 b3 b4 b5 b6 b7 b8 h9 hm => hk (b1, b2, b3, b4, b5, b6, b7, b8) h9 hm)) (a1, a2, a3, a4, a5, a6, a7, a8) h
theorem lp9 {A1 A2 A3 A4 A5 A6 A7 A8 A9 : Type} (W : Nat → A1 → A2 → A3 → A4 → A5 → A6 → A7 → A8 → A9 → Prop) (I : A1 → A2 → A3 → A4 → A5 → A6 → A7 → A8 → A9 → Prop) (μ : A1 → A2 → A3 → A4 → A5 → A6 → A7 → A8 → A9 → Nat) (hs : ∀ (n : Nat) (a1 : A1) (a2 : A2) (a3 : A3) (a4 : A4) (a5 : A5) (a6 : A6) (a7 : A7) (a8 : A8) (a9 : A9), I a1 a2 a3 a4 a5 a6 a7 a8 a9 → (∀ (b1 : A1) (b2 : A2) (b3 : A3) (b4 : A4) (b5 : A5) (b6 : A6) (b7 : A7) (b8 : A8) (b9 : A9), I b1 b2 b3 b4 b5 b6 b7 b8 b9 → μ b1 b2 b3 b4 b5 b6 b7 b8 b9 < μ a1 a2 a3 a4 a5 a6 a7 a8 a9 → W n b1 b2 b3 b4 b5 b6 b7 b8 b9) → W (n + 1) a1 a2 a3 a4 a5 a6 a7 a8 a9) (a1 : A1) (a2 : A2) (a3 : A3) (a4 : A4) (a5 : A5) (a6 : A6) (a7 : A7) (a8 : A8) (a9 : A9) (h : I a1 a2 a3 a4 a5 a6 a7 a8 a9) : ∃ n, W n a1 a2 a3 a4 a5 a6 a7 a8 a9 :=
  loop_m (σ := A1 × A2 × A3 × A4 × A5 × A6 × A7 × A8 × A9) (fun n s => W n s.1 s.2.1 s.2.2.1 s.2.2.2.1 s.2.2.2.2.1 s.2.2.2.2.2.1 s.2.2.2.2.2.2.1 s.2.2.2.2.2.2.2.1 s.2.2.2.2.2.2.2.2) (fun s => I s.1 s.2.1 s.2.2.1 s.2.2.2.1 s.2.2.2.2.1 s.2.2.2.2.2.1 s.2.2.2.2.2.2.1 s.2.2.2.2.2.2.2.1 s.2.2.2.2.2.2.2.2) (fun s => μ s.1 s.2.1 s.2.2.1 s.2.2.2.1 s.2.2.2.2.1 s.2.2.2.2.2.1 s.2.2.2.2.2.2.1 s.2.2.2.2.2.2.2.1 s.2.2.2.2.2.2.2.2) (fun n s hI hk => hs n s.1 s.2.1 s.2.2.1 s.2.2.2.1 s.2.2.2.2.1 s.2.2.2.2.2.1 s.2.2.2.2.2.2.1 s.2.2.2.2.2.2.2.1 s.2.2.2.2.2.2.2.2 hI (fun b1 b2 b3 b4 b5 b6 b7 b8 b9 h9 hm => hk (b1, b2, b3, b4, b5, b6, b7, b8, b9) h9 hm)) (a1, a2, a3, a4, a5, a6, a7, a8, a9) h
theorem lp10 {A1 A2 A3 A4 A5 A6 A7 A8 A9 A10 : Type} (W : Nat → A1 → A2 → A3 → A4 → A5 → A6 → A7 → A8 → A9 → A10 → Prop) (I : A1 → A2 → A3 → A4 → A5 → A6 → A7 → A8 → A9 → A10 → Prop) (μ : A1 → A2 → A3 → A4 → A5 → A6 → A7 → A8 → A9 → A10 → Nat) (hs : ∀ (n : Nat) (a1 : A1) (a2 : A2) (a3 : A3) (a4 : A4) (a5 : A5) (a6 : A6) (a7 : A7) (a8 : A8) (a9 : A9) (a10 : A10), I a1 a2 a3 a4 a5 a6 a7 a8 a9 a10 → (∀ (b1 : A1) (b2 : A2) (b3 : A3) (b4 : A4) (b5 : A5) (b6 : A6) (b7 : A7) (b8 : A8) (b9 : A9) (b10 : A10), I b1 b2 b3 b4 b5 b6 b7 b8 b9 b10 → μ b1 b2 b3 b4 b5 b6 b7 b8 b9 b10 < μ a1 a2 a3 a4 a5 a6 a7 a8 a9 a10 → W n b1 b2 b3 b4 b5 b6 b7 b8 b9 b10) → W (n + 1) a1 a2 a3 a4 a5 a6 a7 a8 a9 a10) (a1 : A1) (a2 : A2) (a3 : A3) (a4 : A4) (a5 : A5) (a6 : A6) (a7 : A7) (a8 : A8) (a9 : A9) (a10 : A10) (h : I a1 a2 a3 a4 a5 a6 a7 a8 a9 a10) : ∃ n, W n a1 a2 a3 a4 a5 a6 a7 a8 a9 a10 :=
  loop_m (σ := A1 × A2 × A3 × A4 × A5 × A6 × A7 × A8 × A9 × A10) (fun n s => W n s.1 s.2.1 s.2.2.1 s.2.2.2.1 s.2.2.2.2.1 s.2.2.2.2.2.1 s.2.2.2.2.2.2.1 s.2.2.2.2.2.2.2.1 s.2.2.2.2.2.2.2.2.1 s.2.2.2.2.2.2.2.2.2) (fun s => I s.1 s.2.1 s.2.2.1 s.2.2.2.1 s.2.2.2.2.1 s.2.2.2.2.2.1 s.2.2.2.2.2.2.1 s.2.2.2.2.2.2.2.1 s.2.2.2.2.2.2.2.2.1 s.2.2.2.2.2.2.2.2.2) (fun s => μ s.1 s.2.1 s.2.2.1 s.2.2.2.1 s.2.2.2.2.1 s.2.2.2.2.2.1 s.2.2.2.2.2.2.1 s.2.2.2.2.2.2.2.1 s.2.2.2.2.2.2.2.2.1 s.2.2.2.2.2.2.2.2.2) (fun n s hI hk => hs n s.1 s.2.1 s.2.2.1 s.2.2.2.1 s.2.2.2.2.1 s.2.2.2.2.2.1 s.2.2.2.2.2.2.1 s.2.2.2.2.2.2.2.1 s.2.2.2.2.2.2.2.2.1 s.2.2.2.2.2.2.2.2.2 hI (fun b1 b2 b3 b4 b5 b6 b7 b8 b9 b10 h9 hm => hk (b1, b2, b3, b4, b5, b6, b7, b8, b9, b10) h9 hm)) (a1, a2, a3, a4, a5, a6, a7, a8, a9, a10) h
theorem lp11 {A1 A2 A3 A4 A5 A6 A7 A8 A9 A10 A11 : Type} (W : Nat → A1 → A2 → A3 → A4 → A5 → A6 → A7 → A8 → A9 → A10 → A11 → Prop) (I : A1 → A2 → A3 → A4 → A5 → A6 → A7 → A8 → A9 → A10 → A11 → Prop) (μ : A1 → A2 → A3 → A4 → A5 → A6 → A7 → A8 → A9 → A10 → A11 → Nat) (hs : ∀ (n : Nat) (a1 : A1) (a2 : A2) (a3 : A3) (a4 : A4) (a5 : A5) (a6 : A6) (a7 : A7) (a8 : A8) (a9 : A9) (a10 : A10) (a11 : A11), I a1 a2 a3 a4 a5 a6 a7 a8 a9 a10 a11 → (∀ (b1 : A1) (b2 : A2) (b3 : A3) (b4 : A4) (b5 : A5) (b6 : A6) (b7 : A7) (b8 : A8) (b9 : A9) (b10 : A10) (b11 : A11), I b1 b2 b3 b4 b5 b6 b7 b8 b9 b10 b11 → μ b1 b2 b3 b4 b5 b6 b7 b8 b9 b10 b11 < μ a1 a2 a3 a4 a5 a6 a7 a8 a9 a10 a11 → W n b1 b2 b3 b4 b5 b6 b7 b8 b9 b10 b11) → W (n + 1) a1 a2 a3 a4 a5 a6 a7 a8 a9 a10 a11) (a1 : A1) (a2 : A2) (a3 : A3) (a4 : A4) (a5 : A5) (a6 : A6) (a7 : A7) (a8 : A8) (a9 : A9) (a10 : A10) (a11 : A11) (h : I a1 a2 a3 a4 a5 a6 a7 a8 a9 a10 a11) : ∃ n, W n a1 a2 a3 a4 a5 a6 a7 a8 a9 a10 a11 :=
  loop_m (σ := A1 × A2 × A3 × A4 × A5 × A6 × A7 × A8 × A9 × A10 × A11) (fun n s => W n s.1 s.2.1 s.2.2.1 s.2.2.2.1 s.2.2.2.2.1 s.2.2.2.2.2.1 s.2.2.2.2.2.2.1 s.2.2.2.2.2.2.2.1 s.2.2.2.2.2.2.2.2.1 s.2.2.2.2.2.2.2.2.2.1 s.2.2.2.2.2.2.2.2.2.2) (fun s => I s.1 s.2.1 s.2.2.1 s.2.2.2.1 s.2.2.2.2.1 s.2.2.2.2.2.1 s.2.2.2.2.2.2.1 s.2.2.2.2.2.2.2.1 s.2.2.2.2.2.2.2.2.1 s.2.2.2.2.2.2.2.2.2.1 s.2.2.2.2.2.2.2.2.2.2) (fun s => μ s.1 s.2.1 s.2.2.1 s.2.2.2.1 s.2.2.2.2.1 s.2.2.2.2.2.1 s.2.2.2.2.2.2.1 s.2.2.2.2.2.2.2.1 s.2.2.2.2.2.2.2.2.1 s.2.2.2.2.2.2.2.2.2.1 s.2.2.2.2.2.2.2.2.2.2) (fun n s hI hk => hs n s.1 s.2.1 s.2.2.1 s.2.2.2.1 s.2.2.2.2.1 s.2.2.2.2.2.1 s.2.2.2.2.2.2.1 s.2.2.2.2.2.2.2.1 s.2.2.2.2.2.2.2.2.1 s.2.2.2.2.2.2.2.2.2.1 s.2.2.2.2.2.2.2.2.2.2 hI (fun b1 b2 b3 b4 b5 b6 b7 b8 b9 b10 b11 h9 hm => hk (b1, b2, b3, b4, b5, b6, b7, b8, b9, b10, b11) h9 hm)) (a1, a2, a3, a4, a5, a6, a7, a8, a9, a10, a11) h
theorem lp12 {A1 A2 A3 A4 A5 A6 A7 A8 A9 A10 A11 A12 : Type} (W : Nat → A1 → A2 → A3 → A4 → A5 → A6 → A7 → A8 → A9 → A10 → A11 → A12 → Prop) (I : A1 → A2 → A3 → A4 → A5 → A6 → A7 → A8 → A9 → A10 → A11 → A12 → Prop) (μ : A1 → A2 → A3 → A4 → A5 → A6 → A7 → A8 → A9 → A10 → A11 → A12 → Nat) (hs : ∀ (n : Nat) (a1 : A1) (a2 : A2) (a3 : A3) (a4 : A4) (a5 : A5) (a6 : A6) (a7 : A7) (a8 : A8) (a9 : A9) (a10 : A10) (a11 : A11) (a12 : A12), I a1 a2 a3 a4 a5 a6 a7 a8 a9 a10 a11 a12 → (∀ (b1 : A1) (b2 : A2) (b3 : A3) (b4 : A4) (b5 : A5) (b6 : A6) (b7 : A7) (b8 : A8) (b9 : A9) (b10 : A10) (b11 : A11) (b12 : A12), I b1 b2 b3 b4 b5 b6 b7 b8 b9 b10 b11 b12 → μ b1 b2 b3 b4 b5 b6 b7 b8 b9 b10 b11 b12 < μ a1 a2 a3 a4 a5 a6 a7 a8 a9 a10 a11 a12 → W n b1 b2 b3 b4 b5 b6 b7 b8 b9 b10 b11 b12) → W (n + 1) a1 a2 a3 a4 a5 a6 a7 a8 a9 a10 a11 a12) (a1 : A1) (a2 : A2) (a3 : A3) (a4 : A4) (a5 : A5) (a6 : A6) (a7 : A7) (a8 : A8) (a9 : A9) (a10 : A10) (a11 : A11) (a12 : A12) (h : I a1 a2 a3 a4 a5 a6 a7 a8 a9 a10 a11 a12) : ∃ n, W n a1 a2 a3 a4 a5 a6 a7 a8 a9 a10 a11 a12 :=
  loop_m (σ := A1 × A2 × A3 × A4 × A5 × A6 × A7 × A8 × A9 × A10 × A11 × A12) (fun n s => W n s.1 s.2.1 s.2.2.1 s.2.2.2.1 s.2.2.2.2.1 s.2.2.2.2.2.1 s.2.2.2.2.2.2.1 s.2.2.2.2.2.2.2.1 s.2.2.2.2.2.2.2.2.1 s.2.2.2.2.2.2.2.2.2.1 s.2.2.2.2.2.2.2.2.2.2.1 s.2.2.2.2.2.2.2.2.2.2.2) (fun s => I s.1 s.2.1 s.2.2.1 s.2.2.2.1 s.2.2.2.2.1 s.2.2.2.2.2.1 s.2.2.2.2.2.2.1 s.2.2.2.2.2.2.2.1 s.2.2.2.2.2.2.2.2.1 s.2.2.2.2.2.2.2.2.2.1 s.2.2.2.2.2.2.2.2.2.2.1 s.2.2.2.2.2.2.2.2.2.2.2) (fun s => μ s.1 s.2.1 s.2.2.1 s.2.2.2.1 s.2.2.2.2.1 s.2.2.2.2.2.1 s.2.2.2.2.2.2.1 s.2.2.2.2.2.2.2.1 s.2.2.2.2.2.2.2.2.1 s.2.2.2.2.2.2.2.2.2.1 s.2.2.2.2.2.2.2.2.2.2.1 s.2.2.2.2.2.2.2.2.2.2.2) (fun n s hI hk => hs n s.1 s.2.1 s.2.2.1 s.2.2.2.1 s.2.2.2.2.1 s.2.2.2.2.2.1 s.2.2.2.2.2.2.1 s.2.2.2.2.2.2.2.1 s.2.2.2.2.2.2.2.2.1 s.2.2.2.2.2.2.2.2.2.1 s.2.2.2.2.2.2.2.2.2.2.1 s.2.2.2.2.2.2.2.2.2.2.2 hI (fun b1 b2 b3 b4 b5 b6 b7 b8 b9 b10 b11 b12 h9 hm => hk (b1, b2, b3, b4, b5, b6, b7, b8, b9, b10, b11, b12) h9 hm)) (a1, a2, a3, a4, a5, a6, a7, a8, a9, a10, a11, a12) h
theorem lp13 {A1 A2 A3 A4 A5 A6 A7 A8 A9 A10 A11 A12 A13 : Type} (W : Nat → A1 → A2 → A3 → A4 → A5 → A6 → A7 → A8 → A9 → A10 → A11 → A12 → A13 → Prop) (I : A1 → A2 → A3 → A4 → A5 → A6 → A7 → A8 → A9 → A10 → A11 → A12 → A13 → Prop) (μ : A1 → A2 → A3 → A4 → A5 → A6 → A7 → A8 → A9 → A10 → A11 → A12 → A13 → Nat) (hs : ∀ (n : Nat) (a1 : A1) (a2 : A2) (a3 : A3) (a4 : A4) (a5 : A5) (a6 : A6) (a7 : A7) (a8 : A8) (a9 : A9) (a10 : A10) (a11 : A11) (a12 : A12) (a13 : A13), I a1 a2 a3 a4 a5 a6 a7 a8 a9 a10 a11 a12 a13 → (∀ (b1 : A1) (b2 : A2) (b3 : A3) (b4 : A4) (b5 : A5) (b6 : A6) (b7 : A7) (b8 : A8) (b9 : A9) (b10 : A10) (b11 : A11) (b12 : A12) (b13 : A13), I b1 b2 b3 b4 b5 b6 b7 b8 b9 b10 b11 b12 b13 → μ b1 b2 b3 b4 b5 b6 b7 b8 b9 b10 b11 b12 b13 < μ a1 a2 a3 a4 a5 a6 a7 a8 a9 a10 a11 a12 a13 → W n b1 b2 b3 b4 b5 b6 b7 b8 b9 b10 b11 b12 b13) → W (n + 1) a1 a2 a3 a4 a5 a6 a7 a8 a9 a10 a11 a12 a13) (a1 : A1) (a2 : A2) (a3 : A3) (a4 : A4) (a5 : A5) (a6 : A6) (a7 : A7) (a8 : A8) (a9 : A9) (a10 : A10) (a11 : A11) (a12 : A12) (a13 : A13) (h : I a1 a2 a3 a4 a5 a6 a7 a8 a9 a10 a11 a12 a13) : ∃ n, W n a1 a2 a3 a4 a5 a6 a7 a8 a9 a10 a11 a12 a13 :=
  loop_m (σ := A1 × A2 × A3 × A4 × A5 × A6 × A7 × A8 × A9 × A10 × A11 × A12 × A13) (fun n s => W n s.1 s.2.1 s.2.2.1 s.2.2.2.1 s.2.2.2.2.1 s.2.2.2.2.2.1 s.2.2.2.2.2.2.1 s.2.2.2.2.2.2.2.1 s.2.2.2.2.2.2.2.2.1 s.2.2.2.2.2.2.2.2.2.1 s.2.2.2.2.2.2.2.2.2.2.1 s.2.2.2.2.2.2.2.2.2.2.2.1 s.2.2.2.2.2.2.2.2.2.2.2.2) (fun s => I s.1 s.2.1 s.2.2.1 s.2.2.2.1 s.2.2.2.2.1 s.2.2.2.2.2.1 s.2.2.2.2.2.2.1 s.2.2.2.2.2.2.2.1 s.2.2.2.2.2.2.2.2.1 s.2.2.2.2.2.2.2.2.2.1 s.2.2.2.2.2.2.2.2.2.2.1 s.2.2.2.2.2.2.2.2.2.2.2.1 s.2.2.2.2.2.2.2.2.2.2.2.2) (fun s => μ s.1 s.2.1 s.2.2.1 s.2.2.2.1 s.2.2.2.2.1 s.2.2.2.2.2.1 s.2.2.2.2.2.2.1 s.2.2.2.2.2.2.2.1 s.2.2.2.2.2.2.2.2.1 s.2.2.2.2.2.2.2.2.2.1 s.2.2.2.2.2.2.2.2.2.2.1 s.2.2.2.2.2.2.2.2.2.2.2.1 s.2.2.2.2.2.2.2.2.2.2.2.2) (fun n s hI hk => hs n s.1 s.2.1 s.2.2.1 s.2.2.2.1 s.2.2.2.2.1 s.2.2.2.2.2.1 s.2.2.2.2.2.2.1 s.2.2.2.2.2.2.2.1 s.2.2.2.2.2.2.2.2.1 s.2.2.2.2.2.2.2.2.2.1 s.2.2.2.2.2.2.2.2.2.2.1 s.2.2.2.2.2.2.2.2.2.2.2.1 s.2.2.2.2.2.2.2.2.2.2.2.2 hI (fun b1 b2 b3 b4 b5 b6 b7 b8 b9 b10 b11 b12 b13 h9 hm => hk (b1, b2, b3, b4, b5, b6, b7, b8, b9, b10, b11, b12, b13) h9 hm)) (a1, a2, a3, a4, a5, a6, a7, a8, a9, a10, a11, a12, a13) h
theorem lp14 {A1 A2 A3 A4 A5 A6 A7 A8 A9 A10 A11 A12 A13 A14 : Type} (W : Nat → A1 → A2 → A3 → A4 → A5 → A6 → A7 → A8 → A9 → A10 → A11 → A12 → A13 → A14 → Prop) (I : A1 → A2 → A3 → A4 → A5 → A6 → A7 → A8 → A9 → A10 → A11 → A12 → A13 → A14 → Prop) (μ : A1 → A2 → A3 → A4 → A5 → A6 → A7 → A8 → A9 → A10 → A11 → A12 → A13 → A14 → Nat) (hs : ∀ (n : Nat) (a1 : A1) (a2 : A2) (a3 : A3) (a4 : A4) (a5 : A5) (a6 : A6) (a7 : A7) (a8 : A8) (a9 : A9) (a10 : A10) (a11 : A11) (a12 : A12) (a13 : A13) (a14 : A14), I a1 a2 a3 a4 a5 a6 a7 a8 a9 a10 a11 a12 a13 a14 → (∀ (b1 : A1) (b2 : A2) (b3 : A3) (b4 : A4) (b5 : A5) (b6 : A6) (b7 : A7) (b8 : A8) (b9 : A9) (b10 : A10) (b11 : A11) (b12 : A12) (b13 : A13) (b14 : A14), I b1 b2 b3 b4 b5 b6 b7 b8 b9 b10 b11 b12 b13 b14 → μ b1 b2 b3 b4 b5 b6 b7 b8 b9 b10 b11 b12 b13 b14 < μ a1 a2 a3 a4 a5 a6 a7 a8 a9 a10 a11 a12 a13 a14 → W n b1 b2 b3 b4 b5 b6 b7 b8 b9 b10 b11 b12 b13 b14) → W (n + 1) a1 a2 a3 a4 a5 a6 a7 a8 a9 a10 a11 a12 a13 a14) (a1 : A1) (a2 : A2) (a3 : A3) (a4 : A4) (a5 : A5) (a6 : A6) (a7 : A7) (a8 : A8) (a9 : A9) (a10 : A10) (a11 : A11) (a12 : A12) (a13 : A13) (a14 : A14) (h : I a1 a2 a3 a4 a5 a6 a7 a8 a9 a10 a11 a12 a13 a14) : ∃ n, W n a1 a2 a3 a4 a5 a6 a7 a8 a9 a10 a11 a12 a13 a14 :=
  loop_m (σ := A1 × A2 × A3 × A4 × A5 × A6 × A7 × A8 × A9 × A10 × A11 × A12 × A13 × A14) (fun n s => W n s.1 s.2.1 s.2.2.1 s.2.2.2.1 s.2.2.2.2.1 s.2.2.2.2.2.1 s.2.2.2.2.2.2.1 s.2.2.2.2.2.2.2.1 s.2.2.2.2.2.2.2.2.1 s.2.2.2.2.2.2.2.2.2.1 s.2.2.2.2.2.2.2.2.2.2.1 s.2.2.2.2.2.2.2.2.2.2.2.1 s.2.2.2.2.2.2.2.2.2.2.2.2.1 s.2.2.2.2.2.2.2.2.2.2.2.2.2) (fun s => I s.1 s.2.1 s.2.2.1 s.2.2.2.1 s.2.2.2.2.1 s.2.2.2.2.2.1 s.2.2.2.2.2.2.1 s.2.2.2.2.2.2.2.1 s.2.2.2.2.2.2.2.2.1 s.2.2.2.2.2.2.2.2.2.1 s.2.2.2.2.2.2.2.2.2.2.1 s.2.2.2.2.2.2.2.2.2.2.2.1 s.2.2.2.2.2.2.2.2.2.2.2.2.1 s.2.2.2.2.2.2.2.2.2.2.2.2.2) (fun s => μ s.1 s.2.1 s.2.2.1 s.2.2.2.1 s.2.2.2.2.1 s.2.2.2.2.2.1 s.2.2.2.2.2.2.1 s.2.2.2.2.2.2.2.1 s.2.2.2.2.2.2.2.2.1 s.2.2.2.2.2.2.2.2.2.1 s.2.2.2.2.2.2.2.2.2.2.1 s.2.2.2.2.2.2.2.2.2.2.2.1 s.2.2.2.2.2.2.2.2.2.2.2.2.1 s.2.2.2.2.2.2.2.2.2.2.2.2.2) (fun n s hI hk => hs n s.1 s.2.1 s.2.2.1 s.2.2.2.1 s.2.2.2.2.1 s.2.2.2.2.2.1 s.2.2.2.2.2.2.1 s.2.2.2.2.2.2.2.1 s.2.2.2.2.2.2.2.2.1 s.2.2.2.2.2.2.2.2.2.1 s.2.2.2.2.2.2.2.2.2.2.1 s.2.2.2.2.2.2.2.2.2.2.2.1 s.2.2.2.2.2.2.2.2.2.2.2.2.1 s.2.2.2.2.2.2.2.2.2.2.2.2.2 hI (fun b1 b2 b3 b4 b5 b6 b7 b8 b9 b10 b11 b12 b13 b14 h9 hm => hk (b1, b2, b3, b4, b5, b6, b7, b8, b9, b10, b11, b12, b13, b14) h9 hm)) (a1, a2, a3, a4, a5, a6, a7, a8, a9, a10, a11, a12, a13, a14) h
theorem lp15 {A1 A2 A3 A4 A5 A6 A7 A8 A9 A10 A11 A12 A13 A14 A15 : Type} (W : Nat → A1 → A2 → A3 → A4 → A5 → A6 → A7 → A8 → A9 → A10 → A11 → A12 → A13 → A14 → A15 → Prop) (I : A1 → A2 → A3 → A4 → A5 → A6 → A7 → A8 → A9 → A10 → A11 → A12 → A13 → A14 → A15 → Prop) (μ : A1 → A2 → A3 → A4 → A5 → A6 → A7 → A8 → A9 → A10 → A11 → A12 → A13 → A14 → A15 → Nat) (hs : ∀ (n : Nat) (a1 : A1) (a2 : A2) (a3 : A3) (a4 : A4) (a5 : A5) (a6 : A6) (a7 : A7) (a8 : A8) (a9 : A9) (a10 : A10) (a11 : A11) (a12 : A12) (a13 : A13) (a14 : A14) (a15 : A15), I a1 a2 a3 a4 a5 a6 a7 a8 a9 a10 a11 a12 a13 a14 a15 → (∀ (b1 : A1) (b2 : A2) (b3 : A3) (b4 : A4) (b5 : A5) (b6 : A6) (b7 : A7) (b8 : A8) (b9 : A9) (b10 : A10) (b11 : A11) (b12 : A12) (b13 : A13) (b14 : A14) (b15 : A15), I b1 b2 b3 b4 b5 b6 b7 b8 b9 b10 b11 b12 b13 b14 b15 → μ b1 b2 b3 b4 b5 b6 b7 b8 b9 b10 b11 b12 b13 b14 b15 < μ a1 a2 a3 a4 a5 a6 a7 a8 a9 a10 a11 a12 a13 a14 a15 → W n b1 b2 b3 b4 b5 b6 b7 b8 b9 b10 b11 b12 b13 b14 b15) → W (n + 1) a1 a2 a3 a4 a5 a6 a7 a8 a9 a10 a11 a12 a13 a14 a15) (a1 : A1) (a2 : A2) (a3 : A3) (a4 : A4) (a5 : A5) (a6 : A6) (a7 : A7) (a8 : A8) (a9 : A9) (a10 : A10) (a11 : A11) (a12 : A12) (a13 : A13) (a14 : A14) (a15 : A15) (h : I a1 a2 a3 a4 a5 a6 a7 a8 a9 a10 a11 a12 a13 a14 a15) : ∃ n, W n a1 a2 a3 a4 a5 a6 a7 a8 a9 a10 a11 a12 a13 a14 a15 :=
  loop_m (σ := A1 × A2 × A3 × A4 × A5 × A6 × A7 × A8 × A9 × A10 × A11 × A12 × A13 × A14 × A15) (fun n s => W n s.1 s.2.1 s.2.2.1 s.2.2.2.1 s.2.2.2.2.1 s.2.2.2.2.2.1 s.2.2.2.2.2.2.1 s.2.2.2.2.2.2.2.1 s.2.2.2.2.2.2.2.2.1 s.2.2.2.2.2.2.2.2.2.1 s.2.2.2.2.2.2.2.2.2.2.1 s.2.2.2.2.2.2.2.2.2.2.2.1 s.2.2.2.2.2.2.2.2.2.2.2.2.1 s.2.2.2.2.2.2.2.2.2.2.2.2.2.1 s.2.2.2.2.2.2.2.2.2.2.2.2.2.2) (fun s => I s.1 s.2.1 s.2.2.1 s.2.2.2.1 s.2.2.2.2.1 s.2.2.2.2.2.1 s.2.2.2.2.2.2.1 s.2.2.2.2.2.2.2.1 s.2.2.2.2.2.2.2.2.1 s.2.2.2.2.2.2.2.2.2.1 s.2.2.2.2.2.2.2.2.2.2.1 s.2.2.2.2.2.2.2.2.2.2.2.1 s.2.2.2.2.2.2.2.2.2.2.2.2.1 s.2.2.2.2.2.2.2.2.2.2.2.2.2.1 s.2.2.2.2.2.2.2.2.2.2.2.2.2.2) (fun s => μ s.1 s.2.1 s.2.2.1 s.2.2.2.1 s.2.2.2.2.1 s.2.2.2.2.2.1 s.2.2.2.2.2.2.1 s.2.2.2.2.2.2.2.1 s.2.2.2.2.2.2.2.2.1 s.2.2.2.2.2.2.2.2.2.1 s.2.2.2.2.2.2.2.2.2.2.1 s.2.2.2.2.2.2.2.2.2.2.2.1 s.2.2.2.2.2.2.2.2.2.2.2.2.1 s.2.2.2.2.2.2.2.2.2.2.2.2.2.1 s.2.2.2.2.2.2.2.2.2.2.2.2.2.2) (fun n s hI hk => hs n s.1 s.2.1 s.2.2.1 s.2.2.2.1 s.2.2.2.2.1 s.2.2.2.2.2.1 s.2.2.2.2.2.2.1 s.2.2.2.2.2.2.2.1 s.2.2.2.2.2.2.2.2.1 s.2.2.2.2.2.2.2.2.2.1 s.2.2.2.2.2.2.2.2.2.2.1 s.2.2.2.2.2.2.2.2.2.2.2.1 s.2.2.2.2.2.2.2.2.2.2.2.2.1 s.2.2.2.2.2.2.2.2.2.2.2.2.2.1 s.2.2.2.2.2.2.2.2.2.2.2.2.2.2 hI (fun b1 b2 b3 b4 b5 b6 b7 b8 b9 b10 b11 b12 b13 b14 b15 h9 hm => hk (b1, b2, b3, b4, b5, b6, b7, b8, b9, b10, b11, b12, b13, b14, b15) h9 hm)) (a1, a2, a3, a4, a5, a6, a7, a8, a9, a10, a11, a12, a13, a14, a15) h
theorem lp16 {A1 A2 A3 A4 A5 A6 A7 A8 A9 A10 A11 A12 A13 A14 A15 A16 : Type} (W : Nat → A1 → A2 → A3 → A4 → A5 → A6 → A7 → A8 → A9 → A10 → A11 → A12 → A13 → A14 → A15 → A16 → Prop) (I : A1 → A2 → A3 → A4 → A5 → A6 → A7 → A8 → A9 → A10 → A11 → A12 → A13 → A14 → A15 → A16 → Prop) (μ : A1 → A2 → A3 → A4 → A5 → A6 → A7 → A8 → A9 → A10 → A11 → A12 → A13 → A14 → A15 → A16 → Nat) (hs : ∀ (n : Nat) (a1 : A1) (a2 : A2) (a3 : A3) (a4 : A4) (a5 : A5) (a6 : A6) (a7 : A7) (a8 : A8) (a9 : A9) (a10 : A10) (a11 : A11) (a12 : A12) (a13 : A13) (a14 : A14) (a15 : A15) (a16 : A16), I a1 a2 a3 a4 a5 a6 a7 a8 a9 a10 a11 a12 a13 a14 a15 a16 → (∀ (b1 : A1) (b2 : A2) (b3 : A3) (b4 : A4) (b5 : A5) (b6 : A6) (b7 : A7) (b8 : A8) (b9 : A9) (b10 : A10) (b11 : A11) (b12 : A12) (b13 : A13) (b14 : A14) (b15 : A15) (b16 : A16), I b1 b2 b3 b4 b5 b6 b7 b8 b9 b10 b11 b12 b13 b14 b15 b16 → μ b1 b2 b3 b4 b5 b6 b7 b8 b9 b10 b11 b12 b13 b14 b15 b16 < μ a1 a2 a3 a4 a5 a6 a7 a8 a9 a10 a11 a12 a13 a14 a15 a16 → W n b1 b2 b3 b4 b5 b6 b7 b8 b9 b10 b11 b12 b13 b14 b15 b16) → W (n + 1) a1 a2 a3 a4 a5 a6 a7 a8 a9 a10 a11 a12 a13 a14 a15 a16) (a1 : A1) (a2 : A2) (a3 : A3) (a4 : A4) (a5 : A5) (a6 : A6) (a7 : A7) (a8 : A8) (a9 : A9) (a10 : A10) (a11 : A11) (a12 : A12) (a13 : A13) (a14 : A14) (a15 : A15) (a16 : A16) (h : I a1 a2 a3 a4 a5 a6 a7 a8 a9 a10 a11 a12 a13 a14 a15 a16) : ∃ n, W n a1 a2 a3 a4 a5 a6 a7 a8 a9 a10 a11 a12 a13 a14 a15 a16 :=
  loop_m (σ := A1 × A2 × A3 × A4 × A5 × A6 × A7 × A8 × A9 × A10 × A11 × A12 × A13 × A14 × A15 × A16) (fun n s => W n s.1 s.2.1 s.2.2.1 s.2.2.2.1 s.2.2.2.2.1 s.2.2.2.2.2.1 s.2.2.2.2.2.2.1 s.2.2.2.2.2.2.2.1 s.2.2.2.2.2.2.2.2.1 s.2.2.2.2.2.2.2.2.2.1 s.2.2.2.2.2.2.2.2.2.2.1 s.2.2.2.2.2.2.2.2.2.2.2.1 s.2.2.2.2.2.2.2.2.2.2.2.2.1 s.2.2.2.2.2.2.2.2.2.2.2.2.2.1 s.2.2.2.2.2.2.2.2.2.2.2.2.2.2.1 s.2.2.2.2.2.2.2.2.2.2.2.2.2.2.2) (fun s => I s.1 s.2.1 s.2.2.1 s.2.2.2.1 s.2.2.2.2.1 s.2.2.2.2.2.1 s.2.2.2.2.2.2.1 s.2.2.2.2.2.2.2.1 s.2.2.2.2.2.2.2.2.1 s.2.2.2.2.2.2.2.2.2.1 s.2.2.2.2.2.2.2.2.2.2.1 s.2.2.2.2.2.2.2.2.2.2.2.1 s.2.2.2.2.2.2.2.2.2.2.2.2.1 s.2.2.2.2.2.2.2.2.2.2.2.2.2.1 s.2.2.2.2.2.2.2.2.2.2.2.2.2.2.1 s.2.2.2.2.2.2.2.2.2.2.2.2.2.2.2) (fun s => μ s.1 s.2.1 s.2.2.1 s.2.2.2.1 s.2.2.2.2.1 s.2.2.2.2.2.1 s.2.2.2.2.2.2.1 s.2.2.2.2.2.2.2.1 s.2.2.2.2.2.2.2.2.1 s.2.2.2.2.2.2.2.2.2.1 s.2.2.2.2.2.2.2.2.2.2.1 s.2.2.2.2.2.2.2.2.2.2.2.1 s.2.2.2.2.2.2.2.2.2.2.2.2.1 s.2.2.2.2.2.2.2.2.2.2.2.2.2.1 s.2.2.2.2.2.2.2.2.2.2.2.2.2.2.1 s.2.2.2.2.2.2.2.2.2.2.2.2.2.2.2) (fun n s hI hk => hs n s.1 s.2.1 s.2.2.1 s.2.2.2.1 s.2.2.2.2.1 s.2.2.2.2.2.1 s.2.2.2.2.2.2.1 s.2.2.2.2.2.2.2.1 s.2.2.2.2.2.2.2.2.1 s.2.2.2.2.2.2.2.2.2.1 s.2.2.2.2.2.2.2.2.2.2.1 s.2.2.2.2.2.2.2.2.2.2.2.1 s.2.2.2.2.2.2.2.2.2.2.2.2.1 s.2.2.2.2.2.2.2.2.2.2.2.2.2.1 s.2.2.2.2.2.2.2.2.2.2.2.2.2.2.1 s.2.2.2.2.2.2.2.2.2.2.2.2.2.2.2 hI (fun b1 b2 b3 b4 b5 b6 b7 b8 b9 b10 b11 b12 b13 b14 b15 b16 h9 hm => hk (b1, b2, b3, b4, b5, b6, b7, b8, b9, b10, b11, b12, b13, b14, b15, b16) h9 hm)) (a1, a2, a3, a4, a5, a6, a7, a8, a9, a10, a11, a12, a13, a14, a15, a16) h
theorem pk_least (P : Nat → Prop) (h : ∃ k, P k) : ∃ k, P k ∧ ∀ j, j < k → ¬ P j := by
  obtain ⟨k, hk⟩ := h
  induction k using Nat.strongRecOn with
  | ind k ih =>
    by_cases e : ∃ j, j < k ∧ P j
    · obtain ⟨j, hj, pj⟩ := e
      exact ih j hj pj
    · exact ⟨k, hk, fun j hj pj => e ⟨j, hj, pj⟩⟩
theorem rp1 {ρ A1 : Type} (W : Nat → (ρ → Prop) → A1 → Prop) (ok : A1 → Prop) (μ : A1 → Nat) (val : A1 → ρ)
    (hs : ∀ (d : Nat) (post : ρ → Prop) (a1 : A1), ok a1 → post (val a1) → (∀ (post' : ρ → Prop) (b1 : A1), ok b1 → μ b1 < μ a1 → post' (val b1) → W d post' b1) → W (d + 1) post a1) :
    ∀ (d : Nat) (post : ρ → Prop) (a1 : A1), ok a1 → μ a1 < d → post (val a1) → W d post a1 := by
  intro d
  induction d with
  | zero => intro post a1 _ h; omega
  | succ d ih =>
    intro post a1 ho hm hp
    exact hs d post a1 ho hp (fun post' b1 ho' hm' hp' => ih post' b1 ho' (by omega) hp')
theorem rp2 {ρ A1 A2 : Type} (W : Nat → (ρ → Prop) → A1 → A2 → Prop) (ok : A1 → A2 → Prop) (μ : A1 → A2 → Nat) (val : A1 → A2 → ρ)
    (hs : ∀ (d : Nat) (post : ρ → Prop) (a1 : A1) (a2 : A2), ok a1 a2 → post (val a1 a2) → (∀ (post' : ρ → Prop) (b1 : A1) (b2 : A2), ok b1 b2 → μ b1 b2 < μ a1 a2 → post' (val b1 b2) → W d post' b1 b2) → W (d + 1) post a1 a2) :
    ∀ (d : Nat) (post : ρ → Prop) (a1 : A1) (a2 : A2), ok a1 a2 → μ a1 a2 < d → post (val a1 a2) → W d post a1 a2 := by
  intro d
  induction d with
  | zero => intro post a1 a2 _ h; omega
  | succ d ih =>
    intro post a1 a2 ho hm hp
    exact hs d post a1 a2 ho hp (fun post' b1 b2 ho' hm' hp' => ih post' b1 b2 ho' (by omega) hp')
theorem rp3 {ρ A1 A2 A3 : Type} (W : Nat → (ρ → Prop) → A1 → A2 → A3 → Prop) (ok : A1 → A2 → A3 → Prop) (μ : A1 → A2 → A3 → Nat) (val : A1 → A2 → A3 → ρ)
    (hs : ∀ (d : Nat) (post : ρ → Prop) (a1 : A1) (a2 : A2) (a3 : A3), ok a1 a2 a3 → post (val a1 a2 a3) → (∀ (post' : ρ → Prop) (b1 : A1) (b2 : A2) (b3 : A3), ok b1 b2 b3 → μ b1 b2 b3 < μ a1 a2 a3 → post' (val b1 b2 b3) → W d post' b1 b2 b3) → W (d + 1) post a1 a2 a3) :
    ∀ (d : Nat) (post : ρ → Prop) (a1 : A1) (a2 : A2) (a3 : A3), ok a1 a2 a3 → μ a1 a2 a3 < d → post (val a1 a2 a3) → W d post a1 a2 a3 := by
  intro d
  induction d with
  | zero => intro post a1 a2 a3 _ h; omega
  | succ d ih =>
    intro post a1 a2 a3 ho hm hp
    exact hs d post a1 a2 a3 ho hp (fun post' b1 b2 b3 ho' hm' hp' => ih post' b1 b2 b3 ho' (by omega) hp')
theorem rp4 {ρ A1 A2 A3 A4 : Type} (W : Nat → (ρ → Prop) → A1 → A2 → A3 → A4 → Prop) (ok : A1 → A2 → A3 → A4 → Prop) (μ : A1 → A2 → A3 → A4 → Nat) (val : A1 → A2 → A3 → A4 → ρ)
    (hs : ∀ (d : Nat) (post : ρ → Prop) (a1 : A1) (a2 : A2) (a3 : A3) (a4 : A4), ok a1 a2 a3 a4 → post (val a1 a2 a3 a4) → (∀ (post' : ρ → Prop) (b1 : A1) (b2 : A2) (b3 : A3) (b4 : A4), ok b1 b2 b3 b4 → μ b1 b2 b3 b4 < μ a1 a2 a3 a4 → post' (val b1 b2 b3 b4) → W d post' b1 b2 b3 b4) → W (d + 1) post a1 a2 a3 a4) :
    ∀ (d : Nat) (post : ρ → Prop) (a1 : A1) (a2 : A2) (a3 : A3) (a4 : A4), ok a1 a2 a3 a4 → μ a1 a2 a3 a4 < d → post (val a1 a2 a3 a4) → W d post a1 a2 a3 a4 := by
  intro d
  induction d with
  | zero => intro post a1 a2 a3 a4 _ h; omega
  | succ d ih =>
    intro post a1 a2 a3 a4 ho hm hp
    exact hs d post a1 a2 a3 a4 ho hp (fun post' b1 b2 b3 b4 ho' hm' hp' => ih post' b1 b2 b3 b4 ho' (by omega) hp')
theorem rp5 {ρ A1 A2 A3 A4 A5 : Type} (W : Nat → (ρ → Prop) → A1 → A2 → A3 → A4 → A5 → Prop) (ok : A1 → A2 → A3 → A4 → A5 → Prop) (μ : A1 → A2 → A3 → A4 → A5 → Nat) (val : A1 → A2 → A3 → A4 → A5 → ρ)
    (hs : ∀ (d : Nat) (post : ρ → Prop) (a1 : A1) (a2 : A2) (a3 : A3) (a4 : A4) (a5 : A5), ok a1 a2 a3 a4 a5 → post (val a1 a2 a3 a4 a5) → (∀ (post' : ρ → Prop) (b1 : A1) (b2 : A2) (b3 : A3) (b4 : A4) (b5 : A5), ok b1 b2 b3 b4 b5 → μ b1 b2 b3 b4 b5 < μ a1 a2 a3 a4 a5 → post' (val b1 b2 b3 b4 b5) → W d post' b1 b2 b3 b4 b5) → W (d + 1) post a1 a2 a3 a4 a5) :
    ∀ (d : Nat) (post : ρ → Prop) (a1 : A1) (a2 : A2) (a3 : A3) (a4 : A4) (a5 : A5), ok a1 a2 a3 a4 a5 → μ a1 a2 a3 a4 a5 < d → post (val a1 a2 a3 a4 a5) → W d post a1 a2 a3 a4 a5 := by
  intro d
  induction d with
  | zero => intro post a1 a2 a3 a4 a5 _ h; omega
  | succ d ih =>
    intro post a1 a2 a3 a4 a5 ho hm hp
    exact hs d post a1 a2 a3 a4 a5 ho hp (fun post' b1 b2 b3 b4 b5 ho' hm' hp' => ih post' b1 b2 b3 b4 b5 ho' (by omega) hp')
theorem rp6 {ρ A1 A2 A3 A4 A5 A6 : Type} (W : Nat → (ρ → Prop) → A1 → A2 → A3 → A4 → A5 → A6 → Prop) (ok : A1 → A2 → A3 → A4 → A5 → A6 → Prop) (μ : A1 → A2 → A3 → A4 → A5 → A6 → Nat) (val : A1 → A2 → A3 → A4 → A5 → A6 → ρ)
    (hs : ∀ (d : Nat) (post : ρ → Prop) (a1 : A1) (a2 : A2) (a3 : A3) (a4 : A4) (a5 : A5) (a6 : A6), ok a1 a2 a3 a4 a5 a6 → post (val a1 a2 a3 a4 a5 a6) → (∀ (post' : ρ → Prop) (b1 : A1) (b2 : A2) (b3 : A3) (b4 : A4) (b5 : A5) (b6 : A6), ok b1 b2 b3 b4 b5 b6 → μ b1 b2 b3 b4 b5 b6 < μ a1 a2 a3 a4 a5 a6 → post' (val b1 b2 b3 b4 b5 b6) → W d post' b1 b2 b3 b4 b5 b6) → W (d + 1) post a1 a2 a3 a4 a5 a6) :
    ∀ (d : Nat) (post : ρ → Prop) (a1 : A1) (a2 : A2) (a3 : A3) (a4 : A4) (a5 : A5) (a6 : A6), ok a1 a2 a3 a4 a5 a6 → μ a1 a2 a3 a4 a5 a6 < d → post (val a1 a2 a3 a4 a5 a6) → W d post a1 a2 a3 a4 a5 a6 := by
  intro d
  induction d with
  | zero => intro post a1 a2 a3 a4 a5 a6 _ h; omega
  | succ d ih =>
    intro post a1 a2 a3 a4 a5 a6 ho hm hp
    exact hs d post a1 a2 a3 a4 a5 a6 ho hp (fun post' b1 b2 b3 b4 b5 b6 ho' hm' hp' => ih post' b1 b2 b3 b4 b5 b6 ho' (by omega) hp')
theorem rec_p {σ ρ : Type} (W : Nat → (ρ → Prop) → σ → Prop) (ok : σ → Prop) (μ : σ → Nat) (val : σ → ρ)
    (hs : ∀ d s post, ok s → post (val s) → (∀ s' post', ok s' → μ s' < μ s → post' (val s') → W d post' s') → W (d + 1) post s) :
    ∀ d s post, ok s → μ s < d → post (val s) → W d post s := by
  intro d
  induction d with
  | zero => intro s post _ h; omega
  | succ d ih =>
    intro s post ho hm hp
    exact hs d s post ho hp (fun s' post' ho' hm' hp' => ih s' post' ho' (by omega) hp')
theorem rec_q {σ ρ : Type} (W : Nat → (ρ → Prop) → σ → Prop) (ok : σ → Prop) (μ : σ → Nat) (Q : σ → ρ → Prop)
    (hs : ∀ d s post, ok s → (∀ r, Q s r → post r) → (∀ s' post', ok s' → μ s' < μ s → (∀ r, Q s' r → post' r) → W d post' s') → W (d + 1) post s) :
    ∀ d s post, ok s → μ s < d → (∀ r, Q s r → post r) → W d post s := by
  intro d
  induction d with
  | zero => intro s post _ h; omega
  | succ d ih =>
    intro s post ho hm hp
    exact hs d s post ho hp (fun s' post' ho' hm' hp' => ih s' post' ho' (by omega) hp')
def bx_sum (f : Nat → Int32) : Nat → Int32
  | 0 => 0
  | n + 1 => bx_sum f n + f n
theorem ek_u {A : Prop} {B : Nat → Prop} {k N : Nat} (hk : k < N) (h : B k) : (some k = none → A) ∧ (∀ y : Nat, some k = some y → (y < N ∧ B y)) :=
  ⟨fun z => absurd z (Option.some_ne_none k), fun _ e => (by cases e; exact ⟨hk, h⟩)⟩
theorem ek_nu {A : Prop} {B : Nat → Prop} (h : A) : ((none : Option Nat) = none → A) ∧ (∀ y : Nat, (none : Option Nat) = some y → B y) :=
  ⟨fun _ => h, fun _ e => (by cases e)⟩
theorem ek_if {c d A B : Prop} (e : c ↔ d) (f : d → A) (g : ¬ d → B) : (c → A) ∧ (¬ c → B) :=
  ⟨fun z => f (e.mp z), fun z => g (fun y => z (e.mpr y))⟩
theorem ek_v {α : Sort _} {P : α → Prop} {a b : α} (e : a = b) (h : P b) : P a := e ▸ h
theorem co_some {x : Option Nat} {A : Prop} {B : Nat → Prop} (i : Nat) (h : B i) (hx : x = some i := by rfl) : (x = none → A) ∧ (∀ y : Nat, x = some y → B y) := by
  subst hx
  exact ⟨fun e => (nomatch e), fun y e => Option.some.inj e ▸ h⟩
theorem co_none {x : Option Nat} {A : Prop} {B : Nat → Prop} (h : A) (hx : x = none := by rfl) : (x = none → A) ∧ (∀ y : Nat, x = some y → B y) := by
  subst hx
  exact ⟨fun _ => h, fun y e => (nomatch e)⟩
theorem co_any {x : Option Nat} {A : Prop} {B : Nat → Prop} (hn : x = none → A) (hs : ∀ i : Nat, x = some i → B i) : (x = none → A) ∧ (∀ y : Nat, x = some y → B y) := ⟨hn, hs⟩
theorem co_2 {P : Nat → Prop} (h0 : P 0) (h1 : P 1) {i : Nat} (hi : i < 2) : P i :=
  match i, hi with
  | 0, _ => h0
  | 1, _ => h1
theorem co_3 {P : Nat → Prop} (h0 : P 0) (h1 : P 1) (h2 : P 2) {i : Nat} (hi : i < 3) : P i :=
  match i, hi with
  | 0, _ => h0
  | 1, _ => h1
  | 2, _ => h2
theorem co_4 {P : Nat → Prop} (h0 : P 0) (h1 : P 1) (h2 : P 2) (h3 : P 3) {i : Nat} (hi : i < 4) : P i :=
  match i, hi with
  | 0, _ => h0
  | 1, _ => h1
  | 2, _ => h2
  | 3, _ => h3
theorem co_dec {N : Nat} {P : Nat → Prop} [DecidablePred P] (h : (List.range N).all (fun i => decide (P i)) = true) {i : Nat} (hi : i < N) : P i := by
  have := List.all_eq_true.mp h i (List.mem_range.mpr hi)
  exact of_decide_eq_true this
theorem co_tab {α : Type} {l : List α} {d : α} {P : α → Prop} (h : ∀ a, a ∈ l → P a) {i : Nat} (hi : i < l.length) : P (l.getD i d) := by
  rw [List.getD_eq_getElem?_getD, List.getElem?_eq_getElem hi]
  exact h _ (List.getElem_mem hi)
theorem pk_mu {x : Int32} {L : Nat} (h0 : ¬ x < 0) (h : ¬ nI L ≤ x) (hL : L < 2 ^ 31) : ∃ j : Nat, j < L ∧ x = nI j ∧ x + 1 = nI (j + 1) ∧ x.toNatClampNeg = j ∧ L - (x + 1).toNatClampNeg < L - x.toNatClampNeg := by
  obtain ⟨j, hj, rfl⟩ := nI_of h0
  have hl : j < L := Nat.not_le.mp fun q => h (nI_le q hj)
  refine ⟨j, hl, rfl, nI_1 j, nI_clamp hj, ?_⟩
  rw [nI_1, nI_clamp (by omega), nI_clamp hj]
  omega
theorem op_s {α : Type} {r : Option α} {A : Prop} {B : α → Prop} {y : α} (h : r = some y) (b : B y) : (r = none → A) ∧ ∀ z, r = some z → B z :=
  ⟨fun e => (by rw [h] at e; cases e), fun z e => (by rw [h] at e; cases e; exact b)⟩
def l_holds {α : Type} (a : Nat → Option Nat) (LP : List Nat) (p : Nat → α) (c : Nat) (b : Nat → α) : Prop :=
  ∀ j, j < c → ∃ y, a j = some y ∧ y ∈ LP ∧ p y = b j
theorem l_holds_0 {α : Type} {a : Nat → Option Nat} {LP : List Nat} {p b : Nat → α} : l_holds a LP p 0 b := fun j h => absurd h (Nat.not_lt_zero j)
theorem l_in_new (LP : List Nat) (q : Nat) : q ∈ LP ++ [q] := List.mem_append.mpr (Or.inr (List.mem_singleton.mpr rfl))
def l_sum (b : Nat → Int32) : Nat → Int32
  | 0 => 0
  | k + 1 => l_sum b k + b k
theorem sb_shr0 (x : Int32) : x >>> ((0 : Int32) &&& 31) = x := by
  rw [show ((0 : Int32) &&& 31) = 0 by decide]
  simp
theorem sb_shl0 (x : Int32) : x <<< ((0 : Int32) &&& 31) = x := by
  rw [show ((0 : Int32) &&& 31) = 0 by decide]
  simp
theorem sb_cl0 : (0 : Int32).toNatClampNeg = 0 := by decide
theorem sb_m1 {p : Nat} (h : 0 < p) : nI p + (-1) = nI (p - 1) := by
  obtain ⟨q, rfl⟩ : ∃ q, p = q + 1 := ⟨p - 1, by omega⟩
  exact pk_m1 q
def sb_b (c : Nat) : Int32 := (nI c).toInt8.toInt32
theorem sb_byte : ∀ c, c < 256 → sb_b c &&& 255 = nI c ∧ ((nI c).toUInt32 % 65536).toInt32 = nI c ∧ nI c ≤ 255 := by decide +kernel
def sb_Fit (a : Nat → Int32) : Prop := ∀ j, fits .byte (.int (a j)) = true
def sb_Lat (t : Nat → Nat) (n : Nat) (a : Nat → Int32) : Prop := ∀ j, j < n → t j < 256 ∧ a j = sb_b (t j)
theorem sb_fitB (c : Nat) : fits .byte (.int (sb_b c)) = true := pk_fb _
theorem sb_fit0 : sb_Fit (fun _ => 0) := fun _ => by
  show fits .byte (.int 0) = true
  decide
theorem sb_fitU {a : Nat → Int32} {k : Nat} {x : Int32} (h : sb_Fit a) (hx : fits .byte (.int x) = true) : sb_Fit (upd a k x) := by
  intro j
  by_cases e : j = k
  · subst e
    rw [pk_us]
    exact hx
  · rw [pk_un e]
    exact h j
def sb_cat (t : Nat → Nat) (n : Nat) (s : Nat → Nat) : Nat → Nat := fun j => if j < n then t j else s (j - n)
theorem sb_cat_lo {t s : Nat → Nat} {n j : Nat} (h : j < n) : sb_cat t n s j = t j := if_pos h
theorem sb_cat_hi {t s : Nat → Nat} {n j : Nat} : sb_cat t n s (n + j) = s j := by
  show (if n + j < n then t (n + j) else s (n + j - n)) = s j
  rw [if_neg (by omega), Nat.add_sub_cancel_left]
theorem sb_latPut {t s : Nat → Nat} {n w : Nat} {a a' : Nat → Int32} (h : sb_Lat t n a) (hk : ∀ j, j < n → a' j = a j) (hs : ∀ i, i < w → s i < 256 ∧ a' (n + i) = sb_b (s i)) : sb_Lat (sb_cat t n s) (n + w) a' := by
  intro j hj
  by_cases e : j < n
  · rw [sb_cat_lo e, hk j e]
    exact h j e
  · obtain ⟨i, rfl⟩ : ∃ i, j = n + i := ⟨j - n, by omega⟩
    rw [sb_cat_hi]
    exact hs i (by omega)
theorem sb_latKeep {t : Nat → Nat} {n : Nat} {a a' : Nat → Int32} (h : sb_Lat t n a) (hk : ∀ j, j < n → a' j = a j) : sb_Lat t n a' := fun j hj => by
  rw [hk j hj]
  exact h j hj
def sb_cap (q m : Nat) : Nat := if q ≤ m then m else if 2 * m + 2 < q then q else 2 * m + 2
def sb_Room (q m mc ms : Nat) : Prop := q ≤ m ∨ (1 ≤ mc ∧ sb_cap q m ≤ ms ∧ sb_cap q m ≤ 65536)
theorem sb_cap_ge (q m : Nat) : q ≤ sb_cap q m := by
  unfold sb_cap
  split
  · omega
  · split <;> omega
theorem sb_cap_gem (q m : Nat) : m ≤ sb_cap q m := by
  unfold sb_cap
  split
  · omega
  · split <;> omega
theorem sb_cap_le {q m mc ms : Nat} (hm : m ≤ 65536) (hr : sb_Room q m mc ms) : sb_cap q m ≤ 65536 := by
  rcases hr with h | h
  · rw [sb_cap, if_pos h]
    exact hm
  · exact h.2.2
theorem sb_at {P : Int32 → Prop} {x y : Int32} (e : x = y) (h : P y) : P x := e ▸ h
def sb_dg (w : Nat) : Nat := if w < 10 then 1 else if w < 100 then 2 else if w < 1000 then 3 else if w < 10000 then 4 else if w < 100000 then 5 else if w < 1000000 then 6 else if w < 10000000 then 7 else if w < 100000000 then 8 else if w < 1000000000 then 9 else 10
def sb_dec (v : Nat) : Nat → Nat := fun i => 48 + v / 10 ^ (sb_dg v - 1 - i) % 10
theorem sb_dg_in (w : Nat) : 1 ≤ sb_dg w ∧ sb_dg w ≤ 10 := by
  unfold sb_dg
  constructor <;> (repeat' split) <;> omega
theorem sb_dg100 {w : Nat} (h : 100 ≤ w) (hw : w < 2 ^ 31) : sb_dg w = sb_dg (w / 100) + 2 := by
  rw [sb_dg, sb_dg, if_neg (show ¬ w < 10 by omega), if_neg (show ¬ w < 100 by omega)]
  by_cases h3 : w < 1000
  · rw [if_pos h3, if_pos (show w / 100 < 10 by omega)]
  rw [if_neg h3, if_neg (show ¬ w / 100 < 10 by omega)]
  by_cases h4 : w < 10000
  · rw [if_pos h4, if_pos (show w / 100 < 100 by omega)]
  rw [if_neg h4, if_neg (show ¬ w / 100 < 100 by omega)]
  by_cases h5 : w < 100000
  · rw [if_pos h5, if_pos (show w / 100 < 1000 by omega)]
  rw [if_neg h5, if_neg (show ¬ w / 100 < 1000 by omega)]
  by_cases h6 : w < 1000000
  · rw [if_pos h6, if_pos (show w / 100 < 10000 by omega)]
  rw [if_neg h6, if_neg (show ¬ w / 100 < 10000 by omega)]
  by_cases h7 : w < 10000000
  · rw [if_pos h7, if_pos (show w / 100 < 100000 by omega)]
  rw [if_neg h7, if_neg (show ¬ w / 100 < 100000 by omega)]
  by_cases h8 : w < 100000000
  · rw [if_pos h8, if_pos (show w / 100 < 1000000 by omega)]
  rw [if_neg h8, if_neg (show ¬ w / 100 < 1000000 by omega)]
  by_cases h9 : w < 1000000000
  · rw [if_pos h9, if_pos (show w / 100 < 10000000 by omega)]
  rw [if_neg h9, if_neg (show ¬ w / 100 < 10000000 by omega)]
  rw [if_pos (show w / 100 < 100000000 by omega)]
theorem sb_negT {w : Nat} (h : w < 2 ^ 31) : (-nI w).toInt = -(w : Int) := by
  rw [Int32.toInt_neg, nI_toInt h]
  exact Int.bmod_eq_of_le (by omega) (by omega)
theorem sb_nle {a b : Nat} (ha : a < 2 ^ 31) (hb : b < 2 ^ 31) : -nI a ≤ -nI b ↔ b ≤ a := by
  rw [Int32.le_iff_toInt_le, sb_negT ha, sb_negT hb]
  omega
theorem sb_nlt {a b : Nat} (ha : a < 2 ^ 31) (hb : b < 2 ^ 31) : -nI a < -nI b ↔ b < a := by
  rw [Int32.lt_iff_toInt_lt, sb_negT ha, sb_negT hb]
  omega
theorem sb_cmp {A B : Prop} {x : Int32} (v c : Nat) (f : c ≤ v → A) (g : v < c → B) (hv : v < 2 ^ 31) (hx : x = -nI c := by rfl) (hc : c < 2 ^ 31 := by omega) : (-nI v ≤ x → A) ∧ (¬ -nI v ≤ x → B) := by
  subst hx
  rw [sb_nle hv hc]
  exact ⟨f, fun z => g (by omega)⟩
theorem sb_ndiv {w : Nat} (hw : w < 2 ^ 31) : (-nI w) / 100 = -nI (w / 100) := by
  apply Int32.toInt_inj.mp
  have h100 : (100 : Int32).toInt = 100 := by decide
  rw [Int32.toInt_div, sb_negT hw, h100, sb_negT (by omega), Int.neg_tdiv, Int.tdiv_eq_ediv_of_nonneg (by omega), Int.bmod_eq_of_le (by omega) (by omega)]
  omega
theorem sb_nrem {w : Nat} (hw : w < 2 ^ 31) : (-nI (w / 100)) * 100 - (-nI w) = nI (w % 100) := by
  have h := pk_rem (a := w) (d := 100) hw (by decide) (by decide)
  rw [pk_div hw (by decide) (by decide)] at h
  rw [← h]
  show (-nI (w / 100)) * nI 100 - (-nI w) = nI w - nI (w / 100) * nI 100
  rw [Int32.neg_mul, Int32.sub_neg, Int32.add_comm, ← Int32.sub_eq_add_neg]
end
section
/-! rows on bits, shifts and unsigned numbers, to paste: each family out of a closed proof of our own, whole with what it rests on; each by itself clean at Lean in its own claim (generation 39, form 5). Take a family whole -/
/-! ===== Int32 by its bits: bt x i ===== -/
def bt (x : Int32) (i : Nat) : Bool := x.toBitVec.getLsbD i
theorem b_ext {x y : Int32} (h : ∀ i, i < 32 → bt x i = bt y i) : x = y := Int32.toBitVec_inj.mp (BitVec.eq_of_getLsbD_eq (fun i hi => h i hi))
theorem b_or (x y : Int32) (i : Nat) : bt (x ||| y) i = (bt x i || bt y i) := by unfold bt; rw [Int32.toBitVec_or, BitVec.getLsbD_or]
theorem b_and (x y : Int32) (i : Nat) : bt (x &&& y) i = (bt x i && bt y i) := by unfold bt; rw [Int32.toBitVec_and, BitVec.getLsbD_and]
theorem b_xor (x y : Int32) (i : Nat) : bt (x ^^^ y) i = (bt x i ^^ bt y i) := by unfold bt; rw [Int32.toBitVec_xor, BitVec.getLsbD_xor]
theorem b_big {x : Int32} {i : Nat} (h : 32 ≤ i) : bt x i = false := BitVec.getLsbD_of_ge _ _ h
theorem b_255 (i : Nat) : bt 255 i = decide (i < 8) := by
  rcases Nat.lt_or_ge i 32 with h | h
  · exact (by decide +kernel : ∀ i, i < 32 → bt 255 i = decide (i < 8)) i h
  · rw [b_big h, decide_eq_false (by omega)]
theorem b_65535 (i : Nat) : bt 65535 i = decide (i < 16) := by
  rcases Nat.lt_or_ge i 32 with h | h
  · exact (by decide +kernel : ∀ i, i < 32 → bt 65535 i = decide (i < 16)) i h
  · rw [b_big h, decide_eq_false (by omega)]
theorem b_m1 : ∀ i, i < 32 → bt (-1) i = true := by decide +kernel
theorem b_0 (i : Nat) : bt 0 i = false := BitVec.getLsbD_zero
theorem s_l : ∀ n, n < 32 → ((nI n &&& 31).toBitVec.smod 32).toNat = n := by decide +kernel
theorem s_u : ∀ n, n < 32 → (((nI n).toUInt32 &&& Int32.toUInt32 31).toBitVec % 32).toNat = n := by decide +kernel
theorem b_shl (n : Nat) (hn : n < 32) (x : Int32) {i : Nat} (hi : i < 32) : bt (x <<< (nI n &&& 31)) i = (decide (n ≤ i) && bt x (i - n)) := by
  unfold bt
  rw [Int32.toBitVec_shiftLeft]
  show (x.toBitVec <<< ((nI n &&& 31).toBitVec.smod 32).toNat).getLsbD i = _
  rw [s_l n hn, BitVec.getLsbD_shiftLeft]
  rcases Nat.lt_or_ge i n with h | h
  · simp [h, Nat.not_le.mpr h]
  · simp [hi, h, Nat.not_lt.mpr h]
theorem b_ushr (n : Nat) (hn : n < 32) (x : Int32) (i : Nat) : bt ((x.toUInt32 >>> ((nI n).toUInt32 &&& Int32.toUInt32 31)).toInt32) i = bt x (n + i) := by
  show (x.toUInt32 >>> ((nI n).toUInt32 &&& Int32.toUInt32 31)).toBitVec.getLsbD i = x.toUInt32.toBitVec.getLsbD (n + i)
  rw [UInt32.toBitVec_shiftRight]
  show (x.toUInt32.toBitVec >>> (((nI n).toUInt32 &&& Int32.toUInt32 31).toBitVec % 32).toNat).getLsbD i = _
  rw [s_u n hn, BitVec.getLsbD_ushiftRight]
theorem b_sshr (n : Nat) (hn : n < 32) (x : Int32) {i : Nat} (hi : i < 32) : bt (x >>> (nI n &&& 31)) i = if n + i < 32 then bt x (n + i) else bt x 31 := by
  unfold bt
  rw [Int32.toBitVec_shiftRight]
  show (x.toBitVec.sshiftRight ((nI n &&& 31).toBitVec.smod 32).toNat).getLsbD i = _
  rw [s_l n hn, BitVec.getLsbD_sshiftRight, BitVec.msb_eq_getLsbD_last]
  simp [hi]
theorem b_shl8 (x : Int32) {i : Nat} (hi : i < 32) : bt (x <<< ((8 : Int32) &&& 31)) i = (decide (8 ≤ i) && bt x (i - 8)) := b_shl 8 (by omega) x hi
theorem b_shl16 (x : Int32) {i : Nat} (hi : i < 32) : bt (x <<< ((16 : Int32) &&& 31)) i = (decide (16 ≤ i) && bt x (i - 16)) := b_shl 16 (by omega) x hi
theorem b_shl24 (x : Int32) {i : Nat} (hi : i < 32) : bt (x <<< ((24 : Int32) &&& 31)) i = (decide (24 ≤ i) && bt x (i - 24)) := b_shl 24 (by omega) x hi
theorem b_sshr8 (x : Int32) {i : Nat} (hi : i < 32) : bt (x >>> ((8 : Int32) &&& 31)) i = if 8 + i < 32 then bt x (8 + i) else bt x 31 := b_sshr 8 (by omega) x hi
/-! ===== nI under and, xor, >>>, one bit, 65535 ===== -/
theorem nx_and (a b : Nat) : nI a &&& nI b = nI (a &&& b) := by
  apply Int32.toBitVec_inj.1
  show BitVec.ofNat 32 a &&& BitVec.ofNat 32 b = BitVec.ofNat 32 (a &&& b)
  apply BitVec.eq_of_getLsbD_eq
  intro i hi
  simp [hi]
theorem nx_xor (a b : Nat) : nI a ^^^ nI b = nI (a ^^^ b) := by
  apply Int32.toBitVec_inj.1
  show BitVec.ofNat 32 a ^^^ BitVec.ofNat 32 b = BitVec.ofNat 32 (a ^^^ b)
  apply BitVec.eq_of_getLsbD_eq
  intro i hi
  simp [hi]
theorem nx_cnt : ∀ j : Fin 32, (UInt32.ofNat j.val &&& Int32.toUInt32 31).toNat % 32 = j.val := by decide +kernel
theorem nx_ush {k j : Nat} (hk : k < 65536) (hj : j < 32) : ((nI k).toUInt32 >>> ((nI j).toUInt32 &&& Int32.toUInt32 31)).toInt32 = nI (k >>> j) := by
  have hs : k >>> j ≤ k := by
    rw [Nat.shiftRight_eq_div_pow]
    exact Nat.div_le_self _ _
  have e2 : UInt32.ofNat k >>> (UInt32.ofNat j &&& Int32.toUInt32 31) = UInt32.ofNat (k >>> j) := by
    apply UInt32.toNat_inj.1
    have h1 : (UInt32.ofNat k).toNat = k := Nat.mod_eq_of_lt (by omega)
    have h2 : (UInt32.ofNat (k >>> j)).toNat = k >>> j := Nat.mod_eq_of_lt (by omega)
    rw [UInt32.toNat_shiftRight, nx_cnt ⟨j, hj⟩, h1, h2]
  show (UInt32.ofNat k >>> (UInt32.ofNat j &&& Int32.toUInt32 31)).toInt32 = _
  rw [e2]
  rfl
theorem nx_bit {k j : Nat} (hk : k < 65536) (hj : j < 16) : (((nI k).toUInt32 >>> ((nI j).toUInt32 &&& Int32.toUInt32 31)).toInt32 &&& 1) = 0 ↔ k.testBit j = false := by
  rw [nx_ush hk (by omega)]
  show nI (k >>> j) &&& nI 1 = 0 ↔ _
  rw [nx_and, Nat.and_one_is_mod, ← nI_0, nI_eq (by omega) (by omega), Nat.testBit_eq_decide_div_mod_eq, Nat.shiftRight_eq_div_pow, decide_eq_false_iff_not]
  generalize k / 2 ^ j = z
  omega
theorem nx_mod (k : Nat) : nI k &&& 65535 = nI (k % 65536) := by
  show nI k &&& nI 65535 = _
  rw [nx_and, show (65535 : Nat) = 2 ^ 16 - 1 from rfl, Nat.and_two_pow_sub_one_eq_mod]
theorem nx_m16 {k : Nat} (h : k < 65536) : nI k &&& 65535 = nI k := by rw [nx_mod, Nat.mod_eq_of_lt h]
theorem nx_mask (x : Int32) : ∃ k, k < 65536 ∧ x &&& 65535 = nI k := by
  have e : x = nI x.toBitVec.toNat := by
    apply Int32.toBitVec_inj.1
    show x.toBitVec = BitVec.ofNat 32 x.toBitVec.toNat
    simp
  refine ⟨x.toBitVec.toNat % 65536, Nat.mod_lt _ (by omega), ?_⟩
  rw [← nx_mod, ← e]
/-! ===== Int32 as a set of bits: test, set ===== -/
def nf_M (m : Int32) : Nat := 4294967296 - m.toBitVec.toNat
theorem nf_sh : ∀ l, l < 32 → ((1 : Int32) <<< (nI l &&& 31)).toBitVec = BitVec.twoPow 32 l := by decide +kernel
theorem nf_sl : ∀ l, l < 32 → (((nI l).toUInt32 &&& Int32.toUInt32 31).toBitVec % 32).toNat = l := by decide +kernel
theorem nf_tp : ∀ l, l < 32 → BitVec.twoPow 32 l ≠ 0#32 := by decide +kernel
theorem nf_bit (m : Int32) (l : Nat) (hl : l < 32) : ((m.toUInt32 >>> ((nI l).toUInt32 &&& Int32.toUInt32 31)).toInt32 &&& 1) = 0 ↔ (m &&& ((1 : Int32) <<< (nI l &&& 31))) = 0 := by
  have e : ((m.toUInt32 >>> ((nI l).toUInt32 &&& Int32.toUInt32 31)).toInt32).toBitVec = m.toBitVec >>> l := by
    show m.toBitVec >>> (((nI l).toUInt32 &&& Int32.toUInt32 31).toBitVec % 32) = m.toBitVec >>> l
    rw [BitVec.ushiftRight_eq', nf_sl l hl]
  rw [← Int32.toBitVec_inj, ← Int32.toBitVec_inj, Int32.toBitVec_and, Int32.toBitVec_and, nf_sh l hl, e, BitVec.and_twoPow]
  show (m.toBitVec >>> l &&& 1#32) = 0#32 ↔ _ = 0#32
  rw [BitVec.and_one_eq_setWidth_ofBool_getLsbD, BitVec.getLsbD_ushiftRight, Nat.add_zero]
  cases hb : m.toBitVec.getLsbD l
  · exact ⟨fun _ => by simp, fun _ => by decide⟩
  · exact ⟨fun z => absurd z (by decide), fun z => absurd ((if_pos rfl).symm.trans z) (nf_tp l hl)⟩
theorem nf_gr (m k : Int32) (h : m &&& k = 0) (hk : k ≠ 0) : nf_M (m ||| k) < nf_M m := by
  have hm := m.toBitVec.isLt
  have hm' := (m ||| k).toBitVec.isLt
  have h1 : m.toBitVec.toNat ≤ (m ||| k).toBitVec.toNat := by
    rw [Int32.toBitVec_or, BitVec.toNat_or]
    exact Nat.left_le_or
  have h2 : m.toBitVec.toNat ≠ (m ||| k).toBitVec.toNat := by
    intro e
    have e2 : m = m ||| k := Int32.toBitVec_inj.mp (BitVec.eq_of_toNat_eq e)
    apply hk
    apply Int32.toBitVec_inj.mp
    show k.toBitVec = 0#32
    apply BitVec.eq_of_getLsbD_eq
    intro i hi
    have a : m.toBitVec.getLsbD i = (m.toBitVec.getLsbD i || k.toBitVec.getLsbD i) := by rw [← BitVec.getLsbD_or, ← Int32.toBitVec_or, ← e2]
    have b : (m.toBitVec.getLsbD i && k.toBitVec.getLsbD i) = false := by
      rw [← BitVec.getLsbD_and, ← Int32.toBitVec_and, h]
      exact BitVec.getLsbD_zero
    rw [BitVec.getLsbD_zero]
    revert a b
    cases m.toBitVec.getLsbD i <;> cases k.toBitVec.getLsbD i <;> simp
  unfold nf_M
  omega
/-! ===== a byte read unsigned ===== -/
theorem bp_b (x : Int32) : x.toInt8.toInt32 &&& 255 = x &&& 255 := by
  apply Int32.toBitVec_inj.mp
  rw [Int32.toBitVec_and, Int32.toBitVec_and, Int8.toBitVec_toInt32, Int32.toBitVec_toInt8]
  apply BitVec.eq_of_getLsbD_eq
  intro i hi
  rw [BitVec.getLsbD_and, BitVec.getLsbD_and]
  have hm : ∀ i < 32, 8 ≤ i → (255 : Int32).toBitVec.getLsbD i = false := by decide
  rcases Nat.lt_or_ge i 8 with z | z
  · rw [BitVec.getLsbD_signExtend, BitVec.getLsbD_signExtend, if_pos z, if_pos hi]
    simp only [z, hi, decide_true, Bool.true_and]
  · rw [hm i hi z]; simp
/-! ===== the char cast and 65535 ===== -/
theorem em_w (v : Int32) : ∃ w : Nat, w < 65536 ∧ (v.toUInt32 % 65536).toInt32 = nI w ∧ v &&& 65535 = nI w := by
  have hr := lw_u16_r v
  have h0 : (0 : Int32).toInt = 0 := by decide
  obtain ⟨w, h1, h2⟩ := nI_of (x := lw_u16 v) (by rw [Int32.lt_iff_toInt_lt]; omega)
  have h3 : (v.toUInt32 % 65536).toInt32 = nI w := h2
  rw [h2, nI_toInt h1] at hr
  exact ⟨w, by omega, h3, by rw [← lg_i2c_mask, ← lg_i2c_nf, h3]⟩
/-! ===== Int64 as a set of bits: test, set, clear ===== -/
theorem ts_nf {x : Bool} (h : ¬ x = false) : x = true := by cases x <;> first | rfl | exact absurd rfl h
theorem ts_nt {x : Bool} (h : ¬ x = true) : x = false := by cases x <;> first | rfl | exact absurd rfl h
theorem ts_bit {w : Int64} {s : UInt64} {j : Nat} (hj : j < 64) (hs : s.toNat = j) : ((w.toUInt64 >>> s).toInt64 &&& 1) = 0 ↔ w.toBitVec.getLsbD j = false := by
  have e : (w.toUInt64 >>> s).toInt64.toBitVec = w.toBitVec >>> j := by
    apply BitVec.eq_of_toNat_eq
    show (w.toUInt64 >>> s).toNat = _
    rw [UInt64.toNat_shiftRight, hs, Nat.mod_eq_of_lt hj, BitVec.toNat_ushiftRight]
    rfl
  rw [← Int64.toBitVec_inj, Int64.toBitVec_and, e]
  show w.toBitVec >>> j &&& 1#64 = 0#64 ↔ _
  constructor
  · intro h
    have t := congrArg (fun x => x.getLsbD 0) h
    simpa using t
  · intro h
    apply BitVec.eq_of_getLsbD_eq
    intro i hi
    cases i with
    | zero => simp [h]
    | succ i => simp
theorem ts_or {w m : Int64} {j : Nat} (hj : j < 64) (hm : m.toBitVec = BitVec.twoPow 64 j) : (w ||| m) = w ↔ w.toBitVec.getLsbD j = true := by
  rw [← Int64.toBitVec_inj, Int64.toBitVec_or, hm]
  constructor
  · intro h
    have t := congrArg (fun x => x.getLsbD j) h
    simp only [BitVec.getLsbD_or, BitVec.getLsbD_twoPow] at t
    simpa [hj] using t.symm
  · intro h
    apply BitVec.eq_of_getLsbD_eq
    intro i hi
    rw [BitVec.getLsbD_or, BitVec.getLsbD_twoPow]
    by_cases e : j = i
    · subst e; rw [h, Bool.true_or]
    · simp [e]
theorem ts_and {w m : Int64} {j : Nat} (hj : j < 64) (hm : m.toBitVec = BitVec.twoPow 64 j) : (w &&& (m ^^^ (-1))) = w ↔ w.toBitVec.getLsbD j = false := by
  have ha : (-1 : Int64).toBitVec = BitVec.allOnes 64 := by decide
  rw [← Int64.toBitVec_inj, Int64.toBitVec_and, Int64.toBitVec_xor, hm, ha]
  constructor
  · intro h
    have t := congrArg (fun x => x.getLsbD j) h
    simp only [BitVec.getLsbD_and, BitVec.getLsbD_xor, BitVec.getLsbD_twoPow, BitVec.getLsbD_allOnes] at t
    simpa [hj] using t.symm
  · intro h
    apply BitVec.eq_of_getLsbD_eq
    intro i hi
    rw [BitVec.getLsbD_and, BitVec.getLsbD_xor, BitVec.getLsbD_twoPow, BitVec.getLsbD_allOnes]
    by_cases e : j = i
    · subst e; rw [h, Bool.false_and]
    · simp [e, hi]
/-! ===== lN n to 2^64: shifts, and, or, masks, one bit ===== -/
theorem wb_tb (n : Nat) : (lN n).toBitVec = BitVec.ofNat 64 n := rfl
theorem wb_inj {a b : Int64} (h : a.toBitVec = b.toBitVec) : a = b := Int64.toBitVec_inj.mp h
theorem wb_tn {n : Nat} (h : n < 2 ^ 64) : (lN n).toBitVec.toNat = n := by rw [wb_tb, BitVec.toNat_ofNat, Nat.mod_eq_of_lt h]
theorem wb_of (x : Int64) : ∃ n, n < 2 ^ 64 ∧ x = lN n := ⟨x.toBitVec.toNat, x.toBitVec.isLt, wb_inj (by rw [wb_tb]; simp)⟩
theorem wb_of32 (x : Int32) : ∃ n, n < 2 ^ 32 ∧ x = nI n := ⟨x.toBitVec.toNat, x.toBitVec.isLt, Int32.toBitVec_inj.mp (by show _ = BitVec.ofNat 32 _; simp)⟩
theorem wb_c : ∀ k, k < 64 → ((nI k).toInt64 &&& 63) = lN k := by decide +kernel
theorem wb_cu : ∀ k, k < 64 → ((nI k).toInt64.toUInt64 &&& Int64.toUInt64 63) = UInt64.ofNat k := by decide +kernel
theorem wb_sm : ∀ k, k < 64 → (BitVec.ofNat 64 k).smod 64 = BitVec.ofNat 64 k := by decide +kernel
theorem wb_pw {a b : Nat} (h : a ≤ b) : 2 ^ b = 2 ^ a * 2 ^ (b - a) := by rw [← Nat.pow_add]; congr 1; omega
theorem wb_lt2 {a b : Nat} (h : a < b) : 2 ^ a < 2 ^ b := Nat.pow_lt_pow_right (by decide) h
theorem wb_mod (n : Nat) : lN n = lN (n % 2 ^ 64) := wb_inj (by rw [wb_tb, wb_tb]; apply BitVec.eq_of_toNat_eq; rw [BitVec.toNat_ofNat, BitVec.toNat_ofNat, Nat.mod_mod])
theorem wb_shr {n k : Nat} (hn : n < 2 ^ 64) (hk : k < 64) : ((lN n).toUInt64 >>> ((nI k).toInt64.toUInt64 &&& Int64.toUInt64 63)).toInt64 = lN (n / 2 ^ k) := by
  rw [wb_cu k hk]
  apply wb_inj
  apply BitVec.eq_of_toNat_eq
  show ((lN n).toUInt64 >>> UInt64.ofNat k).toNat = (BitVec.ofNat 64 _).toNat
  have h1 : (UInt64.ofNat k).toNat = k := by
    show (BitVec.ofNat 64 k).toNat = k
    rw [BitVec.toNat_ofNat, Nat.mod_eq_of_lt (by omega)]
  have h2 : (lN n).toUInt64.toNat = n := wb_tn hn
  rw [UInt64.toNat_shiftRight, h1, h2, Nat.mod_eq_of_lt hk, Nat.shiftRight_eq_div_pow, BitVec.toNat_ofNat, Nat.mod_eq_of_lt (Nat.lt_of_le_of_lt (Nat.div_le_self _ _) hn)]
theorem wb_shl (n : Nat) {k : Nat} (hk : k < 64) : lN n <<< ((nI k).toInt64 &&& 63) = lN (n * 2 ^ k) := by
  rw [wb_c k hk]
  apply wb_inj
  rw [Int64.toBitVec_shiftLeft, wb_tb, wb_tb, wb_tb, wb_sm k hk]
  apply BitVec.eq_of_toNat_eq
  rw [BitVec.shiftLeft_eq', BitVec.toNat_shiftLeft, BitVec.toNat_ofNat, BitVec.toNat_ofNat, BitVec.toNat_ofNat, Nat.mod_eq_of_lt (show k < 2 ^ 64 by omega), Nat.shiftLeft_eq, Nat.mul_mod, Nat.mod_mod, ← Nat.mul_mod]
theorem wb_and {a b : Nat} (ha : a < 2 ^ 64) (hb : b < 2 ^ 64) : lN a &&& lN b = lN (a &&& b) := by
  apply wb_inj
  rw [Int64.toBitVec_and, wb_tb, wb_tb, wb_tb]
  apply BitVec.eq_of_toNat_eq
  rw [BitVec.toNat_and, BitVec.toNat_ofNat, BitVec.toNat_ofNat, BitVec.toNat_ofNat, Nat.mod_eq_of_lt ha, Nat.mod_eq_of_lt hb, Nat.mod_eq_of_lt (Nat.and_lt_two_pow _ hb)]
theorem wb_or {a b : Nat} (ha : a < 2 ^ 64) (hb : b < 2 ^ 64) : lN a ||| lN b = lN (a ||| b) := by
  apply wb_inj
  rw [Int64.toBitVec_or, wb_tb, wb_tb, wb_tb]
  apply BitVec.eq_of_toNat_eq
  rw [BitVec.toNat_or, BitVec.toNat_ofNat, BitVec.toNat_ofNat, BitVec.toNat_ofNat, Nat.mod_eq_of_lt ha, Nat.mod_eq_of_lt hb, Nat.mod_eq_of_lt (Nat.or_lt_two_pow ha hb)]
theorem wb_mask {n k : Nat} (hn : n < 2 ^ 64) (hk : k < 64) : lN n &&& lN (2 ^ k - 1) = lN (n % 2 ^ k) := by
  rw [wb_and hn (by have := wb_lt2 hk; omega), Nat.and_two_pow_sub_one_eq_mod]
theorem wb_a1 {n : Nat} (hn : n < 2 ^ 64) : lN n &&& 1 = lN (n % 2) := wb_mask (k := 1) hn (by decide)
theorem wb_bit {n k : Nat} (hn : n < 2 ^ 64) (hk : k < 64) : ((lN n).toUInt64 >>> ((nI k).toInt64.toUInt64 &&& Int64.toUInt64 63)).toInt64 &&& 1 = lN (n / 2 ^ k % 2) := by
  rw [wb_shr hn hk, wb_a1 (Nat.lt_of_le_of_lt (Nat.div_le_self _ _) hn)]
theorem wb_xor {q k : Nat} (hk : k < 63) (h : 2 ^ k ≤ q) (h2 : q < 2 ^ (k + 1)) : lN q ^^^ lN (2 ^ k) = lN (q - 2 ^ k) := by
  obtain ⟨r, rfl⟩ : ∃ r, q = 2 ^ k + r := ⟨q - 2 ^ k, by omega⟩
  have hr : r < 2 ^ k := by rw [Nat.pow_succ] at h2; omega
  have hx : (2 ^ k + r) ^^^ 2 ^ k = r := by
    apply Nat.eq_of_testBit_eq
    intro i
    rw [Nat.testBit_xor, Nat.testBit_two_pow]
    rcases Nat.lt_trichotomy i k with h | h | h
    · rw [Nat.testBit_two_pow_add_gt h]
      simp [show ¬ k = i by omega]
    · subst h
      rw [Nat.testBit_two_pow_add_eq]
      simp
    · have a1 : 2 ^ (k + 1) ≤ 2 ^ i := Nat.pow_le_pow_right (by decide) h
      rw [Nat.testBit_lt_two_pow (show 2 ^ k + r < 2 ^ i by omega), Nat.testBit_lt_two_pow (show r < 2 ^ i by omega)]
      simp [show ¬ k = i by omega]
  have b1 := wb_lt2 (show k + 1 < 64 by omega)
  have b2 := wb_lt2 (show k < 64 by omega)
  apply wb_inj
  rw [Int64.toBitVec_xor, wb_tb, wb_tb, wb_tb]
  apply BitVec.eq_of_toNat_eq
  rw [BitVec.toNat_xor, BitVec.toNat_ofNat, BitVec.toNat_ofNat, BitVec.toNat_ofNat, Nat.mod_eq_of_lt (by omega : 2 ^ k + r < 2 ^ 64), Nat.mod_eq_of_lt b2, hx, Nat.add_sub_cancel_left, Nat.mod_eq_of_lt (by omega)]
/-! ===== lN: masks, 'or' of parts that don't overlap is a sum ===== -/
theorem u_tn {n : Nat} (h : n < 2 ^ 64) : (UInt64.ofNat n).toNat = n := Nat.mod_eq_of_lt h
theorem g_and {a b c : Nat} (ha : a < 2 ^ 64) (hb : b < 2 ^ 64) (hc : a &&& b = c) : lN a &&& lN b = lN c := by
  subst hc
  have h : UInt64.ofNat a &&& UInt64.ofNat b = UInt64.ofNat (a &&& b) := UInt64.toNat_inj.mp (by rw [UInt64.toNat_and, u_tn ha, u_tn hb, u_tn (Nat.and_lt_two_pow a hb)])
  have h2 := congrArg UInt64.toInt64 h
  exact h2
theorem g_and1 {a : Nat} (ha : a < 2 ^ 64) : lN a &&& 1 = lN (a % 2) := g_and (b := 1) ha (by decide) (Nat.and_two_pow_sub_one_eq_mod a 1)
theorem g_mask {a s p : Nat} (hp : 2 ^ s = p) (hs : s < 64) (ha : a < 2 ^ 64) : lN a &&& lN (p - 1) = lN (a % p) := by
  subst hp
  have := Nat.pow_lt_pow_right (show 1 < 2 by decide) hs
  exact g_and ha (by omega) (Nat.and_two_pow_sub_one_eq_mod a s)
theorem g_or {k p a b : Nat} (hp : 2 ^ k = p) (ha : a < p) (h : b * p + a < 2 ^ 64) : lN (b * p) ||| lN a = lN (b * p + a) := by
  subst hp
  have h1 : b * 2 ^ k ||| a = b * 2 ^ k + a := by rw [← Nat.shiftLeft_eq, Nat.shiftLeft_add_eq_or_of_lt ha]
  have h3 : UInt64.ofNat (b * 2 ^ k) ||| UInt64.ofNat a = UInt64.ofNat (b * 2 ^ k + a) := UInt64.toNat_inj.mp (by rw [UInt64.toNat_or, u_tn (by omega), u_tn (by omega), u_tn h, h1])
  have h2 := congrArg UInt64.toInt64 h3
  exact h2
theorem g_or' {k p a b : Nat} (hp : 2 ^ k = p) (ha : a < p) (h : a + b * p < 2 ^ 64) : lN a ||| lN (b * p) = lN (a + b * p) := by
  rw [Int64.or_comm, g_or hp ha (by omega), Nat.add_comm]
theorem g_ushr {a k p : Nat} {y : UInt64} (hy : y = UInt64.ofNat k) (hk : k < 64) (hp : 2 ^ k = p) (ha : a < 2 ^ 64) : ((lN a).toUInt64 >>> y).toInt64 = lN (a / p) := by
  subst hy hp
  have h : UInt64.ofNat a >>> UInt64.ofNat k = UInt64.ofNat (a / 2 ^ k) := UInt64.toNat_inj.mp (by rw [UInt64.toNat_shiftRight, u_tn ha, u_tn (by omega), u_tn (Nat.lt_of_le_of_lt (Nat.div_le_self _ _) ha), Nat.mod_eq_of_lt hk, Nat.shiftRight_eq_div_pow])
  have h2 := congrArg UInt64.toInt64 h
  exact h2
theorem g_shl {a k p : Nat} {y : Int64} (hy : y.toBitVec.smod 64 = BitVec.ofNat 64 k) (hk : k < 64) (hp : 2 ^ k = p) (ha : a < 2 ^ 64) : lN a <<< y = lN (a * p) := by
  subst hp
  apply Int64.toBitVec_inj.mp
  rw [Int64.toBitVec_shiftLeft, hy]
  apply BitVec.eq_of_toNat_eq
  have hb : (lN a).toBitVec.toNat = a := Nat.mod_eq_of_lt ha
  have hk' : (BitVec.ofNat 64 k).toNat = k := Nat.mod_eq_of_lt (by omega)
  have h : ((lN a).toBitVec <<< BitVec.ofNat 64 k).toNat = (a * 2 ^ k) % 2 ^ 64 := by simp only [BitVec.shiftLeft_eq', BitVec.toNat_shiftLeft, hb, hk', Nat.shiftLeft_eq]
  exact h
/-! ===== lN to 2^62 under >> and >>> ===== -/
theorem pf_lI {a : Nat} (h : a < 2 ^ 63) : (lN a).toInt = (a : Int) := lg_ofNat_toInt h
theorem pf_shr {a d : Nat} {D : Int64} (hD : (D.toBitVec.smod 64).toNat = d) (h : a < 2 ^ 62) : lN a >>> D = lN (a / 2 ^ d) := by
  have hd : a / 2 ^ d ≤ a := Nat.div_le_self _ _
  apply Int64.toInt_inj.mp
  have e : (lN a >>> D).toInt = (lN a).toInt >>> d := by
    rw [← hD]
    exact BitVec.toInt_sshiftRight ..
  rw [e, Int.shiftRight_eq_div_pow, pf_lI (by omega), pf_lI (by omega)]
  rfl
theorem pf_ushr {a d : Nat} {D : UInt64} (hD : D.toNat % 64 = d) (h : a < 2 ^ 62) : ((lN a).toUInt64 >>> D).toInt64 = lN (a / 2 ^ d) := by
  have hd : a / 2 ^ d ≤ a := Nat.div_le_self _ _
  have e : (lN a).toUInt64 >>> D = UInt64.ofNat (a / 2 ^ d) := UInt64.toNat_inj.mp (by
    rw [UInt64.toNat_shiftRight, hD, Nat.shiftRight_eq_div_pow, UInt64.toNat_ofNat']
    show (UInt64.ofNat a).toNat / 2 ^ d = _
    rw [UInt64.toNat_ofNat', Nat.mod_eq_of_lt (by omega), Nat.mod_eq_of_lt (by omega)])
  rw [e]
  rfl
theorem pf_andw (x : Int64) : ∃ m, m < 2 ^ 32 ∧ x &&& 4294967295 = lN m := ⟨x.toBitVec.toNat % 2 ^ 32, Nat.mod_lt _ (by decide), Int64.toBitVec_inj.mp (BitVec.eq_of_toNat_eq (by
  show (x.toBitVec &&& 4294967295#64).toNat = (BitVec.ofNat 64 (x.toBitVec.toNat % 2 ^ 32)).toNat
  rw [BitVec.toNat_and, show (4294967295#64).toNat = 2 ^ 32 - 1 from by decide, Nat.and_two_pow_sub_one_eq_mod, BitVec.toNat_ofNat]
  omega))⟩
/-! ===== Int64 as an unsigned number: uN x ===== -/
def uN (x : Int64) : Nat := x.toUInt64.toNat
theorem uN_lt (x : Int64) : uN x < 18446744073709551616 := x.toUInt64.toNat_lt
theorem uN_inj {x y : Int64} (h : uN x = uN y) : x = y := congrArg UInt64.toInt64 (UInt64.toNat_inj.mp h)
theorem uN_add (x y : Int64) : uN (x + y) = (uN x + uN y) % 18446744073709551616 := by
  show (x.toUInt64 + y.toUInt64).toNat = _
  exact UInt64.toNat_add _ _
theorem uN_mul (x y : Int64) : uN (x * y) = (uN x * uN y) % 18446744073709551616 := by
  show (x.toUInt64 * y.toUInt64).toNat = _
  exact UInt64.toNat_mul _ _
theorem uN_shl (x : Int64) : uN (x <<< ((1 : Int32).toInt64 &&& 63)) = (2 * uN x) % 18446744073709551616 := by
  have h : (((1 : Int32).toInt64 &&& 63).toBitVec.smod 64).toNat = 1 := by decide
  show (x.toBitVec <<< (((1 : Int32).toInt64 &&& 63).toBitVec.smod 64).toNat).toNat = _
  rw [h, BitVec.toNat_shiftLeft, Nat.shiftLeft_eq, Nat.mul_comm]
  rfl
theorem uN_shr (x : Int64) (s : UInt64) : uN (x.toUInt64 >>> s).toInt64 = uN x / 2 ^ (s.toNat % 64) := by
  show (x.toUInt64 >>> s).toNat = _
  rw [UInt64.toNat_shiftRight, Nat.shiftRight_eq_div_pow]
  rfl
theorem uN_s32 (x : Int64) : uN (x.toUInt64 >>> ((32 : Int32).toInt64.toUInt64 &&& Int64.toUInt64 63)).toInt64 = uN x / 4294967296 := by
  have h : ((32 : Int32).toInt64.toUInt64 &&& Int64.toUInt64 63).toNat % 64 = 32 := by decide
  rw [uN_shr, h]
theorem uN_s63 (x : Int64) : uN (x.toUInt64 >>> ((63 : Int32).toInt64.toUInt64 &&& Int64.toUInt64 63)).toInt64 = uN x / 9223372036854775808 := by
  have h : ((63 : Int32).toInt64.toUInt64 &&& Int64.toUInt64 63).toNat % 64 = 63 := by decide
  rw [uN_shr, h]
theorem uN_lo (x : Int64) : uN (x &&& 4294967295) = uN x % 4294967296 := by
  show (x.toUInt64 &&& Int64.toUInt64 4294967295).toNat = _
  rw [UInt64.toNat_and]
  exact Nat.and_two_pow_sub_one_eq_mod _ 32
theorem uN_bit (x : Int64) : (x &&& 1) = 0 ↔ uN x % 2 = 0 := by
  have h : uN (x &&& 1) = uN x % 2 := by
    show (x.toUInt64 &&& Int64.toUInt64 1).toNat = _
    rw [UInt64.toNat_and]
    exact Nat.and_two_pow_sub_one_eq_mod _ 1
  rw [← h]
  exact ⟨fun z => by rw [z]; rfl, fun z => uN_inj (z.trans rfl)⟩
theorem uN_or {x y : Int64} (hy : uN y < 2) : uN ((x <<< ((1 : Int32).toInt64 &&& 63)) ||| y) = (2 * uN x) % 18446744073709551616 + uN y := by
  have h1 : uN ((x <<< ((1 : Int32).toInt64 &&& 63)) ||| y) = uN (x <<< ((1 : Int32).toInt64 &&& 63)) ||| uN y := UInt64.toNat_or _ _
  have h2 : (2 * uN x) % 18446744073709551616 = 2 ^ 1 * (uN x % 9223372036854775808) := by omega
  rw [h1, uN_shl, h2]
  exact (Nat.two_pow_add_eq_or_of_lt (i := 1) hy _).symm
theorem nat_xor {a : Nat} (h : a < 18446744073709551616) : a ^^^ 2 ^ 63 = (a + 9223372036854775808) % 18446744073709551616 := by
  have h1 : (a ^^^ 2 ^ 63) % 2 ^ 63 = a % 2 ^ 63 := by rw [Nat.xor_mod_two_pow, Nat.mod_self, Nat.xor_zero]
  have h2 : (a ^^^ 2 ^ 63) / 2 ^ 63 = (a / 2 ^ 63) ^^^ 1 := by rw [Nat.xor_div_two_pow, Nat.div_self (Nat.two_pow_pos 63)]
  have h3 : a / 2 ^ 63 = 0 ∨ a / 2 ^ 63 = 1 := by omega
  generalize a ^^^ 2 ^ 63 = t at h1 h2
  rcases h3 with h3 | h3
  · rw [h3] at h2
    have h2 : t / 2 ^ 63 = 1 := h2
    omega
  · rw [h3] at h2
    have h2 : t / 2 ^ 63 = 0 := h2
    omega
theorem uN_xor (x : Int64) : uN (x ^^^ (-9223372036854775808)) = (uN x + 9223372036854775808) % 18446744073709551616 := by
  rw [← nat_xor (uN_lt x)]
  exact UInt64.toNat_xor _ _
theorem uN_int (x : Int64) : x.toInt = if 2 * uN x < 18446744073709551616 then (uN x : Int) else (uN x : Int) - 18446744073709551616 := BitVec.toInt_eq_toNat_cond _
theorem uN_le (x y : Int64) : (x ^^^ (-9223372036854775808)) ≤ (y ^^^ (-9223372036854775808)) ↔ uN x ≤ uN y := by
  have hx := uN_lt x
  have hy := uN_lt y
  rw [Int64.le_iff_toInt_le, uN_int, uN_int, uN_xor, uN_xor]
  omega
theorem uN_sk (x : Int64) {k : Nat} (hk : k < 64) : uN (x.toUInt64 >>> ((nI k).toInt64.toUInt64 &&& Int64.toUInt64 63)).toInt64 = uN x / 2 ^ k := by
  have h : ((nI k).toInt64.toUInt64 &&& Int64.toUInt64 63).toNat % 64 = k := by
    rw [nI_l (by omega), UInt64.toNat_and]
    have e : (lN k).toUInt64.toNat = k % 2 ^ 64 := rfl
    have e2 : (Int64.toUInt64 63).toNat = 2 ^ 6 - 1 := by decide
    rw [e, e2, Nat.and_two_pow_sub_one_eq_mod]
    omega
  rw [uN_shr, h]
/-! ===== unsigned comparison by xor with the least ===== -/
theorem lN_bv (n : Nat) : (lN n).toBitVec = BitVec.ofNat 64 n := rfl
theorem lN_nat {n : Nat} (h : n < 2 ^ 64) : (lN n).toBitVec.toNat = n := by rw [lN_bv, BitVec.toNat_ofNat]; exact Nat.mod_eq_of_lt h
theorem lN_xor (a b : Nat) : lN a ^^^ lN b = lN (a ^^^ b) := by
  apply Int64.toBitVec_inj.mp; rw [Int64.toBitVec_xor, lN_bv, lN_bv, lN_bv]; apply BitVec.eq_of_getLsbD_eq; intro i hi; simp [BitVec.getLsbD_ofNat, Nat.testBit_xor, hi]
theorem lN_ti {m : Nat} (h : m < 2 ^ 64) : (lN m).toInt = if m < 2 ^ 63 then (m : Int) else (m : Int) - 2 ^ 64 := by
  have c := BitVec.toInt_eq_toNat_cond (lN m).toBitVec
  rw [lN_nat h] at c
  show (lN m).toBitVec.toInt = _
  rw [c]
  split <;> split <;> omega
theorem xor63 {x : Nat} (h : x < 2 ^ 63) : x ^^^ 2 ^ 63 = 2 ^ 63 + x := by
  apply Nat.eq_of_testBit_eq
  intro i
  rw [Nat.testBit_xor, Nat.testBit_two_pow]
  rcases Nat.lt_trichotomy i 63 with z | z | z
  · rw [Nat.testBit_two_pow_add_gt z, decide_eq_false (by omega)]; simp
  · subst z; rw [Nat.testBit_two_pow_add_eq]; simp
  · have hp : 2 ^ 64 ≤ 2 ^ i := Nat.pow_le_pow_right (by decide) z
    rw [Nat.testBit_lt_two_pow (show x < 2 ^ i by omega), Nat.testBit_lt_two_pow (show 2 ^ 63 + x < 2 ^ i by omega), decide_eq_false (by omega)]; rfl
theorem xorS {a : Nat} (h : a < 2 ^ 64) : (lN a ^^^ (-9223372036854775808)).toInt = (a : Int) - 2 ^ 63 := by
  rw [show (-9223372036854775808 : Int64) = lN (2 ^ 63) from by decide +kernel, lN_xor]
  rcases Nat.lt_or_ge a (2 ^ 63) with z | z
  · rw [xor63 z, lN_ti (by omega), if_neg (by omega)]; omega
  · obtain ⟨x, rfl⟩ : ∃ x, a = 2 ^ 63 + x := ⟨a - 2 ^ 63, by omega⟩
    rw [← xor63 (by omega), Nat.xor_assoc, Nat.xor_self, Nat.xor_zero, lN_ti (by omega), if_pos (by omega), xor63 (by omega)]; omega
theorem ultL {a b : Nat} (ha : a < 2 ^ 64) (hb : b < 2 ^ 64) : ((lN b ^^^ (-9223372036854775808)) ≤ (lN a ^^^ (-9223372036854775808))) ↔ b ≤ a := by
  rw [Int64.le_iff_toInt_le, xorS ha, xorS hb]; omega
/-! ===== Int64 masks of n low bits ===== -/
theorem cr_bits (W U M : BitVec 64) : ((W &&& U) &&& (U &&& (M ^^^ BitVec.allOnes 64))) = 0#64 ↔ (W &&& U) &&& M = W &&& U := by
  constructor
  · intro h
    apply BitVec.eq_of_getLsbD_eq
    intro i hi
    have e := congrArg (fun x => BitVec.getLsbD x i) h
    simp only [BitVec.getLsbD_and, BitVec.getLsbD_xor, BitVec.getLsbD_allOnes, BitVec.getLsbD_zero, hi, decide_true] at e ⊢
    revert e
    cases W.getLsbD i <;> cases U.getLsbD i <;> cases M.getLsbD i <;> decide
  · intro h
    apply BitVec.eq_of_getLsbD_eq
    intro i hi
    have e := congrArg (fun x => BitVec.getLsbD x i) h
    simp only [BitVec.getLsbD_and, BitVec.getLsbD_xor, BitVec.getLsbD_allOnes, BitVec.getLsbD_zero, hi, decide_true] at e ⊢
    revert e
    cases W.getLsbD i <;> cases U.getLsbD i <;> cases M.getLsbD i <;> decide
theorem cr_mask (w U m : Int64) (n : Nat) (hm : m.toBitVec.toNat = 2 ^ n - 1) : ((w &&& U) &&& (U &&& (m ^^^ (-1)))) = 0 ↔ (w &&& U).toBitVec.toNat < 2 ^ n := by
  have e0 : (-1 : Int64).toBitVec = BitVec.allOnes 64 := by decide
  have z0 : (0 : Int64).toBitVec = 0#64 := by decide
  rw [← Int64.toBitVec_inj, z0, Int64.toBitVec_and, Int64.toBitVec_and, Int64.toBitVec_and, Int64.toBitVec_xor, e0, cr_bits]
  generalize w.toBitVec &&& U.toBitVec = T
  rw [← BitVec.toNat_inj, BitVec.toNat_and, hm, Nat.and_two_pow_sub_one_eq_mod]
  constructor
  · intro h
    have t := Nat.mod_lt T.toNat (Nat.two_pow_pos n)
    rw [h] at t
    exact t
  · exact Nat.mod_eq_of_lt
theorem cr_shr (t : Int64) (x : UInt64) (n : Nat) (hx : x.toNat % 64 = n) : (t.toUInt64 >>> x).toInt64 = 0 ↔ t.toBitVec.toNat < 2 ^ n := by
  rw [← Int64.toBitVec_inj, ← BitVec.toNat_inj]
  show (t.toUInt64 >>> x).toNat = 0 ↔ t.toUInt64.toNat < 2 ^ n
  rw [UInt64.toNat_shiftRight, hx, Nat.shiftRight_eq_div_pow]
  constructor
  · intro h
    have d : t.toUInt64.toNat / 2 ^ n < 1 := by
      rw [h]
      decide
    have e := (Nat.div_lt_iff_lt_mul (Nat.two_pow_pos n)).mp d
    rw [Nat.one_mul] at e
    exact e
  · exact Nat.div_eq_of_lt
theorem cr_amt (s : Int64) : ∃ n, n < 64 ∧ s &&& 63 = lN n ∧ (s.toUInt64 &&& Int64.toUInt64 63).toNat % 64 = n := by
  have e : (s.toUInt64 &&& Int64.toUInt64 63).toNat = s.toUInt64.toNat % 2 ^ 6 := by
    rw [UInt64.toNat_and, show (Int64.toUInt64 63).toNat = 2 ^ 6 - 1 from by decide, Nat.and_two_pow_sub_one_eq_mod]
  refine ⟨s.toUInt64.toNat % 2 ^ 6, by omega, ?_, by omega⟩
  rw [← Int64.toBitVec_inj, ← BitVec.toNat_inj]
  show (s.toUInt64 &&& Int64.toUInt64 63).toNat = (BitVec.ofNat 64 (s.toUInt64.toNat % 2 ^ 6)).toNat
  rw [e, BitVec.toNat_ofNat]
  omega
end
section
/-! ===== counting ===== -/
def cl_n (S : Nat → Bool) : Nat → Nat
  | 0 => 0
  | n + 1 => cl_n S n + (if S n = true then 1 else 0)
theorem cl_n_s (S : Nat → Bool) (n : Nat) : cl_n S (n + 1) = cl_n S n + (if S n = true then 1 else 0) := rfl
theorem cl_n_le (S : Nat → Bool) : ∀ n, cl_n S n ≤ n := by
  intro n
  induction n with
  | zero => exact Nat.le_refl _
  | succ n ih => rw [cl_n_s]; split <;> omega
theorem cl_n_mono {S S' : Nat → Bool} : ∀ n, (∀ i, i < n → S i = true → S' i = true) → cl_n S n ≤ cl_n S' n := by
  intro n
  induction n with
  | zero => intro _; exact Nat.le_refl _
  | succ n ih =>
    intro h
    have h1 := ih (fun i hi => h i (by omega))
    have h2 := h n (by omega)
    rw [cl_n_s, cl_n_s]
    by_cases hs : S n = true
    · rw [if_pos hs, if_pos (h2 hs)]; omega
    · rw [if_neg hs]; split <;> omega
theorem cl_n_lt {S S' : Nat → Bool} : ∀ n, (∀ i, i < n → S i = true → S' i = true) → ∀ m, m < n → ¬ S m = true → S' m = true → cl_n S n < cl_n S' n := by
  intro n
  induction n with
  | zero => intro _ m hm; omega
  | succ n ih =>
    intro h m hm h0 h1
    rw [cl_n_s, cl_n_s]
    by_cases e : m = n
    · subst e
      have := cl_n_mono (S := S) (S' := S') m (fun i hi => h i (by omega))
      rw [if_neg h0, if_pos h1]; omega
    · have h2 := ih (fun i hi => h i (by omega)) m (by omega) h0 h1
      have h3 := h n (by omega)
      by_cases hs : S n = true
      · rw [if_pos hs, if_pos (h3 hs)]; omega
      · rw [if_neg hs]; split <;> omega
theorem cl_n_congr {S S' : Nat → Bool} (n : Nat) (h : ∀ i, i < n → (S i = true ↔ S' i = true)) : cl_n S n = cl_n S' n := by
  have h1 := cl_n_mono (S := S) (S' := S') n (fun i hi => (h i hi).mp)
  have h2 := cl_n_mono (S := S') (S' := S) n (fun i hi => (h i hi).mpr)
  omega
theorem cl_n_add {S S' : Nat → Bool} (m : Nat) : ∀ n, (∀ i, i < n → i ≠ m → S' i = true → S i = true) → cl_n S' n ≤ cl_n S n + (if m < n then 1 else 0) := by
  intro n
  induction n with
  | zero => intro _; rw [if_neg (by omega)]; exact Nat.le_refl _
  | succ n ih =>
    intro h
    have h1 := ih (fun i hi => h i (by omega))
    rw [cl_n_s, cl_n_s]
    by_cases e : n = m
    · subst e
      rw [if_neg (show ¬ n < n by omega)] at h1
      rw [if_pos (show n < n + 1 by omega)]
      split <;> split <;> omega
    · have h3 := h n (by omega) e
      by_cases hs : S' n = true
      · rw [if_pos hs, if_pos (h3 hs)]
        split at h1 <;> split <;> omega
      · rw [if_neg hs]
        split at h1 <;> split <;> split <;> omega
theorem cl_n_new {S S' : Nat → Bool} {m n : Nat} (hm : m < n) (h0 : ¬ S m = true) (h1 : S' m = true) (h : ∀ i, i < n → i ≠ m → (S' i = true ↔ S i = true)) : cl_n S' n = cl_n S n + 1 := by
  have a := cl_n_add (S := S) (S' := S') m n (fun i hi hne => (h i hi hne).mp)
  rw [if_pos hm] at a
  have b := cl_n_lt (S := S) (S' := S') n (fun i hi hs => by
    by_cases e : i = m
    · rw [e] at hs; exact absurd hs h0
    · exact (h i hi e).mpr hs) m hm h0 h1
  omega
theorem cl_n_free {S : Nat → Bool} : ∀ n, cl_n S n < n → ∃ i, i < n ∧ ¬ S i = true := by
  intro n
  induction n with
  | zero => intro h; omega
  | succ n ih =>
    intro h
    rw [cl_n_s] at h
    by_cases hs : S n = true
    · rw [if_pos hs] at h
      obtain ⟨i, hi, hn⟩ := ih (by omega)
      exact ⟨i, by omega, hn⟩
    · exact ⟨n, by omega, hs⟩
theorem cl_n_full {S : Nat → Bool} {n : Nat} (h : n ≤ cl_n S n) {i : Nat} (hi : i < n) : S i = true := by
  by_cases hs : S i = true
  · exact hs
  · have h1 := cl_n_lt (S := S) (S' := fun _ => true) n (fun _ _ _ => rfl) i hi hs rfl
    have h2 := cl_n_le (fun _ => true) n
    omega
theorem cl_n_zero {S : Nat → Bool} : ∀ n, (∀ i, i < n → ¬ S i = true) → cl_n S n = 0 := by
  intro n
  induction n with
  | zero => intro _; rfl
  | succ n ih =>
    intro h
    rw [cl_n_s, if_neg (h n (by omega)), ih (fun i hi => h i (by omega))]
end
section
/-! ===== values, cells, the picture of the heap ===== -/
/-- a function with one value changed -/
def cl_u (f : Nat → Nat) (k x : Nat) : Nat → Nat := fun j => if j = k then x else f j
theorem cl_us {f : Nat → Nat} {k x : Nat} : cl_u f k x k = x := if_pos rfl
theorem cl_un {f : Nat → Nat} {k x j : Nat} (h : j ≠ k) : cl_u f k x j = f j := if_neg h
/-- a value (t, c) of the component stands for the value (k, d) of the reference; rl a: the place that cell a is an address of (32: of none) -/
def cl_V (rl : Nat → Nat) (t c k d : Int32) : Prop :=
  t = k ∧ (k = 0 ∨ (k = 1 ∧ c = d) ∨ (k = 2 ∧ ∃ a, c = nI a ∧ rl a < 32 ∧ d = nI (rl a)))
/-- the cdr of the pair with its head in cell h -/
def cl_D (al : Nat → Prop) (nx rl : Nat → Nat) (T C M : Nat → Int32) (h : Nat) (k d : Int32) : Prop :=
  (M h = 0 ∧ al (h + 1) ∧ 32 ≤ rl (h + 1) ∧ cl_V rl (T (h + 1)) (C (h + 1)) k d) ∨
  (M h = 1 ∧ k = 2 ∧ nx (h + 1) < 32 ∧ d = nI (nx (h + 1))) ∨
  (M h = 2 ∧ k = 0)
/-- every address leads to the head ph p of its place p -/
def cl_A (nw : Nat → Prop) (rl ph : Nat → Nat) (T C M : Nat → Int32) : Prop := ∀ a, rl a < 32 →
  rl (ph (rl a)) = rl a ∧ (a = ph (rl a) ∨ (T a = 3 ∧ C a = nI (ph (rl a)) ∧ (M (ph (rl a)) = 0 ∨ nw (ph (rl a)))) ∨
    (nw (ph (rl a)) ∧ T a = 3 ∧ ∃ a', rl a' = rl a ∧ C a = nI a' ∧ T a' = 3 ∧ C a' = nI (ph (rl a))))
/-- every place that has a head holds there what the reference's place holds -/
def cl_B (al : Nat → Prop) (nx rl ph : Nat → Nat) (T C M ck cd dk dd : Nat → Int32) : Prop := ∀ p, p < 32 → rl (ph p) = p →
  cl_V rl (T (ph p)) (C (ph p)) (ck p) (cd p) ∧ cl_D al nx rl T C M (ph p) (dk p) (dd p)
def cl_G (al nw : Nat → Prop) (nx rl ph : Nat → Nat) (T C M ck cd dk dd : Nat → Int32) : Prop :=
  (∀ a, rl a < 32 → al a) ∧ cl_A nw rl ph T C M ∧ cl_B al nx rl ph T C M ck cd dk dd
section
variable {al al' nw nw' : Nat → Prop} {nx nx' rl rl' ph ph' : Nat → Nat} {T C M T' C' M' ck cd dk dd ck' cd' dk' dd' : Nat → Int32} {t c k d : Int32}
theorem cl_V_ne3 (h : cl_V rl t c k d) : t ≠ 3 := by
  obtain ⟨h0, h | ⟨h, _⟩ | ⟨h, _⟩⟩ := h <;> (rw [h0, h]; decide)
theorem cl_V_mono (hm : ∀ a, rl a < 32 → rl' a = rl a) (h : cl_V rl t c k d) : cl_V rl' t c k d := by
  obtain ⟨h0, h | h | ⟨h, a, h1, h2, h3⟩⟩ := h
  · exact ⟨h0, Or.inl h⟩
  · exact ⟨h0, Or.inr (Or.inl h)⟩
  · exact ⟨h0, Or.inr (Or.inr ⟨h, a, h1, by rw [hm a h2]; exact h2, by rw [hm a h2]; exact h3⟩)⟩
/-- a value that is a pair -/
theorem cl_V_pair (h : cl_V rl t c k d) (hk : k = 2) : ∃ a, c = nI a ∧ rl a < 32 ∧ d = nI (rl a) := by
  obtain ⟨h0, h | ⟨h, _⟩ | ⟨_, h⟩⟩ := h
  · rw [hk] at h; exact absurd h (by decide)
  · rw [hk] at h; exact absurd h (by decide)
  · exact h
theorem cl_V_num (h : cl_V rl t c k d) (hk : k = 1) : c = d := by
  obtain ⟨h0, h | ⟨_, h⟩ | ⟨h, _⟩⟩ := h
  · rw [hk] at h; exact absurd h (by decide)
  · exact h
  · rw [hk] at h; exact absurd h (by decide)
theorem cl_V_nil {c d : Int32} : cl_V rl 0 c 0 d := ⟨rfl, Or.inl rfl⟩
theorem cl_V_n {c : Int32} : cl_V rl 1 c 1 c := ⟨rfl, Or.inr (Or.inl ⟨rfl, rfl⟩)⟩
theorem cl_V_p {a p : Nat} (hp : p < 32) (h : rl a = p) : cl_V rl 2 (nI a) 2 (nI p) := ⟨rfl, Or.inr (Or.inr ⟨rfl, a, rfl, by omega, by rw [h]⟩)⟩
/-- the kinds are 0, 1, 2 -/
theorem cl_V_k (h : cl_V rl t c k d) : k = 0 ∨ k = 1 ∨ k = 2 := by
  obtain ⟨h0, h | ⟨h, _⟩ | ⟨h, _⟩⟩ := h
  · exact Or.inl h
  · exact Or.inr (Or.inl h)
  · exact Or.inr (Or.inr h)
theorem cl_G_ne3 (G : cl_G al nw nx rl ph T C M ck cd dk dd) {p : Nat} (hp : p < 32) (hr : rl (ph p) = p) : T (ph p) ≠ 3 := cl_V_ne3 (G.2.2 p hp hr).1
/-- what lies beyond the cells in use doesn't matter -/
theorem cl_G_frame (G : cl_G al nw nx rl ph T C M ck cd dk dd) (hal : ∀ a, al a → al' a) (h : ∀ a, al a → T' a = T a ∧ C' a = C a ∧ M' a = M a) : cl_G al' nw nx rl ph T' C' M' ck cd dk dd := by
  obtain ⟨G1, G2, G3⟩ := G
  refine ⟨fun a ha => hal a (G1 a ha), fun a ha => ?_, fun q hq hrq => ?_⟩
  · obtain ⟨e1, e2⟩ := G2 a ha
    have f1 := h a (G1 a ha)
    have f2 := h (ph (rl a)) (G1 _ (by rw [e1]; exact ha))
    refine ⟨e1, ?_⟩
    rcases e2 with e | ⟨e3, e4, e5⟩ | ⟨e3, e4, a', e5, e6, e7, e8⟩
    · exact Or.inl e
    · exact Or.inr (Or.inl ⟨by rw [f1.1]; exact e3, by rw [f1.2.1]; exact e4, by rw [f2.2.2]; exact e5⟩)
    · have f3 := h a' (G1 a' (by rw [e5]; exact ha))
      exact Or.inr (Or.inr ⟨e3, by rw [f1.1]; exact e4, a', e5, by rw [f1.2.1]; exact e6, by rw [f3.1]; exact e7, by rw [f3.2.1]; exact e8⟩)
  · obtain ⟨v1, v2⟩ := G3 q hq hrq
    have f1 := h (ph q) (G1 _ (by rw [hrq]; exact hq))
    refine ⟨by rw [f1.1, f1.2.1]; exact v1, ?_⟩
    rcases v2 with ⟨m, a1, a2, a3⟩ | ⟨m, v⟩ | ⟨m, v⟩
    · have f3 := h _ a1
      exact Or.inl ⟨by rw [f1.2.2]; exact m, hal _ a1, a2, by rw [f3.1, f3.2.1]; exact a3⟩
    · exact Or.inr (Or.inl ⟨by rw [f1.2.2]; exact m, v⟩)
    · exact Or.inr (Or.inr ⟨by rw [f1.2.2]; exact m, v⟩)
/-- a new car -/
theorem cl_G_car (G : cl_G al nw nx rl ph T C M ck cd dk dd) {p : Nat} (hp : p < 32) (hr : rl (ph p) = p) (hv : cl_V rl t c k d) :
    cl_G al nw nx rl ph (upd T (ph p) t) (upd C (ph p) c) M (upd ck p k) (upd cd p d) dk dd := by
  have h3 := cl_G_ne3 G hp hr
  obtain ⟨G1, G2, G3⟩ := G
  refine ⟨G1, fun a ha => ?_, fun q hq hrq => ?_⟩
  · obtain ⟨e1, e2⟩ := G2 a ha
    refine ⟨e1, ?_⟩
    rcases e2 with e | ⟨e3, e4, e5⟩ | ⟨e3, e4, a', e5, e6, e7, e8⟩
    · exact Or.inl e
    · have n : a ≠ ph p := fun e => h3 (e ▸ e3)
      refine Or.inr (Or.inl ⟨?_, ?_, e5⟩)
      · rw [pk_un n]; exact e3
      · rw [pk_un n]; exact e4
    · have n : a ≠ ph p := fun e => h3 (e ▸ e4)
      have n' : a' ≠ ph p := fun e => h3 (e ▸ e7)
      exact Or.inr (Or.inr ⟨e3, by rw [pk_un n]; exact e4, a', e5, by rw [pk_un n]; exact e6, by rw [pk_un n']; exact e7, by rw [pk_un n']; exact e8⟩)
  · obtain ⟨v1, v2⟩ := G3 q hq hrq
    have D : cl_D al nx rl (upd T (ph p) t) (upd C (ph p) c) M (ph q) (dk q) (dd q) := by
      rcases v2 with ⟨m, a1, a2, a3⟩ | v | v
      · have n : ph q + 1 ≠ ph p := fun e => by rw [e, hr] at a2; omega
        exact Or.inl ⟨m, a1, a2, by rw [pk_un n, pk_un n]; exact a3⟩
      · exact Or.inr (Or.inl v)
      · exact Or.inr (Or.inr v)
    by_cases e : q = p
    · subst e; exact ⟨by rw [pk_us, pk_us, pk_us, pk_us]; exact hv, D⟩
    · have n : ph q ≠ ph p := fun e' => e (by rw [← hrq, e', hr])
      exact ⟨by rw [pk_un n, pk_un n, pk_un e, pk_un e]; exact v1, D⟩
/-- a new cdr where it stands in the next cell -/
theorem cl_G_cdr (G : cl_G al nw nx rl ph T C M ck cd dk dd) {p : Nat} (hp : p < 32) (hr : rl (ph p) = p) (hm : M (ph p) = 0) (hv : cl_V rl t c k d) :
    cl_G al nw nx rl ph (upd T (ph p + 1) t) (upd C (ph p + 1) c) M ck cd (upd dk p k) (upd dd p d) := by
  obtain ⟨G1, G2, G3⟩ := G
  have hf : al (ph p + 1) ∧ 32 ≤ rl (ph p + 1) := by
    rcases (G3 p hp hr).2 with ⟨m, a1, a2, a3⟩ | ⟨m, _⟩ | ⟨m, _⟩
    · exact ⟨a1, a2⟩
    · rw [hm] at m; exact absurd m (by decide)
    · rw [hm] at m; exact absurd m (by decide)
  have hn : ∀ a, rl a < 32 → a ≠ ph p + 1 := fun a ha e => by rw [e] at ha; omega
  refine ⟨G1, fun a ha => ?_, fun q hq hrq => ?_⟩
  · obtain ⟨e1, e2⟩ := G2 a ha
    have n := hn a ha
    refine ⟨e1, ?_⟩
    rcases e2 with e | ⟨e3, e4, e5⟩ | ⟨e3, e4, a', e5, e6, e7, e8⟩
    · exact Or.inl e
    · exact Or.inr (Or.inl ⟨by rw [pk_un n]; exact e3, by rw [pk_un n]; exact e4, e5⟩)
    · have n' := hn a' (by rw [e5]; exact ha)
      exact Or.inr (Or.inr ⟨e3, by rw [pk_un n]; exact e4, a', e5, by rw [pk_un n]; exact e6, by rw [pk_un n']; exact e7, by rw [pk_un n']; exact e8⟩)
  · obtain ⟨v1, v2⟩ := G3 q hq hrq
    have n := hn (ph q) (by rw [hrq]; exact hq)
    refine ⟨by rw [pk_un n, pk_un n]; exact v1, ?_⟩
    by_cases e : q = p
    · subst e; rw [pk_us, pk_us]
      exact Or.inl ⟨hm, hf.1, hf.2, by rw [pk_us, pk_us]; exact hv⟩
    · have n : ph q ≠ ph p := fun e' => e (by rw [← hrq, e', hr])
      have n1 : ph q + 1 ≠ ph p + 1 := by omega
      rw [pk_un e, pk_un e]
      rcases v2 with ⟨m, a1, a2, a3⟩ | v | v
      · exact Or.inl ⟨m, a1, a2, by rw [pk_un n1, pk_un n1]; exact a3⟩
      · exact Or.inr (Or.inl v)
      · exact Or.inr (Or.inr v)
/-- a compact pair's cdr becomes nil -/
theorem cl_G_end (G : cl_G al nw nx rl ph T C M ck cd dk dd) {p : Nat} (hp : p < 32) (hr : rl (ph p) = p) (hm : M (ph p) ≠ 0) :
    cl_G al nw nx rl ph T C (upd M (ph p) 2) ck cd (upd dk p 0) (upd dd p d) := by
  obtain ⟨G1, G2, G3⟩ := G
  refine ⟨G1, fun a ha => ?_, fun q hq hrq => ?_⟩
  · obtain ⟨e1, e2⟩ := G2 a ha
    refine ⟨e1, ?_⟩
    rcases e2 with e | ⟨e3, e4, e5⟩ | e
    · exact Or.inl e
    · refine Or.inr (Or.inl ⟨e3, e4, ?_⟩)
      rcases e5 with e5 | e5
      · left
        have n : ph (rl a) ≠ ph p := fun e => hm (by rw [← e]; exact e5)
        rw [pk_un n]; exact e5
      · exact Or.inr e5
    · exact Or.inr (Or.inr e)
  · obtain ⟨v1, v2⟩ := G3 q hq hrq
    refine ⟨v1, ?_⟩
    by_cases e : q = p
    · subst e; rw [pk_us, pk_us]
      exact Or.inr (Or.inr ⟨by rw [pk_us], rfl⟩)
    · have n : ph q ≠ ph p := fun e' => e (by rw [← hrq, e', hr])
      rw [pk_un e, pk_un e]
      rcases v2 with ⟨m, v⟩ | ⟨m, v⟩ | ⟨m, v⟩
      · exact Or.inl ⟨by rw [pk_un n]; exact m, v⟩
      · exact Or.inr (Or.inl ⟨by rw [pk_un n]; exact m, v⟩)
      · exact Or.inr (Or.inr ⟨by rw [pk_un n]; exact m, v⟩)
/-- what a move of place p from its head to cell x changes -/
def cl_mv (al : Nat → Prop) (ph : Nat → Nat) (T C M T' C' M' : Nat → Int32) (p x : Nat) : Prop :=
  ¬ al x ∧ (∀ a, al a → M' a = M a) ∧ (∀ a, al a → a ≠ ph p → T' a = T a ∧ C' a = C a) ∧ T' (ph p) = 3 ∧ C' (ph p) = nI x ∧ T' x = T (ph p) ∧ C' x = C (ph p)
theorem cl_mv_rl {x : Nat} (hx : ¬ al x) (G1 : ∀ a, rl a < 32 → al a) {p : Nat} : ∀ a, rl a < 32 → cl_u rl x p a = rl a := fun a ha => cl_un (fun e => hx (by rw [← e]; exact G1 a ha))
theorem cl_A_move {x p : Nat} (G1 : ∀ a, rl a < 32 → al a) (G2 : cl_A nw rl ph T C M) (hp : p < 32) (hr : rl (ph p) = p) (hv : cl_mv al ph T C M T' C' M' p x)
    (hno : ¬ nw (ph p)) (hc : M' x = 0 ∨ nw x) (hc2 : nw x ∨ M (ph p) ≠ 0) : cl_A nw (cl_u rl x p) (cl_u ph p x) T' C' M' := by
  obtain ⟨hx, hM, hTC, t1, c1, t2, c2⟩ := hv
  have hal : al (ph p) := G1 _ (by rw [hr]; exact hp)
  have hxp : ph p ≠ x := fun e => hx (e ▸ hal)
  have hmono := cl_mv_rl (rl := rl) (p := p) hx G1
  intro a ha
  by_cases eax : a = x
  · subst eax
    rw [cl_us, cl_us]
    exact ⟨cl_us, Or.inl rfl⟩
  · rw [cl_un eax] at ha
    rw [cl_un eax]
    obtain ⟨e1, e2⟩ := G2 a ha
    have hala := G1 a ha
    by_cases eq : rl a = p
    · rw [eq, cl_us, cl_us]
      rw [eq] at e2
      refine ⟨rfl, Or.inr ?_⟩
      by_cases eah : a = ph p
      · subst eah
        exact Or.inl ⟨t1, c1, hc⟩
      · obtain ⟨f1, f2⟩ := hTC a hala eah
        rcases e2 with e | ⟨e3, e4, e5⟩ | ⟨e3, _⟩
        · exact absurd e eah
        · have hm : M (ph p) = 0 := e5.resolve_right hno
          have hnx : nw x := hc2.resolve_right (fun h => h hm)
          exact Or.inr ⟨hnx, by rw [f1]; exact e3, ph p, by rw [cl_un hxp]; exact hr, by rw [f2]; exact e4, t1, c1⟩
        · exact absurd e3 hno
    · have hn1 : ph (rl a) ≠ x := fun e => hx (by rw [← e]; exact G1 _ (by rw [e1]; exact ha))
      have hn2 : a ≠ ph p := fun e => eq (by rw [e, hr])
      obtain ⟨f1, f2⟩ := hTC a hala hn2
      rw [cl_un (f := ph) eq, cl_un hn1]
      refine ⟨e1, ?_⟩
      rcases e2 with e | ⟨e3, e4, e5⟩ | ⟨e3, e4, a', e5, e6, e7, e8⟩
      · exact Or.inl e
      · exact Or.inr (Or.inl ⟨by rw [f1]; exact e3, by rw [f2]; exact e4, by rw [hM _ (G1 _ (by rw [e1]; exact ha))]; exact e5⟩)
      · have ha' : rl a' < 32 := by rw [e5]; exact ha
        have hn3 : a' ≠ ph p := fun e => eq (by rw [← e5, e, hr])
        obtain ⟨f3, f4⟩ := hTC a' (G1 a' ha') hn3
        exact Or.inr (Or.inr ⟨e3, by rw [f1]; exact e4, a', by rw [hmono a' ha']; exact e5, by rw [f2]; exact e6, by rw [f3]; exact e7, by rw [f4]; exact e8⟩)
theorem cl_B_move {x p : Nat} (G1 : ∀ a, rl a < 32 → al a) (G3 : cl_B al nx rl ph T C M ck cd dk dd) (hp : p < 32) (hr : rl (ph p) = p) (hv : cl_mv al ph T C M T' C' M' p x)
    (hal' : ∀ a, al a → al' a)
    (hnx : ∀ q, q < 32 → q ≠ p → rl (ph q) = q → M (ph q) = 1 → nx (ph q + 1) < 32 → nx' (ph q + 1) = nx (ph q + 1))
    (hdk : ∀ q, q ≠ p → dk' q = dk q) (hdd : ∀ q, q ≠ p → dd' q = dd q)
    (hD : cl_D al' nx' (cl_u rl x p) T' C' M' x (dk' p) (dd' p)) : cl_B al' nx' (cl_u rl x p) (cl_u ph p x) T' C' M' ck cd dk' dd' := by
  obtain ⟨hx, hM, hTC, t1, c1, t2, c2⟩ := hv
  have hal : al (ph p) := G1 _ (by rw [hr]; exact hp)
  have hxp : ph p ≠ x := fun e => hx (e ▸ hal)
  have hmono := cl_mv_rl (rl := rl) (p := p) hx G1
  intro q hq hrq
  by_cases e : q = p
  · subst e
    rw [cl_us, t2, c2]
    exact ⟨cl_V_mono hmono (G3 q hq hr).1, hD⟩
  · rw [cl_un (f := ph) e] at hrq
    rw [cl_un (f := ph) e]
    have hne : ph q ≠ x := fun e' => e (by rw [e', cl_us] at hrq; exact hrq.symm)
    rw [cl_un hne] at hrq
    obtain ⟨v1, v2⟩ := G3 q hq hrq
    have hn : ph q ≠ ph p := fun e' => e (by rw [← hrq, e', hr])
    have halq : al (ph q) := G1 _ (by rw [hrq]; exact hq)
    obtain ⟨f1, f2⟩ := hTC _ halq hn
    rw [f1, f2, hdk q e, hdd q e]
    refine ⟨cl_V_mono hmono v1, ?_⟩
    rcases v2 with ⟨m, a1, a2, a3⟩ | ⟨m, m1, m2, m3⟩ | ⟨m, v⟩
    · have n1 : ph q + 1 ≠ ph p := fun e' => by rw [e', hr] at a2; omega
      have n2 : ph q + 1 ≠ x := fun e' => hx (e' ▸ a1)
      obtain ⟨f3, f4⟩ := hTC _ a1 n1
      exact Or.inl ⟨by rw [hM _ halq]; exact m, hal' _ a1, by rw [cl_un n2]; exact a2, by rw [f3, f4]; exact cl_V_mono hmono a3⟩
    · have hx' := hnx q hq e hrq m m2
      exact Or.inr (Or.inl ⟨by rw [hM _ halq]; exact m, m1, by rw [hx']; exact m2, by rw [hx']; exact m3⟩)
    · exact Or.inr (Or.inr ⟨by rw [hM _ halq]; exact m, v⟩)
/-- a new pair p with its head in cell x; the cells are written already -/
theorem cl_G_new {x p : Nat} (G : cl_G al nw rl rl ph T C M ck cd dk dd) (hp : p < 32) (hf : ∀ a, rl a ≠ p) (hx : ¬ al x) (hal' : ∀ a, al a → al' a) (hx' : al' x)
    (hck : ∀ q, q ≠ p → ck' q = ck q) (hcd : ∀ q, q ≠ p → cd' q = cd q) (hdk : ∀ q, q ≠ p → dk' q = dk q) (hdd : ∀ q, q ≠ p → dd' q = dd q)
    (hV : cl_V rl (T x) (C x) (ck' p) (cd' p)) (hD : cl_D al' (cl_u rl x p) (cl_u rl x p) T C M x (dk' p) (dd' p)) :
    cl_G al' nw (cl_u rl x p) (cl_u rl x p) (cl_u ph p x) T C M ck' cd' dk' dd' := by
  obtain ⟨G1, G2, G3⟩ := G
  have hmono := cl_mv_rl (rl := rl) (p := p) hx G1
  refine ⟨fun a ha => ?_, fun a ha => ?_, fun q hq hrq => ?_⟩
  · by_cases e : a = x
    · rw [e]; exact hx'
    · rw [cl_un e] at ha; exact hal' a (G1 a ha)
  · by_cases eax : a = x
    · subst eax
      rw [cl_us, cl_us]
      exact ⟨cl_us, Or.inl rfl⟩
    · rw [cl_un eax] at ha
      rw [cl_un eax, cl_un (f := ph) (hf a)]
      obtain ⟨e1, e2⟩ := G2 a ha
      rw [hmono _ (by rw [e1]; exact ha)]
      refine ⟨e1, ?_⟩
      rcases e2 with e | e | ⟨e3, e4, a', e5, e6, e7, e8⟩
      · exact Or.inl e
      · exact Or.inr (Or.inl e)
      · exact Or.inr (Or.inr ⟨e3, e4, a', by rw [hmono a' (by rw [e5]; exact ha)]; exact e5, e6, e7, e8⟩)
  · by_cases e : q = p
    · subst e
      rw [cl_us]
      exact ⟨cl_V_mono hmono hV, hD⟩
    · rw [cl_un (f := ph) e] at hrq
      rw [cl_un (f := ph) e, hck q e, hcd q e, hdk q e, hdd q e]
      have hne : ph q ≠ x := fun e' => e (by rw [e', cl_us] at hrq; exact hrq.symm)
      rw [cl_un hne] at hrq
      obtain ⟨v1, v2⟩ := G3 q hq hrq
      refine ⟨cl_V_mono hmono v1, ?_⟩
      rcases v2 with ⟨m, a1, a2, a3⟩ | ⟨m, m1, m2, m3⟩ | v
      · have n2 : ph q + 1 ≠ x := fun e' => hx (e' ▸ a1)
        exact Or.inl ⟨m, hal' _ a1, by rw [cl_un n2]; exact a2, cl_V_mono hmono a3⟩
      · exact Or.inr (Or.inl ⟨m, m1, by rw [hmono _ m2]; exact m2, by rw [hmono _ m2]; exact m3⟩)
      · exact Or.inr (Or.inr v)
/-- the places that aren't live are forgotten -/
def cl_dr (S : Nat → Bool) (rl : Nat → Nat) : Nat → Nat := fun a => if S (rl a) = true then rl a else 32
theorem cl_dr_t {S : Nat → Bool} {a : Nat} (h : S (rl a) = true) : cl_dr S rl a = rl a := if_pos h
theorem cl_dr_lt {S : Nat → Bool} {a : Nat} (h : cl_dr S rl a < 32) : S (rl a) = true ∧ cl_dr S rl a = rl a := by
  by_cases e : S (rl a) = true
  · exact ⟨e, cl_dr_t e⟩
  · have : cl_dr S rl a = 32 := if_neg e
    omega
theorem cl_V_drop {S : Nat → Bool} (h : cl_V rl t c k d) (hS : k = 2 → ∀ q, q < 32 → d = nI q → S q = true) : cl_V (cl_dr S rl) t c k d := by
  obtain ⟨h0, h | h | ⟨h, a, h1, h2, h3⟩⟩ := h
  · exact ⟨h0, Or.inl h⟩
  · exact ⟨h0, Or.inr (Or.inl h)⟩
  · have hs := hS h _ h2 h3
    exact ⟨h0, Or.inr (Or.inr ⟨h, a, h1, by rw [cl_dr_t hs]; exact h2, by rw [cl_dr_t hs]; exact h3⟩)⟩
theorem cl_G_drop (G : cl_G al nw rl rl ph T C M ck cd dk dd) {S : Nat → Bool}
    (hS : ∀ p, p < 32 → S p = true → (ck p = 2 → ∀ q, q < 32 → cd p = nI q → S q = true) ∧ (dk p = 2 → ∀ q, q < 32 → dd p = nI q → S q = true)) :
    cl_G al nw (cl_dr S rl) (cl_dr S rl) ph T C M ck cd dk dd := by
  obtain ⟨G1, G2, G3⟩ := G
  refine ⟨fun a ha => ?_, fun a ha => ?_, fun q hq hrq => ?_⟩
  · obtain ⟨_, e⟩ := cl_dr_lt ha
    rw [e] at ha; exact G1 a ha
  · obtain ⟨hs, e⟩ := cl_dr_lt ha
    rw [e] at ha ⊢
    obtain ⟨e1, e2⟩ := G2 a ha
    rw [cl_dr_t (by rw [e1]; exact hs)]
    refine ⟨e1, ?_⟩
    rcases e2 with e | e | ⟨e3, e4, a', e5, e6, e7, e8⟩
    · exact Or.inl e
    · exact Or.inr (Or.inl e)
    · exact Or.inr (Or.inr ⟨e3, e4, a', by rw [cl_dr_t (by rw [e5]; exact hs)]; exact e5, e6, e7, e8⟩)
  · obtain ⟨hs, e⟩ := cl_dr_lt (S := S) (rl := rl) (a := ph q) (by rw [hrq]; exact hq)
    have hrq' : rl (ph q) = q := by rw [← e]; exact hrq
    rw [hrq'] at hs
    obtain ⟨s1, s2⟩ := hS q hq hs
    obtain ⟨v1, v2⟩ := G3 q hq hrq'
    refine ⟨cl_V_drop v1 s1, ?_⟩
    rcases v2 with ⟨m, a1, a2, a3⟩ | ⟨m, m1, m2, m3⟩ | v
    · refine Or.inl ⟨m, a1, ?_, cl_V_drop a3 s2⟩
      unfold cl_dr; split <;> omega
    · have hs' := s2 m1 _ m2 m3
      exact Or.inr (Or.inl ⟨m, m1, by rw [cl_dr_t hs']; exact m2, by rw [cl_dr_t hs']; exact m3⟩)
    · exact Or.inr (Or.inr v)
end
end
section
/-! ===== the component's small methods ===== -/
section
variable {vb vf vq g1 g2 : Int32} {T C M RT RC : Nat → Int32} {cl se : Nat → Int64} {sl ek : Int32} {rk rd ck cd dk dd tk df sp : Nat → Int32}
variable {al nw : Nat → Prop} {nx rl ph : Nat → Nat}
theorem cx_reg (r : Int32) : (∃ j : Nat, j < 8 ∧ r = nI j) ∨ ((∀ (post : Int32 → Prop) (u : SX), post 1 → wpX_bad post u r) ∧ (∀ (post : Int32 → Prop) (v : SY), post 0 → wpY_isRegister post v r)) := by
  rcases pk_ix r (n := 8) (by decide) with h | h | h
  · exact Or.inr ⟨fun post u hp => br_t h hp, fun post v hp => br_t h hp⟩
  · have h0 : ¬ r < 0 := by
      intro h'
      have h8 : (8 : Int32) ≤ r := h
      rw [Int32.lt_iff_toInt_lt] at h'
      rw [Int32.le_iff_toInt_le] at h8
      have e1 : (0 : Int32).toInt = 0 := by decide
      have e2 : (8 : Int32).toInt = 8 := by decide
      omega
    have h7 : ¬ r ≤ 7 := by
      intro h'
      have h8 : (8 : Int32) ≤ r := h
      rw [Int32.le_iff_toInt_le] at h' h8
      have e1 : (7 : Int32).toInt = 7 := by decide
      have e2 : (8 : Int32).toInt = 8 := by decide
      omega
    exact Or.inr ⟨fun post u hp => br_f h0 (br_f h7 hp), fun post v hp => br_f h0 (br_t (Int32.not_le.mp h7) hp)⟩
  · exact Or.inl h
theorem cx_ok {post : Int32 → Prop} {u : SX} {j : Nat} (hj : j < 8) (hp : post 0) : wpX_bad post u (nI j) :=
  br_f (nI_pos (by omega)) (br_t (nI_le (a := j) (b := 7) (by omega) (by decide)) hp)
theorem cy_ok {post : Int32 → Prop} {v : SY} {j : Nat} (hj : j < 8) (hp : post 1) : wpY_isRegister post v (nI j) :=
  br_f (nI_pos (by omega)) (br_f (nI_nlt (a := 7) (b := j) (by omega) (by decide)) hp)
theorem cx_cl {a : Nat} (h : a < 320) : (nI a).toNatClampNeg = a := nI_clamp (by omega)
theorem cx_cl8 {a : Nat} (h : a < 8) : (nI a).toNatClampNeg = a := nI_clamp (by omega)
theorem cx_put {post : SX → Prop} {a : Nat} {t c : Int32} (ha : a < 320) (h : post (vb, vf, vq, g1, g2, upd T a t, upd C a c, M, RT, RC, cl, se)) : wpX_put post (vb, vf, vq, g1, g2, T, C, M, RT, RC, cl, se) (nI a) t c := by
  unfold wpX_put
  dsimp only
  rw [cx_cl ha]
  exact ⟨vp_in_nI ha (by decide), nm_e ⟨vp_in_nI ha (by decide), nm_e h⟩⟩
theorem cx_setReg {post : SX → Prop} {r : Nat} {t c : Int32} (ha : r < 8) (h : post (vb, vf, vq, g1, g2, T, C, M, upd RT r t, upd RC r c, cl, se)) : wpX_setReg post (vb, vf, vq, g1, g2, T, C, M, RT, RC, cl, se) (nI r) t c := by
  unfold wpX_setReg
  dsimp only
  rw [cx_cl8 ha]
  exact ⟨vp_in_nI ha (by decide), nm_e ⟨vp_in_nI ha (by decide), nm_e h⟩⟩
theorem cy_set {post : SY → Prop} {r : Nat} {t c : Int32} (ha : r < 8) (h : post (sl, ek, upd rk r t, upd rd r c, ck, cd, dk, dd, tk, df, sp)) : wpY_set post (sl, ek, rk, rd, ck, cd, dk, dd, tk, df, sp) (nI r) t c := by
  unfold wpY_set
  dsimp only
  rw [cx_cl8 ha]
  exact ⟨vp_in_nI ha (by decide), nm_e ⟨vp_in_nI ha (by decide), nm_e h⟩⟩
theorem cx_st0 {post : Int32 → Prop} {h n i : Nat} (hh : h < 320) (h3 : T h ≠ 3) (hi : i < 4) (hp : post (nI h)) : wX_settle_4 post vb vf vq g1 g2 T C M RT RC cl se (n + 1) (nI h) (nI i) :=
  br_f (nI_ge (b := 4) hi (by decide)) ⟨vp_in_nI hh (by decide), br_f (by rw [cx_cl hh]; exact h3) hp⟩
theorem cx_st1 {post : Int32 → Prop} {a a' n i : Nat} (ha : a < 320) (h3 : T a = 3) (hc : C a = nI a') (hi : i < 4) (K : wX_settle_4 post vb vf vq g1 g2 T C M RT RC cl se n (nI a') (nI (i + 1))) : wX_settle_4 post vb vf vq g1 g2 T C M RT RC cl se (n + 1) (nI a) (nI i) :=
  br_f (nI_ge (b := 4) hi (by decide)) ⟨vp_in_nI ha (by decide), br_t (by rw [cx_cl ha]; exact h3) ⟨vp_in_nI ha (by decide), nm_r (e' := nI a') (by rw [cx_cl ha]; exact hc) (nm_r (nI_1 i) K)⟩⟩
theorem cx_settle {post : Int32 → Prop} {a : Nat} (A : cl_A nw rl ph T C M) (ha : rl a < 32) (hal : ∀ x, rl x < 32 → x < 320) (h3 : T (ph (rl a)) ≠ 3) (hp : post (nI (ph (rl a)))) : wpX_settle post (vb, vf, vq, g1, g2, T, C, M, RT, RC, cl, se) (nI a) := by
  obtain ⟨e1, e2⟩ := A a ha
  have hh : ph (rl a) < 320 := hal _ (by rw [e1]; exact ha)
  have haa := hal a ha
  refine ⟨4, ?_⟩
  show wX_settle_4 post vb vf vq g1 g2 T C M RT RC cl se 4 (nI a) (nI 0)
  rcases e2 with e | ⟨e3, e4, e5⟩ | ⟨e3, e4, a', e5, e6, e7, e8⟩
  · rw [← e] at h3 hp
    exact cx_st0 haa h3 (by decide) hp
  · exact cx_st1 haa e3 e4 (by decide) (cx_st0 hh h3 (by decide) hp)
  · exact cx_st1 haa e4 e6 (by decide) (cx_st1 (hal a' (by rw [e5]; exact ha)) e7 e8 (by decide) (cx_st0 hh h3 (by decide) hp))
theorem cx_gS {post : Int32 → Prop} {a : Nat} (G : cl_G al nw nx rl ph T C M ck cd dk dd) (hal : ∀ x, al x → x < 320) (ha : rl a < 32) (hp : post (nI (ph (rl a)))) : wpX_settle post (vb, vf, vq, g1, g2, T, C, M, RT, RC, cl, se) (nI a) :=
  cx_settle G.2.1 ha (fun x hx => hal x (G.1 x hx)) (cl_G_ne3 G ha (G.2.1 a ha).1) hp
theorem cx_gotCar {post : SX → Prop} {a : Nat} (G : cl_G al nw nx rl ph T C M ck cd dk dd) (hal : ∀ x, al x → x < 320) (ha : rl a < 32)
    (hp : post (vb, vf, vq, T (ph (rl a)), C (ph (rl a)), T, C, M, RT, RC, cl, se)) : wpX_gotCar post (vb, vf, vq, g1, g2, T, C, M, RT, RC, cl, se) (nI a) := by
  have hh : ph (rl a) < 320 := hal _ (G.1 _ (by rw [(G.2.1 a ha).1]; exact ha))
  unfold wpX_gotCar
  dsimp only
  refine cx_gS G hal ha ?_
  rw [cx_cl hh]
  exact ⟨vp_in_nI hh (by decide), nm_e ⟨vp_in_nI hh (by decide), nm_e hp⟩⟩
theorem cx_gotCdr {a : Nat} (G : cl_G al nw nx rl ph T C M ck cd dk dd) (hal : ∀ x, al x → x < 320) (ha : rl a < 32) (hnx : M (ph (rl a)) = 1 → rl (ph (rl a) + 1) = nx (ph (rl a) + 1)) :
    ∃ t c, cl_V rl t c (dk (rl a)) (dd (rl a)) ∧ ∀ (post : SX → Prop) (vb vf vq g1 g2 : Int32) (RT RC : Nat → Int32) (cl se : Nat → Int64), post (vb, vf, vq, t, c, T, C, M, RT, RC, cl, se) → wpX_gotCdr post (vb, vf, vq, g1, g2, T, C, M, RT, RC, cl, se) (nI a) := by
  have hr := (G.2.1 a ha).1
  have hh : ph (rl a) < 320 := hal _ (G.1 _ (by rw [hr]; exact ha))
  rcases (G.2.2 _ ha hr).2 with ⟨m, a1, a2, a3⟩ | ⟨m, m1, m2, m3⟩ | ⟨m, v⟩
  · have hh1 : ph (rl a) + 1 < 320 := hal _ a1
    refine ⟨_, _, a3, fun post vb vf vq g1 g2 RT RC cl se hp => ?_⟩
    unfold wpX_gotCdr
    dsimp only
    refine cx_gS G hal ha ?_
    rw [cx_cl hh, nI_1, cx_cl hh1]
    exact ⟨vp_in_nI hh (by decide), br_t m ⟨vp_in_nI hh1 (by decide), nm_e ⟨vp_in_nI hh1 (by decide), nm_e hp⟩⟩⟩
  · have e := hnx m
    refine ⟨2, nI (ph (rl a) + 1), ?_, fun post vb vf vq g1 g2 RT RC cl se hp => ?_⟩
    · rw [m1, m3]; exact cl_V_p m2 e
    · unfold wpX_gotCdr
      dsimp only
      refine cx_gS G hal ha ?_
      rw [cx_cl hh, nI_1]
      exact ⟨vp_in_nI hh (by decide), br_f (by rw [m]; decide) ⟨vp_in_nI hh (by decide), br_t m (nm_e hp)⟩⟩
  · refine ⟨0, 0, by rw [v]; exact cl_V_nil, fun post vb vf vq g1 g2 RT RC cl se hp => ?_⟩
    unfold wpX_gotCdr
    dsimp only
    refine cx_gS G hal ha ?_
    rw [cx_cl hh]
    exact ⟨vp_in_nI hh (by decide), br_f (by rw [m]; decide) ⟨vp_in_nI hh (by decide), br_f (by rw [m]; decide) hp⟩⟩
end
end
section
/-! ===== a new cdr; the relation ===== -/
section
variable {vb vf vq g1 g2 : Int32} {T C M RT RC : Nat → Int32} {cl se : Nat → Int64} {sl ek : Int32} {rk rd ck cd dk dd tk df sp : Nat → Int32}
variable {rl ph : Nat → Nat}
theorem cx_changeCdr {a b f : Nat} {t c k d : Int32} (G : cl_G (fun x => b ≤ x ∧ x < f) (fun _ => False) rl rl ph T C M ck cd dk dd) (hb : b ≤ 160) (hbf : b ≤ f) (hf : f + 2 ≤ b + 160) (ha : rl a < 32) (hv : cl_V rl t c k d) :
    ∃ (f' : Nat) (rl' ph' : Nat → Nat) (T' C' M' : Nat → Int32), f ≤ f' ∧ f' ≤ f + 2 ∧
      cl_G (fun x => b ≤ x ∧ x < f') (fun _ => False) rl' rl' ph' T' C' M' ck cd (upd dk (rl a) k) (upd dd (rl a) d) ∧
      (∀ x, rl x < 32 → rl' x = rl x) ∧ (∀ q, q < 32 → (rl' (ph' q) = q ↔ rl (ph q) = q)) ∧
      ∀ (post : SX → Prop) (vb vq g1 g2 : Int32) (RT RC : Nat → Int32) (cl se : Nat → Int64), post (vb, nI f', vq, g1, g2, T', C', M', RT, RC, cl, se) → wpX_changeCdr post (vb, nI f, vq, g1, g2, T, C, M, RT, RC, cl, se) (nI a) t c := by
  have hal : ∀ x, (b ≤ x ∧ x < f) → x < 320 := fun x hx => by omega
  have hr := (G.2.1 a ha).1
  have halh : b ≤ ph (rl a) ∧ ph (rl a) < f := G.1 _ (by rw [hr]; exact ha)
  have hh : ph (rl a) < 320 := by omega
  by_cases m : M (ph (rl a)) = 0
  · have hh1 : ph (rl a) + 1 < 320 := by
      rcases (G.2.2 _ ha hr).2 with ⟨_, a1, _⟩ | ⟨m', _⟩ | ⟨m', _⟩
      · have := hal _ a1; exact this
      · rw [m] at m'; exact absurd m' (by decide)
      · rw [m] at m'; exact absurd m' (by decide)
    refine ⟨f, rl, ph, _, _, _, Nat.le_refl _, by omega, cl_G_cdr G ha hr m hv, fun x _ => rfl, fun q _ => Iff.rfl, fun post vb vq g1 g2 RT RC cl se hp => ?_⟩
    unfold wpX_changeCdr
    dsimp only
    refine cx_gS G hal ha ?_
    rw [cx_cl hh, nI_1]
    exact ⟨vp_in_nI hh (by decide), br_t m (cx_put hh1 hp)⟩
  · by_cases ht : t = 0
    · have hk : k = 0 := by rw [← hv.1]; exact ht
      subst ht
      refine ⟨f, rl, ph, _, _, _, Nat.le_refl _, by omega, by rw [hk]; exact cl_G_end G ha hr m, fun x _ => rfl, fun q _ => Iff.rfl, fun post vb vq g1 g2 RT RC cl se hp => ?_⟩
      unfold wpX_changeCdr
      dsimp only
      refine cx_gS G hal ha ?_
      rw [cx_cl hh]
      exact ⟨vp_in_nI hh (by decide), br_f m (br_t rfl ⟨vp_in_nI hh (by decide), nm_e hp⟩)⟩
    · have hf0 : f < 320 := by omega
      have hf1 : f + 1 < 320 := by omega
      have hnal : ∀ x, f ≤ x → 32 ≤ rl x := fun x hx => by
        rcases Nat.lt_or_ge (rl x) 32 with h | h
        · have := G.1 x h; omega
        · exact h
      have hmv : cl_mv (fun x => b ≤ x ∧ x < f) ph T C M (upd (upd (upd T f (T (ph (rl a)))) (f + 1) t) (ph (rl a)) 3) (upd (upd (upd C f (C (ph (rl a)))) (f + 1) c) (ph (rl a)) (nI f)) (upd M f 0) (rl a) f := by
        refine ⟨fun h => by omega, fun x hx => pk_un (by omega), fun x hx hne => ?_, pk_us, pk_us, ?_, ?_⟩
        · rw [pk_un hne, pk_un hne, pk_un (by omega), pk_un (by omega), pk_un (by omega), pk_un (by omega)]
          exact ⟨rfl, rfl⟩
        · rw [pk_un (by omega), pk_un (by omega), pk_us]
        · rw [pk_un (by omega), pk_un (by omega), pk_us]
      have hmono := cl_mv_rl (rl := rl) (p := rl a) hmv.1 G.1
      refine ⟨f + 2, cl_u rl f (rl a), cl_u ph (rl a) f, upd (upd (upd T f (T (ph (rl a)))) (f + 1) t) (ph (rl a)) 3, upd (upd (upd C f (C (ph (rl a)))) (f + 1) c) (ph (rl a)) (nI f), upd M f 0, by omega, by omega, ⟨fun x hx => ?_, ?_, ?_⟩, hmono, fun q hq => ?_, fun post vb vq g1 g2 RT RC cl se hp => ?_⟩
      · by_cases e : x = f
        · omega
        · rw [cl_un e] at hx
          have := G.1 x hx
          omega
      · exact cl_A_move G.1 G.2.1 ha hr hmv (fun h => h) (Or.inl pk_us) (Or.inr m)
      · refine cl_B_move G.1 G.2.2 ha hr hmv (fun x hx => by omega) (fun q hq _ _ _ hlt => hmono _ hlt) (fun q hq => pk_un hq) (fun q hq => pk_un hq) ?_
        refine Or.inl ⟨pk_us, by omega, ?_, ?_⟩
        · rw [cl_un (by omega)]; exact hnal _ (by omega)
        · rw [pk_un (k := ph (rl a)) (by omega), pk_us, pk_un (k := ph (rl a)) (by omega), pk_us, pk_us, pk_us]
          exact cl_V_mono hmono hv
      · by_cases e : q = rl a
        · subst e; rw [cl_us, cl_us]; exact ⟨fun _ => hr, fun _ => rfl⟩
        · rw [cl_un (f := ph) e]
          by_cases e' : ph q = f
          · rw [e', cl_us]
            have := hnal f (Nat.le_refl _)
            constructor
            · intro h; exact absurd h.symm e
            · intro h; omega
          · rw [cl_un e']
      · unfold wpX_changeCdr
        dsimp only
        refine cx_gS G hal ha ?_
        rw [cx_cl hh, cx_cl hf0, nI_1 f]
        refine ⟨vp_in_nI hh (by decide), br_f m (br_f ht (nm_r (e' := nI (f + 2)) (nI_add f 2) ⟨vp_in_nI hh (by decide), vp_in_nI hh (by decide), ?_⟩))⟩
        refine cx_put hf0 ?_
        dsimp only
        refine ⟨vp_in_nI hf0 (by decide), nm_e ?_⟩
        refine cx_put hf1 ?_
        dsimp only
        exact cx_put hh hp
/-- the component at base b with f the next free cell, q its count of pairs, stands for the reference's registers and places -/
def cl_R (b f q : Nat) (rl ph : Nat → Nat) (T C M RT RC rk rd ck cd dk dd : Nat → Int32) : Prop :=
  (b = 0 ∨ b = 160) ∧ b ≤ f ∧ f ≤ b + 160 ∧ q ≤ 32 ∧ cl_n (fun p => decide (rl (ph p) = p)) 32 ≤ q ∧
  cl_G (fun a => b ≤ a ∧ a < f) (fun _ => False) rl rl ph T C M ck cd dk dd ∧
  (∀ r, r < 8 → cl_V rl (RT r) (RC r) (rk r) (rd r)) ∧
  (∀ p, p < 32 → (ck p = 2 → ∃ x, x < 32 ∧ cd p = nI x) ∧ (dk p = 2 → ∃ x, x < 32 ∧ dd p = nI x))
def i_Rel (k : Nat) (u : SX) (v : SY) : Prop :=
  ∃ (b f q : Nat) (rl ph : Nat → Nat), u.1 = nI b ∧ u.2.1 = nI f ∧ u.2.2.1 = nI q ∧
    cl_R b f q rl ph u.2.2.2.2.2.1 u.2.2.2.2.2.2.1 u.2.2.2.2.2.2.2.1 u.2.2.2.2.2.2.2.2.1 u.2.2.2.2.2.2.2.2.2.1
      v.2.2.1 v.2.2.2.1 v.2.2.2.2.1 v.2.2.2.2.2.1 v.2.2.2.2.2.2.1 v.2.2.2.2.2.2.2.1
theorem cl_el {k : Nat} {u : SX} {v : SY} {P : SX → SY → Prop}
    (h : ∀ (b f q : Nat) (rl ph : Nat → Nat) (g1 g2 : Int32) (T C M RT RC : Nat → Int32) (cl se : Nat → Int64) (sl ek : Int32) (rk rd ck cd dk dd tk df sp : Nat → Int32),
      cl_R b f q rl ph T C M RT RC rk rd ck cd dk dd → P (nI b, nI f, nI q, g1, g2, T, C, M, RT, RC, cl, se) (sl, ek, rk, rd, ck, cd, dk, dd, tk, df, sp)) (I : i_Rel k u v) : P u v := by
  obtain ⟨vb, vf, vq, g1, g2, T, C, M, RT, RC, cl, se⟩ := u
  obtain ⟨sl, ek, rk, rd, ck, cd, dk, dd, tk, df, sp⟩ := v
  obtain ⟨b, f, q, rl, ph, e1, e2, e3, R⟩ := I
  dsimp only at e1 e2 e3
  rw [e1, e2, e3]
  exact h b f q rl ph g1 g2 T C M RT RC cl se sl ek rk rd ck cd dk dd tk df sp R
theorem cl_in {k b f q : Nat} (R : cl_R b f q rl ph T C M RT RC rk rd ck cd dk dd) : i_Rel k (nI b, nI f, nI q, g1, g2, T, C, M, RT, RC, cl, se) (sl, ek, rk, rd, ck, cd, dk, dd, tk, df, sp) := ⟨b, f, q, rl, ph, rfl, rfl, rfl, R⟩
theorem i_up {k : Nat} {u : SX} {v : SY} (h : i_Rel k u v) : i_Rel (k + 5) u v := h
theorem i_vc0 : wpX_init (fun u => wpY_init (fun v => i_Rel 0 u v)) := by
  refine cl_in (k := 0) (b := 0) (f := 0) (q := 0) (rl := fun _ => 32) (ph := fun _ => 0) ⟨Or.inl rfl, by omega, by omega, by omega, ?_, ⟨?_, ?_, ?_⟩, ?_, ?_⟩
  · rw [cl_n_zero 32 (fun i hi => by rw [decide_eq_true_eq]; show ¬ 32 = i; omega)]; omega
  · intro a ha; exact absurd (show 32 < 32 from ha) (by decide)
  · intro a ha; exact absurd (show 32 < 32 from ha) (by decide)
  · intro p hp h; have h' : 32 = p := h; omega
  · intro r _; exact cl_V_nil
  · intro p _
    exact ⟨fun h => absurd (show (0 : Int32) = 2 from h) (by decide), fun h => absurd (show (0 : Int32) = 2 from h) (by decide)⟩
/-- a register set -/
theorem cl_R_reg {b f q r : Nat} {t c k d : Int32} (R : cl_R b f q rl ph T C M RT RC rk rd ck cd dk dd) (hv : cl_V rl t c k d) :
    cl_R b f q rl ph T C M (upd RT r t) (upd RC r c) (upd rk r k) (upd rd r d) ck cd dk dd := by
  obtain ⟨R1, R2, R3, R4, R5, R6, R7, R8⟩ := R
  refine ⟨R1, R2, R3, R4, R5, R6, fun s hs => ?_, R8⟩
  by_cases e : s = r
  · subst e; rw [pk_us, pk_us, pk_us, pk_us]; exact hv
  · rw [pk_un e, pk_un e, pk_un e, pk_un e]; exact R7 s hs
theorem cl_R_al {b f q : Nat} (R : cl_R b f q rl ph T C M RT RC rk rd ck cd dk dd) : ∀ x, (b ≤ x ∧ x < f) → x < 320 := fun x hx => by
  obtain ⟨R1, R2, R3, _⟩ := R; omega
theorem cl_V_ex {t c k d : Int32} (hv : cl_V rl t c k d) (hk : k = 2) : ∃ x, x < 32 ∧ d = nI x := by
  obtain ⟨a, _, h2, h3⟩ := cl_V_pair hv hk
  exact ⟨rl a, h2, h3⟩
theorem cl_R_car {b f q p : Nat} {t c k d : Int32} (R : cl_R b f q rl ph T C M RT RC rk rd ck cd dk dd) (hp : p < 32) (hr : rl (ph p) = p) (hv : cl_V rl t c k d) :
    cl_R b f q rl ph (upd T (ph p) t) (upd C (ph p) c) M RT RC rk rd (upd ck p k) (upd cd p d) dk dd := by
  obtain ⟨R1, R2, R3, R4, R5, R6, R7, R8⟩ := R
  refine ⟨R1, R2, R3, R4, R5, cl_G_car R6 hp hr hv, R7, fun s hs => ⟨?_, (R8 s hs).2⟩⟩
  by_cases e : s = p
  · subst e; rw [pk_us, pk_us]; exact cl_V_ex hv
  · rw [pk_un e, pk_un e]; exact (R8 s hs).1
theorem cl_R_change {a b f q : Nat} {t c k d : Int32} (R : cl_R b f q rl ph T C M RT RC rk rd ck cd dk dd) (hf : f + 2 ≤ b + 160) (ha : rl a < 32) (hv : cl_V rl t c k d) :
    ∃ (f' : Nat) (rl' ph' : Nat → Nat) (T' C' M' : Nat → Int32), f' ≤ f + 2 ∧
      cl_R b f' q rl' ph' T' C' M' RT RC rk rd ck cd (upd dk (rl a) k) (upd dd (rl a) d) ∧
      (∀ x, rl x < 32 → rl' x = rl x) ∧
      ∀ (post : SX → Prop) (vq g1 g2 : Int32) (cl se : Nat → Int64), post (nI b, nI f', vq, g1, g2, T', C', M', RT, RC, cl, se) → wpX_changeCdr post (nI b, nI f, vq, g1, g2, T, C, M, RT, RC, cl, se) (nI a) t c := by
  obtain ⟨R1, R2, R3, R4, R5, R6, R7, R8⟩ := R
  obtain ⟨f', rl', ph', T', C', M', h1, h2, G', hm, hrp, hw⟩ := cx_changeCdr R6 (by omega) R2 hf ha hv
  refine ⟨f', rl', ph', T', C', M', h2, ⟨R1, by omega, by omega, R4, ?_, G', fun r hr => cl_V_mono hm (R7 r hr), fun s hs => ⟨(R8 s hs).1, ?_⟩⟩, hm, fun post vq g1 g2 cl se hp => hw post _ vq g1 g2 RT RC cl se hp⟩
  · rw [cl_n_congr (S' := fun p => decide (rl (ph p) = p)) 32 (fun i hi => by rw [decide_eq_true_eq, decide_eq_true_eq]; exact hrp i hi)]
    exact R5
  · by_cases e : s = rl a
    · rw [e, pk_us, pk_us]; exact cl_V_ex hv
    · rw [pk_un e, pk_un e]; exact (R8 s hs).2
end
end
section
/-! ===== what a collection keeps, step by step ===== -/
/-- a set of places that holds the registers' pairs and the cars and cdrs of its own -/
def cl_cl (S : Nat → Prop) (rk rd ck cd dk dd : Nat → Int32) : Prop :=
  (∀ r, r < 8 → rk r = 2 → ∀ x, x < 32 → rd r = nI x → S x) ∧
  (∀ p, p < 32 → S p → (ck p = 2 → ∀ x, x < 32 → cd p = nI x → S x) ∧ (dk p = 2 → ∀ x, x < 32 → dd p = nI x → S x))
/-- the live places -/
def cl_Re (rk rd ck cd dk dd : Nat → Int32) (p : Nat) : Prop := ∀ S : Nat → Prop, cl_cl S rk rd ck cd dk dd → S p
theorem cl_Re_cl (rk rd ck cd dk dd : Nat → Int32) : cl_cl (cl_Re rk rd ck cd dk dd) rk rd ck cd dk dd :=
  ⟨fun r hr hk x hx e S hS => hS.1 r hr hk x hx e, fun p hp hR => ⟨fun hk x hx e S hS => (hS.2 p hp (hR S hS)).1 hk x hx e, fun hk x hx e S hS => (hS.2 p hp (hR S hS)).2 hk x hx e⟩⟩
/-- during a collection from the half at b (cells to f0) into the half at to (cells to f), q pairs carried over -/
def cl_CI (b to f0 f q : Nat) (Re : Nat → Prop) (nx rl ph : Nat → Nat) (T C M ck cd dk dd : Nat → Int32) : Prop :=
  cl_G (fun a => (b ≤ a ∧ a < f0) ∨ (to ≤ a ∧ a < f)) (fun a => to ≤ a ∧ a < to + 160) nx rl ph T C M ck cd dk dd ∧
  (∀ a, to ≤ a → a < to + 160 → rl a < 32 → a = ph (rl a)) ∧
  (∀ p, p < 32 → rl (ph p) = p → to ≤ ph p → ph p < to + 160 → Re p) ∧
  cl_n (fun p => decide (rl (ph p) = p ∧ to ≤ ph p ∧ ph p < to + 160)) 32 = q ∧
  (to ≤ f ∧ f ≤ to + 2 * q) ∧
  (∀ a, to ≤ a → a < f → rl a < 32 ∨ (to < a ∧ rl (a - 1) < 32 ∧ M (a - 1) = 0)) ∧
  (∀ p, p < 32 → rl (ph p) = p → ¬ (to ≤ ph p ∧ ph p < to + 160) → M (ph p) = 1 → rl (ph p + 1) < 32)
section
variable {b to f0 f q : Nat} {Re : Nat → Prop} {nx rl ph : Nat → Nat} {T C M T' C' M' RT RC rk rd ck cd dk dd : Nat → Int32}
theorem cl_CI_0 (R : cl_R b f q rl ph T C M RT RC rk rd ck cd dk dd) (hbt : (b = 0 ∧ to = 160) ∨ (b = 160 ∧ to = 0)) : cl_CI b to f to 0 Re rl rl ph T C M ck cd dk dd := by
  obtain ⟨R1, R2, R3, R4, R5, ⟨G1, G2, G3⟩, R7, R8⟩ := R
  have hn : ∀ a, rl a < 32 → ¬ (to ≤ a ∧ a < to + 160) := fun a ha h => by have := G1 a ha; omega
  refine ⟨⟨fun a ha => Or.inl (G1 a ha), fun a ha => ?_, fun p hp hr => ?_⟩, fun a h1 h2 ha => absurd ⟨h1, h2⟩ (hn a ha), fun p hp hr h1 h2 => ?_, ?_, ⟨Nat.le_refl _, by omega⟩, fun a h1 h2 => by omega, fun p hp hr h hm => ?_⟩
  · obtain ⟨e1, e | ⟨e3, e4, e5⟩ | ⟨e3, _⟩⟩ := G2 a ha
    · exact ⟨e1, Or.inl e⟩
    · exact ⟨e1, Or.inr (Or.inl ⟨e3, e4, Or.inl (e5.resolve_right (fun h => h))⟩)⟩
    · exact absurd e3 (fun h => h)
  · obtain ⟨v1, v2⟩ := G3 p hp hr
    refine ⟨v1, ?_⟩
    rcases v2 with ⟨m, a1, a2, a3⟩ | v | v
    · exact Or.inl ⟨m, Or.inl a1, a2, a3⟩
    · exact Or.inr (Or.inl v)
    · exact Or.inr (Or.inr v)
  · exact absurd ⟨h1, h2⟩ (hn _ (by rw [hr]; exact hp))
  · refine cl_n_zero 32 (fun i hi => ?_)
    rw [decide_eq_true_eq]
    intro h
    exact hn _ (by rw [h.1]; exact hi) h.2
  · rcases (G3 p hp hr).2 with ⟨m, _⟩ | ⟨m, _, m2, _⟩ | ⟨m, _⟩
    · rw [hm] at m; exact absurd m (by decide)
    · exact m2
    · rw [hm] at m; exact absurd m (by decide)
/-- the next cell to be made may be named ahead -/
theorem cl_CI_pend (I : cl_CI b to f0 f q Re rl rl ph T C M ck cd dk dd) (hbt : (b = 0 ∧ to = 160) ∨ (b = 160 ∧ to = 0)) (hf0 : f0 ≤ b + 160) (hf : f < to + 160) (p : Nat) : cl_CI b to f0 f q Re (cl_u rl f p) rl ph T C M ck cd dk dd := by
  obtain ⟨⟨G1, G2, G3⟩, I⟩ := I
  refine ⟨⟨G1, G2, fun p' hp hr => ?_⟩, I⟩
  obtain ⟨v1, v2⟩ := G3 p' hp hr
  refine ⟨v1, ?_⟩
  rcases v2 with v | ⟨m, m1, m2, m3⟩ | v
  · exact Or.inl v
  · have hne : ph p' + 1 ≠ f := fun e => by
      have := G1 _ m2
      omega
    exact Or.inr (Or.inl ⟨m, m1, by rw [cl_un hne]; exact m2, by rw [cl_un hne]; exact m3⟩)
  · exact Or.inr (Or.inr v)
/-- one pair moves over -/
theorem cl_CI_move {f' p : Nat} {nx' : Nat → Nat} (I : cl_CI b to f0 f q Re nx rl ph T C M ck cd dk dd) (hbt : (b = 0 ∧ to = 160) ∨ (b = 160 ∧ to = 0)) (hf0 : f0 ≤ b + 160)
    (hp : p < 32) (hr : rl (ph p) = p) (hold : ¬ (to ≤ ph p ∧ ph p < to + 160)) (hRe : Re p)
    (hmv : cl_mv (fun a => (b ≤ a ∧ a < f0) ∨ (to ≤ a ∧ a < f)) ph T C M T' C' M' p f)
    (hnx : ∀ x, x ≠ f + 1 → nx x < 32 → nx' x = nx x)
    (hf' : f' = f + 1 ∨ (f' = f + 2 ∧ M' f = 0))
    (hD : cl_D (fun a => (b ≤ a ∧ a < f0) ∨ (to ≤ a ∧ a < f')) nx' (cl_u rl f p) T' C' M' f (dk p) (dd p)) :
    cl_CI b to f0 f' (q + 1) Re nx' (cl_u rl f p) (cl_u ph p f) T' C' M' ck cd dk dd := by
  obtain ⟨⟨G1, G2, G3⟩, I2, I3, I4, ⟨I5, I6⟩, I7, I8⟩ := I
  have hx := hmv.1
  have hM := hmv.2.1
  have hmono := cl_mv_rl (rl := rl) (p := p) hx G1
  have hrf : 32 ≤ rl f := by
    rcases Nat.lt_or_ge (rl f) 32 with h | h
    · exact absurd (G1 f h) hx
    · exact h
  have hphx : ∀ s, s < 32 → rl (ph s) = s → ph s ≠ f := fun s hs h e => by rw [e] at h; omega
  have hq : q < 32 := by
    rw [← I4]
    have h1 := cl_n_lt (S := fun p => decide (rl (ph p) = p ∧ to ≤ ph p ∧ ph p < to + 160)) (S' := fun _ => true) 32 (fun _ _ _ => rfl) p hp (by rw [decide_eq_true_eq]; exact fun h => hold h.2) rfl
    have h2 := cl_n_le (fun _ => true) 32
    omega
  have hnf : to ≤ f ∧ f < to + 160 := by omega
  have hff : f < f' := by omega
  refine ⟨⟨fun a ha => ?_, ?_, ?_⟩, fun a h1 h2 ha => ?_, fun s hs hrs h1 h2 => ?_, ?_, by omega, fun a h1 h2 => ?_, fun s hs hrs h hm => ?_⟩
  · by_cases e : a = f
    · right; omega
    · rw [cl_un e] at ha
      have := G1 a ha
      omega
  · exact cl_A_move G1 G2 hp hr hmv hold (Or.inr hnf) (Or.inl hnf)
  · refine cl_B_move G1 G3 hp hr hmv (fun a ha => by omega) (fun s hs hne hrs hm hlt => hnx _ ?_ hlt) (fun _ _ => rfl) (fun _ _ => rfl) hD
    have := hphx s hs hrs
    omega
  · by_cases e : a = f
    · subst e; rw [cl_us, cl_us]
    · rw [cl_un e] at ha ⊢
      have e1 := I2 a h1 h2 ha
      have e2 : rl a ≠ p := fun e' => hold (by rw [← e', ← e1]; exact ⟨h1, h2⟩)
      rw [cl_un e2]; exact e1
  · by_cases e : s = p
    · rw [e]; exact hRe
    · rw [cl_un (f := ph) e] at hrs h1 h2
      have e' : ph s ≠ f := fun e' => e (by rw [e', cl_us] at hrs; exact hrs.symm)
      rw [cl_un e'] at hrs
      exact I3 s hs hrs h1 h2
  · rw [← I4]
    refine cl_n_new hp ?_ ?_ (fun i hi hne => ?_)
    · rw [decide_eq_true_eq]; exact fun h => hold h.2
    · rw [decide_eq_true_eq, cl_us, cl_us]; exact ⟨rfl, hnf⟩
    · rw [decide_eq_true_eq, decide_eq_true_eq, cl_un (f := ph) hne]
      by_cases e' : ph i = f
      · constructor
        · intro h
          rw [e', cl_us] at h
          exact absurd h.1.symm hne
        · intro h
          rw [e'] at h
          omega
      · rw [cl_un e']
  · by_cases e : a = f
    · left; rw [e, cl_us]; exact hp
    · by_cases e1 : a = f + 1
      · right
        have e2 : a - 1 = f := by omega
        rw [e2, cl_us]
        rcases hf' with h | ⟨h, hm⟩
        · omega
        · exact ⟨by omega, hp, hm⟩
      · rw [cl_un e]
        rcases I7 a h1 (by omega) with h | ⟨h3, h4, h5⟩
        · exact Or.inl h
        · right
          rw [hmono _ h4, hM (a - 1) (by right; omega)]
          exact ⟨h3, h4, h5⟩
  · by_cases e : s = p
    · rw [e, cl_us] at h; exact absurd hnf h
    · rw [cl_un (f := ph) e] at hrs h hm ⊢
      have e' : ph s ≠ f := fun e' => e (by rw [e', cl_us] at hrs; exact hrs.symm)
      rw [cl_un e'] at hrs
      rw [hM _ (G1 _ (by rw [hrs]; exact hs))] at hm
      have h8 := I8 s hs hrs h hm
      rw [hmono _ h8]; exact h8
theorem cl_upd_self (g : Nat → Int32) (i : Nat) {x : Int32} (h : g i = x) : upd g i x = g := by
  funext j
  by_cases e : j = i
  · rw [e, pk_us, h]
  · rw [pk_un e]
/-- every cell of the new half holds a value; it may be changed to another address of the same place -/
theorem cl_CI_cell {s : Nat} (I : cl_CI b to f0 f q Re rl rl ph T C M ck cd dk dd) (hf : f < to + 160) (h1 : to ≤ s) (h2 : s < f)
    (hRe : ∀ p, p < 32 → Re p → (ck p = 2 → ∀ x, x < 32 → cd p = nI x → Re x) ∧ (dk p = 2 → ∀ x, x < 32 → dd p = nI x → Re x)) (ht : T s = 2) :
    ∃ a, C s = nI a ∧ rl a < 32 ∧ Re (rl a) := by
  obtain ⟨⟨G1, G2, G3⟩, I2, I3, I4, ⟨I5, I6⟩, I7, I8⟩ := I
  rcases I7 s h1 h2 with h | ⟨h3, h4, h5⟩
  · have e := I2 s h1 (by omega) h
    have hr := (G2 s h).1
    have v := (G3 _ h hr).1
    rw [← e] at v
    have hk : ck (rl s) = 2 := by rw [← v.1]; exact ht
    obtain ⟨a, a1, a2, a3⟩ := cl_V_pair v hk
    exact ⟨a, a1, a2, (hRe _ h (I3 _ h hr (by omega) (by omega))).1 hk _ a2 a3⟩
  · have e := I2 (s - 1) (by omega) (by omega) h4
    have hr := (G2 (s - 1) h4).1
    have e' : ph (rl (s - 1)) + 1 = s := by omega
    have v := (G3 _ h4 hr).2
    rcases v with ⟨m, a1, a2, a3⟩ | ⟨m, _⟩ | ⟨m, _⟩
    · rw [e'] at a3
      have hk : dk (rl (s - 1)) = 2 := by rw [← a3.1]; exact ht
      obtain ⟨a, a1, a2, a3⟩ := cl_V_pair a3 hk
      exact ⟨a, a1, a2, (hRe _ h4 (I3 _ h4 hr (by omega) (by omega))).2 hk _ a2 a3⟩
    · rw [← e, h5] at m; exact absurd m (by decide)
    · rw [← e, h5] at m; exact absurd m (by decide)
theorem cl_V_re {rl : Nat → Nat} {k d : Int32} {a y : Nat} (ha : a < 2 ^ 31) (v : cl_V rl 2 (nI a) k d) (hlt : ∀ x, rl x < 32 → x < 2 ^ 31) (e : rl y = rl a) : cl_V rl 2 (nI y) k d := by
  have hk : k = 2 := v.1.symm
  obtain ⟨a', a1, a2, a3⟩ := cl_V_pair v hk
  rw [nI_eq ha (hlt _ a2)] at a1
  subst a1
  rw [hk, a3]
  exact cl_V_p a2 e
theorem cl_CI_put {s a y : Nat} (I : cl_CI b to f0 f q Re rl rl ph T C M ck cd dk dd) (hbt : (b = 0 ∧ to = 160) ∨ (b = 160 ∧ to = 0)) (hf0 : f0 ≤ b + 160) (hf : f < to + 160) (h1 : to ≤ s) (h2 : s < f)
    (ht : T s = 2) (hc : C s = nI a) (ha : rl a < 32) (hy : rl y = rl a) : cl_CI b to f0 f q Re rl rl ph T (upd C s (nI y)) M ck cd dk dd := by
  obtain ⟨⟨G1, G2, G3⟩, I2, I3, I4, ⟨I5, I6⟩, I7, I8⟩ := I
  have hlt : ∀ x, rl x < 32 → x < 2 ^ 31 := fun x hx => by have := G1 x hx; omega
  have haa := hlt a ha
  refine ⟨?_, I2, I3, I4, ⟨I5, I6⟩, I7, I8⟩
  rcases I7 s h1 h2 with h | ⟨h3, h4, h5⟩
  · have e := I2 s h1 (by omega) h
    have hr := (G2 s h).1
    have v := (G3 _ h hr).1
    rw [← e, ht, hc] at v
    have G := cl_G_car ⟨G1, G2, G3⟩ h hr (cl_V_re haa v hlt hy)
    rw [← e, cl_upd_self T s ht, cl_upd_self ck _ rfl, cl_upd_self cd _ rfl] at G
    exact G
  · have e := I2 (s - 1) (by omega) (by omega) h4
    have hr := (G2 (s - 1) h4).1
    have e' : ph (rl (s - 1)) + 1 = s := by omega
    have v := (G3 _ h4 hr).2
    have hm : M (ph (rl (s - 1))) = 0 := by rw [← e]; exact h5
    rcases v with ⟨m, a1, a2, a3⟩ | ⟨m, _⟩ | ⟨m, _⟩
    · rw [e', ht, hc] at a3
      have G := cl_G_cdr ⟨G1, G2, G3⟩ h4 hr hm (cl_V_re haa a3 hlt hy)
      rw [e', cl_upd_self T s ht, cl_upd_self dk _ rfl, cl_upd_self dd _ rfl] at G
      exact G
    · rw [hm] at m; exact absurd m (by decide)
    · rw [hm] at m; exact absurd m (by decide)
/-- the roles of the new half alone -/
def cl_nh (to : Nat) (rl : Nat → Nat) : Nat → Nat := fun a => if to ≤ a ∧ a < to + 160 then rl a else 32
theorem cl_nh_t {a : Nat} (h : to ≤ a ∧ a < to + 160) : cl_nh to rl a = rl a := if_pos h
theorem cl_nh_lt {a : Nat} (h : cl_nh to rl a < 32) : (to ≤ a ∧ a < to + 160) ∧ cl_nh to rl a = rl a := by
  by_cases e : to ≤ a ∧ a < to + 160
  · exact ⟨e, cl_nh_t e⟩
  · have : cl_nh to rl a = 32 := if_neg e
    omega
theorem cl_V_nh {t c k d : Int32} (v : cl_V rl t c k d) (hlt : ∀ x, rl x < 32 → x < 320) (h : t = 2 → ∃ y, c = nI y ∧ to ≤ y ∧ y < to + 160 ∧ y < 320) : cl_V (cl_nh to rl) t c k d := by
  obtain ⟨h0, h' | h' | ⟨h', a, h1, h2, h3⟩⟩ := v
  · exact ⟨h0, Or.inl h'⟩
  · exact ⟨h0, Or.inr (Or.inl h')⟩
  · obtain ⟨y, y1, y2, y3, y4⟩ := h (by rw [h0]; exact h')
    have ha := hlt a h2
    rw [h1, nI_eq (by omega) (by omega)] at y1
    subst y1
    have e := cl_nh_t (rl := rl) ⟨y2, y3⟩
    exact ⟨h0, Or.inr (Or.inr ⟨h', a, h1, by rw [e]; exact h2, by rw [e]; exact h3⟩)⟩
/-- the end of a collection -/
theorem cl_CI_done (I : cl_CI b to f0 f q (cl_Re rk rd ck cd dk dd) rl rl ph T C M ck cd dk dd) (hbt : (b = 0 ∧ to = 160) ∨ (b = 160 ∧ to = 0)) (hf0 : f0 ≤ b + 160)
    (hreg : ∀ r, r < 8 → cl_V rl (RT r) (RC r) (rk r) (rd r)) (hreg2 : ∀ r, r < 8 → RT r = 2 → ∃ y, RC r = nI y ∧ to ≤ y ∧ y < to + 160)
    (hsc : ∀ s, to ≤ s → s < f → T s = 2 → ∃ y, C s = nI y ∧ to ≤ y ∧ y < to + 160)
    (hY : ∀ p, p < 32 → (ck p = 2 → ∃ x, x < 32 ∧ cd p = nI x) ∧ (dk p = 2 → ∃ x, x < 32 ∧ dd p = nI x)) :
    cl_R to f q (cl_nh to rl) ph T C M RT RC rk rd ck cd dk dd ∧ f ≤ to + 2 * q ∧ (∀ a, cl_nh to rl a < 32 → a = ph (cl_nh to rl a)) ∧
    cl_n (fun p => decide (cl_nh to rl (ph p) = p)) 32 = q ∧ (∀ p, p < 32 → (cl_nh to rl (ph p) = p ↔ cl_Re rk rd ck cd dk dd p)) := by
  obtain ⟨⟨G1, G2, G3⟩, I2, I3, I4, ⟨I5, I6⟩, I7, I8⟩ := I
  have hq : q ≤ 32 := by rw [← I4]; exact cl_n_le _ 32
  have hlt : ∀ x, rl x < 32 → x < 320 := fun x hx => by have := G1 x hx; omega
  have hhead : ∀ a, cl_nh to rl a < 32 → a = ph (cl_nh to rl a) := fun a ha => by
    obtain ⟨e1, e2⟩ := cl_nh_lt ha
    rw [e2] at ha ⊢
    exact I2 a e1.1 e1.2 ha
  have hiff : ∀ p, p < 32 → (cl_nh to rl (ph p) = p ↔ (rl (ph p) = p ∧ to ≤ ph p ∧ ph p < to + 160)) := fun p hp => by
    constructor
    · intro h
      obtain ⟨e1, e2⟩ := cl_nh_lt (rl := rl) (a := ph p) (to := to) (by rw [h]; exact hp)
      exact ⟨by rw [← e2]; exact h, e1⟩
    · intro h
      rw [cl_nh_t h.2]; exact h.1
  have hcn : cl_n (fun p => decide (cl_nh to rl (ph p) = p)) 32 = q := by
    rw [← I4]
    exact cl_n_congr 32 (fun i hi => by rw [decide_eq_true_eq, decide_eq_true_eq]; exact hiff i hi)
  have hR : cl_R to f q (cl_nh to rl) ph T C M RT RC rk rd ck cd dk dd := by
    refine ⟨by omega, I5, by omega, hq, by omega, ⟨fun a ha => ?_, fun a ha => ?_, fun p hp hr => ?_⟩, fun r hr => cl_V_nh (hreg r hr) hlt (fun h => ?_), hY⟩
    · obtain ⟨e1, e2⟩ := cl_nh_lt ha
      rw [e2] at ha
      have := G1 a ha
      omega
    · have e := hhead a ha
      exact ⟨by rw [← e], Or.inl e⟩
    · obtain ⟨hr', hn⟩ := (hiff p hp).mp hr
      have hal := G1 (ph p) (by rw [hr']; exact hp)
      obtain ⟨v1, v2⟩ := G3 p hp hr'
      refine ⟨cl_V_nh v1 hlt (fun h => ?_), ?_⟩
      · obtain ⟨y, y1, y2, y3⟩ := hsc (ph p) (by omega) (by omega) h
        exact ⟨y, y1, y2, y3, by omega⟩
      · rcases v2 with ⟨m, a1, a2, a3⟩ | ⟨m, m1, m2, m3⟩ | v
        · have a1' : to ≤ ph p + 1 ∧ ph p + 1 < f := by omega
          refine Or.inl ⟨m, a1', ?_, cl_V_nh a3 hlt (fun h => ?_)⟩
          · unfold cl_nh; split <;> omega
          · obtain ⟨y, y1, y2, y3⟩ := hsc _ a1'.1 a1'.2 h
            exact ⟨y, y1, y2, y3, by omega⟩
        · have e := cl_nh_t (rl := rl) (to := to) (a := ph p + 1) (by have := G1 _ m2; omega)
          exact Or.inr (Or.inl ⟨m, m1, by rw [e]; exact m2, by rw [e]; exact m3⟩)
        · exact Or.inr (Or.inr v)
    · obtain ⟨y, y1, y2, y3⟩ := hreg2 r hr h
      exact ⟨y, y1, y2, y3, by omega⟩
  refine ⟨hR, I6, hhead, hcn, fun p hp => ⟨fun h => ?_, fun h => ?_⟩⟩
  · obtain ⟨hr', hn⟩ := (hiff p hp).mp h
    exact I3 p hp hr' hn.1 hn.2
  · obtain ⟨R1, R2, R3, R4, R5, ⟨H1, H2, H3⟩, R7, R8⟩ := hR
    have hx : ∀ {t c k d : Int32}, cl_V (cl_nh to rl) t c k d → k = 2 → ∀ x, x < 32 → d = nI x → cl_nh to rl (ph x) = x := fun v hk x hx e => by
      obtain ⟨a, a1, a2, a3⟩ := cl_V_pair v hk
      rw [e, nI_eq (by omega) (by omega)] at a3
      rw [a3]
      exact (H2 a a2).1
    refine h (fun p => cl_nh to rl (ph p) = p) ⟨fun r hr hk x hxx e => hx (R7 r hr) hk x hxx e, fun p hp hp' => ⟨fun hk x hxx e => hx (H3 p hp hp').1 hk x hxx e, fun hk x hxx e => ?_⟩⟩
    rcases (H3 p hp hp').2 with ⟨m, a1, a2, a3⟩ | ⟨m, m1, m2, m3⟩ | ⟨m, v⟩
    · exact hx a3 hk x hxx e
    · rw [e, nI_eq (by omega) (by omega)] at m3
      show cl_nh to rl (ph x) = x
      rw [m3]
      exact (H2 _ m2).1
    · rw [hk] at v; exact absurd v (by decide)
end
end
section
/-! ===== the walks of a collection ===== -/
section
variable {vb vf vq g1 g2 : Int32} {T C M RT RC : Nat → Int32} {cl se : Nat → Int64} {rk rd ck cd dk dd : Nat → Int32}
variable {al : Nat → Prop} {nx rl ph : Nat → Nat} {b to f0 f q : Nat} {Re : Nat → Prop}
theorem cx_old1 {post : Int32 → Prop} {x : Nat} (hb : b ≤ 160) (h1 : b ≤ x) (h2 : x < b + 160) (hp : post 1) : wpX_inOld post (nI b, vf, vq, g1, g2, T, C, M, RT, RC, cl, se) (nI x) :=
  br_f (nI_nlt (a := x) (b := b) h1 (by omega)) (br_f (show ¬ nI b + nI 160 ≤ nI x by rw [nI_add]; exact nI_ge h2 (by omega)) hp)
theorem cx_old0 {post : Int32 → Prop} {x : Nat} (hb : b ≤ 160) (hx : x < 320) (h : ¬ (b ≤ x ∧ x < b + 160)) (hp : post 0) : wpX_inOld post (nI b, vf, vq, g1, g2, T, C, M, RT, RC, cl, se) (nI x) := by
  by_cases h1 : x < b
  · exact br_t (nI_lt h1 (by omega)) hp
  · exact br_f (nI_nlt (a := x) (b := b) (by omega) (by omega)) (br_t (show nI b + nI 160 ≤ nI x by rw [nI_add]; exact nI_le (by omega) (by omega)) hp)
theorem cx_tr0 {post : Int32 → Prop} {h n i : Nat} (hb : b ≤ 160) (hh : h < 320) (h3 : T h ≠ 3 ∨ ¬ (b ≤ h ∧ h < b + 160)) (hi : i < 4) (hp : post (nI h)) : wX_trace_4 post (nI b) vf vq g1 g2 T C M RT RC cl se (n + 1) (nI h) (nI i) := by
  refine br_f (nI_ge (b := 4) hi (by decide)) ?_
  by_cases ho : b ≤ h ∧ h < b + 160
  · have h3' : T h ≠ 3 := h3.resolve_right (fun x => x ho)
    exact cx_old1 hb ho.1 ho.2 (br_f (by decide) ⟨vp_in_nI hh (by decide), br_f (by rw [cx_cl hh]; exact h3') hp⟩)
  · exact cx_old0 hb hh ho (br_t rfl hp)
theorem cx_tr1 {post : Int32 → Prop} {a a' n i : Nat} (hb : b ≤ 160) (h1 : b ≤ a) (h2 : a < b + 160) (h3 : T a = 3) (hc : C a = nI a') (hi : i < 4) (K : wX_trace_4 post (nI b) vf vq g1 g2 T C M RT RC cl se n (nI a') (nI (i + 1))) : wX_trace_4 post (nI b) vf vq g1 g2 T C M RT RC cl se (n + 1) (nI a) (nI i) := by
  have ha : a < 320 := by omega
  refine br_f (nI_ge (b := 4) hi (by decide)) ?_
  exact cx_old1 hb h1 h2 (br_f (by decide) ⟨vp_in_nI ha (by decide), br_t (by rw [cx_cl ha]; exact h3) ⟨vp_in_nI ha (by decide), nm_r (e' := nI a') (by rw [cx_cl ha]; exact hc) (nm_r (nI_1 i) K)⟩⟩)
theorem cx_trace {post : Int32 → Prop} {a : Nat} (hbt : (b = 0 ∧ to = 160) ∨ (b = 160 ∧ to = 0)) (A : cl_A (fun a => to ≤ a ∧ a < to + 160) rl ph T C M) (ha : rl a < 32)
    (hal : ∀ x, rl x < 32 → x < 320) (hhd : ∀ x, to ≤ x → x < to + 160 → rl x < 32 → x = ph (rl x)) (h3 : T (ph (rl a)) ≠ 3) (hp : post (nI (ph (rl a)))) : wpX_trace post (nI b, vf, vq, g1, g2, T, C, M, RT, RC, cl, se) (nI a) := by
  obtain ⟨e1, e2⟩ := A a ha
  have hb : b ≤ 160 := by omega
  have hh : ph (rl a) < 320 := hal _ (by rw [e1]; exact ha)
  have haa := hal a ha
  have hold : ∀ x, rl x = rl a → T x = 3 → b ≤ x ∧ x < b + 160 := fun x hx ht => by
    have hx3 := hal x (by rw [hx]; exact ha)
    by_cases hn : to ≤ x ∧ x < to + 160
    · have e := hhd x hn.1 hn.2 (by rw [hx]; exact ha)
      rw [hx] at e
      rw [e] at ht
      exact absurd ht h3
    · clear e2; omega
  refine ⟨4, ?_⟩
  show wX_trace_4 post (nI b) vf vq g1 g2 T C M RT RC cl se 4 (nI a) (nI 0)
  rcases e2 with e | ⟨e3, e4, e5⟩ | ⟨e3, e4, a', e5, e6, e7, e8⟩
  · rw [← e] at h3 hp
    exact cx_tr0 hb haa (Or.inl h3) (by decide) hp
  · have o := hold a rfl e3
    exact cx_tr1 hb o.1 o.2 e3 e4 (by decide) (cx_tr0 hb hh (Or.inl h3) (by decide) hp)
  · have o := hold a rfl e4
    have o' := hold a' e5 e7
    exact cx_tr1 hb o.1 o.2 e4 e6 (by decide) (cx_tr1 hb o'.1 o'.2 e7 e8 (by decide) (cx_tr0 hb hh (Or.inl h3) (by decide) hp))
/-- one turn of the carrying loop, to the branch on the cdr -/
theorem cx_cy_pre {post : Int32 → SX → Prop} {x3 t c : Int32} {n i h : Nat} (hi : i < 160) (hh : h < 320) (hf : f < 320)
    (hW : ∀ (post : SX → Prop) (vb vf vq g1 g2 : Int32) (RT RC : Nat → Int32) (cl se : Nat → Int64), post (vb, vf, vq, t, c, upd T f (T h), upd C f (C h), M, RT, RC, cl, se) → wpX_gotCdr post (vb, vf, vq, g1, g2, upd T f (T h), upd C f (C h), M, RT, RC, cl, se) (nI h))
    (K : (t = 2 → wpX_trace (fun r => wX_carry_117 post (wX_carry_27 post x3 n) (nI h) x3 1 (nI i) (nI f) r vb (nI (f + 1)) (nI (q + 1)) t c (upd (upd T f (T h)) h 3) (upd (upd C f (C h)) h (nI f)) M RT RC cl se) (vb, nI (f + 1), nI (q + 1), t, c, upd (upd T f (T h)) h 3, upd (upd C f (C h)) h (nI f), M, RT, RC, cl, se) c) ∧
      (¬ t = 2 → wX_carry_117 post (wX_carry_27 post x3 n) (nI h) x3 1 (nI i) (nI f) 0 vb (nI (f + 1)) (nI (q + 1)) t c (upd (upd T f (T h)) h 3) (upd (upd C f (C h)) h (nI f)) M RT RC cl se)) :
    wX_carry_27 post x3 (n + 1) (nI h) 1 (nI i) vb (nI f) (nI q) g1 g2 T C M RT RC cl se := by
  refine br_f (nI_ge (b := 160) hi (by decide)) (br_f (by decide) (nm_r (nI_1 f) (nm_r (nI_1 q) ⟨vp_in_nI hh (by decide), vp_in_nI hh (by decide), ?_⟩)))
  rw [cx_cl hh]
  refine cx_put hf ?_
  refine hW _ _ _ _ _ _ _ _ _ _ ?_
  refine cx_put hh ?_
  exact K
theorem cx_cy_exit {post : Int32 → SX → Prop} {x2 x3 x5 : Int32} {n : Nat} (hp : post x3 (vb, vf, vq, g1, g2, T, C, M, RT, RC, cl, se)) : wX_carry_27 post x3 (n + 1) x2 0 x5 vb vf vq g1 g2 T C M RT RC cl se :=
  br_c (fun _ => hp) (fun _ => br_t rfl hp)
/-- the cdr is nil -/
theorem cx_cy_end {post : Int32 → SX → Prop} {x2 x3 x5 z : Int32} {n : Nat} (hf : f < 320) (hp : post x3 (vb, vf, vq, 0, g2, T, C, upd M f 2, RT, RC, cl, se)) :
    wX_carry_117 post (wX_carry_27 post x3 (n + 1)) x2 x3 1 x5 (nI f) z vb vf vq 0 g2 T C M RT RC cl se := by
  refine br_t rfl ⟨vp_in_nI hf (by decide), nm_e (nm_e ?_)⟩
  rw [cx_cl hf]
  exact cx_cy_exit hp
/-- the cdr is a pair not yet carried -/
theorem cx_cy_next {post : Int32 → SX → Prop} {x2 x3 : Int32} {n i z : Nat} (hb : b ≤ 160) (hf : f < 320) (h1 : b ≤ z) (h2 : z < b + 160)
    (K : wX_carry_27 post x3 n (nI z) 1 (nI (i + 1)) (nI b) vf vq 2 g2 T C (upd M f 1) RT RC cl se) :
    wX_carry_117 post (wX_carry_27 post x3 n) x2 x3 1 (nI i) (nI f) (nI z) (nI b) vf vq 2 g2 T C M RT RC cl se := by
  refine br_f (by decide) (br_t rfl (cx_old1 hb h1 h2 (br_f (by decide) ⟨vp_in_nI hf (by decide), nm_e (nm_r (nI_1 i) ?_)⟩)))
  rw [cx_cl hf]
  exact K
/-- the cdr stands in a cell of its own -/
theorem cx_cy_205 {post : Int32 → SX → Prop} {x2 x3 x5 z0 z1 : Int32} {n : Nat} (hf1 : f + 1 < 320)
    (hp : post x3 (vb, nI (f + 2), vq, g1, g2, upd T (f + 1) z1, upd C (f + 1) z0, upd M (f + 1) 2, RT, RC, cl, se)) :
    wX_carry_205 post (wX_carry_27 post x3 (n + 1)) x2 x3 x5 z0 z1 (nI (f + 1)) vb (nI (f + 1)) vq g1 g2 T C M RT RC cl se := by
  unfold wX_carry_205
  refine cx_put hf1 ?_
  refine ⟨vp_in_nI hf1 (by decide), nm_e (nm_r (nI_1 (f + 1)) (nm_e ?_))⟩
  rw [cx_cl hf1]
  exact cx_cy_exit hp
theorem cx_cy_num {post : Int32 → SX → Prop} {x2 x3 x5 z : Int32} {n : Nat} (hf1 : f + 1 < 320)
    (hp : post x3 (vb, nI (f + 2), vq, 1, g2, upd T (f + 1) 1, upd C (f + 1) g2, upd (upd M f 0) (f + 1) 2, RT, RC, cl, se)) :
    wX_carry_117 post (wX_carry_27 post x3 (n + 1)) x2 x3 1 x5 (nI f) z vb (nI (f + 1)) vq 1 g2 T C M RT RC cl se := by
  have hf : f < 320 := by omega
  refine br_f (by decide) (br_f (by decide) ?_)
  refine ⟨vp_in_nI hf (by decide), nm_e (br_f (by decide) ?_)⟩
  rw [cx_cl hf]
  exact cx_cy_205 hf1 hp
theorem cx_cy_pair {post : Int32 → SX → Prop} {x2 x3 x5 : Int32} {n z : Nat} (hb : b ≤ 160) (hz : z < 320) (hz' : ¬ (b ≤ z ∧ z < b + 160)) (hf1 : f + 1 < 320)
    (hp : post x3 (nI b, nI (f + 2), vq, 2, g2, upd T (f + 1) 2, upd C (f + 1) (nI z), upd (upd M f 0) (f + 1) 2, RT, RC, cl, se)) :
    wX_carry_117 post (wX_carry_27 post x3 (n + 1)) x2 x3 1 x5 (nI f) (nI z) (nI b) (nI (f + 1)) vq 2 g2 T C M RT RC cl se := by
  have hf : f < 320 := by omega
  refine br_f (by decide) (br_t rfl (cx_old0 hb hz hz' (br_t rfl ?_)))
  refine ⟨vp_in_nI hf (by decide), nm_e (br_t rfl ?_)⟩
  rw [cx_cl hf]
  exact cx_cy_205 hf1 hp
end
end
section
/-! ===== carrying a spine, collecting ===== -/
section
variable {T C M RT RC : Nat → Int32} {rk rd ck cd dk dd : Nat → Int32}
variable {nx rl ph : Nat → Nat} {b to f0 f q : Nat} {Re : Nat → Prop}
theorem cl_CI_q {p : Nat} (I : cl_CI b to f0 f q Re nx rl ph T C M ck cd dk dd) (hp : p < 32) (hold : ¬ (to ≤ ph p ∧ ph p < to + 160)) : q < 32 := by
  obtain ⟨_, _, _, I4, _⟩ := I
  rw [← I4]
  have h1 := cl_n_lt (S := fun p => decide (rl (ph p) = p ∧ to ≤ ph p ∧ ph p < to + 160)) (S' := fun _ => true) 32 (fun _ _ _ => rfl) p hp (by rw [decide_eq_true_eq]; exact fun h => hold h.2) rfl
  have h2 := cl_n_le (fun _ => true) 32
  omega
theorem cl_CI_q2 (I : cl_CI b to f0 f q Re nx rl ph T C M ck cd dk dd) : q ≤ 32 := by
  obtain ⟨_, _, _, I4, _⟩ := I
  rw [← I4]; exact cl_n_le _ 32
theorem cl_hd_move {p : Nat} (I2 : ∀ a, to ≤ a → a < to + 160 → rl a < 32 → a = ph (rl a)) (hold : ¬ (to ≤ ph p ∧ ph p < to + 160)) :
    ∀ a, to ≤ a → a < to + 160 → cl_u rl f p a < 32 → a = cl_u ph p f (cl_u rl f p a) := by
  intro a h1 h2 ha
  by_cases e : a = f
  · subst e; rw [cl_us, cl_us]
  · rw [cl_un e] at ha ⊢
    have e1 := I2 a h1 h2 ha
    have e2 : rl a ≠ p := fun e' => hold (by rw [← e', ← e1]; exact ⟨h1, h2⟩)
    rw [cl_un e2]; exact e1
theorem cl_carryLoop (hbt : (b = 0 ∧ to = 160) ∨ (b = 160 ∧ to = 0)) (hf0 : f0 ≤ b + 160)
    (hRe : ∀ p, p < 32 → Re p → (ck p = 2 → ∀ x, x < 32 → cd p = nI x → Re x) ∧ (dk p = 2 → ∀ x, x < 32 → dd p = nI x → Re x)) :
    ∀ (m f q : Nat) (rl ph : Nat → Nat) (T C M : Nat → Int32) (g1 g2 : Int32) (p : Nat), 32 - q ≤ m → cl_CI b to f0 f q Re (cl_u rl f p) rl ph T C M ck cd dk dd →
      p < 32 → rl (ph p) = p → ¬ (to ≤ ph p ∧ ph p < to + 160) → Re p →
      ∃ (f' q' : Nat) (rl' ph' : Nat → Nat) (T' C' M' : Nat → Int32) (g1' g2' : Int32), cl_CI b to f0 f' q' Re rl' rl' ph' T' C' M' ck cd dk dd ∧
        (∀ a, rl a < 32 → rl' a = rl a) ∧ rl' f = p ∧ f ≤ f' ∧ (∀ a, to ≤ a → a < f → T' a = T a ∧ C' a = C a) ∧
        ∀ (post : Int32 → SX → Prop) (x3 : Int32) (n i : Nat) (RT RC : Nat → Int32) (cl se : Nat → Int64), i ≤ q → 34 ≤ n + q →
          post x3 (nI b, nI f', nI q', g1', g2', T', C', M', RT, RC, cl, se) → wX_carry_27 post x3 n (nI (ph p)) 1 (nI i) (nI b) (nI f) (nI q) g1 g2 T C M RT RC cl se := by
  intro m
  induction m with
  | zero =>
    intro f q rl ph T C M g1 g2 p hm I hp hr hold hR
    have := cl_CI_q I hp hold
    omega
  | succ m ih =>
    intro f q rl ph T C M g1 g2 p hm I hp hr hold hR
    have hq : q < 32 := cl_CI_q I hp hold
    have hI := I
    obtain ⟨⟨G1, G2, G3⟩, I2, I3, I4, ⟨I5, I6⟩, I7, I8⟩ := hI
    have hb : b ≤ 160 := by omega
    have hnf : to ≤ f ∧ f < to + 160 := by omega
    have hf3 : f < 320 := by omega
    have hf4 : f + 1 < 320 := by omega
    have halx : ¬ ((b ≤ f ∧ f < f0) ∨ (to ≤ f ∧ f < f)) := by omega
    have hhal := G1 (ph p) (by rw [hr]; exact hp)
    have hh : ph p < 320 := by omega
    have hhf : f ≠ ph p := by omega
    have hhf1 : f + 1 ≠ ph p := by omega
    have hmono := cl_mv_rl (rl := rl) (p := p) halx G1
    have hlt : ∀ x, rl x < 32 → x < 320 := fun x hx => by have := G1 x hx; omega
    have hlt' : ∀ x, cl_u rl f p x < 32 → x < 320 := fun x hx => by
      by_cases e : x = f
      · omega
      · rw [cl_un e] at hx; exact hlt x hx
    have h3 : T (ph p) ≠ 3 := cl_V_ne3 (G3 p hp hr).1
    have hrf1 : 32 ≤ rl (f + 1) := by
      rcases Nat.lt_or_ge (rl (f + 1)) 32 with h | h
      · have := G1 _ h; omega
      · exact h
    have GF : cl_G (fun a => (b ≤ a ∧ a < f0) ∨ (to ≤ a ∧ a < f)) (fun a => to ≤ a ∧ a < to + 160) (cl_u rl f p) rl ph (upd T f (T (ph p))) (upd C f (C (ph p))) M ck cd dk dd :=
      cl_G_frame I.1 (fun _ h => h) (fun a ha => by
        have e : a ≠ f := by omega
        rw [pk_un e, pk_un e]; exact ⟨rfl, rfl, rfl⟩)
    obtain ⟨t, c, hV, hW⟩ := cx_gotCdr (a := ph p) GF (fun x hx => by omega) (by rw [hr]; exact hp) (fun hm => by
      rw [hr] at hm ⊢
      have h8 := I8 p hp hr hold hm
      have hal8 := G1 _ h8
      rw [cl_un (by omega)])
    rw [hr] at hV
    have hmv : ∀ T' C' M' : Nat → Int32, (∀ a, a ≠ f + 1 → T' a = upd (upd T f (T (ph p))) (ph p) 3 a ∧ C' a = upd (upd C f (C (ph p))) (ph p) (nI f) a) →
        (∀ a, a ≠ f → a ≠ f + 1 → M' a = M a) → cl_mv (fun a => (b ≤ a ∧ a < f0) ∨ (to ≤ a ∧ a < f)) ph T C M T' C' M' p f := by
      intro T' C' M' hTC hM'
      refine ⟨halx, fun a ha => hM' a (by omega) (by omega), fun a ha hne => ?_, ?_, ?_, ?_, ?_⟩
      · obtain ⟨e1, e2⟩ := hTC a (by omega)
        rw [e1, e2, pk_un hne, pk_un hne, pk_un (by omega), pk_un (by omega)]
        exact ⟨rfl, rfl⟩
      · rw [(hTC (ph p) (by omega)).1, pk_us]
      · rw [(hTC (ph p) (by omega)).2, pk_us]
      · rw [(hTC f (by omega)).1, pk_un hhf, pk_us]
      · rw [(hTC f (by omega)).2, pk_un hhf, pk_us]
    have hag : ∀ T' C' : Nat → Int32, (∀ a, a ≠ f + 1 → T' a = upd (upd T f (T (ph p))) (ph p) 3 a ∧ C' a = upd (upd C f (C (ph p))) (ph p) (nI f) a) →
        ∀ a, to ≤ a → a < f → T' a = T a ∧ C' a = C a := by
      intro T' C' hTC a h1 h2
      obtain ⟨e1, e2⟩ := hTC a (by omega)
      rw [e1, e2, pk_un (by omega), pk_un (by omega), pk_un (by omega), pk_un (by omega)]
      exact ⟨rfl, rfl⟩
    have hself : ∀ a, a ≠ f + 1 → upd (upd T f (T (ph p))) (ph p) 3 a = upd (upd T f (T (ph p))) (ph p) 3 a ∧ upd (upd C f (C (ph p))) (ph p) (nI f) a = upd (upd C f (C (ph p))) (ph p) (nI f) a := fun a _ => ⟨rfl, rfl⟩
    have hup : ∀ t c : Int32, ∀ a, a ≠ f + 1 → upd (upd (upd T f (T (ph p))) (ph p) 3) (f + 1) t a = upd (upd T f (T (ph p))) (ph p) 3 a ∧ upd (upd (upd C f (C (ph p))) (ph p) (nI f)) (f + 1) c a = upd (upd C f (C (ph p))) (ph p) (nI f) a := fun t c a ha => ⟨pk_un ha, pk_un ha⟩
    obtain ⟨h0, h1 | ⟨h1, h2⟩ | ⟨h1, a', h2, h4, h5⟩⟩ := hV
    · have ht : t = 0 := by rw [h0, h1]
      subst ht
      refine ⟨f + 1, q + 1, cl_u rl f p, cl_u ph p f, _, _, upd M f 2, 0, c, cl_CI_move I hbt hf0 hp hr hold hR (hmv _ _ _ hself (fun a h _ => pk_un h)) (fun x _ _ => rfl) (Or.inl rfl) (Or.inr (Or.inr ⟨pk_us, h1⟩)), hmono, cl_us, by omega, hag _ _ hself, fun post x3 n i RT RC cl se hi hn hpo => ?_⟩
      obtain ⟨n', rfl⟩ : ∃ n', n = n' + 2 := ⟨n - 2, by omega⟩
      exact cx_cy_pre (n := n' + 1) (by omega) hh hf3 hW (br_f (by decide) (cx_cy_end hf3 hpo))
    · have ht : t = 1 := by rw [h0, h1]
      subst ht
      refine ⟨f + 2, q + 1, cl_u rl f p, cl_u ph p f, _, _, upd (upd M f 0) (f + 1) 2, 1, c, cl_CI_move I hbt hf0 hp hr hold hR (hmv _ _ _ (hup 1 c) (fun a h h' => by rw [pk_un h', pk_un h])) (fun x _ _ => rfl) (Or.inr ⟨rfl, by rw [pk_un (by omega), pk_us]⟩) (Or.inl ⟨by rw [pk_un (by omega), pk_us], by omega, by rw [cl_un (by omega)]; exact hrf1, ?_⟩), hmono, cl_us, by omega, hag _ _ (hup 1 c), fun post x3 n i RT RC cl se hi hn hpo => ?_⟩
      · rw [pk_us, pk_us, h1, ← h2]; exact cl_V_n
      · obtain ⟨n', rfl⟩ : ∃ n', n = n' + 2 := ⟨n - 2, by omega⟩
        exact cx_cy_pre (n := n' + 1) (by omega) hh hf3 hW (br_f (by decide) (cx_cy_num hf4 hpo))
    · have ht : t = 2 := by rw [h0, h1]
      subst ht
      subst h2
      have A2 : cl_A (fun a => to ≤ a ∧ a < to + 160) (cl_u rl f p) (cl_u ph p f) (upd (upd T f (T (ph p))) (ph p) 3) (upd (upd C f (C (ph p))) (ph p) (nI f)) M :=
        cl_A_move G1 G2 hp hr (hmv _ _ M hself (fun _ _ _ => rfl)) hold (Or.inr hnf) (Or.inl hnf)
      have hra : cl_u rl f p a' = rl a' := hmono a' h4
      have hr2 : cl_u rl f p (cl_u ph p f (rl a')) = rl a' := by
        have := (A2 a' (by rw [hra]; exact h4)).1
        rw [hra] at this; exact this
      have hz3 : cl_u ph p f (rl a') < 320 := hlt' _ (by rw [hr2]; exact h4)
      have hT2 : upd (upd T f (T (ph p))) (ph p) 3 (cl_u ph p f (rl a')) ≠ 3 := by
        by_cases e : rl a' = p
        · rw [e, cl_us, pk_un hhf, pk_us]; exact h3
        · have hr3 := (G2 a' h4).1
          rw [cl_un (f := ph) e, pk_un (fun e' => e (by rw [← hr3, e', hr])), pk_un (fun e' => by rw [e'] at hr3; have := G1 f (by rw [hr3]; exact h4); omega)]
          exact cl_V_ne3 (G3 _ h4 hr3).1
      have hhd := cl_hd_move (f := f) (p := p) I2 hold
      by_cases hn : to ≤ cl_u ph p f (rl a') ∧ cl_u ph p f (rl a') < to + 160
      · refine ⟨f + 2, q + 1, cl_u rl f p, cl_u ph p f, _, _, upd (upd M f 0) (f + 1) 2, 2, nI a', cl_CI_move I hbt hf0 hp hr hold hR (hmv _ _ _ (hup 2 (nI (cl_u ph p f (rl a')))) (fun a h h' => by rw [pk_un h', pk_un h])) (fun x _ _ => rfl) (Or.inr ⟨rfl, by rw [pk_un (by omega), pk_us]⟩) (Or.inl ⟨by rw [pk_un (by omega), pk_us], by omega, by rw [cl_un (by omega)]; exact hrf1, ?_⟩), hmono, cl_us, by omega, hag _ _ (hup 2 (nI (cl_u ph p f (rl a')))), fun post x3 n i RT RC cl se hi hn' hpo => ?_⟩
        · rw [pk_us, pk_us, h1, h5]; exact cl_V_p h4 hr2
        · obtain ⟨n', rfl⟩ : ∃ n', n = n' + 2 := ⟨n - 2, by omega⟩
          refine cx_cy_pre (n := n' + 1) (by omega) hh hf3 hW (br_t rfl ?_)
          refine cx_trace hbt A2 (by rw [hra]; exact h4) hlt' hhd (by rw [hra]; exact hT2) ?_
          rw [hra]
          exact cx_cy_pair hb hz3 (by omega) hf4 hpo
      · have e : rl a' ≠ p := fun e => hn (by rw [e, cl_us]; exact hnf)
        have hD2 : cl_D (fun a => (b ≤ a ∧ a < f0) ∨ (to ≤ a ∧ a < f + 1)) (cl_u (cl_u rl f p) (f + 1) (rl a')) (cl_u rl f p) (upd (upd T f (T (ph p))) (ph p) 3) (upd (upd C f (C (ph p))) (ph p) (nI f)) (upd M f 1) f (dk p) (dd p) :=
          Or.inr (Or.inl ⟨pk_us, h1, by rw [cl_us]; exact h4, by rw [cl_us]; exact h5⟩)
        have I' := cl_CI_move (f' := f + 1) (nx' := cl_u (cl_u rl f p) (f + 1) (rl a')) I hbt hf0 hp hr hold hR (hmv _ _ (upd M f 1) hself (fun a h _ => pk_un h)) (fun x hx _ => cl_un hx) (Or.inl rfl) hD2
        obtain ⟨f', q', rl', ph', T', C', M', g1', g2', J1, J2, J3, J4, J5, J6⟩ := ih (f + 1) (q + 1) _ _ _ _ _ 2 (nI a') (rl a') (by omega) I' h4 hr2 hn ((hRe p hp hR).2 h1 _ h4 h5)
        refine ⟨f', q', rl', ph', T', C', M', g1', g2', J1, fun a ha => ?_, ?_, by omega, fun a ha1 ha2 => ?_, fun post x3 n i RT RC cl se hi hn' hpo => ?_⟩
        · rw [J2 a (by rw [hmono a ha]; exact ha), hmono a ha]
        · rw [J2 f (by rw [cl_us]; exact hp), cl_us]
        · rw [(J5 a ha1 (by omega)).1, (J5 a ha1 (by omega)).2]
          exact hag _ _ hself a ha1 ha2
        · obtain ⟨n', rfl⟩ : ∃ n', n = n' + 1 := ⟨n - 1, by omega⟩
          refine cx_cy_pre (by omega) hh hf3 hW (br_t rfl ?_)
          refine cx_trace hbt A2 (by rw [hra]; exact h4) hlt' hhd (by rw [hra]; exact hT2) ?_
          rw [hra]
          exact cx_cy_next hb hf3 (by omega) (by omega) (J6 post x3 n' (i + 1) RT RC cl se (by omega) (by omega) hpo)
end
end
section
/-! ===== carry, the two loops of collect, collect ===== -/
section
variable {T C M RT RC : Nat → Int32} {rk rd ck cd dk dd : Nat → Int32} {g1 g2 : Int32}
variable {nx rl ph : Nat → Nat} {b to f0 f q : Nat} {Re : Nat → Prop}
theorem cl_carry (hbt : (b = 0 ∧ to = 160) ∨ (b = 160 ∧ to = 0)) (hf0 : f0 ≤ b + 160)
    (hRe : ∀ p, p < 32 → Re p → (ck p = 2 → ∀ x, x < 32 → cd p = nI x → Re x) ∧ (dk p = 2 → ∀ x, x < 32 → dd p = nI x → Re x))
    (I : cl_CI b to f0 f q Re rl rl ph T C M ck cd dk dd) {a : Nat} (ha : rl a < 32) (hR : Re (rl a)) :
    ∃ (f' q' : Nat) (rl' ph' : Nat → Nat) (T' C' M' : Nat → Int32) (g1' g2' : Int32) (y : Nat), cl_CI b to f0 f' q' Re rl' rl' ph' T' C' M' ck cd dk dd ∧
      (∀ a, rl a < 32 → rl' a = rl a) ∧ rl' y = rl a ∧ (to ≤ y ∧ y < to + 160) ∧ f ≤ f' ∧ (∀ a, to ≤ a → a < f → T' a = T a ∧ C' a = C a) ∧
      ∀ (post : Int32 → SX → Prop) (RT RC : Nat → Int32) (cl se : Nat → Int64),
        post (nI y) (nI b, nI f', nI q', g1', g2', T', C', M', RT, RC, cl, se) → wpX_carry post (nI b, nI f, nI q, g1, g2, T, C, M, RT, RC, cl, se) (nI a) := by
  have hI := I
  obtain ⟨⟨G1, G2, G3⟩, I2, I3, I4, ⟨I5, I6⟩, I7, I8⟩ := hI
  have hb : b ≤ 160 := by omega
  have hq2 := cl_CI_q2 I
  have hr := (G2 a ha).1
  have hlt : ∀ x, rl x < 32 → x < 320 := fun x hx => by have := G1 x hx; omega
  have hh : ph (rl a) < 320 := hlt _ (by rw [hr]; exact ha)
  have h3 : T (ph (rl a)) ≠ 3 := cl_V_ne3 (G3 _ ha hr).1
  by_cases hn : to ≤ ph (rl a) ∧ ph (rl a) < to + 160
  · refine ⟨f, q, rl, ph, T, C, M, g1, g2, ph (rl a), I, fun _ _ => rfl, hr, hn, Nat.le_refl _, fun _ _ _ => ⟨rfl, rfl⟩, fun post RT RC cl se hpo => ?_⟩
    unfold wpX_carry
    dsimp only
    exact cx_trace hbt G2 ha hlt I2 h3 (cx_old0 hb hh (by omega) (br_t rfl hpo))
  · obtain ⟨f', q', rl', ph', T', C', M', g1', g2', J1, J2, J3, J4, J5, J6⟩ := cl_carryLoop hbt hf0 hRe 32 f q rl ph T C M g1 g2 (rl a) (by omega) (cl_CI_pend I hbt hf0 (by omega) _) ha hr hn hR
    refine ⟨f', q', rl', ph', T', C', M', g1', g2', f, J1, J2, J3, by omega, J4, J5, fun post RT RC cl se hpo => ?_⟩
    unfold wpX_carry
    dsimp only
    exact cx_trace hbt G2 ha hlt I2 h3 (cx_old1 hb (by omega) (by omega) (br_f (by decide) ⟨34, J6 post _ 34 0 RT RC cl se (by omega) (by omega) hpo⟩))
theorem cl_col21 (hbt : (b = 0 ∧ to = 160) ∨ (b = 160 ∧ to = 0)) (hf0 : f0 ≤ b + 160)
    (hRe : ∀ p, p < 32 → Re p → (ck p = 2 → ∀ x, x < 32 → cd p = nI x → Re x) ∧ (dk p = 2 → ∀ x, x < 32 → dd p = nI x → Re x))
    (hRr : ∀ r, r < 8 → rk r = 2 → ∀ x, x < 32 → rd r = nI x → Re x) :
    ∀ (m r f q : Nat) (rl ph : Nat → Nat) (T C M RC : Nat → Int32) (g1 g2 : Int32), r + m = 8 → cl_CI b to f0 f q Re rl rl ph T C M ck cd dk dd →
      (∀ r, r < 8 → cl_V rl (RT r) (RC r) (rk r) (rd r)) → (∀ s, s < r → RT s = 2 → ∃ y, RC s = nI y ∧ to ≤ y ∧ y < to + 160) →
      ∃ (f' q' : Nat) (rl' ph' : Nat → Nat) (T' C' M' RC' : Nat → Int32) (g1' g2' : Int32), cl_CI b to f0 f' q' Re rl' rl' ph' T' C' M' ck cd dk dd ∧
        (∀ r, r < 8 → cl_V rl' (RT r) (RC' r) (rk r) (rd r)) ∧ (∀ s, s < 8 → RT s = 2 → ∃ y, RC' s = nI y ∧ to ≤ y ∧ y < to + 160) ∧
        ∀ (post : SX → Prop) (x1 : Int32) (n : Nat) (cl se : Nat → Int64), 9 ≤ n + r →
          (∃ n63, wX_collect_63 post x1 n63 x1 0 (nI b) (nI f') (nI q') g1' g2' T' C' M' RT RC' cl se) → wX_collect_21 post x1 n (nI r) (nI b) (nI f) (nI q) g1 g2 T C M RT RC cl se := by
  intro m
  induction m with
  | zero =>
    intro r f q rl ph T C M RC g1 g2 hm I hV hd
    obtain rfl : r = 8 := by omega
    refine ⟨f, q, rl, ph, T, C, M, RC, g1, g2, I, hV, hd, fun post x1 n cl se hn K => ?_⟩
    obtain ⟨n', rfl⟩ : ∃ n', n = n' + 1 := ⟨n - 1, by omega⟩
    exact br_t (by decide) K
  | succ m ih =>
    intro r f q rl ph T C M RC g1 g2 hm I hV hd
    have hr8 : r < 8 := by omega
    have hin := vp_in_nI hr8 (show 8 < 2 ^ 31 by decide)
    by_cases ht : RT r = 2
    · have hv := hV r hr8
      have hk : rk r = 2 := by rw [← hv.1]; exact ht
      obtain ⟨a, a1, a2, a3⟩ := cl_V_pair hv hk
      obtain ⟨f1, q1, rl1, ph1, T1, C1, M1, g11, g21, y, J1, J2, J3, J4, J5, J6, J7⟩ := cl_carry (g1 := g1) (g2 := g2) hbt hf0 hRe I a2 (hRr r hr8 hk _ a2 a3)
      obtain ⟨f', q', rl', ph', T', C', M', RC', g1', g2', K1, K2, K3, K4⟩ := ih (r + 1) f1 q1 rl1 ph1 T1 C1 M1 (upd RC r (nI y)) g11 g21 (by omega) J1 (fun s hs => by
        by_cases e : s = r
        · subst e
          rw [pk_us, ht, hk, a3]; exact cl_V_p a2 J3
        · rw [pk_un e]; exact cl_V_mono J2 (hV s hs)) (fun s hs hts => by
        by_cases e : s = r
        · subst e
          exact ⟨y, pk_us, J4⟩
        · rw [pk_un e]; exact hd s (by omega) hts)
      refine ⟨f', q', rl', ph', T', C', M', RC', g1', g2', K1, K2, K3, fun post x1 n cl se hn K => ?_⟩
      obtain ⟨n', rfl⟩ : ∃ n', n = n' + 1 := ⟨n - 1, by omega⟩
      refine br_f (nI_ge (b := 8) hr8 (by decide)) ⟨hin, br_t (by rw [cx_cl8 hr8]; exact ht) ⟨hin, ?_⟩⟩
      rw [cx_cl8 hr8, a1]
      refine J7 _ RT RC cl se ?_
      exact ⟨hin, nm_e (nm_r (nI_1 r) (K4 post x1 n' cl se (by omega) K))⟩
    · obtain ⟨f', q', rl', ph', T', C', M', RC', g1', g2', K1, K2, K3, K4⟩ := ih (r + 1) f q rl ph T C M RC g1 g2 (by omega) I hV (fun s hs hts => by
        by_cases e : s = r
        · rw [e] at hts; exact absurd hts ht
        · exact hd s (by omega) hts)
      refine ⟨f', q', rl', ph', T', C', M', RC', g1', g2', K1, K2, K3, fun post x1 n cl se hn K => ?_⟩
      obtain ⟨n', rfl⟩ : ∃ n', n = n' + 1 := ⟨n - 1, by omega⟩
      exact br_f (nI_ge (b := 8) hr8 (by decide)) ⟨hin, br_f (by rw [cx_cl8 hr8]; exact ht) (nm_r (nI_1 r) (K4 post x1 n' cl se (by omega) K))⟩
theorem cl_col63 (hbt : (b = 0 ∧ to = 160) ∨ (b = 160 ∧ to = 0)) (hf0 : f0 ≤ b + 160)
    (hRe : ∀ p, p < 32 → Re p → (ck p = 2 → ∀ x, x < 32 → cd p = nI x → Re x) ∧ (dk p = 2 → ∀ x, x < 32 → dd p = nI x → Re x)) :
    ∀ (m s f q : Nat) (rl ph : Nat → Nat) (T C M : Nat → Int32) (g1 g2 : Int32), to + 64 = s + m → to ≤ s → s ≤ f → cl_CI b to f0 f q Re rl rl ph T C M ck cd dk dd →
      (∀ r, r < 8 → cl_V rl (RT r) (RC r) (rk r) (rd r)) → (∀ x, to ≤ x → x < s → T x = 2 → ∃ y, C x = nI y ∧ to ≤ y ∧ y < to + 160) →
      ∃ (f' q' : Nat) (rl' ph' : Nat → Nat) (T' C' M' : Nat → Int32) (g1' g2' : Int32), cl_CI b to f0 f' q' Re rl' rl' ph' T' C' M' ck cd dk dd ∧
        (∀ r, r < 8 → cl_V rl' (RT r) (RC r) (rk r) (rd r)) ∧ (∀ x, to ≤ x → x < f' → T' x = 2 → ∃ y, C' x = nI y ∧ to ≤ y ∧ y < to + 160) ∧
        ∀ (post : SX → Prop) (x1 : Int32) (n i : Nat) (cl se : Nat → Int64), i + to = s → 66 ≤ n + i →
          post (x1, nI f', nI q', g1', g2', T', C', M', RT, RC, cl, se) → wX_collect_63 post x1 n (nI s) (nI i) (nI b) (nI f) (nI q) g1 g2 T C M RT RC cl se := by
  intro m
  induction m with
  | zero =>
    intro s f q rl ph T C M g1 g2 hm hs1 hs2 I hV hd
    have hq2 := cl_CI_q2 I
    have hff := I.2.2.2.2.1
    obtain rfl : s = f := by omega
    refine ⟨s, q, rl, ph, T, C, M, g1, g2, I, hV, hd, fun post x1 n i cl se hi hn K => ?_⟩
    obtain ⟨n', rfl⟩ : ∃ n', n = n' + 1 := ⟨n - 1, by omega⟩
    exact br_f (nI_ge (b := 160) (by omega) (by decide)) (br_t (nI_le (Nat.le_refl _) (by omega)) K)
  | succ m ih =>
    intro s f q rl ph T C M g1 g2 hm hs1 hs2 I hV hd
    have hq2 := cl_CI_q2 I
    have hff := I.2.2.2.2.1
    by_cases hsf : s = f
    · subst hsf
      refine ⟨s, q, rl, ph, T, C, M, g1, g2, I, hV, hd, fun post x1 n i cl se hi hn K => ?_⟩
      obtain ⟨n', rfl⟩ : ∃ n', n = n' + 1 := ⟨n - 1, by omega⟩
      exact br_f (nI_ge (b := 160) (by omega) (by decide)) (br_t (nI_le (Nat.le_refl _) (by omega)) K)
    · have hb : b ≤ 160 := by omega
      have hs3 : s < 320 := by omega
      have hin := vp_in_nI hs3 (show 320 < 2 ^ 31 by decide)
      have hsf' : ¬ nI f ≤ nI s := nI_ge (by omega) (by omega)
      by_cases ht : T s = 2
      · obtain ⟨a, a1, a2, a3⟩ := cl_CI_cell I (by omega) hs1 (by omega) hRe ht
        have hal := I.1.1 a a2
        by_cases ho : b ≤ a ∧ a < b + 160
        · obtain ⟨f1, q1, rl1, ph1, T1, C1, M1, g11, g21, y, J1, J2, J3, J4, J5, J6, J7⟩ := cl_carry (g1 := g1) (g2 := g2) hbt hf0 hRe I a2 a3
          obtain ⟨j1, j2⟩ := J6 s hs1 (by omega)
          have hq3 := cl_CI_q2 J1
          have hff1 := J1.2.2.2.2.1
          have J1' := cl_CI_put (s := s) (a := a) (y := y) J1 hbt hf0 (by omega) hs1 (by omega) (by rw [j1]; exact ht) (by rw [j2]; exact a1) (by rw [J2 a a2]; exact a2) (by rw [J2 a a2]; exact J3)
          obtain ⟨f', q', rl', ph', T', C', M', g1', g2', K1, K2, K3, K4⟩ := ih (s + 1) f1 q1 rl1 ph1 T1 (upd C1 s (nI y)) M1 g11 g21 (by omega) (by omega) (by omega) J1' (fun r hr => cl_V_mono J2 (hV r hr)) (fun x hx1 hx2 htx => by
            by_cases e : x = s
            · subst e; exact ⟨y, pk_us, J4⟩
            · obtain ⟨j3, j4⟩ := J6 x hx1 (by omega)
              rw [pk_un e, j4]
              exact hd x hx1 (by omega) (by rw [← j3]; exact htx))
          refine ⟨f', q', rl', ph', T', C', M', g1', g2', K1, K2, K3, fun post x1 n i cl se hi hn K => ?_⟩
          obtain ⟨n', rfl⟩ : ∃ n', n = n' + 1 := ⟨n - 1, by omega⟩
          refine br_f (nI_ge (b := 160) (by omega) (by decide)) (br_f hsf' ⟨hin, br_t (by rw [cx_cl hs3]; exact ht) ⟨hin, ?_⟩⟩)
          rw [cx_cl hs3, a1]
          refine cx_old1 hb ho.1 ho.2 (br_f (by decide) ⟨hin, ?_⟩)
          refine J7 _ RT RC cl se ?_
          exact ⟨hin, nm_e (nm_r (nI_1 s) (nm_r (nI_1 i) (K4 post x1 n' (i + 1) cl se (by omega) (by omega) K)))⟩
        · obtain ⟨f', q', rl', ph', T', C', M', g1', g2', K1, K2, K3, K4⟩ := ih (s + 1) f q rl ph T C M g1 g2 (by omega) (by omega) (by omega) I hV (fun x hx1 hx2 htx => by
            by_cases e : x = s
            · subst e; exact ⟨a, a1, by omega, by omega⟩
            · exact hd x hx1 (by omega) htx)
          refine ⟨f', q', rl', ph', T', C', M', g1', g2', K1, K2, K3, fun post x1 n i cl se hi hn K => ?_⟩
          obtain ⟨n', rfl⟩ : ∃ n', n = n' + 1 := ⟨n - 1, by omega⟩
          refine br_f (nI_ge (b := 160) (by omega) (by decide)) (br_f hsf' ⟨hin, br_t (by rw [cx_cl hs3]; exact ht) ⟨hin, ?_⟩⟩)
          rw [cx_cl hs3, a1]
          exact cx_old0 hb (by omega) ho (br_t rfl (nm_r (nI_1 s) (nm_r (nI_1 i) (K4 post x1 n' (i + 1) cl se (by omega) (by omega) K))))
      · obtain ⟨f', q', rl', ph', T', C', M', g1', g2', K1, K2, K3, K4⟩ := ih (s + 1) f q rl ph T C M g1 g2 (by omega) (by omega) (by omega) I hV (fun x hx1 hx2 htx => by
          by_cases e : x = s
          · rw [e] at htx; exact absurd htx ht
          · exact hd x hx1 (by omega) htx)
        refine ⟨f', q', rl', ph', T', C', M', g1', g2', K1, K2, K3, fun post x1 n i cl se hi hn K => ?_⟩
        obtain ⟨n', rfl⟩ : ∃ n', n = n' + 1 := ⟨n - 1, by omega⟩
        exact br_f (nI_ge (b := 160) (by omega) (by decide)) (br_f hsf' ⟨hin, br_f (by rw [cx_cl hs3]; exact ht) (nm_r (nI_1 s) (nm_r (nI_1 i) (K4 post x1 n' (i + 1) cl se (by omega) (by omega) K)))⟩)
/-- after a collection the same heap stands in the other half, every address a head, the live places alone -/
theorem cl_collect (g1 g2 : Int32) (R : cl_R b f q rl ph T C M RT RC rk rd ck cd dk dd) :
    ∃ (b' f' q' : Nat) (rl' ph' : Nat → Nat) (T' C' M' RC' : Nat → Int32) (g1' g2' : Int32), cl_R b' f' q' rl' ph' T' C' M' RT RC' rk rd ck cd dk dd ∧ f' ≤ b' + 2 * q' ∧
      (∀ a, rl' a < 32 → a = ph' (rl' a)) ∧ cl_n (fun p => decide (rl' (ph' p) = p)) 32 = q' ∧ (∀ p, p < 32 → (rl' (ph' p) = p ↔ cl_Re rk rd ck cd dk dd p)) ∧
      ∀ (post : SX → Prop) (cl se : Nat → Int64), post (nI b', nI f', nI q', g1', g2', T', C', M', RT, RC', cl, se) → wpX_collect post (nI b, nI f, nI q, g1, g2, T, C, M, RT, RC, cl, se) := by
  obtain ⟨to, hbt⟩ : ∃ to, (b = 0 ∧ to = 160) ∨ (b = 160 ∧ to = 0) := by
    rcases R.1 with h | h
    · exact ⟨160, Or.inl ⟨h, rfl⟩⟩
    · exact ⟨0, Or.inr ⟨h, rfl⟩⟩
  have hf0 : f ≤ b + 160 := R.2.2.1
  have hcl := cl_Re_cl rk rd ck cd dk dd
  obtain ⟨f1, q1, rl1, ph1, T1, C1, M1, RC1, g11, g21, J1, J2, J3, J4⟩ := cl_col21 (RT := RT) hbt hf0 hcl.2 hcl.1 8 0 to 0 rl ph T C M RC g1 g2 rfl (cl_CI_0 R hbt) R.2.2.2.2.2.2.1 (fun s hs => by omega)
  have hff := J1.2.2.2.2.1
  obtain ⟨f', q', rl', ph', T', C', M', g1', g2', K1, K2, K3, K4⟩ := cl_col63 (RT := RT) (RC := RC1) hbt hf0 hcl.2 64 to f1 q1 rl1 ph1 T1 C1 M1 g11 g21 rfl (Nat.le_refl _) hff.1 J1 J2 (fun x h1 h2 => by omega)
  obtain ⟨D1, D2, D3, D4, D5⟩ := cl_CI_done K1 hbt hf0 K2 J3 K3 R.2.2.2.2.2.2.2
  refine ⟨to, f', q', cl_nh to rl', ph', T', C', M', RC1, g1', g2', D1, D2, D3, D4, D5, fun post cl se hp => ?_⟩
  unfold wpX_collect
  dsimp only
  refine nm_r (e' := nI to) ?_ ⟨9, ?_⟩
  · show nI 160 - nI b = nI to
    rw [pk_sub (by omega)]
    congr 1
    omega
  · exact J4 post (nI to) 9 cl se (by omega) ⟨66, K4 post (nI to) 66 0 cl se (by omega) (by omega) hp⟩
end
end
section
/-! ===== the reference's live places ===== -/
def cl_T (tk : Nat → Int32) : Nat → Bool := fun p => decide (tk p ≠ 0)
theorem cl_T_t {tk : Nat → Int32} {p : Nat} : cl_T tk p = true ↔ tk p ≠ 0 := by unfold cl_T; rw [decide_eq_true_eq]
theorem cy_b1 : vp_nar .boolean 1 = 1 := rfl
theorem cy_b0 : vp_nar .boolean 0 = 0 := rfl
theorem cy_n1 : narrow .boolean (.int 1) = .int 1 := rfl
theorem cy_n0 : narrow .boolean (.int 0) = .int 0 := rfl
/-- a pass over the places: nothing new and tk closed so far (Q), or something new -/
def cl_P (tk0 tk : Nat → Int32) (x1 : Int32) (Re : Nat → Prop) (Q : Prop) : Prop :=
  (∀ i, i < 32 → tk i ≠ 0 → Re i) ∧ ((x1 = 0 ∧ tk = tk0 ∧ Q) ∨ (x1 = 1 ∧ (∀ i, i < 32 → tk0 i ≠ 0 → tk i ≠ 0) ∧ cl_n (cl_T tk0) 32 < cl_n (cl_T tk) 32))
section
variable {sl ek : Int32} {rk rd ck cd dk dd tk tk0 df sp : Nat → Int32} {Re : Nat → Prop} {Q Q' : Prop} {x1 : Int32}
theorem cx_cl32 {a : Nat} (h : a < 32) : (nI a).toNatClampNeg = a := nI_clamp (by omega)
theorem cl_P_q (h : cl_P tk0 tk x1 Re Q) (hq : tk = tk0 → Q → Q') : cl_P tk0 tk x1 Re Q' := by
  obtain ⟨h1, ⟨h2, h3, h4⟩ | h2⟩ := h
  · exact ⟨h1, Or.inl ⟨h2, h3, hq h3 h4⟩⟩
  · exact ⟨h1, Or.inr h2⟩
theorem cl_P_mark {y : Nat} (h : cl_P tk0 tk x1 Re Q) (hy : y < 32) (h0 : tk y = 0) (hR : Re y) : cl_P tk0 (upd tk y 1) 1 Re Q' := by
  have hsub : ∀ i, tk i ≠ 0 → upd tk y 1 i ≠ 0 := fun i hi => by
    by_cases e : i = y
    · rw [e, pk_us]; decide
    · rw [pk_un e]; exact hi
  have hlt : cl_n (cl_T tk) 32 < cl_n (cl_T (upd tk y 1)) 32 :=
    cl_n_lt 32 (fun i hi hs => cl_T_t.mpr (hsub i (cl_T_t.mp hs))) y hy (fun h => cl_T_t.mp h h0) (cl_T_t.mpr (by rw [pk_us]; decide))
  refine ⟨fun i hi hn => ?_, Or.inr ⟨rfl, ?_, ?_⟩⟩
  · by_cases e : i = y
    · rw [e]; exact hR
    · rw [pk_un e] at hn; exact h.1 i hi hn
  · intro i hi hn
    rcases h.2 with ⟨_, e, _⟩ | ⟨_, h2, _⟩
    · rw [e] at hsub ⊢; exact hsub i hn
    · exact hsub i (h2 i hi hn)
  · rcases h.2 with ⟨_, e, _⟩ | ⟨_, _, h3⟩
    · rw [← e]; exact hlt
    · omega
theorem cy_rm57 {p : Nat} (hp : p < 32) (hY : dk p = 2 → ∃ x, x < 32 ∧ dd p = nI x) (hRe : Re p → dk p = 2 → ∀ x, x < 32 → dd p = nI x → Re x) (h : cl_P tk0 tk x1 Re Q) :
    ∃ (x1' : Int32) (tk' : Nat → Int32), cl_P tk0 tk' x1' Re (Q ∧ (tk0 p ≠ 0 → dk p = 2 → ∀ x, x < 32 → dd p = nI x → tk0 x ≠ 0)) ∧
      ∀ (post : Int32 → SY → Prop) (J4 : Int32 → Int32 → (Nat → Int32) → (Nat → Int32) → (Nat → Int32) → (Nat → Int32) → (Nat → Int32) → (Nat → Int32) → (Nat → Int32) → (Nat → Int32) → (Nat → Int32) → Prop) (sl ek : Int32) (rk rd ck cd df sp : Nat → Int32),
        J4 x1' (nI (p + 1)) rk rd ck cd dk dd tk' df sp → wY_reachMore_57 post J4 x1 (nI p) sl ek rk rd ck cd dk dd tk df sp := by
  have hin := vp_in_nI hp (show 32 < 2 ^ 31 by decide)
  by_cases h1 : tk p = 0
  · refine ⟨x1, tk, cl_P_q h (fun e hq => ⟨hq, fun h0 => absurd (by rw [← e]; exact h1) h0⟩), fun post J4 sl ek rk rd ck cd df sp K => ?_⟩
    unfold wY_reachMore_57
    rw [cx_cl32 hp]
    exact ⟨hin, br_t h1 (nm_r (nI_1 p) K)⟩
  · by_cases h2 : dk p = 2
    · obtain ⟨y, hy, e⟩ := hY h2
      have hiny := vp_in_nI hy (show 32 < 2 ^ 31 by decide)
      by_cases h3 : tk y = 0
      · refine ⟨1, upd tk y 1, cl_P_mark h hy h3 (hRe (h.1 p hp h1) h2 y hy e), fun post J4 sl ek rk rd ck cd df sp K => ?_⟩
        unfold wY_reachMore_57
        rw [cx_cl32 hp, e, cx_cl32 hy]
        exact ⟨hin, br_f h1 ⟨hin, br_t h2 ⟨hin, hiny, br_t h3 ⟨hin, hiny, nm_e (nm_r (nI_1 p) K)⟩⟩⟩⟩
      · refine ⟨x1, tk, cl_P_q h (fun e' hq => ⟨hq, fun _ _ x hx ex => ?_⟩), fun post J4 sl ek rk rd ck cd df sp K => ?_⟩
        · rw [e, nI_eq (by omega) (by omega)] at ex
          rw [← ex, ← e']; exact h3
        · unfold wY_reachMore_57
          rw [cx_cl32 hp, e, cx_cl32 hy]
          exact ⟨hin, br_f h1 ⟨hin, br_t h2 ⟨hin, hiny, br_f h3 (nm_r (nI_1 p) K)⟩⟩⟩
    · refine ⟨x1, tk, cl_P_q h (fun _ hq => ⟨hq, fun _ h' => absurd h' h2⟩), fun post J4 sl ek rk rd ck cd df sp K => ?_⟩
      unfold wY_reachMore_57
      rw [cx_cl32 hp]
      exact ⟨hin, br_f h1 ⟨hin, br_f h2 (nm_r (nI_1 p) K)⟩⟩
/-- tk is closed at the places below p -/
def cl_cb (tk ck cd dk dd : Nat → Int32) (p : Nat) : Prop := ∀ i, i < p → tk i ≠ 0 → (ck i = 2 → ∀ x, x < 32 → cd i = nI x → tk x ≠ 0) ∧ (dk i = 2 → ∀ x, x < 32 → dd i = nI x → tk x ≠ 0)
theorem cy_rm4 (hY : ∀ p, p < 32 → (ck p = 2 → ∃ x, x < 32 ∧ cd p = nI x) ∧ (dk p = 2 → ∃ x, x < 32 ∧ dd p = nI x))
    (hRe : ∀ p, p < 32 → Re p → (ck p = 2 → ∀ x, x < 32 → cd p = nI x → Re x) ∧ (dk p = 2 → ∀ x, x < 32 → dd p = nI x → Re x)) :
    ∀ (m p : Nat) (tk : Nat → Int32) (x1 : Int32), p + m = 32 → cl_P tk0 tk x1 Re (cl_cb tk0 ck cd dk dd p) →
      ∃ (x1' : Int32) (tk' : Nat → Int32), cl_P tk0 tk' x1' Re (cl_cb tk0 ck cd dk dd 32) ∧
        ∀ (post : Int32 → SY → Prop) (n : Nat) (sl ek : Int32) (rk rd df sp : Nat → Int32), 33 ≤ n + p → post x1' (sl, ek, rk, rd, ck, cd, dk, dd, tk', df, sp) → wY_reachMore_4 post sl ek n x1 (nI p) rk rd ck cd dk dd tk df sp := by
  intro m
  induction m with
  | zero =>
    intro p tk x1 hm h
    obtain rfl : p = 32 := by omega
    refine ⟨x1, tk, h, fun post n sl ek rk rd df sp hn hp => ?_⟩
    obtain ⟨n', rfl⟩ : ∃ n', n = n' + 1 := ⟨n - 1, by omega⟩
    refine br_t (by decide) ⟨?_, hp⟩
    rcases h.2 with ⟨e, _⟩ | ⟨e, _⟩ <;> rw [e] <;> rfl
  | succ m ih =>
    intro p tk x1 hm h
    have hp : p < 32 := by omega
    have hin := vp_in_nI hp (show 32 < 2 ^ 31 by decide)
    have hlt := nI_ge (b := 32) hp (by decide)
    have fin : ∀ (x1 : Int32) (tk1 : Nat → Int32), cl_P tk0 tk1 x1 Re (cl_cb tk0 ck cd dk dd p ∧ (tk0 p ≠ 0 → ck p = 2 → ∀ x, x < 32 → cd p = nI x → tk0 x ≠ 0)) →
        ∃ (x1' : Int32) (tk' : Nat → Int32), cl_P tk0 tk' x1' Re (cl_cb tk0 ck cd dk dd 32) ∧
          ∀ (post : Int32 → SY → Prop) (n : Nat) (sl ek : Int32) (rk rd df sp : Nat → Int32), 32 ≤ n + p → post x1' (sl, ek, rk, rd, ck, cd, dk, dd, tk', df, sp) →
            wY_reachMore_57 post (wY_reachMore_4 post sl ek n) x1 (nI p) sl ek rk rd ck cd dk dd tk1 df sp := by
      intro x1 tk1 h1
      obtain ⟨x1', tk', h2, w2⟩ := cy_rm57 hp (hY p hp).2 (fun hr => (hRe p hp hr).2) h1
      have h3 : cl_P tk0 tk' x1' Re (cl_cb tk0 ck cd dk dd (p + 1)) := cl_P_q h2 (fun _ hq i hi h0 => by
        by_cases e : i = p
        · rw [e] at h0 ⊢; exact ⟨hq.1.2 h0, hq.2 h0⟩
        · exact hq.1.1 i (by omega) h0)
      obtain ⟨x1'', tk'', h4, w4⟩ := ih (p + 1) tk' x1' (by omega) h3
      exact ⟨x1'', tk'', h4, fun post n sl ek rk rd df sp hn hpo => w2 post _ sl ek rk rd ck cd df sp (w4 post n sl ek rk rd df sp (by omega) hpo)⟩
    by_cases h1 : tk p = 0
    · obtain ⟨x1', tk', h4, w4⟩ := fin x1 tk (cl_P_q h (fun e hq => ⟨hq, fun h0 => absurd (by rw [← e]; exact h1) h0⟩))
      refine ⟨x1', tk', h4, fun post n sl ek rk rd df sp hn hpo => ?_⟩
      obtain ⟨n', rfl⟩ : ∃ n', n = n' + 1 := ⟨n - 1, by omega⟩
      refine br_f hlt ⟨hin, br_t (by rw [cx_cl32 hp]; exact h1) ?_⟩
      exact w4 post n' sl ek rk rd df sp (by omega) hpo
    · by_cases h2 : ck p = 2
      · obtain ⟨y, hy, e⟩ := (hY p hp).1 h2
        have hiny := vp_in_nI hy (show 32 < 2 ^ 31 by decide)
        by_cases h3 : tk y = 0
        · obtain ⟨x1', tk', h4, w4⟩ := fin 1 (upd tk y 1) (cl_P_mark h hy h3 ((hRe p hp (h.1 p hp h1)).1 h2 y hy e))
          refine ⟨x1', tk', h4, fun post n sl ek rk rd df sp hn hpo => ?_⟩
          obtain ⟨n', rfl⟩ : ∃ n', n = n' + 1 := ⟨n - 1, by omega⟩
          refine br_f hlt ⟨hin, br_f (by rw [cx_cl32 hp]; exact h1) ⟨hin, br_t (by rw [cx_cl32 hp]; exact h2) ⟨hin, by rw [cx_cl32 hp, e]; exact hiny, br_t (by rw [cx_cl32 hp, e, cx_cl32 hy]; exact h3) ⟨hin, by rw [cx_cl32 hp, e]; exact hiny, nm_r (e' := upd tk y 1) (by rw [cx_cl32 hp, e, cx_cl32 hy]; rfl) ?_⟩⟩⟩⟩
          exact w4 post n' sl ek rk rd df sp (by omega) hpo
        · obtain ⟨x1', tk', h4, w4⟩ := fin x1 tk (cl_P_q h (fun e' hq => ⟨hq, fun _ _ x hx ex => by
            rw [e, nI_eq (by omega) (by omega)] at ex
            rw [← ex, ← e']; exact h3⟩))
          refine ⟨x1', tk', h4, fun post n sl ek rk rd df sp hn hpo => ?_⟩
          obtain ⟨n', rfl⟩ : ∃ n', n = n' + 1 := ⟨n - 1, by omega⟩
          refine br_f hlt ⟨hin, br_f (by rw [cx_cl32 hp]; exact h1) ⟨hin, br_t (by rw [cx_cl32 hp]; exact h2) ⟨hin, by rw [cx_cl32 hp, e]; exact hiny, br_f (by rw [cx_cl32 hp, e, cx_cl32 hy]; exact h3) ?_⟩⟩⟩
          exact w4 post n' sl ek rk rd df sp (by omega) hpo
      · obtain ⟨x1', tk', h4, w4⟩ := fin x1 tk (cl_P_q h (fun _ hq => ⟨hq, fun _ h' => absurd h' h2⟩))
        refine ⟨x1', tk', h4, fun post n sl ek rk rd df sp hn hpo => ?_⟩
        obtain ⟨n', rfl⟩ : ∃ n', n = n' + 1 := ⟨n - 1, by omega⟩
        refine br_f hlt ⟨hin, br_f (by rw [cx_cl32 hp]; exact h1) ⟨hin, br_f (by rw [cx_cl32 hp]; exact h2) ?_⟩⟩
        exact w4 post n' sl ek rk rd df sp (by omega) hpo
/-- what the rounds end with -/
def cl_TE (Re : Nat → Prop) (tk rk rd ck cd dk dd : Nat → Int32) : Prop := (∀ i, i < 32 → tk i ≠ 0 → Re i) ∧ (∀ r, r < 8 → rk r = 2 → ∀ x, x < 32 → rd r = nI x → tk x ≠ 0) ∧ cl_cb tk ck cd dk dd 32
theorem cy_re61 (hY : ∀ p, p < 32 → (ck p = 2 → ∃ x, x < 32 ∧ cd p = nI x) ∧ (dk p = 2 → ∃ x, x < 32 ∧ dd p = nI x))
    (hRe : ∀ p, p < 32 → Re p → (ck p = 2 → ∀ x, x < 32 → cd p = nI x → Re x) ∧ (dk p = 2 → ∀ x, x < 32 → dd p = nI x → Re x)) :
    ∀ (m j : Nat) (tk : Nat → Int32), j + m = 32 → (∀ i, i < 32 → tk i ≠ 0 → Re i) → (∀ r, r < 8 → rk r = 2 → ∀ x, x < 32 → rd r = nI x → tk x ≠ 0) → j ≤ cl_n (cl_T tk) 32 →
      ∃ tk' : Nat → Int32, cl_TE Re tk' rk rd ck cd dk dd ∧
        ∀ (post : SY → Prop) (n : Nat) (sl ek : Int32) (df sp : Nat → Int32), 34 ≤ n + j → post (sl, ek, rk, rd, ck, cd, dk, dd, tk', df, sp) → wY_reach_61 post n 1 (nI j) sl ek rk rd ck cd dk dd tk df sp := by
  intro m
  induction m with
  | zero =>
    intro j tk hm h1 h2 h3
    obtain rfl : j = 32 := by omega
    refine ⟨tk, ⟨h1, h2, fun i hi _ => ⟨fun _ x hx _ => cl_T_t.mp (cl_n_full h3 hx), fun _ x hx _ => cl_T_t.mp (cl_n_full h3 hx)⟩⟩, fun post n sl ek df sp hn hp => ?_⟩
    obtain ⟨n', rfl⟩ : ∃ n', n = n' + 1 := ⟨n - 1, by omega⟩
    exact br_t (by decide) hp
  | succ m ih =>
    intro j tk hm h1 h2 h3
    obtain ⟨x1', tk', P1, w1⟩ := cy_rm4 (tk0 := tk) hY hRe 32 0 tk 0 rfl ⟨h1, Or.inl ⟨rfl, rfl, fun i hi => by omega⟩⟩
    have hlt := nI_ge (b := 32) (a := j) (by omega) (by decide)
    obtain ⟨P2, ⟨e1, e2, e3⟩ | ⟨e1, e2, e3⟩⟩ := P1
    · subst e1
      subst e2
      refine ⟨tk', ⟨P2, h2, e3⟩, fun post n sl ek df sp hn hp => ?_⟩
      obtain ⟨n', rfl⟩ : ∃ n', n = n' + 2 := ⟨n - 2, by omega⟩
      refine br_f hlt (br_f (by decide) ⟨33, w1 _ 33 sl ek rk rd df sp (by omega) (nm_e ?_)⟩)
      exact br_c (fun _ => hp) (fun _ => br_t rfl hp)
    · subst e1
      obtain ⟨tk'', T1, w2⟩ := ih (j + 1) tk' (by omega) P2 (fun r hr hk x hx e => e2 x hx (h2 r hr hk x hx e)) (by omega)
      refine ⟨tk'', T1, fun post n sl ek df sp hn hp => ?_⟩
      obtain ⟨n', rfl⟩ : ∃ n', n = n' + 1 := ⟨n - 1, by omega⟩
      exact br_f hlt (br_f (by decide) ⟨33, w1 _ 33 sl ek rk rd df sp (by omega) (nm_r (nI_1 j) (w2 post n' sl ek df sp (by omega) hp))⟩)
theorem cy_re23 (hY : ∀ p, p < 32 → (ck p = 2 → ∃ x, x < 32 ∧ cd p = nI x) ∧ (dk p = 2 → ∃ x, x < 32 ∧ dd p = nI x))
    (hRe : ∀ p, p < 32 → Re p → (ck p = 2 → ∀ x, x < 32 → cd p = nI x → Re x) ∧ (dk p = 2 → ∀ x, x < 32 → dd p = nI x → Re x))
    (hR : ∀ r, r < 8 → rk r = 2 → ∃ x, x < 32 ∧ rd r = nI x) (hRr : ∀ r, r < 8 → rk r = 2 → ∀ x, x < 32 → rd r = nI x → Re x) :
    ∀ (m r : Nat) (tk : Nat → Int32), r + m = 8 → (∀ i, i < 32 → tk i ≠ 0 → Re i) → (∀ s, s < r → rk s = 2 → ∀ x, x < 32 → rd s = nI x → tk x ≠ 0) →
      ∃ tk' : Nat → Int32, cl_TE Re tk' rk rd ck cd dk dd ∧
        ∀ (post : SY → Prop) (n : Nat) (sl ek : Int32) (df sp : Nat → Int32), 9 ≤ n + r → post (sl, ek, rk, rd, ck, cd, dk, dd, tk', df, sp) → wY_reach_23 post sl ek n (nI r) rk rd ck cd dk dd tk df sp := by
  intro m
  induction m with
  | zero =>
    intro r tk hm h1 h2
    obtain rfl : r = 8 := by omega
    obtain ⟨tk', T1, w1⟩ := cy_re61 hY hRe 32 0 tk rfl h1 h2 (Nat.zero_le _)
    refine ⟨tk', T1, fun post n sl ek df sp hn hp => ?_⟩
    obtain ⟨n', rfl⟩ : ∃ n', n = n' + 1 := ⟨n - 1, by omega⟩
    exact br_t (by decide) ⟨34, w1 post 34 sl ek df sp (by omega) hp⟩
  | succ m ih =>
    intro r tk hm h1 h2
    have hr : r < 8 := by omega
    have hin := vp_in_nI hr (show 8 < 2 ^ 31 by decide)
    have hlt := nI_ge (b := 8) hr (by decide)
    by_cases hk : rk r = 2
    · obtain ⟨y, hy, e⟩ := hR r hr hk
      have hiny := vp_in_nI hy (show 32 < 2 ^ 31 by decide)
      have hsub : ∀ i, tk i ≠ 0 → upd tk y 1 i ≠ 0 := fun i hi => by
        by_cases e : i = y
        · rw [e, pk_us]; decide
        · rw [pk_un e]; exact hi
      obtain ⟨tk', T1, w1⟩ := ih (r + 1) (upd tk y 1) (by omega) (fun i hi hn => by
        by_cases e' : i = y
        · rw [e']; exact hRr r hr hk y hy e
        · rw [pk_un e'] at hn; exact h1 i hi hn) (fun s hs hks x hx ex => by
        by_cases e' : s = r
        · rw [e', e, nI_eq (by omega) (by omega)] at ex
          rw [← ex, pk_us]; decide
        · exact hsub x (h2 s (by omega) hks x hx ex))
      refine ⟨tk', T1, fun post n sl ek df sp hn hp => ?_⟩
      obtain ⟨n', rfl⟩ : ∃ n', n = n' + 1 := ⟨n - 1, by omega⟩
      exact br_f hlt ⟨hin, br_t (by rw [cx_cl8 hr]; exact hk) ⟨hin, by rw [cx_cl8 hr, e]; exact hiny, nm_r (e' := upd tk y 1) (by rw [cx_cl8 hr, e, cx_cl32 hy]; rfl) (nm_r (nI_1 r) (w1 post n' sl ek df sp (by omega) hp))⟩⟩
    · obtain ⟨tk', T1, w1⟩ := ih (r + 1) tk (by omega) h1 (fun s hs hks x hx ex => by
        by_cases e' : s = r
        · rw [e'] at hks; exact absurd hks hk
        · exact h2 s (by omega) hks x hx ex)
      refine ⟨tk', T1, fun post n sl ek df sp hn hp => ?_⟩
      obtain ⟨n', rfl⟩ : ∃ n', n = n' + 1 := ⟨n - 1, by omega⟩
      exact br_f hlt ⟨hin, br_f (by rw [cx_cl8 hr]; exact hk) (nm_r (nI_1 r) (w1 post n' sl ek df sp (by omega) hp))⟩
theorem cy_re2 (hY : ∀ p, p < 32 → (ck p = 2 → ∃ x, x < 32 ∧ cd p = nI x) ∧ (dk p = 2 → ∃ x, x < 32 ∧ dd p = nI x))
    (hRe : ∀ p, p < 32 → Re p → (ck p = 2 → ∀ x, x < 32 → cd p = nI x → Re x) ∧ (dk p = 2 → ∀ x, x < 32 → dd p = nI x → Re x))
    (hR : ∀ r, r < 8 → rk r = 2 → ∃ x, x < 32 ∧ rd r = nI x) (hRr : ∀ r, r < 8 → rk r = 2 → ∀ x, x < 32 → rd r = nI x → Re x) :
    ∀ (m p : Nat) (tk : Nat → Int32), p + m = 32 → (∀ i, i < p → tk i = 0) →
      ∃ tk' : Nat → Int32, cl_TE Re tk' rk rd ck cd dk dd ∧
        ∀ (post : SY → Prop) (n : Nat) (sl ek : Int32) (df sp : Nat → Int32), 33 ≤ n + p → post (sl, ek, rk, rd, ck, cd, dk, dd, tk', df, sp) → wY_reach_2 post sl ek n (nI p) rk rd ck cd dk dd tk df sp := by
  intro m
  induction m with
  | zero =>
    intro p tk hm h1
    obtain rfl : p = 32 := by omega
    obtain ⟨tk', T1, w1⟩ := cy_re23 hY hRe hR hRr 8 0 tk rfl (fun i hi hn => absurd (h1 i hi) hn) (fun s hs => by omega)
    refine ⟨tk', T1, fun post n sl ek df sp hn hp => ?_⟩
    obtain ⟨n', rfl⟩ : ∃ n', n = n' + 1 := ⟨n - 1, by omega⟩
    exact br_t (by decide) ⟨9, w1 post 9 sl ek df sp (by omega) hp⟩
  | succ m ih =>
    intro p tk hm h1
    have hp : p < 32 := by omega
    have hin := vp_in_nI hp (show 32 < 2 ^ 31 by decide)
    obtain ⟨tk', T1, w1⟩ := ih (p + 1) (upd tk p 0) (by omega) (fun i hi => by
      by_cases e : i = p
      · rw [e, pk_us]
      · rw [pk_un e]; exact h1 i (by omega))
    refine ⟨tk', T1, fun post n sl ek df sp hn hpo => ?_⟩
    obtain ⟨n', rfl⟩ : ∃ n', n = n' + 1 := ⟨n - 1, by omega⟩
    exact br_f (nI_ge (b := 32) hp (by decide)) ⟨hin, nm_r (e' := upd tk p 0) (by rw [cx_cl32 hp]; rfl) (nm_r (nI_1 p) (w1 post n' sl ek df sp (by omega) hpo))⟩
/-- the live places, marked -/
theorem cy_reach (sl ek : Int32) (tk df sp : Nat → Int32) (hY : ∀ p, p < 32 → (ck p = 2 → ∃ x, x < 32 ∧ cd p = nI x) ∧ (dk p = 2 → ∃ x, x < 32 ∧ dd p = nI x))
    (hR : ∀ r, r < 8 → rk r = 2 → ∃ x, x < 32 ∧ rd r = nI x) :
    ∃ tk' : Nat → Int32, (∀ p, p < 32 → (tk' p ≠ 0 ↔ cl_Re rk rd ck cd dk dd p)) ∧ ∀ post : SY → Prop, post (sl, ek, rk, rd, ck, cd, dk, dd, tk', df, sp) → wpY_reach post (sl, ek, rk, rd, ck, cd, dk, dd, tk, df, sp) := by
  have hcl := cl_Re_cl rk rd ck cd dk dd
  obtain ⟨tk', ⟨t1, t2, t3⟩, w⟩ := cy_re2 hY hcl.2 hR hcl.1 32 0 tk rfl (fun i hi => by omega)
  refine ⟨tk', fun p hp => ⟨t1 p hp, fun h => ?_⟩, fun post hp => ⟨33, w post 33 sl ek df sp (by omega) hp⟩⟩
  exact h (fun p => tk' p ≠ 0) ⟨t2, t3⟩
theorem cy_lv8 : ∀ (m p : Nat), p + m = 32 → ∀ (post : Int32 → SY → Prop) (n : Nat), 33 ≤ n + p → post (nI (cl_n (cl_T tk) 32)) (sl, ek, rk, rd, ck, cd, dk, dd, tk, df, sp) → wY_live_8 post sl ek rk rd ck cd dk dd tk df sp n (nI (cl_n (cl_T tk) p)) (nI p) := by
  intro m
  induction m with
  | zero =>
    intro p hm post n hn hp
    obtain rfl : p = 32 := by omega
    obtain ⟨n', rfl⟩ : ∃ n', n = n' + 1 := ⟨n - 1, by omega⟩
    exact br_t (by decide) hp
  | succ m ih =>
    intro p hm post n hn hpo
    have hp : p < 32 := by omega
    have hin := vp_in_nI hp (show 32 < 2 ^ 31 by decide)
    obtain ⟨n', rfl⟩ : ∃ n', n = n' + 1 := ⟨n - 1, by omega⟩
    have K := ih (p + 1) (by omega) post n' (by omega) hpo
    rw [cl_n_s] at K
    by_cases h : tk p = 0
    · rw [if_neg (fun h' => cl_T_t.mp h' h)] at K
      exact br_f (nI_ge (b := 32) hp (by decide)) ⟨hin, br_t (by rw [cx_cl32 hp]; exact h) (nm_r (nI_1 p) K)⟩
    · rw [if_pos (cl_T_t.mpr h)] at K
      exact br_f (nI_ge (b := 32) hp (by decide)) ⟨hin, br_f (by rw [cx_cl32 hp]; exact h) (nm_r (nI_1 _) (nm_r (nI_1 p) K))⟩
theorem cy_live (sl ek : Int32) (tk df sp : Nat → Int32) (hY : ∀ p, p < 32 → (ck p = 2 → ∃ x, x < 32 ∧ cd p = nI x) ∧ (dk p = 2 → ∃ x, x < 32 ∧ dd p = nI x))
    (hR : ∀ r, r < 8 → rk r = 2 → ∃ x, x < 32 ∧ rd r = nI x) :
    ∃ tk' : Nat → Int32, (∀ p, p < 32 → (tk' p ≠ 0 ↔ cl_Re rk rd ck cd dk dd p)) ∧ ∀ post : Int32 → SY → Prop, post (nI (cl_n (cl_T tk') 32)) (sl, ek, rk, rd, ck, cd, dk, dd, tk', df, sp) → wpY_live post (sl, ek, rk, rd, ck, cd, dk, dd, tk, df, sp) := by
  obtain ⟨tk', h1, w⟩ := cy_reach (rk := rk) (rd := rd) sl ek tk df sp hY hR
  refine ⟨tk', h1, fun post hp => ?_⟩
  unfold wpY_live
  dsimp only
  refine w _ ⟨33, ?_⟩
  exact cy_lv8 32 0 rfl post 33 (by omega) hp
end
end
section
/-! ===== room: need, mayMake; the reference's fresh ===== -/
section
variable {T C M RT RC : Nat → Int32} {cl se : Nat → Int64} {sl ek : Int32} {rk rd ck cd dk dd tk df sp : Nat → Int32}
variable {rl ph : Nat → Nat} {b f q : Nat}
theorem cl_V_rep {t c k d : Int32} (A : cl_A (fun _ => False) rl ph T C M) (v : cl_V rl t c k d) (hk : k = 2) {x : Nat} (hx : x < 32) (e : d = nI x) : rl (ph x) = x := by
  obtain ⟨a, a1, a2, a3⟩ := cl_V_pair v hk
  rw [e, nI_eq (by omega) (by omega)] at a3
  rw [a3]
  exact (A a a2).1
/-- the places that have a head are closed -/
theorem cl_R_rep (R : cl_R b f q rl ph T C M RT RC rk rd ck cd dk dd) : cl_cl (fun p => rl (ph p) = p) rk rd ck cd dk dd := by
  obtain ⟨R1, R2, R3, R4, R5, ⟨H1, H2, H3⟩, R7, R8⟩ := R
  refine ⟨fun r hr hk x hx e => cl_V_rep H2 (R7 r hr) hk hx e, fun p hp hp' => ⟨fun hk x hx e => cl_V_rep H2 (H3 p hp hp').1 hk hx e, fun hk x hx e => ?_⟩⟩
  rcases (H3 p hp hp').2 with ⟨m, a1, a2, a3⟩ | ⟨m, m1, m2, m3⟩ | ⟨m, v⟩
  · exact cl_V_rep H2 a3 hk hx e
  · rw [e, nI_eq (by omega) (by omega)] at m3
    show rl (ph x) = x
    rw [m3]
    exact (H2 _ m2).1
  · rw [hk] at v; exact absurd v (by decide)
theorem cl_R_live (R : cl_R b f q rl ph T C M RT RC rk rd ck cd dk dd) {p : Nat} (h : cl_Re rk rd ck cd dk dd p) : rl (ph p) = p := h (fun p => rl (ph p) = p) (cl_R_rep R)
theorem cl_R_cnt (R : cl_R b f q rl ph T C M RT RC rk rd ck cd dk dd) (htk : ∀ p, p < 32 → (tk p ≠ 0 ↔ cl_Re rk rd ck cd dk dd p)) : cl_n (cl_T tk) 32 ≤ q := by
  refine Nat.le_trans (cl_n_mono 32 (fun i hi h => ?_)) R.2.2.2.2.1
  rw [decide_eq_true_eq]
  exact cl_R_live R ((htk i hi).mp (cl_T_t.mp h))
theorem cl_R_regs (R : cl_R b f q rl ph T C M RT RC rk rd ck cd dk dd) : ∀ r, r < 8 → rk r = 2 → ∃ x, x < 32 ∧ rd r = nI x := fun r hr hk => cl_V_ex (R.2.2.2.2.2.2.1 r hr) hk
/-- a collection, as need and mayMake use it -/
theorem cl_col (g1 g2 : Int32) (R : cl_R b f q rl ph T C M RT RC rk rd ck cd dk dd) :
    ∃ (b' f' q' : Nat) (rl' ph' : Nat → Nat) (T' C' M' RC' : Nat → Int32) (g1' g2' : Int32), cl_R b' f' q' rl' ph' T' C' M' RT RC' rk rd ck cd dk dd ∧ f' ≤ b' + 2 * q' ∧ q' ≤ q ∧
      (∀ tk : Nat → Int32, (∀ p, p < 32 → (tk p ≠ 0 ↔ cl_Re rk rd ck cd dk dd p)) → cl_n (cl_T tk) 32 = q') ∧ (∀ a, rl' a < 32 → a = ph' (rl' a)) ∧
      ∀ (post : SX → Prop) (cl se : Nat → Int64), post (nI b', nI f', nI q', g1', g2', T', C', M', RT, RC', cl, se) → wpX_collect post (nI b, nI f, nI q, g1, g2, T, C, M, RT, RC, cl, se) := by
  obtain ⟨b', f', q', rl', ph', T', C', M', RC', g1', g2', J1, J2, J3, J4, J5, J6⟩ := cl_collect g1 g2 R
  refine ⟨b', f', q', rl', ph', T', C', M', RC', g1', g2', J1, J2, ?_, fun tk htk => ?_, J3, J6⟩
  · rw [← J4]
    refine Nat.le_trans (cl_n_mono 32 (fun i hi h => ?_)) R.2.2.2.2.1
    rw [decide_eq_true_eq] at h ⊢
    exact cl_R_live R ((J5 i hi).mp h)
  · rw [← J4]
    exact cl_n_congr 32 (fun i hi => by rw [decide_eq_true_eq, cl_T_t, htk i hi, J5 i hi])
theorem cx_need (g1 g2 : Int32) (R : cl_R b f q rl ph T C M RT RC rk rd ck cd dk dd) {c : Nat} (hc : c ≤ 64) :
    ∃ (b' f' q' : Nat) (rl' ph' : Nat → Nat) (T' C' M' RC' : Nat → Int32) (g1' g2' : Int32), cl_R b' f' q' rl' ph' T' C' M' RT RC' rk rd ck cd dk dd ∧ f' + c ≤ b' + 160 ∧ q' ≤ q ∧
      ∀ (post : SX → Prop) (cl se : Nat → Int64), post (nI b', nI f', nI q', g1', g2', T', C', M', RT, RC', cl, se) → wpX_need post (nI b, nI f, nI q, g1, g2, T, C, M, RT, RC, cl, se) (nI c) := by
  have hR := R
  obtain ⟨R1, R2, R3, R4, _⟩ := hR
  have hi : (nI f + nI c ≤ nI b + 160) ↔ f + c ≤ b + 160 := by
    show (nI f + nI c ≤ nI b + nI 160) ↔ _
    rw [nI_add, nI_add, nI_leI (by omega) (by omega)]
  by_cases h : f + c ≤ b + 160
  · exact ⟨b, f, q, rl, ph, T, C, M, RC, g1, g2, R, h, Nat.le_refl _, fun post cl se hp => br_t (hi.mpr h) hp⟩
  · obtain ⟨b', f', q', rl', ph', T', C', M', RC', g1', g2', J1, J2, J3, J4, J5, J6⟩ := cl_col g1 g2 R
    refine ⟨b', f', q', rl', ph', T', C', M', RC', g1', g2', J1, by omega, J3, fun post cl se hp => ?_⟩
    exact br_f (fun h' => h (hi.mp h')) (J6 _ cl se hp)
theorem cx_mm15 {post : Int32 → SX → Prop} {vb vf g1 g2 : Int32} {k : Nat} (hq : q ≤ 32) (hk : k ≤ 32) (h0 : ¬ q + k ≤ 32 → post 0 (vb, vf, nI q, g1, g2, T, C, M, RT, RC, cl, se)) (h1 : q + k ≤ 32 → post 1 (vb, vf, nI q, g1, g2, T, C, M, RT, RC, cl, se)) : wX_mayMake_15 post (nI k) vb vf (nI q) g1 g2 T C M RT RC cl se := by
  have hi : (32 < nI q + nI k) ↔ ¬ q + k ≤ 32 := by
    show (nI 32 < nI q + nI k) ↔ _
    rw [nI_add, nI_ltI (by omega) (by omega)]
    omega
  exact br_c (fun h => h0 (hi.mp h)) (fun h => h1 (by
    by_cases h' : q + k ≤ 32
    · exact h'
    · exact absurd (hi.mpr h') h))
theorem cx_mayMake (g1 g2 : Int32) (R : cl_R b f q rl ph T C M RT RC rk rd ck cd dk dd) {k : Nat} (hk : k ≤ 32) (htk : ∀ p, p < 32 → (tk p ≠ 0 ↔ cl_Re rk rd ck cd dk dd p)) :
    ∃ (b' f' q' : Nat) (rl' ph' : Nat → Nat) (T' C' M' RC' : Nat → Int32) (g1' g2' : Int32), cl_R b' f' q' rl' ph' T' C' M' RT RC' rk rd ck cd dk dd ∧ (cl_n (cl_T tk) 32 + k ≤ 32 → q' + k ≤ 32) ∧
      ∀ (post : Int32 → SX → Prop) (cl se : Nat → Int64), (cl_n (cl_T tk) 32 + k ≤ 32 → post 1 (nI b', nI f', nI q', g1', g2', T', C', M', RT, RC', cl, se)) →
        (¬ cl_n (cl_T tk) 32 + k ≤ 32 → post 0 (nI b', nI f', nI q', g1', g2', T', C', M', RT, RC', cl, se)) → wpX_mayMake post (nI b, nI f, nI q, g1, g2, T, C, M, RT, RC, cl, se) (nI k) := by
  have hq : q ≤ 32 := R.2.2.2.1
  have hi : (nI q + nI k ≤ 32) ↔ q + k ≤ 32 := by
    show (nI q + nI k ≤ nI 32) ↔ _
    rw [nI_add, nI_leI (by omega) (by omega)]
  by_cases h : q + k ≤ 32
  · have := cl_R_cnt R htk
    refine ⟨b, f, q, rl, ph, T, C, M, RC, g1, g2, R, fun _ => h, fun post cl se h1 h0 => br_t (hi.mpr h) ?_⟩
    exact cx_mm15 hq hk (fun h' => absurd h h') (fun _ => h1 (by omega))
  · obtain ⟨b', f', q', rl', ph', T', C', M', RC', g1', g2', J1, J2, J3, J4, J5, J6⟩ := cl_col g1 g2 R
    have e := J4 tk htk
    refine ⟨b', f', q', rl', ph', T', C', M', RC', g1', g2', J1, fun h' => by omega, fun post cl se h1 h0 => br_f (fun h' => h (hi.mp h')) (J6 _ cl se ?_)⟩
    exact cx_mm15 (by omega) hk (fun h' => h0 (by omega)) (fun h' => h1 (by omega))
theorem cy_fr2 {p : Nat} (hp : p < 32) (h0 : tk p = 0) (hl : ∀ i, i < p → tk i ≠ 0) {k d : Int32} :
    ∀ (m i : Nat), i + m = p → ∀ (post : Int32 → SY → Prop) (n : Nat), m + 1 ≤ n → post (nI p) (sl, ek, rk, rd, upd ck p k, upd cd p d, upd dk p 0, upd dd p 0, upd tk p 1, df, sp) → wY_fresh_2 post k d sl ek rk rd ck cd dk dd tk df sp n (nI i) := by
  have hin := vp_in_nI hp (show 32 < 2 ^ 31 by decide)
  have K : ∀ post : Int32 → SY → Prop, post (nI p) (sl, ek, rk, rd, upd ck p k, upd cd p d, upd dk p 0, upd dd p 0, upd tk p 1, df, sp) → wY_fresh_23 post k d (nI p) sl ek rk rd ck cd dk dd tk df sp := by
    intro post hpo
    unfold wY_fresh_23
    rw [cx_cl32 hp]
    exact ⟨hin, nm_e ⟨hin, nm_e ⟨hin, nm_e ⟨hin, nm_e ⟨hin, nm_e hpo⟩⟩⟩⟩⟩
  intro m
  induction m with
  | zero =>
    intro i hm post n hn hpo
    obtain rfl : i = p := by omega
    obtain ⟨n', rfl⟩ : ∃ n', n = n' + 1 := ⟨n - 1, by omega⟩
    exact br_c (fun _ => K post hpo) (fun _ => ⟨hin, br_t (by rw [cx_cl32 hp]; exact h0) (K post hpo)⟩)
  | succ m ih =>
    intro i hm post n hn hpo
    have hi : i < 32 := by omega
    obtain ⟨n', rfl⟩ : ∃ n', n = n' + 1 := ⟨n - 1, by omega⟩
    exact br_f (nI_ge (b := 31) (by omega) (by decide)) ⟨vp_in_nI hi (by decide), br_f (by rw [cx_cl32 hi]; exact hl i (by omega)) (nm_r (nI_1 i) (ih (i + 1) (by omega) post n' (by omega) hpo))⟩
theorem cy_fresh (hlt : cl_n (cl_T tk) 32 < 32) : ∃ p, p < 32 ∧ tk p = 0 ∧
    ∀ (post : Int32 → SY → Prop) (sl ek k d : Int32) (rk rd ck cd dk dd df sp : Nat → Int32), post (nI p) (sl, ek, rk, rd, upd ck p k, upd cd p d, upd dk p 0, upd dd p 0, upd tk p 1, df, sp) → wpY_fresh post (sl, ek, rk, rd, ck, cd, dk, dd, tk, df, sp) k d := by
  obtain ⟨i, hi, hn⟩ := cl_n_free 32 hlt
  obtain ⟨p, h1, h2⟩ := pk_least (fun p => tk p = 0) ⟨i, by
    by_cases h : tk i = 0
    · exact h
    · exact absurd (cl_T_t.mpr h) hn⟩
  have hp : p < 32 := by
    by_cases h : p < 32
    · exact h
    · exact absurd (cl_T_t.mpr (h2 i (by omega))) hn
  exact ⟨p, hp, h1, fun post sl ek k d rk rd ck cd dk dd df sp hpo => ⟨p + 1, cy_fr2 hp h1 h2 p 0 (by omega) post (p + 1) (by omega) hpo⟩⟩
end
end
section
/-! ===== the methods without loops ===== -/
theorem i_vc_nil {k : Nat} {u : SX} {v : SY} (I : i_Rel k u v) (hk : k + 5 ≤ 2560) (v1 : Int32) : wpX_nil (fun r u' => wpY_nil (fun r' v' => r' = r ∧ i_Rel (k + 5) u' v') v v1) u v1 := by
  refine cl_el (P := fun u v => wpX_nil (fun r u' => wpY_nil (fun r' v' => r' = r ∧ i_Rel (k + 5) u' v') v v1) u v1) ?_ I
  intro b f q rl ph g1 g2 T C M RT RC cl se sl ek rk rd ck cd dk dd tk df sp R
  unfold wpX_nil wpY_nil
  dsimp only
  rcases cx_reg v1 with ⟨j, hj, rfl⟩ | ⟨hX, hY⟩
  · refine cx_ok hj (br_t rfl (cx_setReg hj ?_))
    exact cy_ok hj (br_f (by decide) (cy_set hj ⟨rfl, cl_in (cl_R_reg R cl_V_nil)⟩))
  · exact hX _ _ (br_f (by decide) (hY _ _ (br_t rfl ⟨rfl, cl_in R⟩)))
theorem i_vc_number {k : Nat} {u : SX} {v : SY} (I : i_Rel k u v) (hk : k + 5 ≤ 2560) (v1 : Int32) (v2 : Int32) : wpX_number (fun r u' => wpY_number (fun r' v' => r' = r ∧ i_Rel (k + 5) u' v') v v1 v2) u v1 v2 := by
  refine cl_el (P := fun u v => wpX_number (fun r u' => wpY_number (fun r' v' => r' = r ∧ i_Rel (k + 5) u' v') v v1 v2) u v1 v2) ?_ I
  intro b f q rl ph g1 g2 T C M RT RC cl se sl ek rk rd ck cd dk dd tk df sp R
  unfold wpX_number wpY_number
  dsimp only
  rcases cx_reg v1 with ⟨j, hj, rfl⟩ | ⟨hX, hY⟩
  · refine cx_ok hj (br_t rfl (cx_setReg hj ?_))
    exact cy_ok hj (br_f (by decide) (cy_set hj ⟨rfl, cl_in (cl_R_reg R cl_V_n)⟩))
  · exact hX _ _ (br_f (by decide) (hY _ _ (br_t rfl ⟨rfl, cl_in R⟩)))
theorem i_vc_copy {k : Nat} {u : SX} {v : SY} (I : i_Rel k u v) (hk : k + 5 ≤ 2560) (v1 : Int32) (v2 : Int32) : wpX_copy (fun r u' => wpY_copy (fun r' v' => r' = r ∧ i_Rel (k + 5) u' v') v v1 v2) u v1 v2 := by
  refine cl_el (P := fun u v => wpX_copy (fun r u' => wpY_copy (fun r' v' => r' = r ∧ i_Rel (k + 5) u' v') v v1 v2) u v1 v2) ?_ I
  intro b f q rl ph g1 g2 T C M RT RC cl se sl ek rk rd ck cd dk dd tk df sp R
  unfold wpX_copy wpY_copy
  dsimp only
  rcases cx_reg v1 with ⟨j, hj, rfl⟩ | ⟨hX, hY⟩
  · rcases cx_reg v2 with ⟨s, hs, rfl⟩ | ⟨hX, hY⟩
    · have hin := vp_in_nI hs (show 8 < 2 ^ 31 by decide)
      rw [cx_cl8 hs]
      refine cx_ok hj (br_t rfl (cx_ok hs (br_t rfl ⟨hin, hin, cx_setReg hj ?_⟩)))
      exact cy_ok hj (br_f (by decide) (cy_ok hs (br_f (by decide) ⟨hin, hin, cy_set hj ⟨rfl, cl_in (cl_R_reg R (R.2.2.2.2.2.2.1 s hs))⟩⟩)))
    · exact cx_ok hj (br_t rfl (hX _ _ (br_f (by decide) (cy_ok hj (br_f (by decide) (hY _ _ (br_t rfl ⟨rfl, cl_in R⟩)))))))
  · exact hX _ _ (br_f (by decide) (hY _ _ (br_t rfl ⟨rfl, cl_in R⟩)))
theorem i_vc_car {k : Nat} {u : SX} {v : SY} (I : i_Rel k u v) (hk : k + 5 ≤ 2560) (v1 : Int32) (v2 : Int32) : wpX_car (fun r u' => wpY_car (fun r' v' => r' = r ∧ i_Rel (k + 5) u' v') v v1 v2) u v1 v2 := by
  refine cl_el (P := fun u v => wpX_car (fun r u' => wpY_car (fun r' v' => r' = r ∧ i_Rel (k + 5) u' v') v v1 v2) u v1 v2) ?_ I
  intro b f q rl ph g1 g2 T C M RT RC cl se sl ek rk rd ck cd dk dd tk df sp R
  unfold wpX_car wpY_car
  dsimp only
  rcases cx_reg v1 with ⟨j, hj, rfl⟩ | ⟨hX, hY⟩
  · rcases cx_reg v2 with ⟨s, hs, rfl⟩ | ⟨hX, hY⟩
    · have hin := vp_in_nI hs (show 8 < 2 ^ 31 by decide)
      have v := R.2.2.2.2.2.2.1 s hs
      have G := R.2.2.2.2.2.1
      rw [cx_cl8 hs]
      by_cases hk : rk s = 2
      · obtain ⟨a, a1, a2, a3⟩ := cl_V_pair v hk
        have hin2 := vp_in_nI a2 (show 32 < 2 ^ 31 by decide)
        have hr := (G.2.1 a a2).1
        rw [a1, a3, cx_cl32 a2]
        refine cx_ok hj (br_t rfl (cx_ok hs (br_t rfl ⟨hin, br_t (by rw [v.1]; exact hk) ⟨hin, cx_gotCar G (cl_R_al R) a2 ?_⟩⟩)))
        refine cx_setReg hj ?_
        exact cy_ok hj (br_f (by decide) (cy_ok hs (br_f (by decide) ⟨hin, br_t hk ⟨hin, hin2, hin, hin2, cy_set hj ⟨rfl, cl_in (cl_R_reg R (G.2.2 _ a2 hr).1)⟩⟩⟩)))
      · exact cx_ok hj (br_t rfl (cx_ok hs (br_t rfl ⟨hin, br_f (by rw [v.1]; exact hk) (cy_ok hj (br_f (by decide) (cy_ok hs (br_f (by decide) ⟨hin, br_f hk ⟨rfl, cl_in R⟩⟩))))⟩)))
    · exact cx_ok hj (br_t rfl (hX _ _ (br_f (by decide) (cy_ok hj (br_f (by decide) (hY _ _ (br_t rfl ⟨rfl, cl_in R⟩)))))))
  · exact hX _ _ (br_f (by decide) (hY _ _ (br_t rfl ⟨rfl, cl_in R⟩)))
theorem i_vc_cdr {k : Nat} {u : SX} {v : SY} (I : i_Rel k u v) (hk : k + 5 ≤ 2560) (v1 : Int32) (v2 : Int32) : wpX_cdr (fun r u' => wpY_cdr (fun r' v' => r' = r ∧ i_Rel (k + 5) u' v') v v1 v2) u v1 v2 := by
  refine cl_el (P := fun u v => wpX_cdr (fun r u' => wpY_cdr (fun r' v' => r' = r ∧ i_Rel (k + 5) u' v') v v1 v2) u v1 v2) ?_ I
  intro b f q rl ph g1 g2 T C M RT RC cl se sl ek rk rd ck cd dk dd tk df sp R
  unfold wpX_cdr wpY_cdr
  dsimp only
  rcases cx_reg v1 with ⟨j, hj, rfl⟩ | ⟨hX, hY⟩
  · rcases cx_reg v2 with ⟨s, hs, rfl⟩ | ⟨hX, hY⟩
    · have hin := vp_in_nI hs (show 8 < 2 ^ 31 by decide)
      have v := R.2.2.2.2.2.2.1 s hs
      have G := R.2.2.2.2.2.1
      rw [cx_cl8 hs]
      by_cases hk : rk s = 2
      · obtain ⟨a, a1, a2, a3⟩ := cl_V_pair v hk
        have hin2 := vp_in_nI a2 (show 32 < 2 ^ 31 by decide)
        obtain ⟨t, c, hv, hW⟩ := cx_gotCdr G (cl_R_al R) a2 (fun _ => rfl)
        rw [a1, a3, cx_cl32 a2]
        refine cx_ok hj (br_t rfl (cx_ok hs (br_t rfl ⟨hin, br_t (by rw [v.1]; exact hk) ⟨hin, hW _ _ _ _ _ _ _ _ _ _ ?_⟩⟩)))
        refine cx_setReg hj ?_
        exact cy_ok hj (br_f (by decide) (cy_ok hs (br_f (by decide) ⟨hin, br_t hk ⟨hin, hin2, hin, hin2, cy_set hj ⟨rfl, cl_in (cl_R_reg R hv)⟩⟩⟩)))
      · exact cx_ok hj (br_t rfl (cx_ok hs (br_t rfl ⟨hin, br_f (by rw [v.1]; exact hk) (cy_ok hj (br_f (by decide) (cy_ok hs (br_f (by decide) ⟨hin, br_f hk ⟨rfl, cl_in R⟩⟩))))⟩)))
    · exact cx_ok hj (br_t rfl (hX _ _ (br_f (by decide) (cy_ok hj (br_f (by decide) (hY _ _ (br_t rfl ⟨rfl, cl_in R⟩)))))))
  · exact hX _ _ (br_f (by decide) (hY _ _ (br_t rfl ⟨rfl, cl_in R⟩)))
theorem i_vc_setCar {k : Nat} {u : SX} {v : SY} (I : i_Rel k u v) (hk : k + 5 ≤ 2560) (v1 : Int32) (v2 : Int32) : wpX_setCar (fun r u' => wpY_setCar (fun r' v' => r' = r ∧ i_Rel (k + 5) u' v') v v1 v2) u v1 v2 := by
  refine cl_el (P := fun u v => wpX_setCar (fun r u' => wpY_setCar (fun r' v' => r' = r ∧ i_Rel (k + 5) u' v') v v1 v2) u v1 v2) ?_ I
  intro b f q rl ph g1 g2 T C M RT RC cl se sl ek rk rd ck cd dk dd tk df sp R
  unfold wpX_setCar wpY_setCar
  dsimp only
  rcases cx_reg v1 with ⟨s, hs, rfl⟩ | ⟨hX, hY⟩
  · rcases cx_reg v2 with ⟨j, hj, rfl⟩ | ⟨hX, hY⟩
    · have hin := vp_in_nI hs (show 8 < 2 ^ 31 by decide)
      have hin1 := vp_in_nI hj (show 8 < 2 ^ 31 by decide)
      have v := R.2.2.2.2.2.2.1 s hs
      have G := R.2.2.2.2.2.1
      rw [cx_cl8 hs, cx_cl8 hj]
      by_cases hk : rk s = 2
      · obtain ⟨a, a1, a2, a3⟩ := cl_V_pair v hk
        have hin2 := vp_in_nI a2 (show 32 < 2 ^ 31 by decide)
        have hr := (G.2.1 a a2).1
        rw [a1, a3, cx_cl32 a2]
        refine cx_ok hs (br_t rfl (cx_ok hj (br_t rfl ⟨hin, br_t (by rw [v.1]; exact hk) ⟨hin, cx_gS G (cl_R_al R) a2 ⟨hin1, hin1, cx_put (cl_R_al R _ (G.1 _ (by rw [hr]; exact a2))) ?_⟩⟩⟩)))
        exact cy_ok hs (br_f (by decide) (cy_ok hj (br_f (by decide) ⟨hin, br_t hk ⟨hin, hin1, hin2, nm_e ⟨hin, hin1, hin2, nm_e ⟨rfl, cl_in (cl_R_car R a2 hr (R.2.2.2.2.2.2.1 j hj))⟩⟩⟩⟩)))
      · exact cx_ok hs (br_t rfl (cx_ok hj (br_t rfl ⟨hin, br_f (by rw [v.1]; exact hk) (cy_ok hs (br_f (by decide) (cy_ok hj (br_f (by decide) ⟨hin, br_f hk ⟨rfl, cl_in R⟩⟩))))⟩)))
    · exact cx_ok hs (br_t rfl (hX _ _ (br_f (by decide) (cy_ok hs (br_f (by decide) (hY _ _ (br_t rfl ⟨rfl, cl_in R⟩)))))))
  · exact hX _ _ (br_f (by decide) (hY _ _ (br_t rfl ⟨rfl, cl_in R⟩)))
theorem i_vc_setCdr {k : Nat} {u : SX} {v : SY} (I : i_Rel k u v) (hk : k + 5 ≤ 2560) (v1 : Int32) (v2 : Int32) : wpX_setCdr (fun r u' => wpY_setCdr (fun r' v' => r' = r ∧ i_Rel (k + 5) u' v') v v1 v2) u v1 v2 := by
  refine cl_el (P := fun u v => wpX_setCdr (fun r u' => wpY_setCdr (fun r' v' => r' = r ∧ i_Rel (k + 5) u' v') v v1 v2) u v1 v2) ?_ I
  intro b f q rl ph g1 g2 T C M RT RC cl se sl ek rk rd ck cd dk dd tk df sp R
  unfold wpX_setCdr wpY_setCdr
  dsimp only
  rcases cx_reg v1 with ⟨s, hs, rfl⟩ | ⟨hX, hY⟩
  · rcases cx_reg v2 with ⟨j, hj, rfl⟩ | ⟨hX, hY⟩
    · have hin := vp_in_nI hs (show 8 < 2 ^ 31 by decide)
      have hin1 := vp_in_nI hj (show 8 < 2 ^ 31 by decide)
      have v0 := R.2.2.2.2.2.2.1 s hs
      rw [cx_cl8 hs, cx_cl8 hj]
      by_cases hk : rk s = 2
      · obtain ⟨b, f, q, rl, ph, T, C, M, RC, g1', g2', R, hf, _, hN⟩ := cx_need g1 g2 R (c := 2) (by decide)
        refine cx_ok hs (br_t rfl (cx_ok hj (br_t rfl ⟨hin, br_t (by rw [v0.1]; exact hk) (hN _ cl se ⟨hin, hin1, hin1, ?_⟩)⟩)))
        obtain ⟨a, a1, a2, a3⟩ := cl_V_pair (R.2.2.2.2.2.2.1 s hs) hk
        have hin2 := vp_in_nI a2 (show 32 < 2 ^ 31 by decide)
        obtain ⟨f', rl', ph', T', C', M', h1, R', hm, hW⟩ := cl_R_change R hf a2 (R.2.2.2.2.2.2.1 j hj)
        dsimp only
        rw [a1, a3, cx_cl32 a2]
        refine hW _ _ _ _ _ _ ?_
        exact cy_ok hs (br_f (by decide) (cy_ok hj (br_f (by decide) ⟨hin, br_t hk ⟨hin, hin1, hin2, nm_e ⟨hin, hin1, hin2, nm_e ⟨rfl, cl_in R'⟩⟩⟩⟩)))
      · exact cx_ok hs (br_t rfl (cx_ok hj (br_t rfl ⟨hin, br_f (by rw [v0.1]; exact hk) (cy_ok hs (br_f (by decide) (cy_ok hj (br_f (by decide) ⟨hin, br_f hk ⟨rfl, cl_in R⟩⟩))))⟩)))
    · exact cx_ok hs (br_t rfl (hX _ _ (br_f (by decide) (cy_ok hs (br_f (by decide) (hY _ _ (br_t rfl ⟨rfl, cl_in R⟩)))))))
  · exact hX _ _ (br_f (by decide) (hY _ _ (br_t rfl ⟨rfl, cl_in R⟩)))
theorem i_vc_kind {k : Nat} {u : SX} {v : SY} (I : i_Rel k u v) (hk : k + 5 ≤ 2560) (v1 : Int32) : wpX_kind (fun r => wpY_kind (fun r' => r' = r ∧ i_Rel (k + 5) u v) v v1) u v1 := by
  refine cl_el (P := fun u v => wpX_kind (fun r => wpY_kind (fun r' => r' = r ∧ i_Rel (k + 5) u v) v v1) u v1) ?_ I
  intro b f q rl ph g1 g2 T C M RT RC cl se sl ek rk rd ck cd dk dd tk df sp R
  unfold wpX_kind wpY_kind
  dsimp only
  rcases cx_reg v1 with ⟨j, hj, rfl⟩ | ⟨hX, hY⟩
  · have hin := vp_in_nI hj (show 8 < 2 ^ 31 by decide)
    rw [cx_cl8 hj]
    exact cx_ok hj (br_t rfl ⟨hin, cy_ok hj (br_f (by decide) ⟨hin, (R.2.2.2.2.2.2.1 j hj).1.symm, cl_in R⟩)⟩)
  · exact hX _ _ (br_f (by decide) (hY _ _ (br_t rfl ⟨rfl, cl_in R⟩)))
theorem i_vc_value {k : Nat} {u : SX} {v : SY} (I : i_Rel k u v) (hk : k + 5 ≤ 2560) (v1 : Int32) : wpX_value (fun r => wpY_value (fun r' => r' = r ∧ i_Rel (k + 5) u v) v v1) u v1 := by
  refine cl_el (P := fun u v => wpX_value (fun r => wpY_value (fun r' => r' = r ∧ i_Rel (k + 5) u v) v v1) u v1) ?_ I
  intro b f q rl ph g1 g2 T C M RT RC cl se sl ek rk rd ck cd dk dd tk df sp R
  unfold wpX_value wpY_value
  dsimp only
  rcases cx_reg v1 with ⟨j, hj, rfl⟩ | ⟨hX, hY⟩
  · have hin := vp_in_nI hj (show 8 < 2 ^ 31 by decide)
    have v := R.2.2.2.2.2.2.1 j hj
    rw [cx_cl8 hj]
    by_cases hk : rk j = 1
    · exact cx_ok hj (br_t rfl ⟨hin, br_t (by rw [v.1]; exact hk) ⟨hin, cy_ok hj (br_f (by decide) ⟨hin, br_t hk ⟨hin, (cl_V_num v hk).symm, cl_in R⟩⟩)⟩⟩)
    · exact cx_ok hj (br_t rfl ⟨hin, br_f (by rw [v.1]; exact hk) (cy_ok hj (br_f (by decide) ⟨hin, br_f hk ⟨rfl, cl_in R⟩⟩))⟩)
  · exact hX _ _ (br_f (by decide) (hY _ _ (br_t rfl ⟨rfl, cl_in R⟩)))
theorem cx_same {post : Int32 → Prop} {vb vf vq g1 g2 : Int32} {T C M RT RC ck cd dk dd : Nat → Int32} {cl se : Nat → Int64} {al nw : Nat → Prop} {nx rl ph : Nat → Nat} {t c k d t' c' k' d' : Int32}
    (G : cl_G al nw nx rl ph T C M ck cd dk dd) (hal : ∀ x, al x → x < 320) (v : cl_V rl t c k d) (v' : cl_V rl t' c' k' d')
    (h1 : k = k' → (k = 0 ∨ d = d') → post 1) (h0 : ¬ (k = k' ∧ (k = 0 ∨ d = d')) → post 0) : wpX_sameValue post (vb, vf, vq, g1, g2, T, C, M, RT, RC, cl, se) t c t' c' := by
  have e1 := v.1
  have e2 := v'.1
  subst e1
  subst e2
  refine br_c (fun e => ?_) (fun e => h0 (fun h => e h.1))
  subst e
  refine br_c (fun e => ?_) (fun e => br_c (fun h => h1 rfl (Or.inl h)) (fun h => ?_))
  · obtain ⟨a, a1, a2, a3⟩ := cl_V_pair v e
    obtain ⟨a', a1', a2', a3'⟩ := cl_V_pair v' e
    have hr := (G.2.1 a a2).1
    have hr' := (G.2.1 a' a2').1
    have l1 : ph (rl a) < 320 := hal _ (G.1 _ (by rw [hr]; exact a2))
    have l2 : ph (rl a') < 320 := hal _ (G.1 _ (by rw [hr']; exact a2'))
    rw [a1, a1']
    refine cx_gS G hal a2 (cx_gS G hal a2' ?_)
    refine br_c (fun h => h1 rfl (Or.inr ?_)) (fun h => h0 (fun h' => h ?_))
    · rw [nI_eq (by omega) (by omega)] at h
      rw [a3, a3', ← hr, h, hr']
    · rcases h'.2 with h' | h'
      · rw [e] at h'; exact absurd h' (by decide)
      · rw [a3, a3', nI_eq (by omega) (by omega)] at h'
        rw [h']
  · have hk : t = 1 := by
      rcases cl_V_k v with h' | h' | h'
      · exact absurd h' h
      · exact h'
      · exact absurd h' e
    have hc := cl_V_num v hk
    have hc' := cl_V_num v' hk
    rw [hc, hc']
    refine br_c (fun h' => h1 rfl (Or.inr h')) (fun h' => h0 (fun h'' => ?_))
    rcases h''.2 with h3 | h3
    · exact h h3
    · exact h' h3
theorem i_vc_same {k : Nat} {u : SX} {v : SY} (I : i_Rel k u v) (hk : k + 5 ≤ 2560) (v1 : Int32) (v2 : Int32) : wpX_same (fun r => wpY_same (fun r' => r' = r ∧ i_Rel (k + 5) u v) v v1 v2) u v1 v2 := by
  refine cl_el (P := fun u v => wpX_same (fun r => wpY_same (fun r' => r' = r ∧ i_Rel (k + 5) u v) v v1 v2) u v1 v2) ?_ I
  intro b f q rl ph g1 g2 T C M RT RC cl se sl ek rk rd ck cd dk dd tk df sp R
  unfold wpX_same wpY_same
  dsimp only
  rcases cx_reg v1 with ⟨s, hs, rfl⟩ | ⟨hX, hY⟩
  · rcases cx_reg v2 with ⟨j, hj, rfl⟩ | ⟨hX, hY⟩
    · have hin := vp_in_nI hs (show 8 < 2 ^ 31 by decide)
      have hin1 := vp_in_nI hj (show 8 < 2 ^ 31 by decide)
      rw [cx_cl8 hs, cx_cl8 hj]
      refine cx_ok hs (br_t rfl (cx_ok hj (br_t rfl ⟨hin, hin, hin1, hin1, cx_same R.2.2.2.2.2.1 (cl_R_al R) (R.2.2.2.2.2.2.1 s hs) (R.2.2.2.2.2.2.1 j hj) (fun e h => ⟨rfl, ?_⟩) (fun h => ⟨rfl, ?_⟩)⟩)))
      · refine cy_ok hs (br_f (by decide) (cy_ok hj (br_f (by decide) ⟨hin, hin1, br_t e ⟨hin, br_c (fun _ => ⟨rfl, cl_in R⟩) (fun h0 => ⟨hin, hin1, br_t (h.resolve_left h0) ⟨rfl, cl_in R⟩⟩)⟩⟩)))
      · refine cy_ok hs (br_f (by decide) (cy_ok hj (br_f (by decide) ⟨hin, hin1, br_c (fun e => ⟨hin, br_c (fun h0 => absurd ⟨e, Or.inl h0⟩ h) (fun h0 => ⟨hin, hin1, br_c (fun h1 => absurd ⟨e, Or.inr h1⟩ h) (fun h1 => ⟨rfl, cl_in R⟩)⟩)⟩) (fun e => ⟨rfl, cl_in R⟩)⟩)))
    · exact cx_ok hs (br_t rfl (hX _ _ (br_f (by decide) (cy_ok hs (br_f (by decide) (hY _ _ (br_t rfl ⟨rfl, cl_in R⟩)))))))
  · exact hX _ _ (br_f (by decide) (hY _ _ (br_t rfl ⟨rfl, cl_in R⟩)))
theorem i_vc_live {k : Nat} {u : SX} {v : SY} (I : i_Rel k u v) (hk : k + 5 ≤ 2560) : wpX_live (fun r u' => wpY_live (fun r' v' => r' = r ∧ i_Rel (k + 5) u' v') v) u := by
  refine cl_el (P := fun u v => wpX_live (fun r u' => wpY_live (fun r' v' => r' = r ∧ i_Rel (k + 5) u' v') v) u) ?_ I
  intro b f q rl ph g1 g2 T C M RT RC cl se sl ek rk rd ck cd dk dd tk df sp R
  unfold wpX_live
  dsimp only
  obtain ⟨b', f', q', rl', ph', T', C', M', RC', g1', g2', J1, J2, J3, J4, J5, J6⟩ := cl_col g1 g2 R
  obtain ⟨tk', h1, w⟩ := cy_live sl ek tk df sp R.2.2.2.2.2.2.2 (cl_R_regs R)
  refine J6 _ cl se (w _ ⟨?_, cl_in J1⟩)
  rw [J4 tk' h1]
end
section
/-! ===== spines: length, proper; walk ===== -/
/-- the i-th value of a spine -/
def cl_s (dk dd : Nat → Int32) (k d : Int32) : Nat → Int32 × Int32
  | 0 => (k, d)
  | i + 1 => (dk (cl_s dk dd k d i).2.toNatClampNeg, dd (cl_s dk dd k d i).2.toNatClampNeg)
theorem cl_s_0 {dk dd : Nat → Int32} {k d : Int32} : cl_s dk dd k d 0 = (k, d) := rfl
theorem cl_s_s {dk dd : Nat → Int32} {k d : Int32} {i x : Nat} (hx : x < 32) (h : (cl_s dk dd k d i).2 = nI x) : cl_s dk dd k d (i + 1) = (dk x, dd x) := by
  show (dk (cl_s dk dd k d i).2.toNatClampNeg, dd (cl_s dk dd k d i).2.toNatClampNeg) = (dk x, dd x)
  rw [h, cx_cl32 hx]
section
variable {T C M RT RC : Nat → Int32} {cl se : Nat → Int64} {sl ek : Int32} {rk rd ck cd dk dd tk df sp : Nat → Int32}
variable {rl ph : Nat → Nat} {b f q : Nat} {k d : Int32}
theorem cl_s_pl (hY : ∀ p, p < 32 → (ck p = 2 → ∃ x, x < 32 ∧ cd p = nI x) ∧ (dk p = 2 → ∃ x, x < 32 ∧ dd p = nI x)) (h0 : k = 2 → ∃ x, x < 32 ∧ d = nI x) :
    ∀ i, (∀ j, j < i → (cl_s dk dd k d j).1 = 2) → (cl_s dk dd k d i).1 = 2 → ∃ x, x < 32 ∧ (cl_s dk dd k d i).2 = nI x := by
  intro i
  induction i with
  | zero => intro _ h; exact h0 h
  | succ i ih =>
    intro hj h
    obtain ⟨x, hx, e⟩ := ih (fun j hj' => hj j (by omega)) (hj i (by omega))
    rw [cl_s_s hx e] at h ⊢
    exact (hY x hx).2 h
/-- a spine's length: the first n with no pair at it, or the bound -/
theorem cl_s_len (dk dd : Nat → Int32) (k d : Int32) (B : Nat) : ∃ n, n ≤ B ∧ (∀ j, j < n → (cl_s dk dd k d j).1 = 2) ∧ (n = B ∨ (cl_s dk dd k d n).1 ≠ 2) := by
  induction B with
  | zero => exact ⟨0, Nat.le_refl _, fun j hj => by omega, Or.inl rfl⟩
  | succ B ih =>
    obtain ⟨n, h1, h2, h3⟩ := ih
    by_cases h : (cl_s dk dd k d n).1 = 2
    · have hn : n = B := h3.resolve_right (fun h' => h' h)
      subst hn
      refine ⟨n + 1, Nat.le_refl _, fun j hj => ?_, Or.inl rfl⟩
      by_cases e : j = n
      · rw [e]; exact h
      · exact h2 j (by omega)
    · exact ⟨n, by omega, h2, Or.inr h⟩
/-- the pairs of a spine that ends are different -/
theorem cl_s_ne {n : Nat} (hl : ∀ j, j < n → (cl_s dk dd k d j).1 = 2) (hn : (cl_s dk dd k d n).1 ≠ 2) {i j : Nat} (hij : i < j) (hj : j < n) : (cl_s dk dd k d i).2 ≠ (cl_s dk dd k d j).2 := by
  intro e
  have e0 : ∀ m, cl_s dk dd k d (i + m) = cl_s dk dd k d (j + m) := by
    intro m
    induction m with
    | zero => exact Prod.ext ((hl i (by omega)).trans (hl j hj).symm) e
    | succ m ih =>
      show (dk (cl_s dk dd k d (i + m)).2.toNatClampNeg, dd (cl_s dk dd k d (i + m)).2.toNatClampNeg) = (dk (cl_s dk dd k d (j + m)).2.toNatClampNeg, dd (cl_s dk dd k d (j + m)).2.toNatClampNeg)
      rw [ih]
  have e1 := e0 (n - j)
  rw [show j + (n - j) = n by omega] at e1
  exact hn (by rw [← e1]; exact hl _ (by omega))
theorem cx_spl (R : cl_R b f q rl ph T C M RT RC rk rd ck cd dk dd) {n : Nat} (hn : n ≤ 33) (hl : ∀ j, j < n → (cl_s dk dd k d j).1 = 2) (hx : n = 33 ∨ (cl_s dk dd k d n).1 ≠ 2) :
    ∀ (m i : Nat) (g1 g2 : Int32), i + m = n → cl_V rl g1 g2 (cl_s dk dd k d i).1 (cl_s dk dd k d i).2 →
      ∃ g1' g2' : Int32, cl_V rl g1' g2' (cl_s dk dd k d n).1 (cl_s dk dd k d n).2 ∧
        ∀ (post : Int32 → SX → Prop) (w : Nat) (cl se : Nat → Int64), m + 1 ≤ w → post (nI n) (nI b, nI f, nI q, g1', g2', T, C, M, RT, RC, cl, se) → wX_spine_24 post w (nI i) (nI i) (nI b) (nI f) (nI q) g1 g2 T C M RT RC cl se := by
  intro m
  induction m with
  | zero =>
    intro i g1 g2 hm v
    obtain rfl : i = n := by omega
    refine ⟨g1, g2, v, fun post w cl se hw hp => ?_⟩
    obtain ⟨w', rfl⟩ : ∃ w', w = w' + 1 := ⟨w - 1, by omega⟩
    rcases hx with h | h
    · subst h
      exact br_t (by decide) hp
    · exact br_c (fun _ => hp) (fun _ => br_f (by rw [v.1]; exact h) hp)
  | succ m ih =>
    intro i g1 g2 hm v
    have hi := hl i (by omega)
    obtain ⟨a, a1, a2, a3⟩ := cl_V_pair v hi
    obtain ⟨t, c, hv, hW⟩ := cx_gotCdr R.2.2.2.2.2.1 (cl_R_al R) a2 (fun _ => rfl)
    obtain ⟨g1', g2', v', w'⟩ := ih (i + 1) t c (by omega) (by rw [cl_s_s a2 a3]; exact hv)
    refine ⟨g1', g2', v', fun post w cl se hw hp => ?_⟩
    obtain ⟨w1, rfl⟩ : ∃ w1, w = w1 + 1 := ⟨w - 1, by omega⟩
    refine br_f (nI_nlt (a := 32) (b := i) (by omega) (by decide)) (br_t (by rw [v.1]; exact hi) ?_)
    rw [a1]
    refine hW _ _ _ _ _ _ _ _ _ _ ?_
    exact nm_r (nI_1 i) (nm_r (nI_1 i) (w' post w1 cl se (by omega) hp))
theorem cx_spine (g1 g2 : Int32) (R : cl_R b f q rl ph T C M RT RC rk rd ck cd dk dd) {r : Nat} (hr : r < 8) {n : Nat} (hn : n ≤ 33) (hl : ∀ j, j < n → (cl_s dk dd (rk r) (rd r) j).1 = 2) (hx : n = 33 ∨ (cl_s dk dd (rk r) (rd r) n).1 ≠ 2) :
    ∃ g1' g2' : Int32, cl_V rl g1' g2' (cl_s dk dd (rk r) (rd r) n).1 (cl_s dk dd (rk r) (rd r) n).2 ∧
      ∀ (post : Int32 → SX → Prop) (cl se : Nat → Int64), post (nI n) (nI b, nI f, nI q, g1', g2', T, C, M, RT, RC, cl, se) → wpX_spine post (nI b, nI f, nI q, g1, g2, T, C, M, RT, RC, cl, se) (nI r) := by
  obtain ⟨g1', g2', v', w'⟩ := cx_spl R hn hl hx n 0 (RT r) (RC r) (by omega) (R.2.2.2.2.2.2.1 r hr)
  have hin := vp_in_nI hr (show 8 < 2 ^ 31 by decide)
  refine ⟨g1', g2', v', fun post cl se hp => ?_⟩
  unfold wpX_spine
  dsimp only
  rw [cx_cl8 hr]
  exact ⟨hin, nm_e ⟨hin, nm_e ⟨n + 1, w' post (n + 1) cl se (by omega) hp⟩⟩⟩
theorem cy_f19 (hY : ∀ p, p < 32 → (ck p = 2 → ∃ x, x < 32 ∧ cd p = nI x) ∧ (dk p = 2 → ∃ x, x < 32 ∧ dd p = nI x)) (h0 : k = 2 → ∃ x, x < 32 ∧ d = nI x)
    {n : Nat} (hn : n ≤ 32) (hl : ∀ j, j < n → (cl_s dk dd k d j).1 = 2) (hx : n = 32 ∨ (cl_s dk dd k d n).1 ≠ 2) :
    ∀ (m i : Nat) (sp : Nat → Int32), i + m = n → (∀ j, j < i → sp j = (cl_s dk dd k d j).2) →
      ∃ sp' : Nat → Int32, (∀ j, j < n → sp' j = (cl_s dk dd k d j).2) ∧
        ∀ (post : Int32 → SY → Prop) (w : Nat) (ek : Int32) (rk rd ck cd tk df : Nat → Int32), m + 1 ≤ w →
          ((cl_s dk dd k d n).1 = 2 → post 0 (nI n, (cl_s dk dd k d n).1, rk, rd, ck, cd, dk, dd, tk, df, sp')) → (¬ (cl_s dk dd k d n).1 = 2 → post 1 (nI n, (cl_s dk dd k d n).1, rk, rd, ck, cd, dk, dd, tk, df, sp')) →
          wY_follow_19 post ek w (cl_s dk dd k d i).1 (cl_s dk dd k d i).2 (nI i) rk rd ck cd dk dd tk df sp := by
  intro m
  induction m with
  | zero =>
    intro i sp hm hs
    obtain rfl : i = n := by omega
    refine ⟨sp, hs, fun post w ek rk rd ck cd tk df hw p0 p1 => ?_⟩
    obtain ⟨w', rfl⟩ : ∃ w', w = w' + 1 := ⟨w - 1, by omega⟩
    rcases hx with h | h
    · subst h
      exact br_c (fun _ => br_t (by decide) (br_c p0 p1)) (fun _ => br_c p0 p1)
    · exact br_f h (br_c p0 p1)
  | succ m ih =>
    intro i sp hm hs
    have hi := hl i (by omega)
    have hi3 : i < 32 := by omega
    obtain ⟨x, hx, e⟩ := cl_s_pl hY h0 i (fun j hj => hl j (by omega)) hi
    have hin := vp_in_nI hi3 (show 32 < 2 ^ 31 by decide)
    have hinx := vp_in_nI hx (show 32 < 2 ^ 31 by decide)
    obtain ⟨sp', h1, w1⟩ := ih (i + 1) (upd sp i (nI x)) (by omega) (fun j hj => by
      by_cases e' : j = i
      · rw [e', pk_us, e]
      · rw [pk_un e']; exact hs j (by omega))
    refine ⟨sp', h1, fun post w ek rk rd ck cd tk df hw p0 p1 => ?_⟩
    obtain ⟨w', rfl⟩ : ∃ w', w = w' + 1 := ⟨w - 1, by omega⟩
    have K := w1 post w' ek rk rd ck cd tk df (by omega) p0 p1
    rw [cl_s_s hx e] at K
    rw [e]
    refine br_t hi (br_f (nI_ge (b := 32) hi3 (by decide)) ⟨hin, nm_r (e' := upd sp i (nI x)) (by rw [cx_cl32 hi3]) (nm_r (nI_1 i) ⟨hinx, nm_r (e' := dk x) (by rw [cx_cl32 hx]) ⟨hinx, nm_r (e' := dd x) (by rw [cx_cl32 hx]) K⟩⟩)⟩)
theorem cy_follow (sl ek : Int32) (tk df sp : Nat → Int32) (hY : ∀ p, p < 32 → (ck p = 2 → ∃ x, x < 32 ∧ cd p = nI x) ∧ (dk p = 2 → ∃ x, x < 32 ∧ dd p = nI x)) (hR : ∀ r, r < 8 → rk r = 2 → ∃ x, x < 32 ∧ rd r = nI x)
    {r : Nat} (hr : r < 8) {n : Nat} (hn : n ≤ 32) (hl : ∀ j, j < n → (cl_s dk dd (rk r) (rd r) j).1 = 2) (hx : n = 32 ∨ (cl_s dk dd (rk r) (rd r) n).1 ≠ 2) :
    ∃ sp' : Nat → Int32, (∀ j, j < n → sp' j = (cl_s dk dd (rk r) (rd r) j).2) ∧
      ∀ (post : Int32 → SY → Prop), ((cl_s dk dd (rk r) (rd r) n).1 = 2 → post 0 (nI n, (cl_s dk dd (rk r) (rd r) n).1, rk, rd, ck, cd, dk, dd, tk, df, sp')) → (¬ (cl_s dk dd (rk r) (rd r) n).1 = 2 → post 1 (nI n, (cl_s dk dd (rk r) (rd r) n).1, rk, rd, ck, cd, dk, dd, tk, df, sp')) →
        wpY_follow post (sl, ek, rk, rd, ck, cd, dk, dd, tk, df, sp) (nI r) := by
  obtain ⟨sp', h1, w1⟩ := cy_f19 (k := rk r) (d := rd r) hY (hR r hr) hn hl hx n 0 sp (by omega) (fun j hj => by omega)
  have hin := vp_in_nI hr (show 8 < 2 ^ 31 by decide)
  refine ⟨sp', h1, fun post p0 p1 => ?_⟩
  unfold wpY_follow
  dsimp only
  rw [cx_cl8 hr]
  exact ⟨hin, nm_e ⟨hin, nm_e ⟨n + 1, w1 post (n + 1) ek rk rd ck cd tk df (by omega) p0 p1⟩⟩⟩
/-- what both sides say of a register's spine as a proper list -/
theorem cl_proper (g1 g2 sl ek : Int32) (tk df sp : Nat → Int32) (R : cl_R b f q rl ph T C M RT RC rk rd ck cd dk dd) {r : Nat} (hr : r < 8) :
    (∃ n, n ≤ 32 ∧ (∀ j, j < n → (cl_s dk dd (rk r) (rd r) j).1 = 2) ∧ (cl_s dk dd (rk r) (rd r) n).1 = 0 ∧ ∃ (g1' g2' : Int32) (sp' : Nat → Int32), (∀ j, j < n → sp' j = (cl_s dk dd (rk r) (rd r) j).2) ∧
      (∀ (post : Int32 → SX → Prop) (cl se : Nat → Int64), post (nI n) (nI b, nI f, nI q, g1', g2', T, C, M, RT, RC, cl, se) → wpX_proper post (nI b, nI f, nI q, g1, g2, T, C, M, RT, RC, cl, se) (nI r)) ∧
      (∀ post : Int32 → SY → Prop, post 1 (nI n, 0, rk, rd, ck, cd, dk, dd, tk, df, sp') → wpY_isProper post (sl, ek, rk, rd, ck, cd, dk, dd, tk, df, sp) (nI r))) ∨
    (∃ (g1' g2' sl' ek' : Int32) (sp' : Nat → Int32), (∀ (post : Int32 → SX → Prop) (cl se : Nat → Int64), post (-3) (nI b, nI f, nI q, g1', g2', T, C, M, RT, RC, cl, se) → wpX_proper post (nI b, nI f, nI q, g1, g2, T, C, M, RT, RC, cl, se) (nI r)) ∧
      (∀ post : Int32 → SY → Prop, post 0 (sl', ek', rk, rd, ck, cd, dk, dd, tk, df, sp') → wpY_isProper post (sl, ek, rk, rd, ck, cd, dk, dd, tk, df, sp) (nI r))) := by
  obtain ⟨n, n1, n2, n3⟩ := cl_s_len dk dd (rk r) (rd r) 32
  obtain ⟨sp', s1, wY⟩ := cy_follow sl ek tk df sp R.2.2.2.2.2.2.2 (cl_R_regs R) hr n1 n2 n3
  by_cases h2 : (cl_s dk dd (rk r) (rd r) n).1 = 2
  · have hn : n = 32 := n3.resolve_right (fun h => h h2)
    subst hn
    obtain ⟨g1', g2', v', wX⟩ := cx_spine g1 g2 R hr (n := 33) (Nat.le_refl _) (fun j hj => by
      by_cases e : j = 32
      · rw [e]; exact h2
      · exact n2 j (by omega)) (Or.inl rfl)
    refine Or.inr ⟨g1', g2', nI 32, (cl_s dk dd (rk r) (rd r) 32).1, sp', fun post cl se hp => ?_, fun post hp => ?_⟩
    · unfold wpX_proper
      dsimp only
      exact wX _ cl se (br_t (by decide) hp)
    · unfold wpY_isProper
      dsimp only
      exact wY _ (fun _ => br_t rfl hp) (fun h => absurd h2 h)
  · obtain ⟨g1', g2', v', wX⟩ := cx_spine g1 g2 R hr (n := n) (by omega) n2 (Or.inr h2)
    have h32 : ¬ (32 : Int32) < nI n := nI_nlt (a := 32) (b := n) n1 (by decide)
    by_cases h0 : (cl_s dk dd (rk r) (rd r) n).1 = 0
    · refine Or.inl ⟨n, n1, n2, h0, g1', g2', sp', s1, fun post cl se hp => ?_, fun post hp => ?_⟩
      · unfold wpX_proper
        dsimp only
        exact wX _ cl se (br_f h32 (br_t (by rw [v'.1]; exact h0) hp))
      · unfold wpY_isProper
        dsimp only
        refine wY _ (fun h => absurd h h2) (fun _ => br_f (by decide) (br_t h0 ?_))
        rw [h0]; exact hp
    · refine Or.inr ⟨g1', g2', nI n, (cl_s dk dd (rk r) (rd r) n).1, sp', fun post cl se hp => ?_, fun post hp => ?_⟩
      · unfold wpX_proper
        dsimp only
        exact wX _ cl se (br_f h32 (br_f (by rw [v'.1]; exact h0) hp))
      · unfold wpY_isProper
        dsimp only
        exact wY _ (fun h => absurd h h2) (fun _ => br_f (by decide) (br_f h0 hp))
end
theorem i_vc_length {k : Nat} {u : SX} {v : SY} (I : i_Rel k u v) (hk : k + 5 ≤ 2560) (v1 : Int32) : wpX_length (fun r u' => wpY_length (fun r' v' => r' = r ∧ i_Rel (k + 5) u' v') v v1) u v1 := by
  refine cl_el (P := fun u v => wpX_length (fun r u' => wpY_length (fun r' v' => r' = r ∧ i_Rel (k + 5) u' v') v v1) u v1) ?_ I
  intro b f q rl ph g1 g2 T C M RT RC cl se sl ek rk rd ck cd dk dd tk df sp R
  unfold wpX_length wpY_length
  dsimp only
  rcases cx_reg v1 with ⟨r, hr, rfl⟩ | ⟨hX, hY⟩
  · obtain ⟨n, n1, n2, n3⟩ := cl_s_len dk dd (rk r) (rd r) 32
    obtain ⟨sp', s1, wY⟩ := cy_follow sl ek tk df sp R.2.2.2.2.2.2.2 (cl_R_regs R) hr n1 n2 n3
    by_cases h2 : (cl_s dk dd (rk r) (rd r) n).1 = 2
    · have hn : n = 32 := n3.resolve_right (fun h => h h2)
      subst hn
      obtain ⟨g1', g2', v', wX⟩ := cx_spine g1 g2 R hr (n := 33) (Nat.le_refl _) (fun j hj => by
        by_cases e : j = 32
        · rw [e]; exact h2
        · exact n2 j (by omega)) (Or.inl rfl)
      refine cx_ok hr (br_t rfl (wX _ cl se (br_f (by decide) ?_)))
      exact cy_ok hr (br_f (by decide) (wY _ (fun _ => br_t rfl ⟨rfl, cl_in R⟩) (fun h => absurd h2 h)))
    · obtain ⟨g1', g2', v', wX⟩ := cx_spine g1 g2 R hr (n := n) (by omega) n2 (Or.inr h2)
      refine cx_ok hr (br_t rfl (wX _ cl se (br_t (nI_le (a := n) (b := 32) n1 (by decide)) ?_)))
      exact cy_ok hr (br_f (by decide) (wY _ (fun h => absurd h h2) (fun _ => br_f (by decide) ⟨rfl, cl_in R⟩)))
  · exact hX _ _ (br_f (by decide) (hY _ _ (br_t rfl ⟨rfl, cl_in R⟩)))
end
section
/-! ===== walk ===== -/
section
variable {T C M RT RC : Nat → Int32} {cl se : Nat → Int64} {rk rd ck cd dk dd : Nat → Int32}
variable {rl ph : Nat → Nat} {b f q : Nat}
theorem cl_walk49 (R : cl_R b f q rl ph T C M RT RC rk rd ck cd dk dd) {r : Nat} (hr : r < 8) (x3 : Int32) {N : Nat} (hN : N ≤ 16) :
    ∀ (m i : Nat) (t c k d g1 g2 : Int32), i + m = N → cl_V rl t c k d →
      (∃ t' c' k' d' g1' g2' : Int32, cl_V rl t' c' k' d' ∧
        (∀ (post : Int32 → SX → Prop) (w : Nat) (cl se : Nat → Int64), m + 1 ≤ w → post 0 (nI b, nI f, nI q, g1', g2', T, C, M, upd RT r t', upd RC r c', cl, se) → wX_walk_49 post (nI r) x3 (nI N) w t c (nI i) (nI b) (nI f) (nI q) g1 g2 T C M RT RC cl se) ∧
        (∀ (post : Int32 → SY → Prop) (w : Nat) (sl ek : Int32) (tk df sp : Nat → Int32), m + 1 ≤ w → post 0 (sl, ek, upd rk r k', upd rd r d', ck, cd, dk, dd, tk, df, sp) → wY_walk_49 post (nI r) x3 (nI N) sl ek rk rd ck cd dk dd tk df sp w k d (nI i))) ∨
      (∃ g1' g2' : Int32,
        (∀ (post : Int32 → SX → Prop) (w : Nat) (cl se : Nat → Int64), m + 1 ≤ w → post (-3) (nI b, nI f, nI q, g1', g2', T, C, M, RT, RC, cl, se) → wX_walk_49 post (nI r) x3 (nI N) w t c (nI i) (nI b) (nI f) (nI q) g1 g2 T C M RT RC cl se) ∧
        (∀ (post : Int32 → SY → Prop) (w : Nat) (sl ek : Int32) (tk df sp : Nat → Int32), m + 1 ≤ w → post (-3) (sl, ek, rk, rd, ck, cd, dk, dd, tk, df, sp) → wY_walk_49 post (nI r) x3 (nI N) sl ek rk rd ck cd dk dd tk df sp w k d (nI i))) := by
  have G := R.2.2.2.2.2.1
  intro m
  induction m with
  | zero =>
    intro i t c k d g1 g2 hm v
    obtain rfl : i = N := by omega
    have hle : nI i ≤ nI i := nI_le (Nat.le_refl _) (by omega)
    refine Or.inl ⟨t, c, k, d, g1, g2, v, fun post w cl se hw hp => ?_, fun post w sl ek tk df sp hw hp => ?_⟩
    · obtain ⟨w', rfl⟩ : ∃ w', w = w' + 1 := ⟨w - 1, by omega⟩
      exact br_t hle (cx_setReg hr hp)
    · obtain ⟨w', rfl⟩ : ∃ w', w = w' + 1 := ⟨w - 1, by omega⟩
      exact br_t hle (cy_set hr hp)
  | succ m ih =>
    intro i t c k d g1 g2 hm v
    have hlt : ¬ nI N ≤ nI i := nI_ge (by omega) (by omega)
    by_cases hk : k = 2
    · obtain ⟨a, a1, a2, a3⟩ := cl_V_pair v hk
      have hin := vp_in_nI a2 (show 32 < 2 ^ 31 by decide)
      have ht : t = 2 := by rw [v.1]; exact hk
      by_cases e : ((x3 >>> (nI i &&& 31)) &&& 1) = 1
      · obtain ⟨t1, c1, hv, hW⟩ := cx_gotCdr G (cl_R_al R) a2 (fun _ => rfl)
        have sX : ∀ (post : Int32 → SX → Prop) (w : Nat) (cl se : Nat → Int64), wX_walk_49 post (nI r) x3 (nI N) w t1 c1 (nI (i + 1)) (nI b) (nI f) (nI q) t1 c1 T C M RT RC cl se → wX_walk_49 post (nI r) x3 (nI N) (w + 1) t c (nI i) (nI b) (nI f) (nI q) g1 g2 T C M RT RC cl se := by
          intro post w cl se K
          refine br_f hlt (br_t ht (br_t e ?_))
          rw [a1]
          refine hW _ _ _ _ _ _ _ _ _ _ ?_
          exact nm_r (nI_1 i) K
        have sY : ∀ (post : Int32 → SY → Prop) (w : Nat) (sl ek : Int32) (tk df sp : Nat → Int32), wY_walk_49 post (nI r) x3 (nI N) sl ek rk rd ck cd dk dd tk df sp w (dk (rl a)) (dd (rl a)) (nI (i + 1)) → wY_walk_49 post (nI r) x3 (nI N) sl ek rk rd ck cd dk dd tk df sp (w + 1) k d (nI i) := by
          intro post w sl ek tk df sp K
          refine br_f hlt (br_t hk (br_t e ?_))
          rw [a3]
          refine br_f (by decide) ⟨hin, br_f (by decide) ⟨hin, ?_⟩⟩
          rw [cx_cl32 a2]
          exact nm_e (nm_r (nI_1 i) K)
        rcases ih (i + 1) t1 c1 _ _ t1 c1 (by omega) hv with ⟨t', c', k', d', g1', g2', v', hX, hY⟩ | ⟨g1', g2', hX, hY⟩
        · refine Or.inl ⟨t', c', k', d', g1', g2', v', fun post w cl se hw hp => ?_, fun post w sl ek tk df sp hw hp => ?_⟩
          · obtain ⟨w', rfl⟩ : ∃ w', w = w' + 1 := ⟨w - 1, by omega⟩
            exact sX post w' cl se (hX post w' cl se (by omega) hp)
          · obtain ⟨w', rfl⟩ : ∃ w', w = w' + 1 := ⟨w - 1, by omega⟩
            exact sY post w' sl ek tk df sp (hY post w' sl ek tk df sp (by omega) hp)
        · refine Or.inr ⟨g1', g2', fun post w cl se hw hp => ?_, fun post w sl ek tk df sp hw hp => ?_⟩
          · obtain ⟨w', rfl⟩ : ∃ w', w = w' + 1 := ⟨w - 1, by omega⟩
            exact sX post w' cl se (hX post w' cl se (by omega) hp)
          · obtain ⟨w', rfl⟩ : ∃ w', w = w' + 1 := ⟨w - 1, by omega⟩
            exact sY post w' sl ek tk df sp (hY post w' sl ek tk df sp (by omega) hp)
      · have hv := (G.2.2 _ a2 (G.2.1 a a2).1).1
        have sX : ∀ (post : Int32 → SX → Prop) (w : Nat) (cl se : Nat → Int64), wX_walk_49 post (nI r) x3 (nI N) w (T (ph (rl a))) (C (ph (rl a))) (nI (i + 1)) (nI b) (nI f) (nI q) (T (ph (rl a))) (C (ph (rl a))) T C M RT RC cl se → wX_walk_49 post (nI r) x3 (nI N) (w + 1) t c (nI i) (nI b) (nI f) (nI q) g1 g2 T C M RT RC cl se := by
          intro post w cl se K
          refine br_f hlt (br_t ht (br_f e ?_))
          rw [a1]
          refine cx_gotCar G (cl_R_al R) a2 ?_
          exact nm_r (nI_1 i) K
        have sY : ∀ (post : Int32 → SY → Prop) (w : Nat) (sl ek : Int32) (tk df sp : Nat → Int32), wY_walk_49 post (nI r) x3 (nI N) sl ek rk rd ck cd dk dd tk df sp w (ck (rl a)) (cd (rl a)) (nI (i + 1)) → wY_walk_49 post (nI r) x3 (nI N) sl ek rk rd ck cd dk dd tk df sp (w + 1) k d (nI i) := by
          intro post w sl ek tk df sp K
          refine br_f hlt (br_t hk (br_f e ?_))
          rw [a3]
          refine br_t rfl ⟨hin, br_t rfl ⟨hin, ?_⟩⟩
          rw [cx_cl32 a2]
          exact nm_e (nm_r (nI_1 i) K)
        rcases ih (i + 1) (T (ph (rl a))) (C (ph (rl a))) _ _ (T (ph (rl a))) (C (ph (rl a))) (by omega) hv with ⟨t', c', k', d', g1', g2', v', hX, hY⟩ | ⟨g1', g2', hX, hY⟩
        · refine Or.inl ⟨t', c', k', d', g1', g2', v', fun post w cl se hw hp => ?_, fun post w sl ek tk df sp hw hp => ?_⟩
          · obtain ⟨w', rfl⟩ : ∃ w', w = w' + 1 := ⟨w - 1, by omega⟩
            exact sX post w' cl se (hX post w' cl se (by omega) hp)
          · obtain ⟨w', rfl⟩ : ∃ w', w = w' + 1 := ⟨w - 1, by omega⟩
            exact sY post w' sl ek tk df sp (hY post w' sl ek tk df sp (by omega) hp)
        · refine Or.inr ⟨g1', g2', fun post w cl se hw hp => ?_, fun post w sl ek tk df sp hw hp => ?_⟩
          · obtain ⟨w', rfl⟩ : ∃ w', w = w' + 1 := ⟨w - 1, by omega⟩
            exact sX post w' cl se (hX post w' cl se (by omega) hp)
          · obtain ⟨w', rfl⟩ : ∃ w', w = w' + 1 := ⟨w - 1, by omega⟩
            exact sY post w' sl ek tk df sp (hY post w' sl ek tk df sp (by omega) hp)
    · refine Or.inr ⟨g1, g2, fun post w cl se hw hp => ?_, fun post w sl ek tk df sp hw hp => ?_⟩
      · obtain ⟨w', rfl⟩ : ∃ w', w = w' + 1 := ⟨w - 1, by omega⟩
        exact br_f hlt (br_f (by rw [v.1]; exact hk) hp)
      · obtain ⟨w', rfl⟩ : ∃ w', w = w' + 1 := ⟨w - 1, by omega⟩
        exact br_f hlt (br_f hk hp)
end
theorem i_vc_walk {k : Nat} {u : SX} {v : SY} (I : i_Rel k u v) (hk : k + 5 ≤ 2560) (v1 : Int32) (v2 : Int32) (v3 : Int32) (v4 : Int32) : wpX_walk (fun r u' => wpY_walk (fun r' v' => r' = r ∧ i_Rel (k + 5) u' v') v v1 v2 v3 v4) u v1 v2 v3 v4 := by
  refine cl_el (P := fun u v => wpX_walk (fun r u' => wpY_walk (fun r' v' => r' = r ∧ i_Rel (k + 5) u' v') v v1 v2 v3 v4) u v1 v2 v3 v4) ?_ I
  intro b f q rl ph g1 g2 T C M RT RC cl se sl ek rk rd ck cd dk dd tk df sp R
  unfold wpX_walk wpY_walk
  dsimp only
  rcases cx_reg v1 with ⟨r, hr, rfl⟩ | ⟨hX, hY⟩
  · rcases cx_reg v2 with ⟨s, hs, rfl⟩ | ⟨hX, hY⟩
    · have hin := vp_in_nI hs (show 8 < 2 ^ 31 by decide)
      rw [cx_cl8 hs]
      by_cases h0 : v4 < 0
      · exact cx_ok hr (br_t rfl (cx_ok hs (br_t rfl (br_t h0 (cy_ok hr (br_f (by decide) (cy_ok hs (br_f (by decide) (br_t h0 ⟨rfl, cl_in R⟩)))))))))
      · by_cases h16 : v4 ≤ 16
        · obtain ⟨N, hN, rfl⟩ := nI_of2 (n := 16) (by decide) h0 h16
          rcases cl_walk49 R hr v3 hN N 0 (RT s) (RC s) (rk s) (rd s) g1 g2 (by omega) (R.2.2.2.2.2.2.1 s hs) with ⟨t', c', k', d', g1', g2', v', hX, hY⟩ | ⟨g1', g2', hX, hY⟩
          · refine cx_ok hr (br_t rfl (cx_ok hs (br_t rfl (br_f h0 (br_t h16 ⟨hin, nm_e ⟨hin, nm_e ⟨N + 1, hX _ (N + 1) cl se (by omega) ?_⟩⟩⟩)))))
            exact cy_ok hr (br_f (by decide) (cy_ok hs (br_f (by decide) (br_f h0 (br_t h16 ⟨hin, nm_e ⟨hin, nm_e ⟨N + 1, hY _ (N + 1) sl ek tk df sp (by omega) ⟨rfl, cl_in (cl_R_reg R v')⟩⟩⟩⟩)))))
          · refine cx_ok hr (br_t rfl (cx_ok hs (br_t rfl (br_f h0 (br_t h16 ⟨hin, nm_e ⟨hin, nm_e ⟨N + 1, hX _ (N + 1) cl se (by omega) ?_⟩⟩⟩)))))
            exact cy_ok hr (br_f (by decide) (cy_ok hs (br_f (by decide) (br_f h0 (br_t h16 ⟨hin, nm_e ⟨hin, nm_e ⟨N + 1, hY _ (N + 1) sl ek tk df sp (by omega) ⟨rfl, cl_in R⟩⟩⟩⟩)))))
        · exact cx_ok hr (br_t rfl (cx_ok hs (br_t rfl (br_f h0 (br_f h16 (cy_ok hr (br_f (by decide) (cy_ok hs (br_f (by decide) (br_f h0 (br_f h16 ⟨rfl, cl_in R⟩)))))))))))
    · exact cx_ok hr (br_t rfl (hX _ _ (br_f (by decide) (cy_ok hr (br_f (by decide) (hY _ _ (br_t rfl ⟨rfl, cl_in R⟩)))))))
  · exact hX _ _ (br_f (by decide) (hY _ _ (br_t rfl ⟨rfl, cl_in R⟩)))
end
section
/-! ===== new pairs; cons ===== -/
/-- while new pairs are named from the last cell down: cells from x to f' are named, those from f to x written and not yet named -/
def cl_L (b f x f' c : Nat) (rl ph : Nat → Nat) (T C M RT RC rk rd ck cd dk dd tk : Nat → Int32) : Prop :=
  cl_G (fun a => (b ≤ a ∧ a < f) ∨ (x ≤ a ∧ a < f')) (fun _ => False) rl rl ph T C M ck cd dk dd ∧
  (∀ p, p < 32 → tk p = 0 → ∀ a, rl a ≠ p) ∧
  cl_n (fun p => decide (rl (ph p) = p)) 32 ≤ c ∧
  (∀ r, r < 8 → cl_V rl (RT r) (RC r) (rk r) (rd r)) ∧
  (∀ p, p < 32 → (ck p = 2 → ∃ x, x < 32 ∧ cd p = nI x) ∧ (dk p = 2 → ∃ x, x < 32 ∧ dd p = nI x))
section
variable {T C M T' C' M' RT RC : Nat → Int32} {cl se : Nat → Int64} {sl ek : Int32} {rk rd ck cd dk dd tk df sp : Nat → Int32}
variable {rl ph : Nat → Nat} {b f q x f' c : Nat}
/-- places that aren't live are forgotten -/
theorem cl_R_drop (R : cl_R b f q rl ph T C M RT RC rk rd ck cd dk dd) (htk : ∀ p, p < 32 → (tk p ≠ 0 ↔ cl_Re rk rd ck cd dk dd p)) :
    cl_R b f q (cl_dr (cl_T tk) rl) ph T C M RT RC rk rd ck cd dk dd := by
  have hcl := cl_Re_cl rk rd ck cd dk dd
  obtain ⟨R1, R2, R3, R4, R5, R6, R7, R8⟩ := R
  refine ⟨R1, R2, R3, R4, Nat.le_trans (cl_n_mono 32 (fun i hi h => ?_)) R5, cl_G_drop R6 (fun p hp h => ?_), fun r hr => cl_V_drop (R7 r hr) (fun hk y hy e => ?_), R8⟩
  · rw [decide_eq_true_eq] at h ⊢
    obtain ⟨_, e⟩ := cl_dr_lt (S := cl_T tk) (rl := rl) (a := ph i) (by rw [h]; exact hi)
    rw [← e]; exact h
  · have hp' := (htk p hp).mp (cl_T_t.mp h)
    exact ⟨fun hk y hy e => cl_T_t.mpr ((htk y hy).mpr ((hcl.2 p hp hp').1 hk y hy e)), fun hk y hy e => cl_T_t.mpr ((htk y hy).mpr ((hcl.2 p hp hp').2 hk y hy e))⟩
  · exact cl_T_t.mpr ((htk y hy).mpr (hcl.1 r hr hk y hy e))
theorem cl_dr_ne {p : Nat} (hp : p < 32) (h : tk p = 0) (a : Nat) : cl_dr (cl_T tk) rl a ≠ p := fun e => by
  obtain ⟨h1, h2⟩ := cl_dr_lt (S := cl_T tk) (rl := rl) (a := a) (by rw [e]; exact hp)
  rw [← h2, e] at h1
  exact cl_T_t.mp h1 h
theorem cl_L_0 (R : cl_R b f q rl ph T C M RT RC rk rd ck cd dk dd) (h : ∀ a, a < f → T' a = T a ∧ C' a = C a ∧ M' a = M a) (hfr : ∀ p, p < 32 → tk p = 0 → ∀ a, rl a ≠ p) :
    cl_L b f x f' q rl ph T' C' M' RT RC rk rd ck cd dk dd tk := by
  obtain ⟨R1, R2, R3, R4, R5, R6, R7, R8⟩ := R
  exact ⟨cl_G_frame R6 (fun a ha => Or.inl ha) (fun a ha => h a ha.2), hfr, R5, R7, R8⟩
theorem cl_L_new {p : Nat} {k1 d1 k2 d2 z1 z2 : Int32} (L : cl_L b f (x + 1) f' c rl ph T C M RT RC rk rd ck cd dk dd tk) (hp : p < 32) (htk : tk p = 0) (hx : f ≤ x) (hx' : x < f')
    (hV : cl_V rl (T x) (C x) k1 d1) (hD : cl_D (fun a => (b ≤ a ∧ a < f) ∨ (x + 1 ≤ a ∧ a < f')) rl rl T C M x k2 d2) :
    cl_L b f x f' (c + 1) (cl_u rl x p) (cl_u ph p x) T C M RT RC rk rd (upd ck p k1) (upd cd p d1) (upd (upd dk p z1) p k2) (upd (upd dd p z2) p d2) (upd tk p 1) := by
  obtain ⟨G, L2, L3, L4, L5⟩ := L
  have hnal : ¬ ((b ≤ x ∧ x < f) ∨ (x + 1 ≤ x ∧ x < f')) := by omega
  have hmono := cl_mv_rl (rl := rl) (p := p) hnal G.1
  refine ⟨cl_G_new G hp (L2 p hp htk) hnal (fun a ha => by omega) (by omega) (fun y hy => pk_un hy) (fun y hy => pk_un hy) (fun y hy => by rw [pk_un hy, pk_un hy]) (fun y hy => by rw [pk_un hy, pk_un hy]) (by rw [pk_us, pk_us]; exact hV) ?_, fun y hy h0 a => ?_, ?_, fun r hr => cl_V_mono hmono (L4 r hr), fun y hy => ?_⟩
  · rw [pk_us, pk_us]
    rcases hD with ⟨m, a1, a2, a3⟩ | ⟨m, m1, m2, m3⟩ | h
    · exact Or.inl ⟨m, by omega, by rw [cl_un (by omega)]; exact a2, cl_V_mono hmono a3⟩
    · exact Or.inr (Or.inl ⟨m, m1, by rw [cl_un (by omega)]; exact m2, by rw [cl_un (by omega)]; exact m3⟩)
    · exact Or.inr (Or.inr h)
  · by_cases e : y = p
    · rw [e, pk_us] at h0; exact absurd h0 (by decide)
    · rw [pk_un e] at h0
      by_cases e' : a = x
      · rw [e', cl_us]; exact fun h => e h.symm
      · rw [cl_un e']; exact L2 y hy h0 a
  · have h := cl_n_add (S := fun i => decide (rl (ph i) = i)) (S' := fun i => decide (cl_u rl x p (cl_u ph p x i) = i)) p 32 (fun i hi hne h => by
      rw [decide_eq_true_eq, cl_un (f := ph) hne] at h
      rw [decide_eq_true_eq]
      by_cases e : ph i = x
      · rw [e, cl_us] at h; exact absurd h.symm hne
      · rw [cl_un e] at h; exact h)
    rw [if_pos hp] at h
    omega
  · by_cases e : y = p
    · subst e
      rw [pk_us, pk_us, pk_us, pk_us]
      refine ⟨fun hk => cl_V_ex hV hk, fun hk => ?_⟩
      rcases hD with ⟨m, a1, a2, a3⟩ | ⟨m, m1, m2, m3⟩ | ⟨m, h⟩
      · exact cl_V_ex a3 hk
      · exact ⟨_, m2, m3⟩
      · rw [hk] at h; exact absurd h (by decide)
    · rw [pk_un e, pk_un e, pk_un e, pk_un e, pk_un e, pk_un e]; exact L5 y hy
theorem cl_L_end {q' : Nat} (L : cl_L b f f f' c rl ph T C M RT RC rk rd ck cd dk dd tk) (hb : b = 0 ∨ b = 160) (hbf : b ≤ f) (hff : f ≤ f') (hf' : f' ≤ b + 160) (hc : c ≤ q') (hq : q' ≤ 32) :
    cl_R b f' q' rl ph T C M RT RC rk rd ck cd dk dd := by
  obtain ⟨G, L2, L3, L4, L5⟩ := L
  exact ⟨hb, by omega, hf', hq, by omega, cl_G_frame G (fun a ha => by omega) (fun a _ => ⟨rfl, rfl, rfl⟩), L4, L5⟩
end
theorem cx_c138 {post : Int32 → SX → Prop} {vb vf g1 g2 : Int32} {T C M RT RC : Nat → Int32} {cl se : Nat → Int64} {r q f : Nat} (hr : r < 8) (hp : post 0 (vb, vf, nI (q + 1), g1, g2, T, C, M, upd RT r 2, upd RC r (nI f), cl, se)) :
    wX_cons_138 post (nI r) (nI f) vb vf (nI q) g1 g2 T C M RT RC cl se := by
  unfold wX_cons_138
  exact nm_r (nI_1 q) (cx_setReg hr hp)
theorem i_vc_cons {k : Nat} {u : SX} {v : SY} (I : i_Rel k u v) (hk : k + 5 ≤ 2560) (v1 : Int32) (v2 : Int32) (v3 : Int32) : wpX_cons (fun r u' => wpY_cons (fun r' v' => r' = r ∧ i_Rel (k + 5) u' v') v v1 v2 v3) u v1 v2 v3 := by
  refine cl_el (P := fun u v => wpX_cons (fun r u' => wpY_cons (fun r' v' => r' = r ∧ i_Rel (k + 5) u' v') v v1 v2 v3) u v1 v2 v3) ?_ I
  intro b f q rl ph g1 g2 T C M RT RC cl se sl ek rk rd ck cd dk dd tk df sp R
  unfold wpX_cons wpY_cons
  dsimp only
  rcases cx_reg v1 with ⟨r, hr, rfl⟩ | ⟨hX, hY⟩
  · rcases cx_reg v2 with ⟨s, hs, rfl⟩ | ⟨hX, hY⟩
    · rcases cx_reg v3 with ⟨j, hj, rfl⟩ | ⟨hX, hY⟩
      · have his := vp_in_nI hs (show 8 < 2 ^ 31 by decide)
        have hij := vp_in_nI hj (show 8 < 2 ^ 31 by decide)
        obtain ⟨tk', htk, wL⟩ := cy_live sl ek tk df sp R.2.2.2.2.2.2.2 (cl_R_regs R)
        obtain ⟨b1, f1, q1, rl1, ph1, T1, C1, M1, RC1, g11, g21, R1, hq1, wM⟩ := cx_mayMake g1 g2 R (k := 1) (by decide) htk
        rw [cx_cl8 hs, cx_cl8 hj]
        refine cx_ok hr (br_t rfl (cx_ok hs (br_t rfl (cx_ok hj (br_t rfl (wM _ cl se (fun hL => ?_) (fun hL => ?_)))))))
        · dsimp only
          refine br_f (by decide) ?_
          obtain ⟨b2, f2, q2, rl2, ph2, T2, C2, M2, RC2, g12, g22, R2, hf2, hq2, wN⟩ := cx_need g11 g21 R1 (c := 2) (by decide)
          have hb2 := R2.1
          have hbf2 := R2.2.1
          have hq1' := hq1 hL
          have hfl : f2 < 320 := by omega
          have hfl1 : f2 + 1 < 320 := by omega
          have hif := vp_in_nI hfl (show 320 < 2 ^ 31 by decide)
          have R3 := cl_R_drop R2 htk
          obtain ⟨p, hp, hp0, wF⟩ := cy_fresh (tk := tk') (by omega)
          have hvs := R3.2.2.2.2.2.2.1 s hs
          have hvj := R3.2.2.2.2.2.2.1 j hj
          refine wN _ cl se ⟨his, his, ?_⟩
          dsimp only
          refine cx_put hfl ?_
          dsimp only
          refine nm_r (nI_1 f2) ⟨hij, ?_⟩
          have hL32 : ¬ nI (cl_n (cl_T tk') 32) = 32 := by
            show ¬ nI (cl_n (cl_T tk') 32) = nI 32
            rw [nI_eq (by omega) (by omega)]; omega
          have hne : ∀ k, k < 32 → tk' k = 0 → ∀ a, cl_dr (cl_T tk') rl2 a ≠ k := fun k hk h0 a => cl_dr_ne hk h0 a
          have hDn : ∀ a, f2 ≤ a → 32 ≤ cl_dr (cl_T tk') rl2 a := fun a ha => by
            rcases Nat.lt_or_ge (cl_dr (cl_T tk') rl2 a) 32 with h | h
            · have := R3.2.2.2.2.2.1.1 a h; omega
            · exact h
          have hY : ∀ (u' : SX), (∀ (dk' dd' : Nat → Int32), dk' = upd (upd dk p 0) p (rk j) → dd' = upd (upd dd p 0) p (rd j) →
              i_Rel (k + 5) u' (sl, ek, upd rk r 2, upd rd r (nI p), upd ck p (rk s), upd cd p (rd s), dk', dd', upd tk' p 1, df, sp)) →
              wpY_isRegister (fun r_1 => (r_1 = 0 → (-1 : Int32) = 0 ∧ i_Rel (k + 5) u' (sl, ek, rk, rd, ck, cd, dk, dd, tk, df, sp)) ∧ (¬ r_1 = 0 → wpY_isRegister (fun r_14 => (r_14 = 0 → (-1 : Int32) = 0 ∧ i_Rel (k + 5) u' (sl, ek, rk, rd, ck, cd, dk, dd, tk, df, sp)) ∧ (¬ r_14 = 0 → wpY_isRegister (fun r_27 => (r_27 = 0 → (-1 : Int32) = 0 ∧ i_Rel (k + 5) u' (sl, ek, rk, rd, ck, cd, dk, dd, tk, df, sp)) ∧ (¬ r_27 = 0 → wpY_live (fun r_40 v' => (r_40 = 32 → (-2 : Int32) = 0 ∧ i_Rel (k + 5) u' v') ∧ (¬ r_40 = 32 → vp_in (nI s) 8 ∧ vp_in (nI s) 8 ∧ wpY_fresh (fun r_55 v' => vp_in (nI j) 8 ∧ vp_in r_55 32 ∧ ∀ dk' : Nat → Int32, dk' = upd v'.2.2.2.2.2.2.1 r_55.toNatClampNeg (v'.2.2.1 j) → (vp_in (nI j) 8 ∧ vp_in r_55 32 ∧ ∀ dd' : Nat → Int32, dd' = upd v'.2.2.2.2.2.2.2.1 r_55.toNatClampNeg (v'.2.2.2.1 j) → wpY_set (fun v' => (0 : Int32) = 0 ∧ i_Rel (k + 5) u' v') (v'.1, v'.2.1, v'.2.2.1, v'.2.2.2.1, v'.2.2.2.2.1, v'.2.2.2.2.2.1, dk', dd', v'.2.2.2.2.2.2.2.2.1, v'.2.2.2.2.2.2.2.2.2.1, v'.2.2.2.2.2.2.2.2.2.2) (nI r) 2 r_55)) v' (v'.2.2.1 s) (v'.2.2.2.1 s))) (sl, ek, rk, rd, ck, cd, dk, dd, tk, df, sp))) (sl, ek, rk, rd, ck, cd, dk, dd, tk, df, sp) (nI j))) (sl, ek, rk, rd, ck, cd, dk, dd, tk, df, sp) (nI s))) (sl, ek, rk, rd, ck, cd, dk, dd, tk, df, sp) (nI r) := by
            intro u' hI
            have hip := vp_in_nI hp (show 32 < 2 ^ 31 by decide)
            refine cy_ok hr (br_f (by decide) (cy_ok hs (br_f (by decide) (cy_ok hj (br_f (by decide) (wL _ (br_f hL32 ⟨his, his, wF _ _ _ _ _ _ _ _ _ _ _ _ _ ⟨hij, hip, ?_⟩⟩)))))))
            rw [cx_cl32 hp]
            dsimp only
            exact nm_e ⟨hij, hip, nm_e (cy_set hr ⟨rfl, hI _ _ rfl rfl⟩)⟩
          refine br_c (fun hz => ?_) (fun hz => ?_)
          · refine ⟨hif, ?_⟩
            rw [cx_cl hfl]
            refine nm_e (cx_c138 hr ?_)
            refine hY _ (fun dk' dd' e1 e2 => ?_)
            rw [e1, e2]
            have L0 : cl_L b2 f2 (f2 + 1) (f2 + 1) q2 (cl_dr (cl_T tk') rl2) ph2 (upd T2 f2 (RT s)) (upd C2 f2 (RC2 s)) (upd M2 f2 2) RT RC2 rk rd ck cd dk dd tk' :=
              cl_L_0 R3 (fun a ha => by rw [pk_un (by omega), pk_un (by omega), pk_un (by omega)]; exact ⟨rfl, rfl, rfl⟩) hne
            have L1 := cl_L_new (k1 := rk s) (d1 := rd s) (k2 := rk j) (d2 := rd j) (z1 := 0) (z2 := 0) L0 hp hp0 (Nat.le_refl _) (by omega) (by rw [pk_us, pk_us]; exact hvs) (Or.inr (Or.inr ⟨pk_us, by rw [← hvj.1]; exact hz⟩))
            exact cl_in (cl_R_reg (cl_L_end (q' := q2 + 1) L1 hb2 hbf2 (by omega) (by omega) (by omega) (by omega)) (cl_V_p hp cl_us))
          · refine ⟨hif, ?_⟩
            rw [cx_cl hfl]
            refine nm_e ⟨hij, hij, ?_⟩
            refine cx_put hfl1 ?_
            dsimp only
            refine nm_r (nI_1 (f2 + 1)) (cx_c138 hr ?_)
            refine hY _ (fun dk' dd' e1 e2 => ?_)
            rw [e1, e2]
            have L0 : cl_L b2 f2 (f2 + 1) (f2 + 2) q2 (cl_dr (cl_T tk') rl2) ph2 (upd (upd T2 f2 (RT s)) (f2 + 1) (RT j)) (upd (upd C2 f2 (RC2 s)) (f2 + 1) (RC2 j)) (upd M2 f2 0) RT RC2 rk rd ck cd dk dd tk' :=
              cl_L_0 R3 (fun a ha => by rw [pk_un (by omega), pk_un (by omega), pk_un (by omega), pk_un (by omega), pk_un (by omega)]; exact ⟨rfl, rfl, rfl⟩) hne
            have L1 := cl_L_new (k1 := rk s) (d1 := rd s) (k2 := rk j) (d2 := rd j) (z1 := 0) (z2 := 0) L0 hp hp0 (Nat.le_refl _) (by omega) (by rw [pk_un (by omega), pk_us, pk_un (by omega), pk_us]; exact hvs) (Or.inl ⟨pk_us, by omega, hDn _ (by omega), by rw [pk_us, pk_us]; exact hvj⟩)
            exact cl_in (cl_R_reg (cl_L_end (q' := q2 + 1) L1 hb2 hbf2 (by omega) (by omega) (by omega) (by omega)) (cl_V_p hp cl_us))
        · dsimp only
          refine br_t rfl ?_
          have hle := cl_n_le (cl_T tk') 32
          have hL32 : nI (cl_n (cl_T tk') 32) = 32 := by
            show nI (cl_n (cl_T tk') 32) = nI 32
            rw [nI_eq (by omega) (by omega)]; omega
          exact cy_ok hr (br_f (by decide) (cy_ok hs (br_f (by decide) (cy_ok hj (br_f (by decide) (wL _ (br_t hL32 ⟨rfl, cl_in R1⟩)))))))
      · exact cx_ok hr (br_t rfl (cx_ok hs (br_t rfl (hX _ _ (br_f (by decide) (cy_ok hr (br_f (by decide) (cy_ok hs (br_f (by decide) (hY _ _ (br_t rfl ⟨rfl, cl_in R⟩)))))))))))
    · exact cx_ok hr (br_t rfl (hX _ _ (br_f (by decide) (cy_ok hr (br_f (by decide) (hY _ _ (br_t rfl ⟨rfl, cl_in R⟩)))))))
  · exact hX _ _ (br_f (by decide) (hY _ _ (br_t rfl ⟨rfl, cl_in R⟩)))
end
section
/-! ===== list ===== -/
section
variable {T C M T' C' M' RT RC : Nat → Int32} {cl se : Nat → Int64} {rk rd : Nat → Int32}
variable {rl ph : Nat → Nat} {b f q f' : Nat}
theorem cx_l66 {r fr N : Nat} (hr : r < 8) (hk : fr + N ≤ 8) (hf : f + N ≤ 320) :
    ∀ (m i : Nat) (T C M : Nat → Int32), i + m = N → ∃ T' C' M' : Nat → Int32, (∀ a, a < f + i → T' a = T a ∧ C' a = C a ∧ M' a = M a) ∧
      (∀ j, i ≤ j → j < N → T' (f + j) = RT (fr + j) ∧ C' (f + j) = RC (fr + j) ∧ M' (f + j) = if j + 1 = N then 2 else 1) ∧
      ∀ (post : Int32 → SX → Prop) (w : Nat) (vb vf g1 g2 : Int32) (cl se : Nat → Int64), m + 1 ≤ w →
        post 0 (vb, nI (f + N), nI (q + N), g1, g2, T', C', M', upd RT r 2, upd RC r (nI f), cl, se) → wX_list_66 post (nI r) (nI fr) (nI N) (nI f) w (nI i) vb vf (nI q) g1 g2 T C M RT RC cl se := by
  intro m
  induction m with
  | zero =>
    intro i T C M hm
    obtain rfl : i = N := by omega
    refine ⟨T, C, M, fun _ _ => ⟨rfl, rfl, rfl⟩, fun j h1 h2 => by omega, fun post w vb vf g1 g2 cl se hw hp => ?_⟩
    obtain ⟨w', rfl⟩ : ∃ w', w = w' + 1 := ⟨w - 1, by omega⟩
    exact br_t (nI_le (Nat.le_refl _) (by omega)) (nm_r (nI_add f i) (nm_r (nI_add q i) (cx_setReg hr hp)))
  | succ m ih =>
    intro i T C M hm
    have h8 : fr + i < 8 := by omega
    have h3 : f + i < 320 := by omega
    have hi8 := vp_in_nI h8 (show 8 < 2 ^ 31 by decide)
    have hi3 := vp_in_nI h3 (show 320 < 2 ^ 31 by decide)
    obtain ⟨T', C', M', e1, e2, w1⟩ := ih (i + 1) (upd T (f + i) (RT (fr + i))) (upd C (f + i) (RC (fr + i))) (upd M (f + i) (if i + 1 = N then 2 else 1)) (by omega)
    refine ⟨T', C', M', fun a ha => ?_, fun j h1 h2 => ?_, fun post w vb vf g1 g2 cl se hw hp => ?_⟩
    · obtain ⟨x1, x2, x3⟩ := e1 a (by omega)
      rw [x1, x2, x3, pk_un (by omega), pk_un (by omega), pk_un (by omega)]
      exact ⟨rfl, rfl, rfl⟩
    · by_cases e : j = i
      · subst e
        obtain ⟨x1, x2, x3⟩ := e1 (f + j) (by omega)
        rw [x1, x2, x3, pk_us, pk_us, pk_us]
        exact ⟨rfl, rfl, rfl⟩
      · exact e2 j (by omega) h2
    · obtain ⟨w', rfl⟩ : ∃ w', w = w' + 1 := ⟨w - 1, by omega⟩
      have K := w1 post w' vb vf g1 g2 cl se (by omega) hp
      refine br_f (nI_ge (by omega) (by omega)) ?_
      rw [nI_add fr i, nI_add f i, cx_cl8 h8]
      refine ⟨hi8, hi8, cx_put h3 ?_⟩
      dsimp only
      rw [cx_cl h3]
      have hN : (nI i = nI N - 1) ↔ i + 1 = N := by
        show (nI i = nI N - nI 1) ↔ _
        rw [pk_sub (by omega), nI_eq (by omega) (by omega)]; omega
      by_cases e : i + 1 = N
      · rw [if_pos e] at K
        exact br_t (hN.mpr e) ⟨hi3, nm_e (nm_r (nI_1 i) K)⟩
      · rw [if_neg e] at K
        exact br_f (fun h => e (hN.mp h)) ⟨hi3, nm_e (nm_r (nI_1 i) K)⟩
theorem cy_dec0 {a : Nat} (h : a < 2 ^ 31) : nI a + (-1) < nI a := by
  cases a with
  | zero => decide
  | succ a => rw [pk_m1]; exact nI_lt (by omega) h
theorem cl_T_new {tk : Nat → Int32} {p : Nat} (hp : p < 32) (h0 : tk p = 0) : cl_n (cl_T (upd tk p 1)) 32 = cl_n (cl_T tk) 32 + 1 :=
  cl_n_new hp (fun h => cl_T_t.mp h h0) (cl_T_t.mpr (by rw [pk_us]; decide)) (fun i _ hne => by rw [cl_T_t, cl_T_t, pk_un hne])
theorem cy_l64 {r fr N : Nat} (hr : r < 8) (hk : fr + N ≤ 8) (hN : f + N ≤ f') (hM : ∀ j, j + 1 < N → M (f + j) = 1)
    (hTC : ∀ j, j < N → T (f + j) = RT (fr + j) ∧ C (f + j) = RC (fr + j)) :
    ∀ (i c : Nat) (rl ph : Nat → Nat) (ck cd dk dd tk : Nat → Int32) (k d : Int32), i ≤ N → cl_L b f (f + i) f' c rl ph T C M RT RC rk rd ck cd dk dd tk →
      (1 ≤ i → cl_D (fun a => (b ≤ a ∧ a < f) ∨ (f + i ≤ a ∧ a < f')) rl rl T C M (f + i - 1) k d) → (i = 0 → k = 2 ∧ ∃ p, p < 32 ∧ d = nI p ∧ rl f = p) → cl_n (cl_T tk) 32 + i ≤ 32 →
      ∃ (rl' ph' : Nat → Nat) (ck' cd' dk' dd' tk' : Nat → Int32) (k' d' : Int32), cl_L b f f f' (c + i) rl' ph' T C M RT RC rk rd ck' cd' dk' dd' tk' ∧ (k' = 2 ∧ ∃ p, p < 32 ∧ d' = nI p ∧ rl' f = p) ∧
        ∀ (post : Int32 → SY → Prop) (w : Nat) (sl ek : Int32) (df sp : Nat → Int32), i + 1 ≤ w →
          post 0 (sl, ek, upd rk r k', upd rd r d', ck', cd', dk', dd', tk', df, sp) → wY_list_64 post (nI r) (nI fr) w k d (nI (fr + i) + (-1)) sl ek rk rd ck cd dk dd tk df sp := by
  intro i
  induction i with
  | zero =>
    intro c rl ph ck cd dk dd tk k d hi L hD hfin hc
    refine ⟨rl, ph, ck, cd, dk, dd, tk, k, d, L, hfin rfl, fun post w sl ek df sp hw hp => ?_⟩
    obtain ⟨w', rfl⟩ : ∃ w', w = w' + 1 := ⟨w - 1, by omega⟩
    exact br_t (cy_dec0 (by omega)) (cy_set hr hp)
  | succ i ih =>
    intro c rl ph ck cd dk dd tk k d hi L hD hfin hc
    have h8 : fr + i < 8 := by omega
    have hi8 := vp_in_nI h8 (show 8 < 2 ^ 31 by decide)
    obtain ⟨p, hp, hp0, wF⟩ := cy_fresh (tk := tk) (by omega)
    have hip := vp_in_nI hp (show 32 < 2 ^ 31 by decide)
    obtain ⟨t1, t2⟩ := hTC i (by omega)
    have hv := L.2.2.2.1 (fr + i) h8
    rw [← t1, ← t2] at hv
    have L1 := cl_L_new (x := f + i) (z1 := 0) (z2 := 0) L hp hp0 (by omega) (by omega) hv (hD (by omega))
    obtain ⟨rl', ph', ck', cd', dk', dd', tk', k', d', J1, J2, J3⟩ := ih (c + 1) _ _ _ _ _ _ _ 2 (nI p) (by omega) L1 (fun h1 => Or.inr (Or.inl ⟨by
        have e : f + i - 1 = f + (i - 1) := by omega
        rw [e]; exact hM (i - 1) (by omega), rfl, by
        have e : f + i - 1 + 1 = f + i := by omega
        rw [e, cl_us]; exact hp, by
        have e : f + i - 1 + 1 = f + i := by omega
        rw [e, cl_us]⟩)) (fun e => ⟨rfl, p, hp, rfl, by rw [e]; exact cl_us⟩) (by rw [cl_T_new hp hp0]; omega)
    refine ⟨rl', ph', ck', cd', dk', dd', tk', k', d', by rw [show c + (i + 1) = c + 1 + i by omega]; exact J1, J2, fun post w sl ek df sp hw hpo => ?_⟩
    obtain ⟨w', rfl⟩ : ∃ w', w = w' + 1 := ⟨w - 1, by omega⟩
    rw [show fr + (i + 1) = (fr + i) + 1 by omega, pk_m1]
    refine br_f (nI_nlt (a := fr + i) (b := fr) (by omega) (by omega)) ⟨hi8, hi8, ?_⟩
    rw [cx_cl8 h8]
    refine wF _ _ _ _ _ _ _ _ _ _ _ _ _ ?_
    dsimp only
    rw [cx_cl32 hp]
    exact ⟨hip, nm_e ⟨hip, nm_e (nm_e (J3 post w' sl ek df sp (by omega) hpo))⟩⟩
end
theorem cl_cnt1 {x : Int32} (h1 : ¬ x < 1) (h8 : ¬ 8 < x) : ∃ N, 1 ≤ N ∧ N ≤ 8 ∧ x = nI N := by
  have h0 : ¬ x < 0 := by
    intro h
    rw [Int32.lt_iff_toInt_lt] at h h1
    have e1 : (0 : Int32).toInt = 0 := by decide
    have e2 : (1 : Int32).toInt = 1 := by decide
    omega
  obtain ⟨N, hN, rfl⟩ := nI_of2 (n := 8) (by decide) h0 (Int32.not_lt.mp h8)
  refine ⟨N, ?_, hN, rfl⟩
  cases N with
  | zero => exact absurd (by decide) h1
  | succ N => omega
theorem i_vc_list {k : Nat} {u : SX} {v : SY} (I : i_Rel k u v) (hk : k + 5 ≤ 2560) (v1 : Int32) (v2 : Int32) (v3 : Int32) : wpX_list (fun r u' => wpY_list (fun r' v' => r' = r ∧ i_Rel (k + 5) u' v') v v1 v2 v3) u v1 v2 v3 := by
  refine cl_el (P := fun u v => wpX_list (fun r u' => wpY_list (fun r' v' => r' = r ∧ i_Rel (k + 5) u' v') v v1 v2 v3) u v1 v2 v3) ?_ I
  intro b f q rl ph g1 g2 T C M RT RC cl se sl ek rk rd ck cd dk dd tk df sp R
  unfold wpX_list wpY_list
  dsimp only
  rcases cx_reg v1 with ⟨r, hr, rfl⟩ | ⟨hX, hY⟩
  · rcases cx_reg v2 with ⟨fr, hfr, rfl⟩ | ⟨hX, hY⟩
    · by_cases h1 : v3 < 1
      · exact cx_ok hr (br_t rfl (cx_ok hfr (br_t rfl (br_t h1 (cy_ok hr (br_f (by decide) (cy_ok hfr (br_f (by decide) (br_t h1 ⟨rfl, cl_in R⟩)))))))))
      · by_cases h8 : 8 < v3
        · exact cx_ok hr (br_t rfl (cx_ok hfr (br_t rfl (br_f h1 (br_t h8 (cy_ok hr (br_f (by decide) (cy_ok hfr (br_f (by decide) (br_f h1 (br_t h8 ⟨rfl, cl_in R⟩)))))))))))
        · obtain ⟨N, hN1, hN8, rfl⟩ := cl_cnt1 h1 h8
          have hs : (nI fr + nI N ≤ 8) ↔ fr + N ≤ 8 := by
            show (nI fr + nI N ≤ nI 8) ↔ _
            rw [nI_add, nI_leI (by omega) (by omega)]
          by_cases h9 : fr + N ≤ 8
          · obtain ⟨tk', htk, wL⟩ := cy_live sl ek tk df sp R.2.2.2.2.2.2.2 (cl_R_regs R)
            obtain ⟨b1, f1, q1, rl1, ph1, T1, C1, M1, RC1, g11, g21, R1, hq1, wM⟩ := cx_mayMake g1 g2 R (k := N) (by omega) htk
            have hle := cl_n_le (cl_T tk') 32
            have hcmp : (nI (cl_n (cl_T tk') 32) + nI N ≤ 32) ↔ cl_n (cl_T tk') 32 + N ≤ 32 := by
              show (nI (cl_n (cl_T tk') 32) + nI N ≤ nI 32) ↔ _
              rw [nI_add, nI_leI (by omega) (by omega)]
            refine cx_ok hr (br_t rfl (cx_ok hfr (br_t rfl (br_f h1 (br_f h8 (br_t (hs.mpr h9) (wM _ cl se (fun hL => ?_) (fun hL => ?_))))))))
            · dsimp only
              refine br_f (by decide) ?_
              obtain ⟨b2, f2, q2, rl2, ph2, T2, C2, M2, RC2, g12, g22, R2, hf2, hq2, wN⟩ := cx_need g11 g21 R1 (c := N) (by omega)
              have hb2 := R2.1
              have hbf2 := R2.2.1
              have hq1' := hq1 hL
              have R3 := cl_R_drop R2 htk
              obtain ⟨T', C', M', e1, e2, wX⟩ := cx_l66 (RT := RT) (RC := RC2) (q := q2) (f := f2) hr h9 (by omega) N 0 T2 C2 M2 (by omega)
              have L0 : cl_L b2 f2 (f2 + N) (f2 + N) q2 (cl_dr (cl_T tk') rl2) ph2 T' C' M' RT RC2 rk rd ck cd dk dd tk' :=
                cl_L_0 R3 (fun a ha => e1 a (by omega)) (fun k hk h0 a => cl_dr_ne hk h0 a)
              obtain ⟨rl', ph', ck', cd', dk', dd', tk'', k', d', J1, ⟨J2, p, hp, hd, hrl⟩, J3⟩ := cy_l64 (fr := fr) (N := N) hr h9 (Nat.le_refl _) (fun j hj => by rw [(e2 j (by omega) (by omega)).2.2, if_neg (by omega)]) (fun j hj => ⟨(e2 j (by omega) hj).1, (e2 j (by omega) hj).2.1⟩) N q2 _ _ _ _ _ _ _ 0 0 (Nat.le_refl _) L0 (fun _ => Or.inr (Or.inr ⟨by
                rw [show f2 + N - 1 = f2 + (N - 1) by omega, (e2 (N - 1) (by omega) (by omega)).2.2, if_pos (by omega)], rfl⟩)) (fun e => by omega) (by omega)
              refine wN _ cl se ⟨N + 1, wX _ (N + 1) _ _ _ _ cl se (by omega) ?_⟩
              refine cy_ok hr (br_f (by decide) (cy_ok hfr (br_f (by decide) (br_f h1 (br_f h8 (br_t (hs.mpr h9) (wL _ (br_t (hcmp.mpr hL) ?_))))))))
              refine nm_r (e' := nI (fr + N) + (-1)) ?_ ⟨N + 1, J3 _ (N + 1) _ _ _ _ (by omega) ⟨rfl, cl_in (cl_R_reg (cl_L_end (q' := q2 + N) J1 hb2 hbf2 (by omega) (by omega) (by omega) (by omega)) ?_)⟩⟩
              · rw [nI_add]
                obtain ⟨z, hz⟩ : ∃ z, fr + N = z + 1 := ⟨fr + N - 1, by omega⟩
                rw [hz, pk_m1, nI_pred]
              · rw [J2, hd]; exact cl_V_p hp hrl
            · dsimp only
              refine br_t rfl ?_
              exact cy_ok hr (br_f (by decide) (cy_ok hfr (br_f (by decide) (br_f h1 (br_f h8 (br_t (hs.mpr h9) (wL _ (br_f (fun h => hL (hcmp.mp h)) ⟨rfl, cl_in R1⟩))))))))
          · have h9' : ¬ (nI fr + nI N ≤ 8) := fun h => h9 (hs.mp h)
            exact cx_ok hr (br_t rfl (cx_ok hfr (br_t rfl (br_f h1 (br_f h8 (br_f h9' (cy_ok hr (br_f (by decide) (cy_ok hfr (br_f (by decide) (br_f h1 (br_f h8 (br_f h9' ⟨rfl, cl_in R⟩)))))))))))))
    · exact cx_ok hr (br_t rfl (hX _ _ (br_f (by decide) (cy_ok hr (br_f (by decide) (hY _ _ (br_t rfl ⟨rfl, cl_in R⟩)))))))
  · exact hX _ _ (br_f (by decide) (hY _ _ (br_t rfl ⟨rfl, cl_in R⟩)))
end
section
/-! ===== append ===== -/
section
variable {T C M RT RC : Nat → Int32} {cl se : Nat → Int64} {rk rd ck cd dk dd : Nat → Int32}
variable {rl ph : Nat → Nat} {b f q f' : Nat} {k d : Int32}
/-- the place of the i-th pair of a spine -/
def cl_pl (dk dd : Nat → Int32) (k d : Int32) (i : Nat) : Nat := (cl_s dk dd k d i).2.toNatClampNeg
theorem cl_pl_e {i x : Nat} (hx : x < 32) (h : (cl_s dk dd k d i).2 = nI x) : cl_pl dk dd k d i = x := by
  unfold cl_pl; rw [h, cx_cl32 hx]
theorem cx_a106 (R : cl_R b f q rl ph T C M RT RC rk rd ck cd dk dd) {r j n : Nat} (hf : f + n ≤ b + 160) (hl : ∀ i, i < n → (cl_s dk dd k d i).1 = 2) :
    ∀ (m i : Nat) (T1 C1 M1 : Nat → Int32) (g1 g2 x7 : Int32), i + m = n → (∀ a, a < f → T1 a = T a ∧ C1 a = C a ∧ M1 a = M a) →
      (i < n → ∃ a, x7 = nI a ∧ rl a < 32 ∧ (cl_s dk dd k d i).2 = nI (rl a)) →
      ∃ (T' C' M' : Nat → Int32) (g1' g2' : Int32), (∀ a, a < f + i → T' a = T1 a ∧ C' a = C1 a ∧ M' a = M1 a) ∧
        (∀ s, i ≤ s → s < n → cl_V rl (T' (f + s)) (C' (f + s)) (ck (cl_pl dk dd k d s)) (cd (cl_pl dk dd k d s)) ∧ M' (f + s) = 1) ∧
        ∀ (post : Int32 → SX → Prop) (w : Nat) (RT RC : Nat → Int32) (cl se : Nat → Int64), (∀ x7', wX_append_106 post (nI r) (nI j) (nI n) (nI f) w x7' (nI n) (nI b) (nI f) (nI q) g1' g2' T' C' M' RT RC cl se) →
          wX_append_106 post (nI r) (nI j) (nI n) (nI f) (w + m) x7 (nI i) (nI b) (nI f) (nI q) g1 g2 T1 C1 M1 RT RC cl se := by
  obtain ⟨R1, R2, R3, R4, R5, G, R7, R8⟩ := R
  have hal : ∀ x, (b ≤ x ∧ x < f) → x < 320 := fun x hx => by omega
  intro m
  induction m with
  | zero =>
    intro i T1 C1 M1 g1 g2 x7 hm hag ha
    obtain rfl : i = n := by omega
    exact ⟨T1, C1, M1, g1, g2, fun _ _ => ⟨rfl, rfl, rfl⟩, fun s h1 h2 => by omega, fun post w RT RC cl se K => K x7⟩
  | succ m ih =>
    intro i T1 C1 M1 g1 g2 x7 hm hag ha
    obtain ⟨a, a1, a2, a3⟩ := ha (by omega)
    have h3 : f + i < 320 := by omega
    have hi3 := vp_in_nI h3 (show 320 < 2 ^ 31 by decide)
    have hpl := cl_pl_e a2 a3
    have G1 := cl_G_frame (al' := fun x => b ≤ x ∧ x < f) G (fun _ h => h) (fun x hx => hag x hx.2)
    have hag2 : ∀ x, x < f → upd T1 (f + i) (T1 (ph (rl a))) x = T x ∧ upd C1 (f + i) (C1 (ph (rl a))) x = C x ∧ upd M1 (f + i) 1 x = M x := fun x hx => by
      rw [pk_un (by omega), pk_un (by omega), pk_un (by omega)]; exact hag x hx
    have G2 := cl_G_frame (al' := fun x => b ≤ x ∧ x < f) G (fun _ h => h) (fun x hx => hag2 x hx.2)
    obtain ⟨t, c, hv, hW⟩ := cx_gotCdr G2 hal a2 (fun _ => rfl)
    obtain ⟨T', C', M', g1', g2', e1, e2, w1⟩ := ih (i + 1) _ _ _ t c c (by omega) hag2 (fun hi => by
      have h2 := hl (i + 1) hi
      rw [cl_s_s a2 a3] at h2 ⊢
      obtain ⟨a', b1, b2, b3⟩ := cl_V_pair hv h2
      exact ⟨a', b1, b2, b3⟩)
    refine ⟨T', C', M', g1', g2', fun x hx => ?_, fun s h1 h2 => ?_, fun post w RT RC cl se K => ?_⟩
    · obtain ⟨x1, x2, x3⟩ := e1 x (by omega)
      rw [x1, x2, x3, pk_un (by omega), pk_un (by omega), pk_un (by omega)]
      exact ⟨rfl, rfl, rfl⟩
    · by_cases e : s = i
      · subst e
        obtain ⟨x1, x2, x3⟩ := e1 (f + s) (by omega)
        rw [x1, x2, x3, pk_us, pk_us, pk_us, hpl]
        exact ⟨(G1.2.2 _ a2 (G1.2.1 a a2).1).1, rfl⟩
      · exact e2 s (by omega) h2
    · have K' := w1 post w RT RC cl se K
      rw [show w + (m + 1) = (w + m) + 1 by omega]
      refine br_f (nI_ge (by omega) (by omega)) ?_
      rw [a1, nI_add f i]
      refine cx_gotCar G1 hal a2 ?_
      dsimp only
      refine cx_put h3 ?_
      dsimp only
      refine ⟨hi3, ?_⟩
      rw [cx_cl h3]
      refine nm_e (hW _ _ _ _ _ _ _ _ _ _ ?_)
      exact nm_r (nI_1 i) K'
theorem cx_a240 {post : Int32 → SX → Prop} {vb vf g1 g2 : Int32} {r n : Nat} (hr : r < 8) (hp : post (nI n) (vb, vf, nI (q + n), g1, g2, T, C, M, upd RT r 2, upd RC r (nI f), cl, se)) :
    wX_append_240 post (nI r) (nI n) (nI f) vb vf (nI q) g1 g2 T C M RT RC cl se := by
  unfold wX_append_240
  exact nm_r (nI_add q n) (cx_setReg hr hp)
theorem cx_aend {post : Int32 → SX → Prop} {vb vf g1 g2 x7 : Int32} {r j n w : Nat} (hr : r < 8) (hj : j < 8) (hn : 1 ≤ n) (hf : f + n < 320)
    (h0 : RT j = 0 → post (nI n) (vb, nI (f + n), nI (q + n), g1, g2, T, C, upd M (f + n - 1) 2, upd RT r 2, upd RC r (nI f), cl, se))
    (h1 : ¬ RT j = 0 → post (nI n) (vb, nI (f + n + 1), nI (q + n), g1, g2, upd T (f + n) (RT j), upd C (f + n) (RC j), upd M (f + n - 1) 0, upd RT r 2, upd RC r (nI f), cl, se)) :
    wX_append_106 post (nI r) (nI j) (nI n) (nI f) (w + 1) x7 (nI n) vb vf (nI q) g1 g2 T C M RT RC cl se := by
  have hij := vp_in_nI hj (show 8 < 2 ^ 31 by decide)
  have h3 : f + n - 1 < 320 := by omega
  have hi3 := vp_in_nI h3 (show 320 < 2 ^ 31 by decide)
  have hs : nI (f + n) - 1 = nI (f + n - 1) := by
    show nI (f + n) - nI 1 = _
    rw [pk_sub (by omega)]
  refine br_t (nI_le (Nat.le_refl _) (by omega)) (nm_r (nI_add f n) ?_)
  rw [hs, cx_cl h3, cx_cl8 hj]
  refine ⟨hij, br_c (fun hz => ⟨hi3, nm_e (cx_a240 hr (h0 hz))⟩) (fun hz => ⟨hi3, nm_e ⟨hij, hij, ?_⟩⟩)⟩
  refine cx_put hf ?_
  dsimp only
  exact nm_r (nI_1 (f + n)) (cx_a240 hr (h1 hz))
theorem cl_s_live {tk : Nat → Int32} {r n : Nat} (hr : r < 8) (htk : ∀ p, p < 32 → (tk p ≠ 0 ↔ cl_Re rk rd ck cd dk dd p)) (hY : ∀ p, p < 32 → (ck p = 2 → ∃ x, x < 32 ∧ cd p = nI x) ∧ (dk p = 2 → ∃ x, x < 32 ∧ dd p = nI x))
    (h0 : rk r = 2 → ∃ x, x < 32 ∧ rd r = nI x) (hl : ∀ i, i < n → (cl_s dk dd (rk r) (rd r) i).1 = 2) :
    ∀ i, i < n → ∃ x, x < 32 ∧ (cl_s dk dd (rk r) (rd r) i).2 = nI x ∧ cl_pl dk dd (rk r) (rd r) i = x ∧ tk x ≠ 0 := by
  have hcl := cl_Re_cl rk rd ck cd dk dd
  intro i
  induction i with
  | zero =>
    intro hi
    have h2 := hl 0 hi
    obtain ⟨x, hx, e⟩ := h0 h2
    exact ⟨x, hx, e, cl_pl_e (i := 0) hx e, (htk x hx).mpr (hcl.1 r hr h2 x hx e)⟩
  | succ i ih =>
    intro hi
    obtain ⟨x, hx, e, _, ht⟩ := ih (by omega)
    have h2 := hl (i + 1) hi
    have es := cl_s_s hx e
    rw [es] at h2
    obtain ⟨y, hy, e'⟩ := (hY x hx).2 h2
    refine ⟨y, hy, by rw [es]; exact e', cl_pl_e hy (by rw [es]; exact e'), (htk y hy).mpr (((hcl.2 x hx ((htk x hx).mp ht)).2) h2 y hy e')⟩
theorem cy_a78 {sp ck0 cd0 : Nat → Int32} {pl : Nat → Nat} {r n : Nat} (hr : r < 8) (hn : n ≤ 32) (hff : f + n ≤ f') (hM : ∀ s, s + 1 < n → M (f + s) = 1) (hsp : ∀ s, s < n → pl s < 32 ∧ sp s = nI (pl s)) :
    ∀ (i c : Nat) (rl ph : Nat → Nat) (ck cd dk dd tk : Nat → Int32) (k d : Int32), i ≤ n → cl_L b f (f + i) f' c rl ph T C M RT RC rk rd ck cd dk dd tk →
      (∀ s, s < i → cl_V rl (T (f + s)) (C (f + s)) (ck0 (pl s)) (cd0 (pl s))) → (∀ s, s < n → tk (pl s) ≠ 0 ∧ ck (pl s) = ck0 (pl s) ∧ cd (pl s) = cd0 (pl s)) →
      (1 ≤ i → cl_D (fun a => (b ≤ a ∧ a < f) ∨ (f + i ≤ a ∧ a < f')) rl rl T C M (f + i - 1) k d) → (i = 0 → k = 2 ∧ ∃ p, p < 32 ∧ d = nI p ∧ rl f = p) → cl_n (cl_T tk) 32 + i ≤ 32 →
      ∃ (rl' ph' : Nat → Nat) (ck' cd' dk' dd' tk' : Nat → Int32) (k' d' : Int32), cl_L b f f f' (c + i) rl' ph' T C M RT RC rk rd ck' cd' dk' dd' tk' ∧ (k' = 2 ∧ ∃ p, p < 32 ∧ d' = nI p ∧ rl' f = p) ∧
        ∀ (post : Int32 → SY → Prop) (w : Nat) (sl ek : Int32) (df : Nat → Int32), i + 1 ≤ w →
          post sl (sl, ek, upd rk r k', upd rd r d', ck', cd', dk', dd', tk', df, sp) → wY_append_78 post (nI r) w k d (nI i + (-1)) sl ek rk rd ck cd dk dd tk df sp := by
  intro i
  induction i with
  | zero =>
    intro c rl ph ck cd dk dd tk k d hi L hV hk hD hfin hc
    refine ⟨rl, ph, ck, cd, dk, dd, tk, k, d, L, hfin rfl, fun post w sl ek df hw hp => ?_⟩
    obtain ⟨w', rfl⟩ : ∃ w', w = w' + 1 := ⟨w - 1, by omega⟩
    exact br_t (by decide) (cy_set hr hp)
  | succ i ih =>
    intro c rl ph ck cd dk dd tk k d hi L hV hk hD hfin hc
    have h32 : i < 32 := by omega
    have hi32 := vp_in_nI h32 (show 32 < 2 ^ 31 by decide)
    obtain ⟨hpl, hspi⟩ := hsp i (by omega)
    have hipl := vp_in_nI hpl (show 32 < 2 ^ 31 by decide)
    obtain ⟨p, hp, hp0, wF⟩ := cy_fresh (tk := tk) (by omega)
    have hip := vp_in_nI hp (show 32 < 2 ^ 31 by decide)
    obtain ⟨_, k2, k3⟩ := hk i (by omega)
    have hv := hV i (by omega)
    rw [← k2, ← k3] at hv
    have L1 := cl_L_new (x := f + i) (z1 := 0) (z2 := 0) L hp hp0 (by omega) (by omega) hv (hD (by omega))
    have hmono := cl_mv_rl (rl := rl) (p := p) (x := f + i) (al := fun a => (b ≤ a ∧ a < f) ∨ (f + (i + 1) ≤ a ∧ a < f')) (by omega) L.1.1
    obtain ⟨rl', ph', ck', cd', dk', dd', tk', k', d', J1, J2, J3⟩ := ih (c + 1) _ _ _ _ _ _ _ 2 (nI p) (by omega) L1 (fun s hs => cl_V_mono hmono (hV s (by omega)))
      (fun s hs => by
        obtain ⟨x1, x2, x3⟩ := hk s hs
        have hne : pl s ≠ p := fun e => x1 (by rw [e]; exact hp0)
        rw [pk_un hne, pk_un hne, pk_un hne]
        exact ⟨x1, x2, x3⟩)
      (fun h1 => Or.inr (Or.inl ⟨by
        have e : f + i - 1 = f + (i - 1) := by omega
        rw [e]; exact hM (i - 1) (by omega), rfl, by
        have e : f + i - 1 + 1 = f + i := by omega
        rw [e, cl_us]; exact hp, by
        have e : f + i - 1 + 1 = f + i := by omega
        rw [e, cl_us]⟩)) (fun e => ⟨rfl, p, hp, rfl, by rw [e]; exact cl_us⟩) (by rw [cl_T_new hp hp0]; omega)
    refine ⟨rl', ph', ck', cd', dk', dd', tk', k', d', by rw [show c + (i + 1) = c + 1 + i by omega]; exact J1, J2, fun post w sl ek df hw hpo => ?_⟩
    obtain ⟨w', rfl⟩ : ∃ w', w = w' + 1 := ⟨w - 1, by omega⟩
    rw [pk_m1]
    refine br_f (nI_pos (by omega)) ?_
    rw [cx_cl32 h32, hspi, cx_cl32 hpl]
    refine ⟨hi32, hipl, hi32, hipl, ?_⟩
    refine wF _ _ _ _ _ _ _ _ _ _ _ _ _ ?_
    dsimp only
    rw [cx_cl32 hp]
    exact ⟨hip, nm_e ⟨hip, nm_e (nm_e (J3 post w' sl ek df (by omega) hpo))⟩⟩
end
end
section
/-! ===== append: both sides ===== -/
theorem i_vc_append {k : Nat} {u : SX} {v : SY} (I : i_Rel k u v) (hk : k + 5 ≤ 2560) (v1 : Int32) (v2 : Int32) (v3 : Int32) : wpX_append (fun r u' => wpY_append (fun r' v' => r' = r ∧ i_Rel (k + 5) u' v') v v1 v2 v3) u v1 v2 v3 := by
  refine cl_el (P := fun u v => wpX_append (fun r u' => wpY_append (fun r' v' => r' = r ∧ i_Rel (k + 5) u' v') v v1 v2 v3) u v1 v2 v3) ?_ I
  intro b f q rl ph g1 g2 T C M RT RC cl se sl ek rk rd ck cd dk dd tk df sp R
  unfold wpX_append wpY_append
  dsimp only
  rcases cx_reg v1 with ⟨r, hr, rfl⟩ | ⟨hX, hY⟩
  · rcases cx_reg v2 with ⟨s, hs, rfl⟩ | ⟨hX, hY⟩
    · rcases cx_reg v3 with ⟨j, hj, rfl⟩ | ⟨hX, hY⟩
      · have his := vp_in_nI hs (show 8 < 2 ^ 31 by decide)
        have hij := vp_in_nI hj (show 8 < 2 ^ 31 by decide)
        rw [cx_cl8 hs, cx_cl8 hj]
        rcases cl_proper g1 g2 sl ek tk df sp R hs with ⟨n, n1, n2, n3, g1', g2', sp', s1, wX, wY⟩ | ⟨g1', g2', sl', ek', sp', wX, wY⟩
        · obtain ⟨tk', htk, wL⟩ := cy_live (nI n) 0 tk df sp' R.2.2.2.2.2.2.2 (cl_R_regs R)
          obtain ⟨b1, f1, q1, rl1, ph1, T1, C1, M1, RC1, g11, g21, R1, hq1, wM⟩ := cx_mayMake g1' g2' R (k := n) n1 htk
          have hle := cl_n_le (cl_T tk') 32
          have hcmp : (nI (cl_n (cl_T tk') 32) + nI n ≤ 32) ↔ cl_n (cl_T tk') 32 + n ≤ 32 := by
            show (nI (cl_n (cl_T tk') 32) + nI n ≤ nI 32) ↔ _
            rw [nI_add, nI_leI (by omega) (by omega)]
          refine cx_ok hr (br_t rfl (cx_ok hs (br_t rfl (cx_ok hj (br_t rfl (wX _ cl se (br_t (nI_pos' (by omega)) (wM _ cl se (fun hL => ?_) (fun hL => ?_)))))))))
          · dsimp only
            refine br_f (by decide) ?_
            by_cases hn0 : n = 0
            · subst hn0
              refine br_t rfl ⟨hij, hij, cx_setReg hr ?_⟩
              dsimp only
              refine cy_ok hr (br_f (by decide) (cy_ok hs (br_f (by decide) (cy_ok hj (br_f (by decide) (wY _ (br_f (by decide) (wL _ (br_t (hcmp.mpr hL) ⟨hij, nm_e ⟨hij, nm_e (nm_e ⟨1, br_t (show (nI 0 - 1 : Int32) < 0 by decide) (cy_set hr ⟨rfl, ?_⟩)⟩)⟩⟩)))))))))
              exact cl_in (cl_R_reg R1 (R1.2.2.2.2.2.2.1 j hj))
            · refine br_f (fun h => hn0 ((nI_eq (a := n) (b := 0) (by omega) (by decide)).mp h)) ?_
              obtain ⟨b2, f2, q2, rl2, ph2, T2, C2, M2, RC2, g12, g22, R2, hf2, hq2, wN⟩ := cx_need g11 g21 R1 (c := n + 1) (by omega)
              have hb2 := R2.1
              have hbf2 := R2.2.1
              have hq1' := hq1 hL
              have R3 := cl_R_drop R2 htk
              have hpl := cl_s_live hs htk R.2.2.2.2.2.2.2 (cl_R_regs R s hs) n2
              have hvj := R3.2.2.2.2.2.2.1 j hj
              obtain ⟨T', C', M', g1'', g2'', e1, e2, wA⟩ := cx_a106 (r := r) (j := j) R3 (by omega) n2 n 0 T2 C2 M2 g12 g22 (RC2 s) (by omega) (fun a _ => ⟨rfl, rfl, rfl⟩) (fun h0 => by
                obtain ⟨a, a1, a2, a3⟩ := cl_V_pair (R3.2.2.2.2.2.2.1 s hs) (n2 0 h0)
                exact ⟨a, a1, a2, a3⟩)
              have hDn : ∀ a, f2 ≤ a → 32 ≤ cl_dr (cl_T tk') rl2 a := fun a ha => by
                rcases Nat.lt_or_ge (cl_dr (cl_T tk') rl2 a) 32 with h | h
                · have := R3.2.2.2.2.2.1.1 a h; omega
                · exact h
              have hx6 : nI n - 1 = nI n + (-1) := by
                obtain ⟨z, rfl⟩ : ∃ z, n = z + 1 := ⟨n - 1, by omega⟩
                rw [pk_m1, nI_pred]
              have fin : ∀ (f' : Nat) (T3 C3 M3 : Nat → Int32) (G1 G2 : Int32), f2 + n ≤ f' → f' ≤ b2 + 160 →
                  (∀ a, a < f2 + n → T3 a = T' a ∧ C3 a = C' a) → (∀ a, a + 1 < f2 + n → M3 a = M' a) →
                  cl_D (fun a => (b2 ≤ a ∧ a < f2) ∨ (f2 + n ≤ a ∧ a < f')) (cl_dr (cl_T tk') rl2) (cl_dr (cl_T tk') rl2) T3 C3 M3 (f2 + n - 1) (rk j) (rd j) →
                  wpY_isRegister (fun r_1 => (r_1 = 0 → (-1 : Int32) = nI n ∧ i_Rel (k + 5) (nI b2, nI f', nI (q2 + n), G1, G2, T3, C3, M3, upd RT r 2, upd RC2 r (nI f2), cl, se) (sl, ek, rk, rd, ck, cd, dk, dd, tk, df, sp)) ∧ (¬ r_1 = 0 → wpY_isRegister (fun r_14 => (r_14 = 0 → (-1 : Int32) = nI n ∧ i_Rel (k + 5) (nI b2, nI f', nI (q2 + n), G1, G2, T3, C3, M3, upd RT r 2, upd RC2 r (nI f2), cl, se) (sl, ek, rk, rd, ck, cd, dk, dd, tk, df, sp)) ∧ (¬ r_14 = 0 → wpY_isRegister (fun r_27 => (r_27 = 0 → (-1 : Int32) = nI n ∧ i_Rel (k + 5) (nI b2, nI f', nI (q2 + n), G1, G2, T3, C3, M3, upd RT r 2, upd RC2 r (nI f2), cl, se) (sl, ek, rk, rd, ck, cd, dk, dd, tk, df, sp)) ∧ (¬ r_27 = 0 → wpY_isProper (fun r_40 v' => (r_40 = 0 → (-3 : Int32) = nI n ∧ i_Rel (k + 5) (nI b2, nI f', nI (q2 + n), G1, G2, T3, C3, M3, upd RT r 2, upd RC2 r (nI f2), cl, se) v') ∧ (¬ r_40 = 0 → wpY_live (fun r_53 v' => (r_53 + v'.1 ≤ 32 → vp_in (nI j) 8 ∧ ∀ x4 : Int32, x4 = v'.2.2.1 j → vp_in (nI j) 8 ∧ ∀ x5 : Int32, x5 = v'.2.2.2.1 j → ∀ x6 : Int32, x6 = v'.1 - 1 → ∃ n78, wY_append_78 (fun r' v' => r' = nI n ∧ i_Rel (k + 5) (nI b2, nI f', nI (q2 + n), G1, G2, T3, C3, M3, upd RT r 2, upd RC2 r (nI f2), cl, se) v') (nI r) n78 x4 x5 x6 v'.1 v'.2.1 v'.2.2.1 v'.2.2.2.1 v'.2.2.2.2.1 v'.2.2.2.2.2.1 v'.2.2.2.2.2.2.1 v'.2.2.2.2.2.2.2.1 v'.2.2.2.2.2.2.2.2.1 v'.2.2.2.2.2.2.2.2.2.1 v'.2.2.2.2.2.2.2.2.2.2) ∧ (¬ r_53 + v'.1 ≤ 32 → (-2 : Int32) = nI n ∧ i_Rel (k + 5) (nI b2, nI f', nI (q2 + n), G1, G2, T3, C3, M3, upd RT r 2, upd RC2 r (nI f2), cl, se) v')) v')) (sl, ek, rk, rd, ck, cd, dk, dd, tk, df, sp) (nI s))) (sl, ek, rk, rd, ck, cd, dk, dd, tk, df, sp) (nI j))) (sl, ek, rk, rd, ck, cd, dk, dd, tk, df, sp) (nI s))) (sl, ek, rk, rd, ck, cd, dk, dd, tk, df, sp) (nI r) := by
                intro f' T3 C3 M3 G1 G2 hf'1 hf'2 hT3 hM3 hD
                have L0 : cl_L b2 f2 (f2 + n) f' q2 (cl_dr (cl_T tk') rl2) ph2 T3 C3 M3 RT RC2 rk rd ck cd dk dd tk' :=
                  cl_L_0 R3 (fun a ha => by
                    obtain ⟨x1, x2, x3⟩ := e1 a (by omega)
                    obtain ⟨y1, y2⟩ := hT3 a (by omega)
                    rw [y1, y2, hM3 a (by omega), x1, x2, x3]
                    exact ⟨rfl, rfl, rfl⟩) (fun k hk h0 a => cl_dr_ne hk h0 a)
                obtain ⟨rl', ph', ck', cd', dk', dd', tk'', k', d', J1, ⟨J2, p, hp, hd, hrl⟩, J3⟩ := cy_a78 (sp := sp') (ck0 := ck) (cd0 := cd) (pl := cl_pl dk dd (rk s) (rd s)) (r := r) (n := n) hr n1 hf'1
                  (fun s' hs' => by rw [hM3 _ (by omega)]; exact (e2 s' (by omega) (by omega)).2)
                  (fun s' hs' => by
                    obtain ⟨x, hx, ex, ep, _⟩ := hpl s' hs'
                    rw [ep]; exact ⟨hx, by rw [s1 s' hs']; exact ex⟩)
                  n q2 _ _ _ _ _ _ _ (rk j) (rd j) (Nat.le_refl _) L0
                  (fun s' hs' => by
                    obtain ⟨y1, y2⟩ := hT3 (f2 + s') (by omega)
                    rw [y1, y2]; exact (e2 s' (by omega) hs').1)
                  (fun s' hs' => by
                    obtain ⟨x, hx, ex, ep, et⟩ := hpl s' hs'
                    exact ⟨by rw [ep]; exact et, rfl, rfl⟩)
                  (fun _ => hD) (fun e => by omega) (by omega)
                refine cy_ok hr (br_f (by decide) (cy_ok hs (br_f (by decide) (cy_ok hj (br_f (by decide) (wY _ (br_f (by decide) (wL _ (br_t (hcmp.mpr hL) ⟨hij, nm_e ⟨hij, nm_e (nm_r hx6 ⟨n + 1, J3 _ (n + 1) _ _ _ (by omega) ⟨rfl, ?_⟩⟩)⟩⟩)))))))))
                refine cl_in (cl_R_reg (cl_L_end (q' := q2 + n) J1 hb2 hbf2 (by omega) hf'2 (by omega) (by omega)) ?_)
                rw [J2, hd]; exact cl_V_p hp hrl
              rw [nI_1 n]
              refine wN _ cl se ⟨his, nm_e ⟨1 + n, ?_⟩⟩
              refine wA _ 1 _ _ cl se (fun x7' => ?_)
              refine cx_aend (w := 0) hr hj (by omega) (by omega) (fun hz => ?_) (fun hz => ?_)
              · refine fin (f2 + n) _ _ _ _ _ (Nat.le_refl _) (by omega) (fun a _ => ⟨rfl, rfl⟩) (fun a ha => pk_un (by omega)) (Or.inr (Or.inr ⟨pk_us, ?_⟩))
                rw [← hvj.1]; exact hz
              · refine fin (f2 + n + 1) _ _ _ _ _ (by omega) (by omega) (fun a ha => ⟨pk_un (by omega), pk_un (by omega)⟩) (fun a ha => pk_un (by omega)) (Or.inl ⟨pk_us, by omega, hDn _ (by omega), ?_⟩)
                rw [show f2 + n - 1 + 1 = f2 + n by omega, pk_us, pk_us]
                exact hvj
          · dsimp only
            refine br_t rfl ?_
            exact cy_ok hr (br_f (by decide) (cy_ok hs (br_f (by decide) (cy_ok hj (br_f (by decide) (wY _ (br_f (by decide) (wL _ (br_f (fun h => hL (hcmp.mp h)) ⟨rfl, cl_in R1⟩)))))))))
        · refine cx_ok hr (br_t rfl (cx_ok hs (br_t rfl (cx_ok hj (br_t rfl (wX _ cl se (br_f (by decide) ?_)))))))
          exact cy_ok hr (br_f (by decide) (cy_ok hs (br_f (by decide) (cy_ok hj (br_f (by decide) (wY _ (br_t rfl ⟨rfl, cl_in R⟩)))))))
      · exact cx_ok hr (br_t rfl (cx_ok hs (br_t rfl (hX _ _ (br_f (by decide) (cy_ok hr (br_f (by decide) (cy_ok hs (br_f (by decide) (hY _ _ (br_t rfl ⟨rfl, cl_in R⟩)))))))))))
    · exact cx_ok hr (br_t rfl (hX _ _ (br_f (by decide) (cy_ok hr (br_f (by decide) (hY _ _ (br_t rfl ⟨rfl, cl_in R⟩)))))))
  · exact hX _ _ (br_f (by decide) (hY _ _ (br_t rfl ⟨rfl, cl_in R⟩)))
end
section
/-! ===== reverse ===== -/
section
variable {T C M RT RC : Nat → Int32} {cl se : Nat → Int64} {rk rd ck cd dk0 dd0 sp : Nat → Int32}
variable {rl ph pl : Nat → Nat} {b f q n r : Nat}
theorem cl_rev (hr : r < 8) (hn1 : 1 ≤ n) (hn : n ≤ 32) (hpl : ∀ s, s < n → pl s < 32 ∧ sp s = nI (pl s)) (hne : ∀ s t, s < t → t < n → pl s ≠ pl t)
    (hnx : ∀ s, s + 1 < n → dk0 (pl s) = 2 ∧ dd0 (pl s) = nI (pl (s + 1))) :
    ∀ (m i f : Nat) (rl ph : Nat → Nat) (T C M dk dd : Nat → Int32) (g1 g2 x3 x4 x5 : Int32), i + m = n → cl_R b f q rl ph T C M RT RC rk rd ck cd dk dd → f + 2 * m ≤ b + 160 →
      (∀ s, i ≤ s → s < n → dk (pl s) = dk0 (pl s) ∧ dd (pl s) = dd0 (pl s)) → cl_V rl x3 x4 (if i = 0 then 0 else 2) (if i = 0 then 0 else nI (pl (i - 1))) →
      (i < n → ∃ a, x5 = nI a ∧ rl a = pl i) →
      ∃ (f' : Nat) (rl' ph' : Nat → Nat) (T' C' M' dk' dd' : Nat → Int32) (g1' g2' y : Int32), cl_R b f' q rl' ph' T' C' M' RT RC rk rd ck cd dk' dd' ∧ cl_V rl' 2 y 2 (nI (pl (n - 1))) ∧
        (∀ (post : Int32 → SX → Prop) (w : Nat) (cl se : Nat → Int64), m + 1 ≤ w → post (nI n) (nI b, nI f', nI q, g1', g2', T', C', M', upd RT r 2, upd RC r y, cl, se) →
          wX_reverse_46 post (nI r) (nI n) w x3 x4 x5 (nI i) (nI b) (nI f) (nI q) g1 g2 T C M RT RC cl se) ∧
        (∀ (post : Int32 → SY → Prop) (w : Nat) (ek : Int32) (tk df : Nat → Int32), m + 1 ≤ w → post (nI n) (nI n, ek, upd rk r 2, upd rd r (nI (pl (n - 1))), ck, cd, dk', dd', tk, df, sp) →
          wY_reverse_23 post (nI r) (nI n) ek w (nI i) rk rd ck cd dk dd tk df sp) := by
  intro m
  induction m with
  | zero =>
    intro i f rl ph T C M dk dd g1 g2 x3 x4 x5 hm R hf hag hv ha
    obtain rfl : i = n := by omega
    rw [if_neg (by omega), if_neg (by omega)] at hv
    have h3 : x3 = 2 := hv.1
    subst h3
    obtain ⟨p1, p2⟩ := hpl (i - 1) (by omega)
    refine ⟨f, rl, ph, T, C, M, dk, dd, g1, g2, x4, R, hv, fun post w cl se hw hp => ?_, fun post w ek tk df hw hp => ?_⟩
    · obtain ⟨w', rfl⟩ : ∃ w', w = w' + 1 := ⟨w - 1, by omega⟩
      exact br_t (nI_le (Nat.le_refl _) (by omega)) (cx_setReg hr hp)
    · obtain ⟨w', rfl⟩ : ∃ w', w = w' + 1 := ⟨w - 1, by omega⟩
      have hs : nI i - 1 = nI (i - 1) := by
        show nI i - nI 1 = _
        rw [pk_sub (by omega)]
      refine br_t (nI_le (Nat.le_refl _) (by omega)) (br_f (nI_nle (by omega) (by omega)) ?_)
      rw [hs, cx_cl32 (show i - 1 < 32 by omega), p2]
      exact ⟨vp_in_nI (by omega) (by decide), cy_set hr hp⟩
  | succ m ih =>
    intro i f rl ph T C M dk dd g1 g2 x3 x4 x5 hm R hf hag hv ha
    obtain ⟨a, a1, a2⟩ := ha (by omega)
    obtain ⟨p1, p2⟩ := hpl i (by omega)
    have hra : rl a < 32 := by rw [a2]; exact p1
    obtain ⟨t, c, hvc, hW⟩ := cx_gotCdr R.2.2.2.2.2.1 (cl_R_al R) hra (fun _ => rfl)
    obtain ⟨f1, rl1, ph1, T1, C1, M1, hf1, R1, hm1, hW1⟩ := cl_R_change R (by omega) hra hv
    rw [a2] at hvc R1
    have h32 : i < 32 := by omega
    have hi32 := vp_in_nI h32 (show 32 < 2 ^ 31 by decide)
    have hip := vp_in_nI p1 (show 32 < 2 ^ 31 by decide)
    obtain ⟨f', rl', ph', T', C', M', dk', dd', g1', g2', y, J1, J2, J3, J4⟩ := ih (i + 1) f1 rl1 ph1 T1 C1 M1 _ _ t c 2 (nI a) c (by omega) R1 (by omega)
      (fun s h1 h2 => by
        have e := (hne i s (by omega) h2).symm
        rw [pk_un e, pk_un e]; exact hag s (by omega) h2)
      (by
        rw [if_neg (by omega), if_neg (by omega), Nat.add_sub_cancel]
        exact cl_V_p p1 (by rw [hm1 a hra]; exact a2))
      (fun hi => by
        obtain ⟨x1, x2⟩ := hag i (Nat.le_refl _) (by omega)
        obtain ⟨y1, y2⟩ := hnx i hi
        rw [x1, x2] at hvc
        obtain ⟨a', b1, b2, b3⟩ := cl_V_pair hvc y1
        rw [y2, nI_eq (by have := (hpl (i + 1) hi).1; omega) (by omega)] at b3
        exact ⟨a', b1, by rw [hm1 a' b2]; exact b3.symm⟩)
    refine ⟨f', rl', ph', T', C', M', dk', dd', g1', g2', y, J1, J2, fun post w cl se hw hp => ?_, fun post w ek tk df hw hp => ?_⟩
    · obtain ⟨w', rfl⟩ : ∃ w', w = w' + 1 := ⟨w - 1, by omega⟩
      refine br_f (nI_ge (by omega) (by omega)) ?_
      rw [a1]
      refine hW _ _ _ _ _ _ _ _ _ _ ?_
      dsimp only
      refine hW1 _ _ _ _ _ _ ?_
      exact nm_r (nI_1 i) (J3 post w' cl se (by omega) hp)
    · obtain ⟨w', rfl⟩ : ∃ w', w = w' + 1 := ⟨w - 1, by omega⟩
      have K := J4 post w' ek tk df (by omega) hp
      refine br_f (nI_ge (by omega) (by omega)) ⟨hi32, ?_⟩
      rw [cx_cl32 h32, p2]
      by_cases h0 : i = 0
      · subst h0
        rw [if_pos rfl, if_pos rfl] at K
        refine br_t rfl ?_
        unfold wY_reverse_50
        rw [cx_cl32 h32, p2, cx_cl32 p1]
        exact ⟨hip, nm_e ⟨hi32, br_t rfl ⟨hip, nm_e (nm_r (nI_1 0) K)⟩⟩⟩
      · rw [if_neg h0, if_neg h0] at K
        obtain ⟨z1, z2⟩ := hpl (i - 1) (by omega)
        have hz : ¬ nI i = 0 := nI_ne0 (by omega) (by omega)
        have hs : nI i - 1 = nI (i - 1) := by
          show nI i - nI 1 = _
          rw [pk_sub (by omega)]
        refine br_f hz ?_
        unfold wY_reverse_50
        rw [cx_cl32 h32, p2, cx_cl32 p1, hs, cx_cl32 (show i - 1 < 32 by omega), z2]
        exact ⟨hip, nm_e ⟨hi32, br_f hz ⟨vp_in_nI (by omega) (by decide), hip, nm_e (nm_r (nI_1 i) K)⟩⟩⟩
end
/-- the facts on a proper spine that reverse and delete use -/
theorem cl_sp {rk rd ck cd dk dd sp : Nat → Int32} {r n : Nat} (hY : ∀ p, p < 32 → (ck p = 2 → ∃ x, x < 32 ∧ cd p = nI x) ∧ (dk p = 2 → ∃ x, x < 32 ∧ dd p = nI x))
    (h0 : rk r = 2 → ∃ x, x < 32 ∧ rd r = nI x) (hl : ∀ i, i < n → (cl_s dk dd (rk r) (rd r) i).1 = 2) (hn : (cl_s dk dd (rk r) (rd r) n).1 = 0) (hs : ∀ j, j < n → sp j = (cl_s dk dd (rk r) (rd r) j).2) :
    ∃ pl : Nat → Nat, (∀ s, s < n → pl s < 32 ∧ sp s = nI (pl s)) ∧ (∀ s t, s < t → t < n → pl s ≠ pl t) ∧ (∀ s, s + 1 < n → dk (pl s) = 2 ∧ dd (pl s) = nI (pl (s + 1))) ∧
      (∀ s, s + 1 = n → dk (pl s) = 0) ∧ (1 ≤ n → rk r = 2 ∧ rd r = nI (pl 0)) := by
  have hx : ∀ s, s < n → cl_pl dk dd (rk r) (rd r) s < 32 ∧ (cl_s dk dd (rk r) (rd r) s).2 = nI (cl_pl dk dd (rk r) (rd r) s) := fun s h => by
    obtain ⟨x, hx, e⟩ := cl_s_pl hY h0 s (fun j hj => hl j (by omega)) (hl s h)
    rw [cl_pl_e hx e]; exact ⟨hx, e⟩
  refine ⟨cl_pl dk dd (rk r) (rd r), fun s h => ⟨(hx s h).1, by rw [hs s h]; exact (hx s h).2⟩, fun s t h1 h2 e => ?_, fun s h => ?_, fun s h => ?_, fun h => ⟨hl 0 (by omega), (hx 0 (by omega)).2⟩⟩
  · refine cl_s_ne hl (by rw [hn]; decide) h1 h2 ?_
    rw [(hx s (by omega)).2, (hx t h2).2, e]
  · obtain ⟨x1, x2⟩ := hx s (by omega)
    have e := cl_s_s x1 x2
    have h2 := hl (s + 1) h
    have h3 := (hx (s + 1) h).2
    rw [e] at h2 h3
    exact ⟨h2, h3⟩
  · obtain ⟨x1, x2⟩ := hx s (by omega)
    have e := cl_s_s x1 x2
    rw [← h, e] at hn
    exact hn
theorem i_vc_reverse {k : Nat} {u : SX} {v : SY} (I : i_Rel k u v) (hk : k + 5 ≤ 2560) (v1 : Int32) : wpX_reverse (fun r u' => wpY_reverse (fun r' v' => r' = r ∧ i_Rel (k + 5) u' v') v v1) u v1 := by
  refine cl_el (P := fun u v => wpX_reverse (fun r u' => wpY_reverse (fun r' v' => r' = r ∧ i_Rel (k + 5) u' v') v v1) u v1) ?_ I
  intro b f q rl ph g1 g2 T C M RT RC cl se sl ek rk rd ck cd dk dd tk df sp R
  unfold wpX_reverse wpY_reverse
  dsimp only
  rcases cx_reg v1 with ⟨r, hr, rfl⟩ | ⟨hX, hY⟩
  · have hin := vp_in_nI hr (show 8 < 2 ^ 31 by decide)
    rw [cx_cl8 hr]
    rcases cl_proper g1 g2 sl ek tk df sp R hr with ⟨n, n1, n2, n3, g1', g2', sp', s1, wX, wY⟩ | ⟨g1', g2', sl', ek', sp', wX, wY⟩
    · by_cases hn0 : n = 0
      · subst hn0
        refine cx_ok hr (br_t rfl (wX _ cl se (br_f (by decide) ?_)))
        exact cy_ok hr (br_f (by decide) (wY _ (br_f (by decide) ⟨1, br_t (show (nI 0 : Int32) ≤ 0 by decide) (br_t (show (nI 0 : Int32) ≤ 0 by decide) ⟨rfl, cl_in R⟩)⟩)))
      · obtain ⟨pl, p1, p2, p3, p4, p5⟩ := cl_sp R.2.2.2.2.2.2.2 (cl_R_regs R r hr) n2 n3 s1
        obtain ⟨b2, f2, q2, rl2, ph2, T2, C2, M2, RC2, g12, g22, R2, hf2, hq2, wN⟩ := cx_need g1' g2' R (c := 2 * n) (by omega)
        obtain ⟨y1, y2⟩ := p5 (by omega)
        obtain ⟨a, a1, a2, a3⟩ := cl_V_pair (R2.2.2.2.2.2.2.1 r hr) y1
        obtain ⟨f', rl', ph', T', C', M', dk', dd', g1'', g2'', y, J1, J2, J3, J4⟩ := cl_rev (dk0 := dk) (dd0 := dd) hr (by omega) n1 p1 p2 p3 n 0 f2 rl2 ph2 T2 C2 M2 dk dd g12 g22 0 0 (RC2 r) (by omega) R2 (by omega) (fun s _ _ => ⟨rfl, rfl⟩) cl_V_nil (fun h => ⟨a, a1, by
          rw [y2, nI_eq (by have := (p1 0 h).1; omega) (by omega)] at a3
          exact a3.symm⟩)
        refine cx_ok hr (br_t rfl (wX _ cl se (br_t (nI_le (a := 1) (b := n) (by omega) (by omega)) ?_)))
        rw [show (2 : Int32) * nI n = nI (2 * n) from pk_mul 2 n]
        refine wN _ cl se ⟨hin, nm_e ⟨n + 1, J3 _ (n + 1) cl se (by omega) ?_⟩⟩
        exact cy_ok hr (br_f (by decide) (wY _ (br_f (by decide) ⟨n + 1, J4 _ (n + 1) _ _ _ (by omega) ⟨rfl, cl_in (cl_R_reg J1 J2)⟩⟩)))
    · refine cx_ok hr (br_t rfl (wX _ cl se (br_f (by decide) ?_)))
      exact cy_ok hr (br_f (by decide) (wY _ (br_t rfl ⟨rfl, cl_in R⟩)))
  · exact hX _ _ (br_f (by decide) (hY _ _ (br_t rfl ⟨rfl, cl_in R⟩)))
end
section
/-! ===== delete ===== -/
/-- the list that stays, from the i-th pair of a spine of n on (m = n - i) -/
def cl_val (pl : Nat → Nat) (dl : Nat → Bool) (n : Nat) : Nat → Int32 × Int32
  | 0 => (0, 0)
  | m + 1 => if dl (n - (m + 1)) = true then cl_val pl dl n m else (2, nI (pl (n - (m + 1))))
def cl_vl (pl : Nat → Nat) (dl : Nat → Bool) (n i : Nat) : Int32 × Int32 := cl_val pl dl n (n - i)
theorem cl_upd2 (g : Nat → Int32) (i : Nat) (x y : Int32) : upd (upd g i x) i y = upd g i y := by
  funext j
  by_cases e : j = i
  · rw [e, pk_us, pk_us]
  · rw [pk_un e, pk_un e, pk_un e]
section
variable {pl : Nat → Nat} {dl : Nat → Bool} {n : Nat}
theorem cl_vl_n : cl_vl pl dl n n = (0, 0) := by unfold cl_vl; rw [Nat.sub_self]; rfl
theorem cl_vl_s {i : Nat} (hi : i < n) : cl_vl pl dl n i = if dl i = true then cl_vl pl dl n (i + 1) else (2, nI (pl i)) := by
  unfold cl_vl
  rw [show n - i = n - (i + 1) + 1 by omega]
  show (if dl (n - (n - (i + 1) + 1)) = true then cl_val pl dl n (n - (i + 1)) else (2, nI (pl (n - (n - (i + 1) + 1))))) = _
  rw [show n - (n - (i + 1) + 1) = i by omega]
theorem cl_vl_d {i : Nat} (hi : i < n) (h : dl i = true) : cl_vl pl dl n i = cl_vl pl dl n (i + 1) := by rw [cl_vl_s hi, if_pos h]
theorem cl_vl_k {i : Nat} (hi : i < n) (h : ¬ dl i = true) : cl_vl pl dl n i = (2, nI (pl i)) := by rw [cl_vl_s hi, if_neg h]
theorem cl_vl_skip {l : Nat} : ∀ m, l + m ≤ n → (∀ s, l ≤ s → s < l + m → dl s = true) → cl_vl pl dl n l = cl_vl pl dl n (l + m) := by
  intro m
  induction m with
  | zero => intro _ _; rfl
  | succ m ih =>
    intro h1 h2
    rw [ih (by omega) (fun s a b => h2 s a (by omega)), cl_vl_d (by omega) (h2 (l + m) (by omega) (by omega))]
    rfl
theorem cl_vl_to {l i : Nat} (h0 : l ≤ i) (h1 : i ≤ n) (h2 : ∀ s, l ≤ s → s < i → dl s = true) : cl_vl pl dl n l = cl_vl pl dl n i := by
  have := cl_vl_skip (pl := pl) (dl := dl) (n := n) (l := l) (i - l) (by omega) (fun s a b => h2 s a (by omega))
  rw [this, show l + (i - l) = i by omega]
theorem cl_n_up {S : Nat → Bool} {i : Nat} : ∀ m, cl_n S i ≤ cl_n S (i + m) := by
  intro m
  induction m with
  | zero => exact Nat.le_refl _
  | succ m ih =>
    rw [show i + (m + 1) = (i + m) + 1 by omega, cl_n_s]; omega
end
section
variable {T C M RT RC : Nat → Int32} {cl se : Nat → Int64} {rk rd ck cd dk dd dk' dd' dk0 dd0 sp : Nat → Int32}
variable {rl ph pl : Nat → Nat} {dl : Nat → Bool} {b f q n r : Nat} {v2 : Int32}
/-- the data of a nil don't matter -/
theorem cl_R_dd (R : cl_R b f q rl ph T C M RT RC rk rd ck cd dk dd) (h : ∀ p, p < 32 → dk' p = dk p ∧ (dk p ≠ 0 → dd' p = dd p)) : cl_R b f q rl ph T C M RT RC rk rd ck cd dk' dd' := by
  obtain ⟨R1, R2, R3, R4, R5, ⟨G1, G2, G3⟩, R7, R8⟩ := R
  refine ⟨R1, R2, R3, R4, R5, ⟨G1, G2, fun p hp hr => ⟨(G3 p hp hr).1, ?_⟩⟩, R7, fun p hp => ⟨(R8 p hp).1, fun hk => ?_⟩⟩
  · obtain ⟨e1, e2⟩ := h p hp
    rw [e1]
    by_cases h0 : dk p = 0
    · rcases (G3 p hp hr).2 with ⟨m, a1, a2, a3⟩ | ⟨m, m1, _⟩ | ⟨m, v⟩
      · refine Or.inl ⟨m, a1, a2, a3.1, Or.inl h0⟩
      · rw [h0] at m1; exact absurd m1 (by decide)
      · exact Or.inr (Or.inr ⟨m, v⟩)
    · rw [e2 h0]; exact (G3 p hp hr).2
  · obtain ⟨e1, e2⟩ := h p hp
    rw [e1] at hk
    rw [e2 (by rw [hk]; decide)]
    exact (R8 p hp).2 hk
/-- what is known of the last pair that stayed -/
def cl_dI (pl : Nat → Nat) (dl : Nat → Bool) (n i : Nat) (rl : Nat → Nat) (dkX ddX dk0 dd0 : Nat → Int32) (kr dr x5 x6 : Int32) : Prop :=
  (x5 = -1 ∧ kr = 0 ∧ dr = 0 ∧ ∀ s, s < i → dl s = true) ∨
  (∃ l al, l < i ∧ ¬ dl l = true ∧ x5 = nI al ∧ rl al = pl l ∧ kr = (cl_vl pl dl n 0).1 ∧ dr = (cl_vl pl dl n 0).2 ∧ (∀ s, l + 1 ≤ s → s < i → dl s = true) ∧ (x6 = 0 → i = l + 1) ∧
    dkX (pl l) = dk0 (pl l) ∧ ddX (pl l) = dd0 (pl l) ∧ (∀ s, s < l → ¬ dl s = true → dkX (pl s) = (cl_vl pl dl n (s + 1)).1 ∧ ddX (pl s) = (cl_vl pl dl n (s + 1)).2))
/-- what the heap is in the end -/
def cl_dE (pl : Nat → Nat) (dl : Nat → Bool) (n : Nat) (dk dd dk0 dd0 : Nat → Int32) : Prop :=
  (∀ s, s < n → ¬ dl s = true → dk (pl s) = (cl_vl pl dl n (s + 1)).1 ∧ ((cl_vl pl dl n (s + 1)).1 ≠ 0 → dd (pl s) = (cl_vl pl dl n (s + 1)).2)) ∧
  (∀ p, (∀ s, s < n → ¬ dl s = true → pl s ≠ p) → dk p = dk0 p ∧ dd p = dd0 p)
theorem cl_del0 (hr : r < 8) (hn : n ≤ 32) (hpl : ∀ s, s < n → pl s < 32 ∧ sp s = nI (pl s)) (hne : ∀ s t, s < t → t < n → pl s ≠ pl t) (hlast : ∀ s, s + 1 = n → dk0 (pl s) = 0)
    {e : Nat} {tr cr kr dr x5 x6 x7 g1 g2 : Int32} (R : cl_R b f q rl ph T C M (upd RT r tr) (upd RC r cr) (upd rk r kr) (upd rd r dr) ck cd dk dd) (hf : f + e ≤ b + 160) (he : (x6 = 0 ∧ e = 0) ∨ (x6 = 1 ∧ e = 2))
    (Ho : ∀ p, (∀ s, s < n → ¬ dl s = true → pl s ≠ p) → dk p = dk0 p ∧ dd p = dd0 p) (Hl : cl_dI pl dl n n rl dk dd dk0 dd0 kr dr x5 x6) :
    ∃ (f' : Nat) (rl' ph' : Nat → Nat) (T' C' M' dk' dd' : Nat → Int32) (tr' cr' g1' g2' : Int32), cl_R b f' q rl' ph' T' C' M' (upd RT r tr') (upd RC r cr') (upd rk r (cl_vl pl dl n 0).1) (upd rd r (cl_vl pl dl n 0).2) ck cd dk' dd' ∧
      cl_dE pl dl n dk' dd' dk0 dd0 ∧
      ∀ (post : Int32 → SX → Prop) (w : Nat) (cl se : Nat → Int64), post (nI (cl_n dl n)) (nI b, nI f', nI q, g1', g2', T', C', M', upd RT r tr', upd RC r cr', cl, se) →
        wX_delete_57 post (nI r) v2 (nI n) (w + 1) (nI (cl_n dl n)) x5 x6 x7 (nI n) (nI b) (nI f) (nI q) g1 g2 T C M (upd RT r tr) (upd RC r cr) cl se := by
  have hle : nI n ≤ nI n := nI_le (Nat.le_refl _) (by omega)
  rcases Hl with ⟨l1, l2, l3, l4⟩ | ⟨l, al, l1, l2, l3, l4, l5, l6, l7, l8, l9, l10, l11⟩
  · have e0 : cl_vl pl dl n 0 = (0, 0) := by rw [cl_vl_to (Nat.zero_le _) (Nat.le_refl _) (fun s _ h => l4 s h), cl_vl_n]
    refine ⟨f, rl, ph, T, C, M, dk, dd, tr, cr, g1, g2, by rw [e0]; rw [l2, l3] at R; exact R, ⟨fun s hs h => absurd (l4 s hs) h, Ho⟩, fun post w cl se hp => ?_⟩
    exact br_t hle (br_c (fun _ => hp) (fun _ => br_t (by rw [l1]; decide) hp))
  · rcases he with ⟨h6, _⟩ | ⟨h6, he2⟩
    · have hl := l8 h6
      refine ⟨f, rl, ph, T, C, M, dk, dd, tr, cr, g1, g2, by rw [← l5, ← l6]; exact R, ⟨fun s hs h => ?_, Ho⟩, fun post w cl se hp => ?_⟩
      · by_cases e : s = l
        · rw [e, ← hl, cl_vl_n, l9, hlast l hl.symm]
          exact ⟨rfl, fun h => absurd rfl h⟩
        · have := l11 s (by omega) h
          exact ⟨this.1, fun _ => this.2⟩
      · exact br_t hle (br_t h6 hp)
    · obtain ⟨p1, p2⟩ := hpl l l1
      have hra : rl al < 32 := by rw [l4]; exact p1
      have hal3 := cl_R_al R al (R.2.2.2.2.2.1.1 al hra)
      obtain ⟨f1, rl1, ph1, T1, C1, M1, hf1, R1, hm1, hW1⟩ := cl_R_change (t := 0) (c := 0) (k := 0) (d := 0) R (by omega) hra cl_V_nil
      rw [l4, l5, l6] at R1
      refine ⟨f1, rl1, ph1, T1, C1, M1, _, _, tr, cr, g1, g2, R1, ⟨fun s hs h => ?_, fun p hp => ?_⟩, fun post w cl se hp => ?_⟩
      · by_cases e : s = l
        · rw [e, pk_us, pk_us, cl_vl_to (i := n) (by omega) (Nat.le_refl _) l7, cl_vl_n]
          exact ⟨rfl, fun _ => rfl⟩
        · rcases Nat.lt_or_ge s l with h' | h'
          · have hne' := hne s l h' l1
            rw [pk_un hne', pk_un hne']
            have := l11 s h' h
            exact ⟨this.1, fun _ => this.2⟩
          · exact absurd (l7 s (by omega) hs) h
      · have hne' : p ≠ pl l := fun e => hp l l1 l2 e.symm
        rw [pk_un hne', pk_un hne']; exact Ho p hp
      · refine br_t hle (br_f (by rw [h6]; decide) (br_f (by rw [l3]; exact nI_pos (by omega)) ?_))
        rw [l3]
        exact hW1 _ _ _ _ _ _ hp
theorem cl_del (hr : r < 8) (hn : n ≤ 32) (hpl : ∀ s, s < n → pl s < 32 ∧ sp s = nI (pl s)) (hne : ∀ s t, s < t → t < n → pl s ≠ pl t) (hnx : ∀ s, s + 1 < n → dk0 (pl s) = 2 ∧ dd0 (pl s) = nI (pl (s + 1)))
    (hlast : ∀ s, s + 1 = n → dk0 (pl s) = 0) (hdl : ∀ s, s < n → (dl s = true ↔ (ck (pl s) = 1 ∧ cd (pl s) = v2))) :
    ∀ (m i f e : Nat) (rl ph : Nat → Nat) (T C M dk dd : Nat → Int32) (tr cr kr dr x5 x6 x7 g1 g2 : Int32), i + m = n →
      cl_R b f q rl ph T C M (upd RT r tr) (upd RC r cr) (upd rk r kr) (upd rd r dr) ck cd dk dd → f + 2 * m + e ≤ b + 160 → ((x6 = 0 ∧ e = 0) ∨ (x6 = 1 ∧ e = 2)) →
      (∀ s, i ≤ s → s < n → dk (pl s) = dk0 (pl s) ∧ dd (pl s) = dd0 (pl s)) →
      (∀ p, (∀ s, s < n → ¬ dl s = true → pl s ≠ p) → dk p = dk0 p ∧ dd p = dd0 p) → cl_dI pl dl n i rl dk dd dk0 dd0 kr dr x5 x6 → (i < n → ∃ a, x7 = nI a ∧ rl a = pl i) →
      ∃ (f' : Nat) (rl' ph' : Nat → Nat) (T' C' M' dk' dd' : Nat → Int32) (tr' cr' g1' g2' : Int32), cl_R b f' q rl' ph' T' C' M' (upd RT r tr') (upd RC r cr') (upd rk r (cl_vl pl dl n 0).1) (upd rd r (cl_vl pl dl n 0).2) ck cd dk' dd' ∧
        cl_dE pl dl n dk' dd' dk0 dd0 ∧
        ∀ (post : Int32 → SX → Prop) (w : Nat) (cl se : Nat → Int64), m + 1 ≤ w → post (nI (cl_n dl n)) (nI b, nI f', nI q, g1', g2', T', C', M', upd RT r tr', upd RC r cr', cl, se) →
          wX_delete_57 post (nI r) v2 (nI n) w (nI (cl_n dl i)) x5 x6 x7 (nI i) (nI b) (nI f) (nI q) g1 g2 T C M (upd RT r tr) (upd RC r cr) cl se := by
  intro m
  induction m with
  | zero =>
    intro i f e rl ph T C M dk dd tr cr kr dr x5 x6 x7 g1 g2 hm R hf he Hu Ho Hl ha
    obtain rfl : i = n := by omega
    obtain ⟨f', rl', ph', T', C', M', dk', dd', tr', cr', g1', g2', J1, J2, J3⟩ := cl_del0 (x7 := x7) (v2 := v2) (g1 := g1) (g2 := g2) hr hn hpl hne hlast R (by omega) he Ho Hl
    refine ⟨f', rl', ph', T', C', M', dk', dd', tr', cr', g1', g2', J1, J2, fun post w cl se hw hp => ?_⟩
    obtain ⟨w', rfl⟩ : ∃ w', w = w' + 1 := ⟨w - 1, by omega⟩
    exact J3 post w' cl se hp
  | succ m ih =>
    intro i f e rl ph T C M dk dd tr cr kr dr x5 x6 x7 g1 g2 hm R hf he Hu Ho Hl ha
    have hin : i < n := by omega
    obtain ⟨a, a1, a2⟩ := ha hin
    obtain ⟨p1, p2⟩ := hpl i hin
    have hra : rl a < 32 := by rw [a2]; exact p1
    have G := R.2.2.2.2.2.1
    obtain ⟨t, c, hvc, hW⟩ := cx_gotCdr G (cl_R_al R) hra (fun _ => rfl)
    have hvr := (G.2.2 _ hra (G.2.1 a hra).1).1
    rw [a2] at hvc hvr
    obtain ⟨u1, u2⟩ := Hu i (Nat.le_refl _) hin
    rw [u1, u2] at hvc
    have hnext : ∀ rl' : Nat → Nat, (∀ x, rl x < 32 → rl' x = rl x) → (i + 1 < n → ∃ a, c = nI a ∧ rl' a = pl (i + 1)) := fun rl' hm' hi => by
      obtain ⟨y1, y2⟩ := hnx i hi
      obtain ⟨a', b1, b2, b3⟩ := cl_V_pair hvc y1
      rw [y2, nI_eq (by have := (hpl (i + 1) hi).1; omega) (by omega)] at b3
      exact ⟨a', b1, by rw [hm' a' b2]; exact b3.symm⟩
    have hpre : ∀ (post : Int32 → SX → Prop) (w : Nat) (cl se : Nat → Int64),
        ((T (ph (pl i)) = 1 → ((C (ph (pl i)) = v2 → wX_delete_57 post (nI r) v2 (nI n) w (nI (cl_n dl i) + 1) x5 1 c (nI (i + 1)) (nI b) (nI f) (nI q) (T (ph (pl i))) (C (ph (pl i))) T C M (upd RT r tr) (upd RC r cr) cl se) ∧
          (¬ C (ph (pl i)) = v2 → wX_delete_106 post (wX_delete_57 post (nI r) v2 (nI n) w) (nI r) v2 (nI n) (nI (cl_n dl i)) x5 x6 (nI a) (nI i) c (nI b) (nI f) (nI q) (T (ph (pl i))) (C (ph (pl i))) T C M (upd RT r tr) (upd RC r cr) cl se))) ∧
         (¬ T (ph (pl i)) = 1 → wX_delete_106 post (wX_delete_57 post (nI r) v2 (nI n) w) (nI r) v2 (nI n) (nI (cl_n dl i)) x5 x6 (nI a) (nI i) c (nI b) (nI f) (nI q) (T (ph (pl i))) (C (ph (pl i))) T C M (upd RT r tr) (upd RC r cr) cl se)) →
        wX_delete_57 post (nI r) v2 (nI n) (w + 1) (nI (cl_n dl i)) x5 x6 x7 (nI i) (nI b) (nI f) (nI q) g1 g2 T C M (upd RT r tr) (upd RC r cr) cl se := by
      intro post w cl se K
      refine br_f (nI_ge (by omega) (by omega)) ?_
      rw [a1]
      refine hW _ _ _ _ _ _ _ _ _ _ ?_
      dsimp only
      refine cx_gotCar G (cl_R_al R) hra ?_
      dsimp only
      rw [a2]
      exact br_c (fun h1 => br_c (fun h2 => nm_e (nm_r (nI_1 i) ((K.1 h1).1 h2))) (fun h2 => (K.1 h1).2 h2)) (fun h1 => K.2 h1)
    by_cases hd : dl i = true
    · obtain ⟨d1, d2⟩ := (hdl i hin).mp hd
      have ht : T (ph (pl i)) = 1 := by rw [hvr.1]; exact d1
      have hc : C (ph (pl i)) = v2 := by rw [cl_V_num hvr d1]; exact d2
      obtain ⟨f', rl', ph', T', C', M', dk', dd', tr', cr', g1', g2', J1, J2, J3⟩ := ih (i + 1) f 2 rl ph T C M dk dd tr cr kr dr x5 1 c (T (ph (pl i))) (C (ph (pl i))) (by omega) R (by omega) (Or.inr ⟨rfl, rfl⟩) (fun s h1 h2 => Hu s (by omega) h2) Ho
        (by
          rcases Hl with ⟨l1, l2, l3, l4⟩ | ⟨l, al, l1, l2, l3, l4, l5, l6, l7, l8, l9⟩
          · refine Or.inl ⟨l1, l2, l3, fun s hs => ?_⟩
            by_cases e : s = i
            · rw [e]; exact hd
            · exact l4 s (by omega)
          · refine Or.inr ⟨l, al, by omega, l2, l3, l4, l5, l6, fun s h1 h2 => ?_, fun h => absurd h (by decide), l9⟩
            by_cases e : s = i
            · rw [e]; exact hd
            · exact l7 s h1 (by omega)) (hnext rl (fun _ _ => rfl))
      refine ⟨f', rl', ph', T', C', M', dk', dd', tr', cr', g1', g2', J1, J2, fun post w cl se hw hp => ?_⟩
      obtain ⟨w', rfl⟩ : ∃ w', w = w' + 1 := ⟨w - 1, by omega⟩
      have K := J3 post w' cl se (by omega) hp
      rw [cl_n_s, if_pos hd, ← nI_1] at K
      exact hpre post w' cl se (br_t ht (br_t hc K))
    · have hcn : cl_n dl (i + 1) = cl_n dl i := by rw [cl_n_s, if_neg hd, Nat.add_zero]
      have hvi : cl_vl pl dl n i = (2, nI (pl i)) := cl_vl_k hin hd
      have hno : ¬ (T (ph (pl i)) = 1 ∧ C (ph (pl i)) = v2) := fun h => hd ((hdl i hin).mpr (by
        have d1 : ck (pl i) = 1 := by rw [← hvr.1]; exact h.1
        exact ⟨d1, by rw [← cl_V_num hvr d1]; exact h.2⟩))
      have hpre2 : ∀ (post : Int32 → SX → Prop) (w : Nat) (cl se : Nat → Int64), wX_delete_106 post (wX_delete_57 post (nI r) v2 (nI n) w) (nI r) v2 (nI n) (nI (cl_n dl i)) x5 x6 (nI a) (nI i) c (nI b) (nI f) (nI q) (T (ph (pl i))) (C (ph (pl i))) T C M (upd RT r tr) (upd RC r cr) cl se →
          wX_delete_57 post (nI r) v2 (nI n) (w + 1) (nI (cl_n dl i)) x5 x6 x7 (nI i) (nI b) (nI f) (nI q) g1 g2 T C M (upd RT r tr) (upd RC r cr) cl se := by
        intro post w cl se K
        exact hpre post w cl se (br_c (fun h1 => br_f (fun h2 => hno ⟨h1, h2⟩) K) (fun _ => K))
      rcases Hl with ⟨l1, l2, l3, l4⟩ | ⟨l, al, l1, l2, l3, l4, l5, l6, l7, l8, l9, l10, l11⟩
      · have e0 : cl_vl pl dl n 0 = (2, nI (pl i)) := by rw [cl_vl_to (Nat.zero_le i) (by omega) (fun s _ h => l4 s h), hvi]
        have R' := cl_R_reg (r := r) R (cl_V_p p1 a2)
        rw [cl_upd2, cl_upd2, cl_upd2, cl_upd2] at R'
        obtain ⟨f', rl', ph', T', C', M', dk', dd', tr', cr', g1', g2', J1, J2, J3⟩ := ih (i + 1) f 0 rl ph T C M dk dd 2 (nI a) 2 (nI (pl i)) (nI a) 0 c (T (ph (pl i))) (C (ph (pl i))) (by omega) R' (by omega) (Or.inl ⟨rfl, rfl⟩) (fun s h1 h2 => Hu s (by omega) h2) Ho
          (Or.inr ⟨i, a, by omega, hd, rfl, a2, by rw [e0], by rw [e0], fun s h1 h2 => by omega, fun _ => rfl, u1, u2, fun s hs h => absurd (l4 s hs) h⟩) (hnext rl (fun _ _ => rfl))
        refine ⟨f', rl', ph', T', C', M', dk', dd', tr', cr', g1', g2', J1, J2, fun post w cl se hw hp => ?_⟩
        obtain ⟨w', rfl⟩ : ∃ w', w = w' + 1 := ⟨w - 1, by omega⟩
        have K := J3 post w' cl se (by omega) hp
        rw [hcn] at K
        refine hpre2 post w' cl se ?_
        unfold wX_delete_106 wpX_join
        dsimp only
        refine br_f (by rw [l1]; decide) (cx_setReg hr ?_)
        rw [cl_upd2, cl_upd2]
        exact nm_r (nI_1 i) K
      · obtain ⟨pl1, pl2⟩ := hpl l (by omega)
        have hral : rl al < 32 := by rw [l4]; exact pl1
        have hal3 := cl_R_al R al (G.1 al hral)
        have evl : cl_vl pl dl n (l + 1) = (2, nI (pl i)) := by rw [cl_vl_to (by omega) (by omega) l7, hvi]
        have h5 : (0 : Int32) ≤ x5 := by rw [l3]; exact nI_pos' (by omega)
        rcases he with ⟨h6, he0⟩ | ⟨h6, he2⟩
        · have hil := l8 h6
          obtain ⟨f', rl', ph', T', C', M', dk', dd', tr', cr', g1', g2', J1, J2, J3⟩ := ih (i + 1) f 0 rl ph T C M dk dd tr cr kr dr (nI a) 0 c (T (ph (pl i))) (C (ph (pl i))) (by omega) R (by omega) (Or.inl ⟨rfl, rfl⟩) (fun s h1 h2 => Hu s (by omega) h2) Ho
            (Or.inr ⟨i, a, by omega, hd, rfl, a2, l5, l6, fun s h1 h2 => by omega, fun _ => rfl, u1, u2, fun s hs h => by
              by_cases e : s = l
              · obtain ⟨y1, y2⟩ := hnx l (by omega)
                rw [e, evl, l9, l10, hil]
                exact ⟨y1, y2⟩
              · exact l11 s (by omega) h⟩) (hnext rl (fun _ _ => rfl))
          refine ⟨f', rl', ph', T', C', M', dk', dd', tr', cr', g1', g2', J1, J2, fun post w cl se hw hp => ?_⟩
          obtain ⟨w', rfl⟩ : ∃ w', w = w' + 1 := ⟨w - 1, by omega⟩
          have K := J3 post w' cl se (by omega) hp
          rw [hcn] at K
          refine hpre2 post w' cl se ?_
          unfold wX_delete_106 wpX_join
          dsimp only
          exact br_t h5 (br_t h6 (nm_r (nI_1 i) K))
        · obtain ⟨f1, rl1, ph1, T1, C1, M1, hf1, R1, hm1, hW1⟩ := cl_R_change (t := 2) (c := nI a) (k := 2) (d := nI (pl i)) R (by omega) hral (cl_V_p p1 a2)
          rw [l4] at R1
          obtain ⟨f', rl', ph', T', C', M', dk', dd', tr', cr', g1', g2', J1, J2, J3⟩ := ih (i + 1) f1 0 rl1 ph1 T1 C1 M1 _ _ tr cr kr dr (nI a) 0 c (T (ph (pl i))) (C (ph (pl i))) (by omega) R1 (by omega) (Or.inl ⟨rfl, rfl⟩)
            (fun s h1 h2 => by
              have hne' := (hne l s (by omega) h2).symm
              rw [pk_un hne', pk_un hne']; exact Hu s (by omega) h2)
            (fun p hp => by
              have hne' : p ≠ pl l := fun e => hp l (by omega) l2 e.symm
              rw [pk_un hne', pk_un hne']; exact Ho p hp)
            (Or.inr ⟨i, a, by omega, hd, rfl, by rw [hm1 a hra]; exact a2, l5, l6, fun s h1 h2 => by omega, fun _ => rfl, by
              have hne' := (hne l i l1 hin).symm
              rw [pk_un hne']; exact u1, by
              have hne' := (hne l i l1 hin).symm
              rw [pk_un hne']; exact u2, fun s hs h => by
              by_cases e : s = l
              · rw [e, evl, pk_us, pk_us]
                exact ⟨rfl, rfl⟩
              · rcases Nat.lt_or_ge s l with h' | h'
                · have hne' := hne s l h' (by omega)
                  rw [pk_un hne', pk_un hne']
                  exact l11 s h' h
                · exact absurd (l7 s (by omega) hs) h⟩) (hnext rl1 hm1)
          refine ⟨f', rl', ph', T', C', M', dk', dd', tr', cr', g1', g2', J1, J2, fun post w cl se hw hp => ?_⟩
          obtain ⟨w', rfl⟩ : ∃ w', w = w' + 1 := ⟨w - 1, by omega⟩
          have K := J3 post w' cl se (by omega) hp
          rw [hcn] at K
          refine hpre2 post w' cl se ?_
          unfold wX_delete_106 wpX_join
          dsimp only
          refine br_t h5 (br_f (by rw [h6]; decide) ?_)
          rw [l3]
          refine hW1 _ _ _ _ _ _ ?_
          exact nm_r (nI_1 i) K
end
end
section
/-! ===== delete: the reference, both sides ===== -/
section
variable {rk rd ck cd dk0 dd0 sp : Nat → Int32} {pl : Nat → Nat} {dl : Nat → Bool} {n r : Nat} {v2 : Int32}
theorem cy_del (hr : r < 8) (hn : n ≤ 32) (hpl : ∀ s, s < n → pl s < 32 ∧ sp s = nI (pl s)) (hne : ∀ s t, s < t → t < n → pl s ≠ pl t) (hdl : ∀ s, s < n → (dl s = true ↔ (ck (pl s) = 1 ∧ cd (pl s) = v2))) :
    ∀ (i : Nat) (dk dd : Nat → Int32), i ≤ n → (∀ s, i ≤ s → s < n → ¬ dl s = true → dk (pl s) = (cl_vl pl dl n (s + 1)).1 ∧ dd (pl s) = (cl_vl pl dl n (s + 1)).2) →
      (∀ p, (∀ s, i ≤ s → s < n → ¬ dl s = true → pl s ≠ p) → dk p = dk0 p ∧ dd p = dd0 p) →
      ∃ dk' dd' : Nat → Int32, (∀ s, s < n → ¬ dl s = true → dk' (pl s) = (cl_vl pl dl n (s + 1)).1 ∧ dd' (pl s) = (cl_vl pl dl n (s + 1)).2) ∧
        (∀ p, (∀ s, s < n → ¬ dl s = true → pl s ≠ p) → dk' p = dk0 p ∧ dd' p = dd0 p) ∧
        ∀ (post : Int32 → SY → Prop) (w : Nat) (sl ek : Int32) (tk df : Nat → Int32), i + 1 ≤ w → post (nI (cl_n dl n)) (sl, ek, upd rk r (cl_vl pl dl n 0).1, upd rd r (cl_vl pl dl n 0).2, ck, cd, dk', dd', tk, df, sp) →
          wY_delete_37 post (nI r) v2 sl ek w (cl_vl pl dl n i).1 (cl_vl pl dl n i).2 (nI (cl_n dl n - cl_n dl i)) (nI i + (-1)) rk rd ck cd dk dd tk df sp := by
  intro i
  induction i with
  | zero =>
    intro dk dd hi h1 h2
    refine ⟨dk, dd, fun s hs h => h1 s (Nat.zero_le _) hs h, fun p hp => h2 p (fun s _ hs h => hp s hs h), fun post w sl ek tk df hw hp => ?_⟩
    obtain ⟨w', rfl⟩ : ∃ w', w = w' + 1 := ⟨w - 1, by omega⟩
    exact br_t (by decide) (cy_set hr hp)
  | succ i ih =>
    intro dk dd hi h1 h2
    have hin : i < n := by omega
    have h32 : i < 32 := by omega
    have hi32 := vp_in_nI h32 (show 32 < 2 ^ 31 by decide)
    obtain ⟨p1, p2⟩ := hpl i hin
    have hip := vp_in_nI p1 (show 32 < 2 ^ 31 by decide)
    have hup : cl_n dl (i + 1) ≤ cl_n dl n := by
      have := cl_n_up (S := dl) (i := i + 1) (n - (i + 1))
      rw [show i + 1 + (n - (i + 1)) = n by omega] at this
      exact this
    by_cases hd : dl i = true
    · obtain ⟨d1, d2⟩ := (hdl i hin).mp hd
      have hcn : cl_n dl (i + 1) = cl_n dl i + 1 := by rw [cl_n_s, if_pos hd]
      obtain ⟨dk', dd', J1, J2, J3⟩ := ih dk dd (by omega) (fun s h3 h4 h5 => by
        by_cases e : s = i
        · rw [e] at h5; exact absurd hd h5
        · exact h1 s (by omega) h4 h5) (fun p hp => h2 p (fun s h3 h4 h5 => hp s (by omega) h4 h5))
      refine ⟨dk', dd', J1, J2, fun post w sl ek tk df hw hp => ?_⟩
      obtain ⟨w', rfl⟩ : ∃ w', w = w' + 1 := ⟨w - 1, by omega⟩
      have K := J3 post w' sl ek tk df (by omega) hp
      rw [cl_vl_d hin hd] at K
      rw [pk_m1]
      refine br_f (nI_pos (by omega)) ⟨hi32, ?_⟩
      rw [cx_cl32 h32, p2]
      refine nm_e ?_
      unfold wpY_goes
      dsimp only
      rw [cx_cl32 p1]
      refine ⟨hip, br_t d1 ⟨hip, br_t d2 (br_f (by decide) (nm_r (e' := nI (cl_n dl n - cl_n dl i)) ?_ (nm_e K)))⟩⟩
      rw [nI_1]
      congr 1
      omega
    · have hcn : cl_n dl (i + 1) = cl_n dl i := by rw [cl_n_s, if_neg hd, Nat.add_zero]
      obtain ⟨dk', dd', J1, J2, J3⟩ := ih (upd dk (pl i) (cl_vl pl dl n (i + 1)).1) (upd dd (pl i) (cl_vl pl dl n (i + 1)).2) (by omega) (fun s h3 h4 h5 => by
        by_cases e : s = i
        · rw [e, pk_us, pk_us]; exact ⟨rfl, rfl⟩
        · have hne' := (hne i s (by omega) h4).symm
          rw [pk_un hne', pk_un hne']
          exact h1 s (by omega) h4 h5) (fun p hp => by
        have hne' : p ≠ pl i := fun e => hp i (Nat.le_refl _) hin hd e.symm
        rw [pk_un hne', pk_un hne']
        exact h2 p (fun s h3 h4 h5 => hp s (by omega) h4 h5))
      refine ⟨dk', dd', J1, J2, fun post w sl ek tk df hw hp => ?_⟩
      obtain ⟨w', rfl⟩ : ∃ w', w = w' + 1 := ⟨w - 1, by omega⟩
      have K := J3 post w' sl ek tk df (by omega) hp
      rw [cl_vl_k hin hd] at K
      rw [pk_m1, hcn]
      refine br_f (nI_pos (by omega)) ⟨hi32, ?_⟩
      rw [cx_cl32 h32, p2]
      refine nm_e ?_
      unfold wpY_goes
      dsimp only
      rw [cx_cl32 p1]
      have K' := br_t (c := (0 : Int32) = 0) (B := (∀ x5_61 : Int32, x5_61 = nI (cl_n dl n - cl_n dl i) + 1 → ∀ x6_62 : Int32, x6_62 = nI i + (-1) → wY_delete_37 post (nI r) v2 sl ek w' (cl_vl pl dl n (i + 1)).1 (cl_vl pl dl n (i + 1)).2 x5_61 x6_62 rk rd ck cd dk dd tk df sp)) rfl
        (show vp_in (nI (pl i)) 32 ∧ ∀ a : Nat → Int32, a = upd dk (pl i) (cl_vl pl dl n (i + 1)).1 → (vp_in (nI (pl i)) 32 ∧ ∀ a' : Nat → Int32, a' = upd dd (pl i) (cl_vl pl dl n (i + 1)).2 → ∀ x6 : Int32, x6 = nI i + (-1) → wY_delete_37 post (nI r) v2 sl ek w' 2 (nI (pl i)) (nI (cl_n dl n - cl_n dl i)) x6 rk rd ck cd a a' tk df sp) from ⟨hip, nm_e ⟨hip, nm_e (nm_e K)⟩⟩)
      refine ⟨hip, br_c (fun h1 => ⟨hip, br_f (fun h2 => hd ((hdl i hin).mpr ⟨h1, h2⟩)) K'⟩) (fun _ => K')⟩
end
theorem i_vc_delete {k : Nat} {u : SX} {v : SY} (I : i_Rel k u v) (hk : k + 5 ≤ 2560) (v1 : Int32) (v2 : Int32) : wpX_delete (fun r u' => wpY_delete (fun r' v' => r' = r ∧ i_Rel (k + 5) u' v') v v1 v2) u v1 v2 := by
  refine cl_el (P := fun u v => wpX_delete (fun r u' => wpY_delete (fun r' v' => r' = r ∧ i_Rel (k + 5) u' v') v v1 v2) u v1 v2) ?_ I
  intro b f q rl ph g1 g2 T C M RT RC cl se sl ek rk rd ck cd dk dd tk df sp R
  unfold wpX_delete wpY_delete
  dsimp only
  rcases cx_reg v1 with ⟨r, hr, rfl⟩ | ⟨hX, hY⟩
  · have hin := vp_in_nI hr (show 8 < 2 ^ 31 by decide)
    rw [cx_cl8 hr]
    rcases cl_proper g1 g2 sl ek tk df sp R hr with ⟨n, n1, n2, n3, g1', g2', sp', s1, wX, wY⟩ | ⟨g1', g2', sl', ek', sp', wX, wY⟩
    · by_cases hn0 : n = 0
      · subst hn0
        refine cx_ok hr (br_t rfl (wX _ cl se (br_f (by decide) ?_)))
        refine cy_ok hr (br_f (by decide) (wY _ (br_f (by decide) (nm_e ⟨1, br_t (show (nI 0 - 1 : Int32) < 0 by decide) (cy_set hr ⟨rfl, ?_⟩)⟩))))
        have e : rk r = 0 := n3
        have hv := R.2.2.2.2.2.2.1 r hr
        have ht : RT r = 0 := by rw [hv.1]; exact e
        have R' := cl_R_reg (r := r) (t := RT r) (c := RC r) (k := 0) (d := 0) R (by rw [ht]; exact cl_V_nil)
        rw [cl_upd_self RT r rfl, cl_upd_self RC r rfl] at R'
        exact cl_in R'
      · obtain ⟨pl, p1, p2, p3, p4, p5⟩ := cl_sp R.2.2.2.2.2.2.2 (cl_R_regs R r hr) n2 n3 s1
        obtain ⟨b2, f2, q2, rl2, ph2, T2, C2, M2, RC2, g12, g22, R2, hf2, hq2, wN⟩ := cx_need g1' g2' R (c := 2 * n) (by omega)
        obtain ⟨y1, y2⟩ := p5 (by omega)
        obtain ⟨a, a1, a2, a3⟩ := cl_V_pair (R2.2.2.2.2.2.2.1 r hr) y1
        have R3 := cl_R_reg (r := r) R2 (cl_V_nil (c := 0) (d := 0))
        have hdl : ∀ s, s < n → ((fun s => decide (ck (pl s) = 1 ∧ cd (pl s) = v2)) s = true ↔ (ck (pl s) = 1 ∧ cd (pl s) = v2)) := fun s _ => by rw [decide_eq_true_eq]
        obtain ⟨f', rl', ph', T', C', M', dk', dd', tr', cr', g1'', g2'', J1, ⟨J2, J2'⟩, J3⟩ := cl_del (dk0 := dk) (dd0 := dd) hr n1 p1 p2 p3 p4 hdl n 0 f2 0 rl2 ph2 T2 C2 M2 dk dd 0 0 0 0 (-1) 0 (RC2 r) g12 g22 (by omega) R3 (by omega) (Or.inl ⟨rfl, rfl⟩) (fun s _ _ => ⟨rfl, rfl⟩) (fun p _ => ⟨rfl, rfl⟩)
          (Or.inl ⟨rfl, rfl, rfl, fun s hs => by omega⟩) (fun h => ⟨a, a1, by
          rw [y2, nI_eq (by have := (p1 0 h).1; omega) (by omega)] at a3
          exact a3.symm⟩)
        obtain ⟨dkY, ddY, K1, K2, K3⟩ := cy_del (dk0 := dk) (dd0 := dd) (rk := rk) (rd := rd) hr n1 p1 p2 hdl n dk dd (Nat.le_refl _) (fun s h1 h2 => by omega) (fun p _ => ⟨rfl, rfl⟩)
        refine cx_ok hr (br_t rfl (wX _ cl se (br_t (nI_le (a := 1) (b := n) (by omega) (by omega)) ?_)))
        rw [show (2 : Int32) * nI n = nI (2 * n) from pk_mul 2 n]
        refine wN _ cl se ⟨hin, nm_e (cx_setReg hr ⟨n + 1, J3 _ (n + 1) cl se (by omega) ?_⟩)⟩
        have hx6 : nI n - 1 = nI n + (-1) := by
          obtain ⟨z, rfl⟩ : ∃ z, n = z + 1 := ⟨n - 1, by omega⟩
          rw [pk_m1, nI_pred]
        refine cy_ok hr (br_f (by decide) (wY _ (br_f (by decide) (nm_r hx6 ⟨n + 1, ?_⟩))))
        have K := K3 (fun r' v' => r' = nI (cl_n (fun s => decide (ck (pl s) = 1 ∧ cd (pl s) = v2)) n) ∧ i_Rel (k + 5) (nI b2, nI f', nI q2, g1'', g2'', T', C', M', upd RT r tr', upd RC2 r cr', cl, se) v') (n + 1) (nI n) 0 tk df (by omega) ⟨rfl, cl_in (cl_R_dd J1 (fun p hp => ?_))⟩
        · rw [cl_vl_n, Nat.sub_self] at K
          exact K
        · by_cases h : ∃ s, s < n ∧ ¬ (fun s => decide (ck (pl s) = 1 ∧ cd (pl s) = v2)) s = true ∧ pl s = p
          · obtain ⟨s, h1, h2, rfl⟩ := h
            obtain ⟨x1, x2⟩ := J2 s h1 h2
            obtain ⟨z1, z2⟩ := K1 s h1 h2
            rw [x1, z1, z2]
            exact ⟨rfl, fun h => (x2 h).symm⟩
          · have h' : ∀ s, s < n → ¬ (fun s => decide (ck (pl s) = 1 ∧ cd (pl s) = v2)) s = true → pl s ≠ p := fun s h1 h2 e => h ⟨s, h1, h2, e⟩
            obtain ⟨x1, x2⟩ := J2' p h'
            obtain ⟨z1, z2⟩ := K2 p h'
            rw [x1, x2, z1, z2]
            exact ⟨rfl, fun _ => rfl⟩
    · refine cx_ok hr (br_t rfl (wX _ cl se (br_f (by decide) ?_)))
      exact cy_ok hr (br_f (by decide) (wY _ (br_t rfl ⟨rfl, cl_in R⟩)))
  · exact hX _ _ (br_f (by decide) (hY _ _ (br_t rfl ⟨rfl, cl_in R⟩)))
end
section
/-! ===== alike, the reference: the least set of pairs of places that look different ===== -/
/-- two values look different as far as the set E of pairs of places shows -/
def cl_df (E : Nat → Prop) (k d k' d' : Int32) : Prop := k ≠ k' ∨ (k = 1 ∧ d ≠ d') ∨ (k = 2 ∧ E (d.toNatClampNeg * 32 + d'.toNatClampNeg))
/-- the cars or the cdrs of p and x look different -/
def cl_da (E : Nat → Prop) (ck cd dk dd : Nat → Int32) (p x : Nat) : Prop := cl_df E (ck p) (cd p) (ck x) (cd x) ∨ cl_df E (dk p) (dd p) (dk x) (dd x)
def cl_dc (E : Nat → Prop) (ck cd dk dd : Nat → Int32) : Prop := ∀ p x, p < 32 → x < 32 → cl_da E ck cd dk dd p x → E (p * 32 + x)
def cl_De (ck cd dk dd : Nat → Int32) (i : Nat) : Prop := ∀ E : Nat → Prop, cl_dc E ck cd dk dd → E i
section
variable {sl ek : Int32} {rk rd ck cd dk dd tk df df0 sp : Nat → Int32} {E E' Re : Nat → Prop} {x1 k d k' d' : Int32} {Q Q' : Prop}
theorem cl_df_mono (h : ∀ i, E i → E' i) (hd : cl_df E k d k' d') : cl_df E' k d k' d' := by
  rcases hd with h1 | h1 | ⟨h1, h2⟩
  · exact Or.inl h1
  · exact Or.inr (Or.inl h1)
  · exact Or.inr (Or.inr ⟨h1, h _ h2⟩)
theorem cl_da_mono {p x : Nat} (h : ∀ i, E i → E' i) (hd : cl_da E ck cd dk dd p x) : cl_da E' ck cd dk dd p x := by
  rcases hd with h1 | h1
  · exact Or.inl (cl_df_mono h h1)
  · exact Or.inr (cl_df_mono h h1)
theorem cl_De_c (ck cd dk dd : Nat → Int32) : cl_dc (cl_De ck cd dk dd) ck cd dk dd := fun p x hp hx h E hE => hE p x hp hx (cl_da_mono (fun i hi => hi E hE) h)
theorem cy_ix {x y : Nat} : nI x * 32 + nI y = nI (x * 32 + y) := by
  show nI x * nI 32 + nI y = _
  rw [pk_mul, nI_add]
theorem cx_cl1k {a : Nat} (h : a < 1024) : (nI a).toNatClampNeg = a := nI_clamp (by omega)
theorem cy_differs {post : Int32 → Prop} (h1 : k = 2 → ∃ x, x < 32 ∧ d = nI x) (h2 : k' = 2 → ∃ x, x < 32 ∧ d' = nI x)
    (p1 : cl_df (fun i => df i ≠ 0) k d k' d' → post 1) (p0 : ¬ cl_df (fun i => df i ≠ 0) k d k' d' → post 0) : wpY_differs post (sl, ek, rk, rd, ck, cd, dk, dd, tk, df, sp) k d k' d' := by
  unfold wpY_differs
  dsimp only
  refine br_c (fun e => ?_) (fun e => p1 (Or.inl e))
  refine br_c (fun ek => br_c (fun ed => p0 ?_) (fun ed => p1 (Or.inr (Or.inl ⟨ek, ed⟩)))) (fun ek => br_c (fun ek2 => ?_) (fun ek2 => p0 ?_))
  · rintro (h | ⟨_, h⟩ | ⟨h, _⟩)
    · exact h e
    · exact h ed
    · rw [ek] at h; exact absurd h (by decide)
  · obtain ⟨x, hx, ex⟩ := h1 ek2
    obtain ⟨y, hy, ey⟩ := h2 (by rw [← e]; exact ek2)
    have hlt : x * 32 + y < 1024 := by omega
    have e1 : d.toNatClampNeg = x := by rw [ex]; exact cx_cl32 hx
    have e2 : d'.toNatClampNeg = y := by rw [ey]; exact cx_cl32 hy
    rw [ex, ey, cy_ix, cx_cl1k hlt]
    refine ⟨vp_in_nI hlt (by decide), br_c (fun hz => p0 ?_) (fun hz => p1 (Or.inr (Or.inr ⟨ek2, ?_⟩)))⟩
    · rintro (h | ⟨h, _⟩ | ⟨_, h⟩)
      · exact h e
      · exact ek h
      · rw [e1, e2] at h; exact h hz
    · rw [e1, e2]; exact hz
  · rintro (h | ⟨h, _⟩ | ⟨h, _⟩)
    · exact h e
    · exact ek h
    · exact ek2 h
/-- a pass over the pairs of places -/
def cl_W (df0 df : Nat → Int32) (x1 : Int32) (Re : Nat → Prop) (Q : Prop) : Prop :=
  (∀ i, df i ≠ 0 → i < 1024 → Re i) ∧ ((x1 = 0 ∧ df = df0 ∧ Q) ∨ (x1 = 1 ∧ (∀ i, df0 i ≠ 0 → df i ≠ 0) ∧ cl_n (cl_T df0) 1024 < cl_n (cl_T df) 1024))
theorem cl_W_q (h : cl_W df0 df x1 Re Q) (hq : df = df0 → Q → Q') : cl_W df0 df x1 Re Q' := by
  obtain ⟨h1, ⟨h2, h3, h4⟩ | h2⟩ := h
  · exact ⟨h1, Or.inl ⟨h2, h3, hq h3 h4⟩⟩
  · exact ⟨h1, Or.inr h2⟩
theorem cl_W_mark {y : Nat} (h : cl_W df0 df x1 Re Q) (hy : y < 1024) (h0 : df y = 0) (hR : Re y) : cl_W df0 (upd df y 1) 1 Re Q' := by
  have hsub : ∀ i, df i ≠ 0 → upd df y 1 i ≠ 0 := fun i hi => by
    by_cases e : i = y
    · rw [e, pk_us]; decide
    · rw [pk_un e]; exact hi
  have hlt : cl_n (cl_T df) 1024 < cl_n (cl_T (upd df y 1)) 1024 :=
    cl_n_lt 1024 (fun i hi hs => cl_T_t.mpr (hsub i (cl_T_t.mp hs))) y hy (fun h => cl_T_t.mp h h0) (cl_T_t.mpr (by rw [pk_us]; decide))
  refine ⟨fun i hn hi => ?_, Or.inr ⟨rfl, ?_, ?_⟩⟩
  · by_cases e : i = y
    · rw [e]; exact hR
    · rw [pk_un e] at hn; exact h.1 i hn hi
  · intro i hn
    rcases h.2 with ⟨_, e, _⟩ | ⟨_, h2, _⟩
    · rw [e] at hsub ⊢; exact hsub i hn
    · exact hsub i (h2 i hn)
  · rcases h.2 with ⟨_, e, _⟩ | ⟨_, _, h3⟩
    · rw [← e]; exact hlt
    · omega
/-- df is closed at the pairs of places ahead of i -/
def cl_db (df ck cd dk dd : Nat → Int32) (i : Nat) : Prop := ∀ p x, p < 32 → x < 32 → p * 32 + x < i → cl_da (fun i => df i ≠ 0) ck cd dk dd p x → df (p * 32 + x) ≠ 0
/-- df below 1024 alone -/
theorem cl_W_re (hY : ∀ p, p < 32 → (ck p = 2 → ∃ x, x < 32 ∧ cd p = nI x) ∧ (dk p = 2 → ∃ x, x < 32 ∧ dd p = nI x)) {p x : Nat} (hp : p < 32) (hx : x < 32)
    (h : ∀ i, df i ≠ 0 → i < 1024 → cl_De ck cd dk dd i) (hd : cl_da (fun i => df i ≠ 0) ck cd dk dd p x) : cl_De ck cd dk dd (p * 32 + x) := by
  refine cl_De_c ck cd dk dd p x hp hx ?_
  rcases hd with h1 | h1
  · rcases h1 with h2 | h2 | ⟨h2, h3⟩
    · exact Or.inl (Or.inl h2)
    · exact Or.inl (Or.inr (Or.inl h2))
    · by_cases e : ck p = ck x
      · obtain ⟨y, hy, e1⟩ := (hY p hp).1 h2
        obtain ⟨z, hz, e2⟩ := (hY x hx).1 (by rw [← e]; exact h2)
        refine Or.inl (Or.inr (Or.inr ⟨h2, h _ h3 ?_⟩))
        rw [e1, e2, cx_cl32 hy, cx_cl32 hz]; omega
      · exact Or.inl (Or.inl e)
  · rcases h1 with h2 | h2 | ⟨h2, h3⟩
    · exact Or.inr (Or.inl h2)
    · exact Or.inr (Or.inr (Or.inl h2))
    · by_cases e : dk p = dk x
      · obtain ⟨y, hy, e1⟩ := (hY p hp).2 h2
        obtain ⟨z, hz, e2⟩ := (hY x hx).2 (by rw [← e]; exact h2)
        refine Or.inr (Or.inr (Or.inr ⟨h2, h _ h3 ?_⟩))
        rw [e1, e2, cx_cl32 hy, cx_cl32 hz]; omega
      · exact Or.inr (Or.inl e)
theorem cy_dm12 (hY : ∀ p, p < 32 → (ck p = 2 → ∃ x, x < 32 ∧ cd p = nI x) ∧ (dk p = 2 → ∃ x, x < 32 ∧ dd p = nI x)) {p : Nat} (hp : p < 32) :
    ∀ (m x : Nat) (df : Nat → Int32) (x1 : Int32), x + m = 32 → cl_W df0 df x1 (cl_De ck cd dk dd) (cl_db df0 ck cd dk dd (p * 32 + x)) →
      ∃ (x1' : Int32) (df' : Nat → Int32), cl_W df0 df' x1' (cl_De ck cd dk dd) (cl_db df0 ck cd dk dd ((p + 1) * 32)) ∧
        ∀ (post : Int32 → SY → Prop) (J4 : Int32 → Int32 → (Nat → Int32) → (Nat → Int32) → (Nat → Int32) → (Nat → Int32) → (Nat → Int32) → (Nat → Int32) → (Nat → Int32) → (Nat → Int32) → (Nat → Int32) → Prop) (w : Nat) (sl ek : Int32) (rk rd tk sp : Nat → Int32), m + 1 ≤ w →
          J4 x1' (nI (p + 1)) rk rd ck cd dk dd tk df' sp → wY_differMore_12 post J4 (nI p) sl ek w x1 (nI x) rk rd ck cd dk dd tk df sp := by
  intro m
  induction m with
  | zero =>
    intro x df x1 hm h
    obtain rfl : x = 32 := by omega
    refine ⟨x1, df, cl_W_q h (fun _ hq => by rw [show (p + 1) * 32 = p * 32 + 32 by omega]; exact hq), fun post J4 w sl ek rk rd tk sp hw K => ?_⟩
    obtain ⟨w', rfl⟩ : ∃ w', w = w' + 1 := ⟨w - 1, by omega⟩
    exact br_t (by decide) (nm_r (nI_1 p) K)
  | succ m ih =>
    intro x df x1 hm h
    have hx : x < 32 := by omega
    have hlt : p * 32 + x < 1024 := by omega
    have hip := vp_in_nI hp (show 32 < 2 ^ 31 by decide)
    have hix := vp_in_nI hx (show 32 < 2 ^ 31 by decide)
    have hii := vp_in_nI hlt (show 1024 < 2 ^ 31 by decide)
    have h32 := nI_ge (b := 32) hx (by decide)
    have nxt : (cl_da (fun i => df0 i ≠ 0) ck cd dk dd p x → df0 (p * 32 + x) ≠ 0) → cl_db df0 ck cd dk dd (p * 32 + x) → cl_db df0 ck cd dk dd (p * 32 + (x + 1)) := by
      intro h1 h2 p' x' hp' hx' hl hd
      by_cases e : p' * 32 + x' = p * 32 + x
      · have e1 : p' = p := by omega
        have e2 : x' = x := by omega
        rw [e1, e2] at hd ⊢; exact h1 hd
      · exact h2 p' x' hp' hx' (by omega) hd
    by_cases h0 : df (p * 32 + x) = 0
    · by_cases hda : cl_da (fun i => df i ≠ 0) ck cd dk dd p x
      · obtain ⟨x1', df', J1, J2⟩ := ih (x + 1) (upd df (p * 32 + x) 1) 1 (by omega) (cl_W_mark h hlt h0 (cl_W_re hY hp hx h.1 hda))
        refine ⟨x1', df', J1, fun post J4 w sl ek rk rd tk sp hw K => ?_⟩
        obtain ⟨w', rfl⟩ : ∃ w', w = w' + 1 := ⟨w - 1, by omega⟩
        have K94 : wY_differMore_94 post J4 (wY_differMore_12 post J4 (nI p) sl ek w') (nI p) (nI x) sl ek rk rd ck cd dk dd tk df sp := by
          unfold wY_differMore_94
          rw [cy_ix, cx_cl1k hlt]
          exact ⟨hii, nm_e (nm_r (nI_1 x) (J2 post J4 w' sl ek rk rd tk sp (by omega) K))⟩
        refine br_f h32 ?_
        rw [cy_ix, cx_cl1k hlt, cx_cl32 hp, cx_cl32 hx]
        refine ⟨hii, br_t h0 ⟨hip, hip, hix, hix, cy_differs (hY p hp).1 (hY x hx).1 (fun _ => br_f (by decide) K94) (fun hn => br_t rfl ⟨hip, hip, hix, hix, cy_differs (hY p hp).2 (hY x hx).2 (fun _ => br_f (by decide) K94) (fun hn2 => ?_)⟩)⟩⟩
        rcases hda with h1 | h1
        · exact absurd h1 hn
        · exact absurd h1 hn2
      · obtain ⟨x1', df', J1, J2⟩ := ih (x + 1) df x1 (by omega) (cl_W_q h (fun e hq => nxt (fun hd => absurd (by rw [e]; exact hd) hda) hq))
        refine ⟨x1', df', J1, fun post J4 w sl ek rk rd tk sp hw K => ?_⟩
        obtain ⟨w', rfl⟩ : ∃ w', w = w' + 1 := ⟨w - 1, by omega⟩
        refine br_f h32 ?_
        rw [cy_ix, cx_cl1k hlt, cx_cl32 hp, cx_cl32 hx]
        exact ⟨hii, br_t h0 ⟨hip, hip, hix, hix, cy_differs (hY p hp).1 (hY x hx).1 (fun hh => absurd (Or.inl hh) hda) (fun hn => br_t rfl ⟨hip, hip, hix, hix, cy_differs (hY p hp).2 (hY x hx).2 (fun hh => absurd (Or.inr hh) hda) (fun hn2 => br_t rfl (nm_r (nI_1 x) (J2 post J4 w' sl ek rk rd tk sp (by omega) K)))⟩)⟩⟩
    · obtain ⟨x1', df', J1, J2⟩ := ih (x + 1) df x1 (by omega) (cl_W_q h (fun e hq => nxt (fun _ => by rw [← e]; exact h0) hq))
      refine ⟨x1', df', J1, fun post J4 w sl ek rk rd tk sp hw K => ?_⟩
      obtain ⟨w', rfl⟩ : ∃ w', w = w' + 1 := ⟨w - 1, by omega⟩
      refine br_f h32 ?_
      rw [cy_ix, cx_cl1k hlt]
      exact ⟨hii, br_f h0 (nm_r (nI_1 x) (J2 post J4 w' sl ek rk rd tk sp (by omega) K))⟩
theorem cy_dm4 (hY : ∀ p, p < 32 → (ck p = 2 → ∃ x, x < 32 ∧ cd p = nI x) ∧ (dk p = 2 → ∃ x, x < 32 ∧ dd p = nI x)) :
    ∀ (m p : Nat) (df : Nat → Int32) (x1 : Int32), p + m = 32 → cl_W df0 df x1 (cl_De ck cd dk dd) (cl_db df0 ck cd dk dd (p * 32)) →
      ∃ (x1' : Int32) (df' : Nat → Int32), cl_W df0 df' x1' (cl_De ck cd dk dd) (cl_db df0 ck cd dk dd 1024) ∧
        ∀ (post : Int32 → SY → Prop) (w : Nat) (sl ek : Int32) (rk rd tk sp : Nat → Int32), m + 1 ≤ w → post x1' (sl, ek, rk, rd, ck, cd, dk, dd, tk, df', sp) → wY_differMore_4 post sl ek w x1 (nI p) rk rd ck cd dk dd tk df sp := by
  intro m
  induction m with
  | zero =>
    intro p df x1 hm h
    obtain rfl : p = 32 := by omega
    refine ⟨x1, df, h, fun post w sl ek rk rd tk sp hw hp => ?_⟩
    obtain ⟨w', rfl⟩ : ∃ w', w = w' + 1 := ⟨w - 1, by omega⟩
    refine br_t (by decide) ⟨?_, hp⟩
    rcases h.2 with ⟨e, _⟩ | ⟨e, _⟩ <;> rw [e] <;> rfl
  | succ m ih =>
    intro p df x1 hm h
    have hp : p < 32 := by omega
    obtain ⟨x2, df2, J1, J2⟩ := cy_dm12 (df0 := df0) hY hp 32 0 df x1 rfl h
    obtain ⟨x1', df', K1, K2⟩ := ih (p + 1) df2 x2 (by omega) J1
    refine ⟨x1', df', K1, fun post w sl ek rk rd tk sp hw hpo => ?_⟩
    obtain ⟨w', rfl⟩ : ∃ w', w = w' + 1 := ⟨w - 1, by omega⟩
    exact br_f (nI_ge (b := 32) hp (by decide)) ⟨33, J2 post _ 33 sl ek rk rd tk sp (by omega) (K2 post w' sl ek rk rd tk sp (by omega) hpo)⟩
theorem cy_al45 (hY : ∀ p, p < 32 → (ck p = 2 → ∃ x, x < 32 ∧ cd p = nI x) ∧ (dk p = 2 → ∃ x, x < 32 ∧ dd p = nI x)) {r s : Nat} :
    ∀ (m j : Nat) (df : Nat → Int32), j + m = 1024 → (∀ i, df i ≠ 0 → i < 1024 → cl_De ck cd dk dd i) → j ≤ cl_n (cl_T df) 1024 →
      ∃ df' : Nat → Int32, (∀ i, df' i ≠ 0 → i < 1024 → cl_De ck cd dk dd i) ∧ cl_db df' ck cd dk dd 1024 ∧
        ∀ (post : Int32 → SY → Prop) (w : Nat) (sl ek : Int32) (rk rd tk sp : Nat → Int32), m + 2 ≤ w → wY_alike_68 post (nI r) (nI s) sl ek rk rd ck cd dk dd tk df' sp → wY_alike_45 post (nI r) (nI s) w 1 (nI j) sl ek rk rd ck cd dk dd tk df sp := by
  intro m
  induction m with
  | zero =>
    intro j df hm h1 h3
    obtain rfl : j = 1024 := by omega
    refine ⟨df, h1, fun p x hp hx hl _ => cl_T_t.mp (cl_n_full h3 hl), fun post w sl ek rk rd tk sp hw K => ?_⟩
    obtain ⟨w', rfl⟩ : ∃ w', w = w' + 1 := ⟨w - 1, by omega⟩
    exact br_t (by decide) K
  | succ m ih =>
    intro j df hm h1 h3
    obtain ⟨x1', df', ⟨P2, P3⟩, w1⟩ := cy_dm4 (df0 := df) hY 32 0 df 0 rfl ⟨h1, Or.inl ⟨rfl, rfl, fun p x hp hx hl => by omega⟩⟩
    have hlt := nI_ge (b := 1024) (a := j) (by omega) (by decide)
    rcases P3 with ⟨e1, e2, e3⟩ | ⟨e1, e2, e3⟩
    · subst e1
      subst e2
      refine ⟨df', P2, e3, fun post w sl ek rk rd tk sp hw K => ?_⟩
      obtain ⟨w', rfl⟩ : ∃ w', w = w' + 2 := ⟨w - 2, by omega⟩
      refine br_f hlt (br_f (by decide) ⟨33, w1 _ 33 sl ek rk rd tk sp (by omega) (nm_e ?_)⟩)
      exact br_c (fun _ => K) (fun _ => br_t rfl K)
    · subst e1
      obtain ⟨df'', T1, T2, w2⟩ := ih (j + 1) df' (by omega) P2 (by omega)
      refine ⟨df'', T1, T2, fun post w sl ek rk rd tk sp hw K => ?_⟩
      obtain ⟨w', rfl⟩ : ∃ w', w = w' + 1 := ⟨w - 1, by omega⟩
      exact br_f hlt (br_f (by decide) ⟨33, w1 _ 33 sl ek rk rd tk sp (by omega) (nm_r (nI_1 j) (w2 post w' sl ek rk rd tk sp (by omega) K))⟩)
theorem cy_al20 (hY : ∀ p, p < 32 → (ck p = 2 → ∃ x, x < 32 ∧ cd p = nI x) ∧ (dk p = 2 → ∃ x, x < 32 ∧ dd p = nI x)) {r s : Nat} :
    ∀ (m j : Nat) (df : Nat → Int32), j + m = 1024 → (∀ i, i < j → df i = 0) →
      ∃ df' : Nat → Int32, (∀ i, df' i ≠ 0 → i < 1024 → cl_De ck cd dk dd i) ∧ cl_db df' ck cd dk dd 1024 ∧
        ∀ (post : Int32 → SY → Prop) (w : Nat) (sl ek : Int32) (rk rd tk sp : Nat → Int32), m + 1 ≤ w → wY_alike_68 post (nI r) (nI s) sl ek rk rd ck cd dk dd tk df' sp → wY_alike_20 post (nI r) (nI s) sl ek w (nI j) rk rd ck cd dk dd tk df sp := by
  intro m
  induction m with
  | zero =>
    intro j df hm h1
    obtain rfl : j = 1024 := by omega
    obtain ⟨df', T1, T2, w1⟩ := cy_al45 hY (r := r) (s := s) 1024 0 df rfl (fun i hn hi => absurd (h1 i hi) hn) (Nat.zero_le _)
    refine ⟨df', T1, T2, fun post w sl ek rk rd tk sp hw K => ?_⟩
    obtain ⟨w', rfl⟩ : ∃ w', w = w' + 1 := ⟨w - 1, by omega⟩
    exact br_t (by decide) ⟨1026, w1 post 1026 sl ek rk rd tk sp (by omega) K⟩
  | succ m ih =>
    intro j df hm h1
    have hj : j < 1024 := by omega
    obtain ⟨df', T1, T2, w1⟩ := ih (j + 1) (upd df j 0) (by omega) (fun i hi => by
      by_cases e : i = j
      · rw [e, pk_us]
      · rw [pk_un e]; exact h1 i (by omega))
    refine ⟨df', T1, T2, fun post w sl ek rk rd tk sp hw K => ?_⟩
    obtain ⟨w', rfl⟩ : ∃ w', w = w' + 1 := ⟨w - 1, by omega⟩
    exact br_f (nI_ge (b := 1024) hj (by decide)) ⟨vp_in_nI hj (by decide), nm_r (e' := upd df j 0) (by rw [cx_cl1k hj]; rfl) (nm_r (nI_1 j) (w1 post w' sl ek rk rd tk sp (by omega) K))⟩
/-- the reference's answer -/
theorem cy_alike (sl ek : Int32) (tk df sp : Nat → Int32) (hY : ∀ p, p < 32 → (ck p = 2 → ∃ x, x < 32 ∧ cd p = nI x) ∧ (dk p = 2 → ∃ x, x < 32 ∧ dd p = nI x))
    (hR : ∀ r, r < 8 → rk r = 2 → ∃ x, x < 32 ∧ rd r = nI x) {r s : Nat} (hr : r < 8) (hs : s < 8) :
    ∃ df' : Nat → Int32, ∀ post : Int32 → SY → Prop, (cl_df (cl_De ck cd dk dd) (rk r) (rd r) (rk s) (rd s) → post 0 (sl, ek, rk, rd, ck, cd, dk, dd, tk, df', sp)) → (¬ cl_df (cl_De ck cd dk dd) (rk r) (rd r) (rk s) (rd s) → post 1 (sl, ek, rk, rd, ck, cd, dk, dd, tk, df', sp)) →
      ∃ n20, wY_alike_20 post (nI r) (nI s) sl ek n20 0 rk rd ck cd dk dd tk df sp := by
  obtain ⟨df', T1, T2, w1⟩ := cy_al20 hY (r := r) (s := s) 1024 0 df rfl (fun i hi => by omega)
  refine ⟨df', fun post p0 p1 => ⟨1025, w1 post 1025 sl ek rk rd tk sp (by omega) ?_⟩⟩
  have hir := vp_in_nI hr (show 8 < 2 ^ 31 by decide)
  have his := vp_in_nI hs (show 8 < 2 ^ 31 by decide)
  have hclo : cl_dc (fun i => df' i ≠ 0) ck cd dk dd := fun p x hp hx h => T2 p x hp hx (by omega) h
  have hsub : ∀ i, cl_De ck cd dk dd i → df' i ≠ 0 := fun i h => h (fun i => df' i ≠ 0) hclo
  unfold wY_alike_68
  rw [cx_cl8 hr, cx_cl8 hs]
  refine ⟨hir, hir, his, his, cy_differs (hR r hr) (hR s hs) (fun h => br_f (by decide) (p0 ?_)) (fun h => br_t rfl (p1 (fun h' => h (cl_df_mono hsub h'))))⟩
  rcases h with h1 | h1 | ⟨h1, h2⟩
  · exact Or.inl h1
  · exact Or.inr (Or.inl h1)
  · by_cases e : rk r = rk s
    · obtain ⟨y, hy, e1⟩ := hR r hr h1
      obtain ⟨z, hz, e2⟩ := hR s hs (by rw [← e]; exact h1)
      refine Or.inr (Or.inr ⟨h1, T1 _ h2 ?_⟩)
      rw [e1, e2, cx_cl32 hy, cx_cl32 hz]; omega
    · exact Or.inl e
end
end
section
/-! ===== alike, the component: bits, claims ===== -/
def cl_b (cl : Nat → Int64) (i j : Nat) : Bool := (cl i).toBitVec.getLsbD j
theorem cl_bm : ∀ j, j < 64 → ((1 : Int64) <<< ((nI j).toInt64 &&& 63)).toBitVec = BitVec.twoPow 64 j := by decide +kernel
theorem cl_m1 : (-1 : Int64).toBitVec = BitVec.allOnes 64 := by decide
section
variable {cl se : Nat → Int64} {i j : Nat}
theorem cl_b_0 {i' j' : Nat} : cl_b (vp_updL cl i 0) i' j' = (!decide (i' = i) && cl_b cl i' j') := by
  unfold cl_b
  by_cases e : i' = i
  · rw [e, pk_uLs, decide_eq_true rfl]
    show BitVec.getLsbD (0#64) j' = _
    rw [BitVec.getLsbD_zero]; rfl
  · rw [pk_uLn e, decide_eq_false e]; rfl
theorem cl_b_set (hj : j < 64) {i' j' : Nat} : cl_b (vp_updL cl i (cl i ||| ((1 : Int64) <<< ((nI j).toInt64 &&& 63)))) i' j' = true ↔ (cl_b cl i' j' = true ∨ (i' = i ∧ j' = j)) := by
  unfold cl_b
  by_cases e : i' = i
  · subst e
    rw [pk_uLs, Int64.toBitVec_or, BitVec.getLsbD_or, cl_bm j hj, BitVec.getLsbD_twoPow, Bool.or_eq_true, Bool.and_eq_true, decide_eq_true_eq, decide_eq_true_eq]
    constructor
    · rintro (h | ⟨_, h⟩)
      · exact Or.inl h
      · exact Or.inr ⟨rfl, h.symm⟩
    · rintro (h | ⟨_, h⟩)
      · exact Or.inl h
      · exact Or.inr ⟨hj, h.symm⟩
  · rw [pk_uLn e]
    constructor
    · exact Or.inl
    · rintro (h | ⟨h, _⟩)
      · exact h
      · exact absurd h e
theorem cl_bz (x : Int64) : x = 0 ↔ ∀ j, j < 64 → x.toBitVec.getLsbD j = false := by
  constructor
  · intro h j _
    rw [h]
    show BitVec.getLsbD (0#64) j = _
    exact BitVec.getLsbD_zero
  · intro h
    refine Int64.toBitVec_inj.mp (BitVec.eq_of_getLsbD_eq (fun j hj => ?_))
    rw [h j hj]
    show false = BitVec.getLsbD (0#64) j
    exact BitVec.getLsbD_zero.symm
theorem cl_b_dif (hj : j < 64) : (cl i &&& (se i ^^^ (-1))).toBitVec.getLsbD j = (cl_b cl i j && !cl_b se i j) := by
  unfold cl_b
  rw [Int64.toBitVec_and, Int64.toBitVec_xor, cl_m1, BitVec.getLsbD_and, BitVec.getLsbD_xor, BitVec.getLsbD_allOnes, decide_eq_true hj, Bool.xor_true]
theorem cl_b_row : (cl i &&& (se i ^^^ (-1))) = 0 ↔ ∀ j, j < 64 → cl_b cl i j = true → cl_b se i j = true := by
  rw [cl_bz]
  constructor
  · intro h j hj h1
    have h2 := h j hj
    rw [cl_b_dif hj, h1, Bool.true_and] at h2
    cases h3 : cl_b se i j
    · rw [h3] at h2; exact absurd h2 (by decide)
    · rfl
  · intro h j hj
    rw [cl_b_dif hj]
    cases h1 : cl_b cl i j
    · rfl
    · rw [h j hj h1]; rfl
theorem cl_b_tst (hj : j < 64) : ((cl i &&& (se i ^^^ (-1))) &&& ((1 : Int64) <<< ((nI j).toInt64 &&& 63))) = 0 ↔ ¬ (cl_b cl i j = true ∧ ¬ cl_b se i j = true) := by
  rw [cl_bz]
  constructor
  · intro h h1
    have h2 := h j hj
    rw [Int64.toBitVec_and, BitVec.getLsbD_and, cl_b_dif hj, cl_bm j hj, BitVec.getLsbD_twoPow, decide_eq_true hj, decide_eq_true rfl, h1.1] at h2
    cases h3 : cl_b se i j
    · rw [h3] at h2; exact absurd h2 (by decide)
    · exact h1.2 h3
  · intro h j' hj'
    rw [Int64.toBitVec_and, BitVec.getLsbD_and, cl_b_dif hj', cl_bm j hj, BitVec.getLsbD_twoPow, decide_eq_true hj]
    by_cases e : j = j'
    · subst e
      cases h1 : cl_b cl i j
      · rfl
      · cases h2 : cl_b se i j
        · exact absurd ⟨h1, by rw [h2]; decide⟩ h
        · rfl
    · rw [decide_eq_false e, Bool.and_false, Bool.and_false]
end
/-- two values are claimed to look the same, as far as values can say -/
def cl_ok (b : Nat) (ph : Nat → Nat) (cl : Nat → Int64) (k d k' d' : Int32) : Prop :=
  k = k' ∧ (k = 1 → d = d') ∧ (k = 2 → cl_b cl (ph d.toNatClampNeg - b) (ph d'.toNatClampNeg - b) = true)
def cl_sub (cl cl' : Nat → Int64) : Prop := ∀ i j, cl_b cl i j = true → cl_b cl' i j = true
theorem cl_ok_mono {b : Nat} {ph : Nat → Nat} {cl cl' : Nat → Int64} {k d k' d' : Int32} (h : cl_sub cl cl') (ho : cl_ok b ph cl k d k' d') : cl_ok b ph cl' k d k' d' := ⟨ho.1, ho.2.1, fun e => h _ _ (ho.2.2 e)⟩
/-- the claims and what is settled: (k0, d0) and (k1, d1) are the two values asked about -/
def cl_AI (b : Nat) (rl ph : Nat → Nat) (De : Nat → Prop) (ck cd dk dd : Nat → Int32) (k0 d0 k1 d1 : Int32) (cl se : Nat → Int64) : Prop :=
  (∀ i j, i < 64 → j < 64 → cl_b cl i j = true → rl (b + i) < 32 ∧ rl (b + j) < 32 ∧ (De (rl (b + i) * 32 + rl (b + j)) → cl_df De k0 d0 k1 d1)) ∧
  (∀ i j, i < 64 → j < 64 → cl_b se i j = true → cl_b cl i j = true ∧ cl_ok b ph cl (ck (rl (b + i))) (cd (rl (b + i))) (ck (rl (b + j))) (cd (rl (b + j))) ∧ cl_ok b ph cl (dk (rl (b + i))) (dd (rl (b + i))) (dk (rl (b + j))) (dd (rl (b + j)))) ∧
  cl_ok b ph cl k0 d0 k1 d1
section
variable {T C M RT RC : Nat → Int32} {cl se : Nat → Int64} {rk rd ck cd dk dd : Nat → Int32}
variable {rl ph : Nat → Nat} {b f q : Nat} {De : Nat → Prop}
/-- what alike needs of the heap after a collection -/
def cl_H (b f q : Nat) (rl ph : Nat → Nat) (T C M RT RC rk rd ck cd dk dd : Nat → Int32) : Prop :=
  cl_R b f q rl ph T C M RT RC rk rd ck cd dk dd ∧ f ≤ b + 64 ∧ (∀ a, rl a < 32 → a = ph (rl a))
theorem cl_H_hd (H : cl_H b f q rl ph T C M RT RC rk rd ck cd dk dd) {a : Nat} (ha : rl a < 32) : a = ph (rl a) ∧ b ≤ a ∧ a < b + 64 ∧ a < 320 := by
  have h1 := H.2.2 a ha
  have h2 := H.1.2.2.2.2.2.1.1 a ha
  have h3 := H.2.1
  have h4 := H.1.1
  dsimp only at h2
  exact ⟨h1, by omega, by omega, by omega⟩
theorem cx_claim (H : cl_H b f q rl ph T C M RT RC rk rd ck cd dk dd) {t c k d t' c' k' d' : Int32} (v : cl_V rl t c k d) (v' : cl_V rl t' c' k' d') (cl : Nat → Int64) :
    ∃ (r : Int32) (cl' : Nat → Int64), cl_sub cl cl' ∧
      ((r = 0 ∧ (k ≠ k' ∨ (k = 1 ∧ d ≠ d'))) ∨
       (r = 1 ∧ cl_ok b ph cl' k d k' d' ∧ ∀ i j, i < 64 → j < 64 → cl_b cl' i j = true → cl_b cl i j = true ∨ (k = 2 ∧ rl (b + i) < 32 ∧ rl (b + j) < 32 ∧ d = nI (rl (b + i)) ∧ d' = nI (rl (b + j))))) ∧
      ∀ (post : Int32 → SX → Prop) (vf vq g1 g2 : Int32) (T C M RT RC : Nat → Int32) (se : Nat → Int64), post r (nI b, vf, vq, g1, g2, T, C, M, RT, RC, cl', se) → wpX_claim post (nI b, vf, vq, g1, g2, T, C, M, RT, RC, cl, se) t c t' c' := by
  have e1 := v.1
  have e2 := v'.1
  subst e1
  subst e2
  by_cases hk : t = t'
  · subst hk
    rcases cl_V_k v with h0 | h1 | h2
    · subst h0
      exact ⟨1, cl, fun _ _ h => h, Or.inr ⟨rfl, ⟨rfl, fun h => absurd h (by decide), fun h => absurd h (by decide)⟩, fun i j _ _ h => Or.inl h⟩, fun post vf vq g1 g2 T C M RT RC se hp => br_t rfl (br_f (by decide) (br_t rfl hp))⟩
    · have ec := cl_V_num v h1
      have ec' := cl_V_num v' h1
      subst h1
      by_cases hd : d = d'
      · exact ⟨1, cl, fun _ _ h => h, Or.inr ⟨rfl, ⟨rfl, fun _ => hd, fun h => absurd h (by decide)⟩, fun i j _ _ h => Or.inl h⟩, fun post vf vq g1 g2 T C M RT RC se hp => br_t rfl (br_f (by decide) (br_f (by decide) (br_t (by rw [ec, ec']; exact hd) hp)))⟩
      · exact ⟨0, cl, fun _ _ h => h, Or.inl ⟨rfl, Or.inr ⟨rfl, hd⟩⟩, fun post vf vq g1 g2 T C M RT RC se hp => br_t rfl (br_f (by decide) (br_f (by decide) (br_f (by rw [ec, ec']; exact hd) hp)))⟩
    · obtain ⟨a, a1, a2, a3⟩ := cl_V_pair v h2
      obtain ⟨a', b1, b2, b3⟩ := cl_V_pair v' h2
      subst h2
      obtain ⟨x1, x2, x3, x4⟩ := cl_H_hd H a2
      obtain ⟨y1, y2, y3, y4⟩ := cl_H_hd H b2
      have ei : nI a - nI b = nI (a - b) := pk_sub x2
      have ej : nI a' - nI b = nI (a' - b) := pk_sub y2
      have hi : a - b < 64 := by omega
      have hj : a' - b < 64 := by omega
      have hii := vp_in_nI hi (show 64 < 2 ^ 31 by decide)
      have eci : (nI (a - b)).toNatClampNeg = a - b := nI_clamp (by omega)
      refine ⟨1, vp_updL cl (a - b) (cl (a - b) ||| ((1 : Int64) <<< ((nI (a' - b)).toInt64 &&& 63))), fun i j h => (cl_b_set hj).mpr (Or.inl h), Or.inr ⟨rfl, ⟨rfl, fun h => absurd h (by decide), fun _ => ?_⟩, fun i j hi' hj' h => ?_⟩, fun post vf vq g1 g2 T C M RT RC se hp => ?_⟩
      · rw [a3, b3, cx_cl32 a2, cx_cl32 b2, ← x1, ← y1]
        exact (cl_b_set hj).mpr (Or.inr ⟨rfl, rfl⟩)
      · rcases (cl_b_set hj).mp h with h' | ⟨h1, h2⟩
        · exact Or.inl h'
        · have z1 : b + i = a := by omega
          have z2 : b + j = a' := by omega
          rw [z1, z2]
          exact Or.inr ⟨rfl, a2, b2, a3, b3⟩
      · refine br_t rfl (br_t rfl ?_)
        rw [a1, b1, ei, ej, eci]
        exact ⟨hii, hii, nm_e hp⟩
  · exact ⟨0, cl, fun _ _ h => h, Or.inl ⟨rfl, Or.inl hk⟩, fun post vf vq g1 g2 T C M RT RC se hp => br_f hk hp⟩
end
end
section
/-! ===== alike, the component: a row is settled ===== -/
section
variable {T C M RT RC : Nat → Int32} {cl se : Nat → Int64} {rk rd ck cd dk dd : Nat → Int32}
variable {rl ph : Nat → Nat} {b f q : Nat} {De : Nat → Prop} {k0 d0 k1 d1 : Int32}
theorem cl_df_no {De : Nat → Prop} {k d k' d' : Int32} (h : k ≠ k' ∨ (k = 1 ∧ d ≠ d')) : cl_df De k d k' d' := by
  rcases h with h | h
  · exact Or.inl h
  · exact Or.inr (Or.inl h)
theorem cl_df_pr {De : Nat → Prop} {k d k' d' : Int32} {x y : Nat} (hk : k = 2) (hx : x < 32) (hy : y < 32) (ex : d = nI x) (ey : d' = nI y) (h : De (x * 32 + y)) : cl_df De k d k' d' :=
  Or.inr (Or.inr ⟨hk, by rw [ex, ey, cx_cl32 hx, cx_cl32 hy]; exact h⟩)
theorem cx_srs (H : cl_H b f q rl ph T C M RT RC rk rd ck cd dk dd) (hDe : cl_dc De ck cd dk dd) (g1 g2 : Int32) {i j : Nat} (hi : i < 64) (hj : j < 64)
    (A : cl_AI b rl ph De ck cd dk dd k0 d0 k1 d1 cl se) (hb1 : cl_b cl i j = true) (hb2 : ¬ cl_b se i j = true) :
    ∃ (r : Int32) (cl' se' : Nat → Int64) (g1' g2' : Int32), ((r = 0 ∧ cl_df De k0 d0 k1 d1) ∨ (r = 1 ∧ cl_AI b rl ph De ck cd dk dd k0 d0 k1 d1 cl' se')) ∧
      cl_sub se se' ∧ cl_b se' i j = true ∧
      ∀ (post : Int32 → SX → Prop) (w : Nat), wX_settleRow_4 post (nI i) w r (nI (j + 1)) (nI b) (nI f) (nI q) g1' g2' T C M RT RC cl' se' → wX_settleRow_4 post (nI i) (w + 1) 1 (nI j) (nI b) (nI f) (nI q) g1 g2 T C M RT RC cl se := by
  obtain ⟨A1, A2, A3⟩ := A
  obtain ⟨r1, r2, r3⟩ := A1 i j hi hj hb1
  have R := H.1
  have G := R.2.2.2.2.2.1
  have hal := cl_R_al R
  have hii := vp_in_nI hi (show 64 < 2 ^ 31 by decide)
  have eci : (nI i).toNatClampNeg = i := nI_clamp (by omega)
  have hrp := (G.2.1 _ r1).1
  have hrx := (G.2.1 _ r2).1
  have vp := (G.2.2 _ r1 hrp).1
  have vx := (G.2.2 _ r2 hrx).1
  obtain ⟨t, c, vdp, hWp⟩ := cx_gotCdr G hal r1 (fun _ => rfl)
  obtain ⟨t', c', vdx, hWx⟩ := cx_gotCdr G hal r2 (fun _ => rfl)
  obtain ⟨ra, cl1, s1, o1, wC1⟩ := cx_claim H vp vx cl
  obtain ⟨rb, cl2, s2, o2, wC2⟩ := cx_claim H vdp vdx cl1
  have hse : cl_sub se (vp_updL se i (se i ||| ((1 : Int64) <<< ((nI j).toInt64 &&& 63)))) := fun _ _ h => (cl_b_set hj).mpr (Or.inl h)
  have hsb : cl_b (vp_updL se i (se i ||| ((1 : Int64) <<< ((nI j).toInt64 &&& 63)))) i j = true := (cl_b_set hj).mpr (Or.inr ⟨rfl, rfl⟩)
  have pre : ∀ (post : Int32 → SX → Prop) (w : Nat),
      ((ra = 0 → wX_settleRow_4 post (nI i) w 0 (nI (j + 1)) (nI b) (nI f) (nI q) t' c' T C M RT RC cl1 (vp_updL se i (se i ||| ((1 : Int64) <<< ((nI j).toInt64 &&& 63))))) ∧
       (¬ ra = 0 → ((rb = 0 → wX_settleRow_4 post (nI i) w 0 (nI (j + 1)) (nI b) (nI f) (nI q) t' c' T C M RT RC cl2 (vp_updL se i (se i ||| ((1 : Int64) <<< ((nI j).toInt64 &&& 63))))) ∧
         (¬ rb = 0 → wX_settleRow_4 post (nI i) w 1 (nI (j + 1)) (nI b) (nI f) (nI q) t' c' T C M RT RC cl2 (vp_updL se i (se i ||| ((1 : Int64) <<< ((nI j).toInt64 &&& 63)))))))) →
      wX_settleRow_4 post (nI i) (w + 1) 1 (nI j) (nI b) (nI f) (nI q) g1 g2 T C M RT RC cl se := by
    intro post w K
    refine br_f (nI_ge (b := 64) hj (by decide)) (br_f (by decide) ?_)
    rw [eci, nI_add b i, nI_1 j]
    refine ⟨hii, hii, br_f (fun h => (cl_b_tst hj).mp h ⟨hb1, hb2⟩) ⟨hii, hii, nm_e ?_⟩⟩
    refine cx_gotCar G hal r1 ?_
    dsimp only
    rw [nI_add b j]
    refine cx_gotCar G hal r2 ?_
    dsimp only
    refine wC1 _ _ _ _ _ _ _ _ _ _ _ ?_
    dsimp only
    rw [nI_add b i]
    refine hWp _ _ _ _ _ _ _ _ _ _ ?_
    dsimp only
    rw [nI_add b j]
    refine hWx _ _ _ _ _ _ _ _ _ _ ?_
    dsimp only
    refine br_c (fun h => nm_e (K.1 h)) (fun h => wC2 _ _ _ _ _ _ _ _ _ _ _ ?_)
    exact br_c (fun h' => nm_e ((K.2 h).1 h')) (fun h' => nm_e ((K.2 h).2 h'))
  rcases o1 with ⟨e1, n1⟩ | ⟨e1, k1', m1⟩
  · refine ⟨0, cl1, _, t', c', Or.inl ⟨rfl, r3 (hDe _ _ r1 r2 (Or.inl (cl_df_no n1)))⟩, hse, hsb, fun post w K => pre post w (br_t e1 K)⟩
  · have hne1 : ¬ ra = 0 := by rw [e1]; decide
    rcases o2 with ⟨e2, n2⟩ | ⟨e2, k2', m2⟩
    · refine ⟨0, cl2, _, t', c', Or.inl ⟨rfl, r3 (hDe _ _ r1 r2 (Or.inr (cl_df_no n2)))⟩, hse, hsb, fun post w K => pre post w (br_f hne1 (br_t e2 K))⟩
    · have hne2 : ¬ rb = 0 := by rw [e2]; decide
      have s12 : cl_sub cl cl2 := fun i j h => s2 i j (s1 i j h)
      refine ⟨1, cl2, _, t', c', Or.inr ⟨rfl, fun i' j' hi' hj' h => ?_, fun i' j' hi' hj' h => ?_, cl_ok_mono s12 A3⟩, hse, hsb, fun post w K => pre post w (br_f hne1 (br_f hne2 K))⟩
      · rcases m2 i' j' hi' hj' h with h | ⟨z1, z2, z3, z4, z5⟩
        · rcases m1 i' j' hi' hj' h with h | ⟨z1, z2, z3, z4, z5⟩
          · exact A1 i' j' hi' hj' h
          · exact ⟨z2, z3, fun hd => r3 (hDe _ _ r1 r2 (Or.inl (cl_df_pr z1 z2 z3 z4 z5 hd)))⟩
        · exact ⟨z2, z3, fun hd => r3 (hDe _ _ r1 r2 (Or.inr (cl_df_pr z1 z2 z3 z4 z5 hd)))⟩
      · rcases (cl_b_set hj).mp h with h | ⟨h1, h2⟩
        · obtain ⟨y1, y2, y3⟩ := A2 i' j' hi' hj' h
          exact ⟨s12 _ _ y1, cl_ok_mono s12 y2, cl_ok_mono s12 y3⟩
        · rw [h1, h2]
          exact ⟨s12 _ _ hb1, cl_ok_mono s2 k1', k2'⟩
theorem cx_sr4 (H : cl_H b f q rl ph T C M RT RC rk rd ck cd dk dd) (hDe : cl_dc De ck cd dk dd) {i : Nat} (hi : i < 64) :
    ∀ (m j : Nat) (cl se : Nat → Int64) (g1 g2 : Int32), j + m = 64 → cl_AI b rl ph De ck cd dk dd k0 d0 k1 d1 cl se →
      ∃ (r : Int32) (cl' se' : Nat → Int64) (g1' g2' : Int32), ((r = 0 ∧ cl_df De k0 d0 k1 d1) ∨ (r = 1 ∧ cl_AI b rl ph De ck cd dk dd k0 d0 k1 d1 cl' se')) ∧
        cl_sub se se' ∧ ((∃ j0, j ≤ j0 ∧ j0 < 64 ∧ cl_b cl i j0 = true ∧ ¬ cl_b se i j0 = true) → ∃ j1, j1 < 64 ∧ ¬ cl_b se i j1 = true ∧ cl_b se' i j1 = true) ∧
        ∀ (post : Int32 → SX → Prop) (w : Nat), m + 2 ≤ w → post r (nI b, nI f, nI q, g1', g2', T, C, M, RT, RC, cl', se') → wX_settleRow_4 post (nI i) w 1 (nI j) (nI b) (nI f) (nI q) g1 g2 T C M RT RC cl se := by
  intro m
  induction m with
  | zero =>
    intro j cl se g1 g2 hm A
    obtain rfl : j = 64 := by omega
    refine ⟨1, cl, se, g1, g2, Or.inr ⟨rfl, A⟩, fun _ _ h => h, fun ⟨j0, h1, h2, _⟩ => by omega, fun post w hw hp => ?_⟩
    obtain ⟨w', rfl⟩ : ∃ w', w = w' + 1 := ⟨w - 1, by omega⟩
    exact br_t (by decide) ⟨rfl, hp⟩
  | succ m ih =>
    intro j cl se g1 g2 hm A
    have hj : j < 64 := by omega
    have hii := vp_in_nI hi (show 64 < 2 ^ 31 by decide)
    have eci : (nI i).toNatClampNeg = i := nI_clamp (by omega)
    by_cases hb : cl_b cl i j = true ∧ ¬ cl_b se i j = true
    · obtain ⟨r1, cl1, se1, g11, g21, o1, s1, n1, w1⟩ := cx_srs H hDe g1 g2 hi hj A hb.1 hb.2
      rcases o1 with ⟨e1, hroot⟩ | ⟨e1, A1⟩
      · subst e1
        refine ⟨0, cl1, se1, g11, g21, Or.inl ⟨rfl, hroot⟩, s1, fun _ => ⟨j, hj, hb.2, n1⟩, fun post w hw hp => ?_⟩
        obtain ⟨w', rfl⟩ : ∃ w', w = w' + 2 := ⟨w - 2, by omega⟩
        exact w1 post (w' + 1) (br_c (fun _ => ⟨rfl, hp⟩) (fun _ => br_t rfl ⟨rfl, hp⟩))
      · subst e1
        obtain ⟨r2, cl2, se2, g12, g22, o2, s2, n2, w2⟩ := ih (j + 1) cl1 se1 g11 g21 (by omega) A1
        refine ⟨r2, cl2, se2, g12, g22, o2, fun i j h => s2 i j (s1 i j h), fun _ => ⟨j, hj, hb.2, s2 _ _ n1⟩, fun post w hw hp => ?_⟩
        obtain ⟨w', rfl⟩ : ∃ w', w = w' + 1 := ⟨w - 1, by omega⟩
        exact w1 post w' (w2 post w' (by omega) hp)
    · obtain ⟨r2, cl2, se2, g12, g22, o2, s2, n2, w2⟩ := ih (j + 1) cl se g1 g2 (by omega) A
      refine ⟨r2, cl2, se2, g12, g22, o2, s2, fun ⟨j0, h1, h2, h3, h4⟩ => n2 ⟨j0, ?_, h2, h3, h4⟩, fun post w hw hp => ?_⟩
      · by_cases e : j0 = j
        · rw [e] at h3 h4; exact absurd ⟨h3, h4⟩ hb
        · omega
      · obtain ⟨w', rfl⟩ : ∃ w', w = w' + 1 := ⟨w - 1, by omega⟩
        refine br_f (nI_ge (b := 64) hj (by decide)) (br_f (by decide) ?_)
        rw [eci]
        exact ⟨hii, hii, br_t ((cl_b_tst hj).mpr hb) (nm_r (nI_1 j) (w2 post w' (by omega) hp))⟩
/-- what a round has done so far -/
def cl_rd (cl0 se0 cl se : Nat → Int64) (x4 : Int32) (i : Nat) : Prop :=
  (x4 = 0 ∧ cl = cl0 ∧ se = se0 ∧ ∀ i' j, i' < i → j < 64 → cl_b cl i' j = true → cl_b se i' j = true) ∨
  (x4 = 1 ∧ cl_sub se0 se ∧ ∃ i1 j1, i1 < 64 ∧ j1 < 64 ∧ ¬ cl_b se0 i1 j1 = true ∧ cl_b se i1 j1 = true)
theorem cx_108 (H : cl_H b f q rl ph T C M RT RC rk rd ck cd dk dd) (hDe : cl_dc De ck cd dk dd) {cl0 se0 : Nat → Int64} :
    ∀ (m i : Nat) (cl se : Nat → Int64) (g1 g2 x4 : Int32), i + m = 64 → cl_AI b rl ph De ck cd dk dd k0 d0 k1 d1 cl se → cl_rd cl0 se0 cl se x4 i →
      ∃ (r op : Int32) (cl' se' : Nat → Int64) (g1' g2' : Int32), ((r = 0 ∧ cl_df De k0 d0 k1 d1) ∨ (r = 1 ∧ cl_AI b rl ph De ck cd dk dd k0 d0 k1 d1 cl' se' ∧ cl_rd cl0 se0 cl' se' op 64)) ∧
        ∀ (post : Int32 → SX → Prop) (J : Int32 → Int32 → Int32 → Int32 → Int32 → Int32 → Int32 → Int32 → (Nat → Int32) → (Nat → Int32) → (Nat → Int32) → (Nat → Int32) → (Nat → Int32) → (Nat → Int64) → (Nat → Int64) → Prop) (x5 : Int32) (w : Nat), m + 2 ≤ w →
          J r op (x5 + 1) (nI b) (nI f) (nI q) g1' g2' T C M RT RC cl' se' → wX_alike_108 post J x5 w 1 x4 (nI i) (nI b) (nI f) (nI q) g1 g2 T C M RT RC cl se := by
  intro m
  induction m with
  | zero =>
    intro i cl se g1 g2 x4 hm A hrd
    obtain rfl : i = 64 := by omega
    refine ⟨1, x4, cl, se, g1, g2, Or.inr ⟨rfl, A, hrd⟩, fun post J x5 w hw hp => ?_⟩
    obtain ⟨w', rfl⟩ : ∃ w', w = w' + 1 := ⟨w - 1, by omega⟩
    exact br_t (by decide) (nm_e hp)
  | succ m ih =>
    intro i cl se g1 g2 x4 hm A hrd
    have hi : i < 64 := by omega
    have hii := vp_in_nI hi (show 64 < 2 ^ 31 by decide)
    have eci : (nI i).toNatClampNeg = i := nI_clamp (by omega)
    by_cases hz : (cl i &&& (se i ^^^ (-1))) = 0
    · obtain ⟨r2, op, cl2, se2, g12, g22, o2, w2⟩ := ih (i + 1) cl se g1 g2 x4 (by omega) A (by
        rcases hrd with ⟨h1, h2, h3, h4⟩ | h
        · refine Or.inl ⟨h1, h2, h3, fun i' j hi' hj h => ?_⟩
          by_cases e : i' = i
          · rw [e] at h ⊢; exact cl_b_row.mp hz j hj h
          · exact h4 i' j (by omega) hj h
        · exact Or.inr h)
      refine ⟨r2, op, cl2, se2, g12, g22, o2, fun post J x5 w hw hp => ?_⟩
      obtain ⟨w', rfl⟩ : ∃ w', w = w' + 1 := ⟨w - 1, by omega⟩
      refine br_f (nI_ge (b := 64) hi (by decide)) (br_f (by decide) ?_)
      rw [eci]
      exact ⟨hii, hii, br_t hz (nm_r (nI_1 i) (w2 post J x5 w' (by omega) hp))⟩
    · obtain ⟨r1, cl1, se1, g11, g21, o1, s1, n1, w1⟩ := cx_sr4 H hDe hi 64 0 cl se g1 g2 rfl A
      obtain ⟨j1, hj1, n2, n3⟩ := n1 (by
        by_cases h : ∃ j0, 0 ≤ j0 ∧ j0 < 64 ∧ cl_b cl i j0 = true ∧ ¬ cl_b se i j0 = true
        · exact h
        · refine absurd (cl_b_row.mpr (fun j hj hc => ?_)) hz
          by_cases h' : cl_b se i j = true
          · exact h'
          · exact absurd ⟨j, Nat.zero_le _, hj, hc, h'⟩ h)
      have hpre : ∀ (post : Int32 → SX → Prop) (J : Int32 → Int32 → Int32 → Int32 → Int32 → Int32 → Int32 → Int32 → (Nat → Int32) → (Nat → Int32) → (Nat → Int32) → (Nat → Int32) → (Nat → Int32) → (Nat → Int64) → (Nat → Int64) → Prop) (x5 : Int32) (w : Nat),
          wX_alike_108 post J x5 w r1 1 (nI (i + 1)) (nI b) (nI f) (nI q) g11 g21 T C M RT RC cl1 se1 → wX_alike_108 post J x5 (w + 1) 1 x4 (nI i) (nI b) (nI f) (nI q) g1 g2 T C M RT RC cl se := by
        intro post J x5 w K
        refine br_f (nI_ge (b := 64) hi (by decide)) (br_f (by decide) ?_)
        rw [eci]
        refine ⟨hii, hii, br_f hz ⟨66, w1 _ 66 (by omega) (nm_r (nI_1 i) K)⟩⟩
      have hsub : cl_sub se0 se := by
        rcases hrd with ⟨_, _, h3, _⟩ | ⟨_, h, _⟩
        · rw [h3]; exact fun _ _ h => h
        · exact h
      rcases o1 with ⟨e1, hroot⟩ | ⟨e1, A1⟩
      · subst e1
        refine ⟨0, 1, cl1, se1, g11, g21, Or.inl ⟨rfl, hroot⟩, fun post J x5 w hw hp => ?_⟩
        obtain ⟨w', rfl⟩ : ∃ w', w = w' + 2 := ⟨w - 2, by omega⟩
        exact hpre post J x5 (w' + 1) (br_c (fun _ => nm_e hp) (fun _ => br_t rfl (nm_e hp)))
      · subst e1
        obtain ⟨r2, op, cl2, se2, g12, g22, o2, w2⟩ := ih (i + 1) cl1 se1 g11 g21 1 (by omega) A1 (Or.inr ⟨rfl, fun a c h => s1 a c (hsub a c h), i, j1, hi, hj1, fun h => n2 (hsub _ _ h), n3⟩)
        refine ⟨r2, op, cl2, se2, g12, g22, o2, fun post J x5 w hw hp => ?_⟩
        obtain ⟨w', rfl⟩ : ∃ w', w = w' + 1 := ⟨w - 1, by omega⟩
        exact hpre post J x5 w' (w2 post J x5 w' (by omega) hp)
end
end
section
/-! ===== alike: the rounds, both sides ===== -/
/-- the pairs of places not yet settled -/
def cl_Up (b : Nat) (rl ph : Nat → Nat) (se : Nat → Int64) (n : Nat) : Bool := decide (¬ (rl (ph (n / 32)) = n / 32 ∧ rl (ph (n % 32)) = n % 32 ∧ cl_b se (ph (n / 32) - b) (ph (n % 32) - b) = true))
section
variable {T C M RT RC : Nat → Int32} {cl se : Nat → Int64} {rk rd ck cd dk dd : Nat → Int32}
variable {rl ph : Nat → Nat} {b f q : Nat} {De : Nat → Prop} {k0 d0 k1 d1 : Int32}
theorem cl_U_lt {cl' se' : Nat → Int64} (H : cl_H b f q rl ph T C M RT RC rk rd ck cd dk dd) (A : cl_AI b rl ph De ck cd dk dd k0 d0 k1 d1 cl' se') (hs : cl_sub se se')
    {i j : Nat} (hi : i < 64) (hj : j < 64) (h0 : ¬ cl_b se i j = true) (h1 : cl_b se' i j = true) : cl_n (cl_Up b rl ph se') 1024 < cl_n (cl_Up b rl ph se) 1024 := by
  obtain ⟨r1, r2, _⟩ := A.1 i j hi hj (A.2.1 i j hi hj h1).1
  have G := H.1.2.2.2.2.2.1
  have x1 := (cl_H_hd H r1).1
  have y1 := (cl_H_hd H r2).1
  have e1 : (rl (b + i) * 32 + rl (b + j)) / 32 = rl (b + i) := by omega
  have e2 : (rl (b + i) * 32 + rl (b + j)) % 32 = rl (b + j) := by omega
  have e3 : ph (rl (b + i)) - b = i := by omega
  have e4 : ph (rl (b + j)) - b = j := by omega
  refine cl_n_lt 1024 (fun n _ h => ?_) (rl (b + i) * 32 + rl (b + j)) (by omega) (fun h => ?_) ?_
  · unfold cl_Up at h ⊢
    rw [decide_eq_true_eq] at h ⊢
    exact fun h' => h ⟨h'.1, h'.2.1, hs _ _ h'.2.2⟩
  · unfold cl_Up at h
    rw [decide_eq_true_eq, e1, e2, e3, e4] at h
    exact h ⟨(G.2.1 _ r1).1, (G.2.1 _ r2).1, h1⟩
  · unfold cl_Up
    rw [decide_eq_true_eq, e1, e2, e3, e4]
    exact fun h' => h0 h'.2.2
/-- values that are claimed to look the same don't look different -/
theorem cl_nok {k d k' d' : Int32} (h1 : k = 2 → ∃ y, y < 32 ∧ d = nI y ∧ rl (ph y) = y) (h2 : k' = 2 → ∃ y, y < 32 ∧ d' = nI y ∧ rl (ph y) = y) (ho : cl_ok b ph cl k d k' d')
    (hd : cl_df (fun n => ¬ (rl (ph (n / 32)) = n / 32 ∧ rl (ph (n % 32)) = n % 32 ∧ cl_b cl (ph (n / 32) - b) (ph (n % 32) - b) = true)) k d k' d') : False := by
  obtain ⟨o1, o2, o3⟩ := ho
  rcases hd with h | ⟨h, h'⟩ | ⟨h, h'⟩
  · exact h o1
  · exact h' (o2 h)
  · obtain ⟨y, hy, ey, ry⟩ := h1 h
    obtain ⟨z, hz, ez, rz⟩ := h2 (by rw [← o1]; exact h)
    have o := o3 h
    rw [ey, ez, cx_cl32 hy, cx_cl32 hz] at o h'
    have e1 : (y * 32 + z) / 32 = y := by omega
    have e2 : (y * 32 + z) % 32 = z := by omega
    rw [e1, e2] at h'
    exact h' ⟨ry, rz, o⟩
theorem cl_fin (H : cl_H b f q rl ph T C M RT RC rk rd ck cd dk dd) (A : cl_AI b rl ph (cl_De ck cd dk dd) ck cd dk dd k0 d0 k1 d1 cl se)
    (hall : ∀ i j, i < 64 → j < 64 → cl_b cl i j = true → cl_b se i j = true)
    (h0 : k0 = 2 → ∃ y, y < 32 ∧ d0 = nI y ∧ rl (ph y) = y) (h1 : k1 = 2 → ∃ y, y < 32 ∧ d1 = nI y ∧ rl (ph y) = y) : ¬ cl_df (cl_De ck cd dk dd) k0 d0 k1 d1 := by
  intro hd
  have hrep := cl_R_rep H.1
  have hY := H.1.2.2.2.2.2.2.2
  have hcar : ∀ p, p < 32 → rl (ph p) = p → ck p = 2 → ∃ y, y < 32 ∧ cd p = nI y ∧ rl (ph y) = y := fun p hp hr hk => by
    obtain ⟨y, hy, e⟩ := (hY p hp).1 hk
    exact ⟨y, hy, e, (hrep.2 p hp hr).1 hk y hy e⟩
  have hcdr : ∀ p, p < 32 → rl (ph p) = p → dk p = 2 → ∃ y, y < 32 ∧ dd p = nI y ∧ rl (ph y) = y := fun p hp hr hk => by
    obtain ⟨y, hy, e⟩ := (hY p hp).2 hk
    exact ⟨y, hy, e, (hrep.2 p hp hr).2 hk y hy e⟩
  refine cl_nok h0 h1 A.2.2 (cl_df_mono (fun i hi => hi (fun n => ¬ (rl (ph (n / 32)) = n / 32 ∧ rl (ph (n % 32)) = n % 32 ∧ cl_b cl (ph (n / 32) - b) (ph (n % 32) - b) = true)) ?_) hd)
  intro p x hp hx hda
  have e1 : (p * 32 + x) / 32 = p := by omega
  have e2 : (p * 32 + x) % 32 = x := by omega
  show ¬ (rl (ph ((p * 32 + x) / 32)) = (p * 32 + x) / 32 ∧ rl (ph ((p * 32 + x) % 32)) = (p * 32 + x) % 32 ∧ cl_b cl (ph ((p * 32 + x) / 32) - b) (ph ((p * 32 + x) % 32) - b) = true)
  rw [e1, e2]
  rintro ⟨q1, q2, q3⟩
  obtain ⟨_, z1, z2, _⟩ := cl_H_hd H (a := ph p) (by rw [q1]; exact hp)
  obtain ⟨_, y1, y2, _⟩ := cl_H_hd H (a := ph x) (by rw [q2]; exact hx)
  obtain ⟨_, o1, o2⟩ := A.2.1 _ _ (by omega) (by omega) (hall _ _ (by omega) (by omega) q3)
  rw [show b + (ph p - b) = ph p by omega, show b + (ph x - b) = ph x by omega, q1, q2] at o1 o2
  rcases hda with h | h
  · exact cl_nok (hcar p hp q1) (hcar x hx q2) o1 h
  · exact cl_nok (hcdr p hp q1) (hcdr x hx q2) o2 h
theorem cx_85 (H : cl_H b f q rl ph T C M RT RC rk rd ck cd dk dd)
    (h0 : k0 = 2 → ∃ y, y < 32 ∧ d0 = nI y ∧ rl (ph y) = y) (h1 : k1 = 2 → ∃ y, y < 32 ∧ d1 = nI y ∧ rl (ph y) = y) :
    ∀ (m j : Nat) (cl se : Nat → Int64) (g1 g2 : Int32), cl_AI b rl ph (cl_De ck cd dk dd) ck cd dk dd k0 d0 k1 d1 cl se → cl_n (cl_Up b rl ph se) 1024 < m → cl_n (cl_Up b rl ph se) 1024 + j ≤ 1024 →
      ∃ (r : Int32) (cl' se' : Nat → Int64) (g1' g2' : Int32), ((r = 0 ∧ cl_df (cl_De ck cd dk dd) k0 d0 k1 d1) ∨ (r = 1 ∧ ¬ cl_df (cl_De ck cd dk dd) k0 d0 k1 d1)) ∧
        ∀ (post : Int32 → SX → Prop) (w : Nat), m + 2 ≤ w → post r (nI b, nI f, nI q, g1', g2', T, C, M, RT, RC, cl', se') → wX_alike_85 post w 1 1 (nI j) (nI b) (nI f) (nI q) g1 g2 T C M RT RC cl se := by
  intro m
  induction m with
  | zero => intro j cl se g1 g2 A hm hj; omega
  | succ m ih =>
    intro j cl se g1 g2 A hm hj
    obtain ⟨r1, op, cl1, se1, g11, g21, o1, w1⟩ := cx_108 (cl0 := cl) (se0 := se) H (cl_De_c ck cd dk dd) 64 0 cl se g1 g2 0 rfl A (Or.inl ⟨rfl, rfl, rfl, fun i' j hi' => by omega⟩)
    have hlt := nI_ge (b := 1100) (a := j) (by omega) (by decide)
    rcases o1 with ⟨e1, hroot⟩ | ⟨e1, A1, hrd⟩
    · subst e1
      refine ⟨0, cl1, se1, g11, g21, Or.inl ⟨rfl, hroot⟩, fun post w hw hp => ?_⟩
      obtain ⟨w', rfl⟩ : ∃ w', w = w' + 2 := ⟨w - 2, by omega⟩
      refine br_f hlt (br_f (by decide) (br_f (by decide) ⟨66, w1 post _ _ 66 (by omega) ?_⟩))
      exact br_c (fun _ => ⟨rfl, hp⟩) (fun _ => br_t rfl ⟨rfl, hp⟩)
    · subst e1
      rcases hrd with ⟨eo, _, _, hall⟩ | ⟨eo, hs, i1, j1, hi1, hj1, n1, n2⟩
      · subst eo
        refine ⟨1, cl1, se1, g11, g21, Or.inr ⟨rfl, cl_fin H A1 (fun i j hi hj h => hall i j hi hj h) h0 h1⟩, fun post w hw hp => ?_⟩
        obtain ⟨w', rfl⟩ : ∃ w', w = w' + 2 := ⟨w - 2, by omega⟩
        refine br_f hlt (br_f (by decide) (br_f (by decide) ⟨66, w1 post _ _ 66 (by omega) ?_⟩))
        exact br_c (fun _ => ⟨rfl, hp⟩) (fun _ => br_f (by decide) (br_t rfl ⟨rfl, hp⟩))
      · subst eo
        have hU := cl_U_lt H A1 hs hi1 hj1 n1 n2
        obtain ⟨r2, cl2, se2, g12, g22, o2, w2⟩ := ih (j + 1) cl1 se1 g11 g21 A1 (by omega) (by omega)
        refine ⟨r2, cl2, se2, g12, g22, o2, fun post w hw hp => ?_⟩
        obtain ⟨w', rfl⟩ : ∃ w', w = w' + 1 := ⟨w - 1, by omega⟩
        refine br_f hlt (br_f (by decide) (br_f (by decide) ⟨66, w1 post _ _ 66 (by omega) ?_⟩))
        rw [nI_1 j]
        exact w2 post w' (by omega) hp
theorem cx_24 {g1 g2 : Int32} {r s : Nat} : ∀ (m i : Nat) (cl se : Nat → Int64), i + m = 64 → (∀ i' j, i' < i → cl_b cl i' j = false ∧ cl_b se i' j = false) →
    ∃ cl' se' : Nat → Int64, (∀ i' j, i' < 64 → cl_b cl' i' j = false ∧ cl_b se' i' j = false) ∧
      ∀ (post : Int32 → SX → Prop) (w : Nat), m + 1 ≤ w → wX_alike_24 post (nI r) (nI s) (nI b) (nI f) (nI q) g1 g2 1 (nI 64) T C M RT RC cl' se' → wX_alike_24 post (nI r) (nI s) (nI b) (nI f) (nI q) g1 g2 w (nI i) T C M RT RC cl se := by
  intro m
  induction m with
  | zero =>
    intro i cl se hm h
    obtain rfl : i = 64 := by omega
    refine ⟨cl, se, h, fun post w hw K => ?_⟩
    obtain ⟨w', rfl⟩ : ∃ w', w = w' + 1 := ⟨w - 1, by omega⟩
    exact br_t (by decide) (K.1 (by decide))
  | succ m ih =>
    intro i cl se hm h
    have hi : i < 64 := by omega
    have hii := vp_in_nI hi (show 64 < 2 ^ 31 by decide)
    have eci : (nI i).toNatClampNeg = i := nI_clamp (by omega)
    obtain ⟨cl', se', J1, J2⟩ := ih (i + 1) (vp_updL cl i 0) (vp_updL se i 0) (by omega) (fun i' j hi' => by
      rw [cl_b_0, cl_b_0]
      by_cases e : i' = i
      · rw [decide_eq_true e]; exact ⟨rfl, rfl⟩
      · rw [(h i' j (by omega)).1, (h i' j (by omega)).2, Bool.and_false]; exact ⟨rfl, rfl⟩)
    refine ⟨cl', se', J1, fun post w hw K => ?_⟩
    obtain ⟨w', rfl⟩ : ∃ w', w = w' + 1 := ⟨w - 1, by omega⟩
    exact br_f (nI_ge (b := 64) hi (by decide)) ⟨hii, nm_r (e' := vp_updL cl i 0) (by rw [eci]) ⟨hii, nm_r (e' := vp_updL se i 0) (by rw [eci]) (nm_r (nI_1 i) (J2 post w' (by omega) K))⟩⟩
end
theorem i_vc_alike {k : Nat} {u : SX} {v : SY} (I : i_Rel k u v) (hk : k + 5 ≤ 2560) (v1 : Int32) (v2 : Int32) : wpX_alike (fun r u' => wpY_alike (fun r' v' => r' = r ∧ i_Rel (k + 5) u' v') v v1 v2) u v1 v2 := by
  refine cl_el (P := fun u v => wpX_alike (fun r u' => wpY_alike (fun r' v' => r' = r ∧ i_Rel (k + 5) u' v') v v1 v2) u v1 v2) ?_ I
  intro b f q rl ph g1 g2 T C M RT RC cl se sl ek rk rd ck cd dk dd tk df sp R
  unfold wpX_alike wpY_alike
  dsimp only
  rcases cx_reg v1 with ⟨r, hr, rfl⟩ | ⟨hX, hY⟩
  · rcases cx_reg v2 with ⟨s, hs, rfl⟩ | ⟨hX, hY⟩
    · have hir := vp_in_nI hr (show 8 < 2 ^ 31 by decide)
      have his := vp_in_nI hs (show 8 < 2 ^ 31 by decide)
      obtain ⟨df', wY⟩ := cy_alike sl ek tk df sp R.2.2.2.2.2.2.2 (cl_R_regs R) hr hs
      obtain ⟨b', f', q', rl', ph', T', C', M', RC', g1', g2', R', J2, J3, J4, J5, J6⟩ := cl_col g1 g2 R
      have hq := R'.2.2.2.1
      have H : cl_H b' f' q' rl' ph' T' C' M' RT RC' rk rd ck cd dk dd := ⟨R', by omega, J5⟩
      have hrep := cl_R_rep R'
      have hreg : ∀ r, r < 8 → rk r = 2 → ∃ y, y < 32 ∧ rd r = nI y ∧ rl' (ph' y) = y := fun r hr hk => by
        obtain ⟨y, hy, e⟩ := cl_R_regs R' r hr hk
        exact ⟨y, hy, e, hrep.1 r hr hk y hy e⟩
      have vr := R'.2.2.2.2.2.2.1 r hr
      have vs := R'.2.2.2.2.2.2.1 s hs
      obtain ⟨cl0, se0, z1, z2⟩ := cx_24 (b := b') (f := f') (q := q') (T := T') (C := C') (M := M') (RT := RT) (RC := RC') (g1 := g1') (g2 := g2') (r := r) (s := s) 64 0 cl se rfl (fun i' j hi' => by omega)
      obtain ⟨ra, cl1, s1, o1, wC⟩ := cx_claim H vr vs cl0
      have pre : ∀ post : Int32 → SX → Prop, (∃ n85, wX_alike_85 post n85 ra 1 0 (nI b') (nI f') (nI q') g1' g2' T' C' M' RT RC' cl1 se0) →
          ∃ n24, wX_alike_24 post (nI r) (nI s) (nI b') (nI f') (nI q') g1' g2' n24 0 T' C' M' RT RC' cl se := by
        intro post K
        refine ⟨65, z2 post 65 (by omega) (br_t (by decide) ?_)⟩
        rw [cx_cl8 hr, cx_cl8 hs]
        exact ⟨hir, hir, his, his, wC _ _ _ _ _ _ _ _ _ _ _ K⟩
      have ans : ∃ (ro : Int32) (cl2 se2 : Nat → Int64) (g12 g22 : Int32), ((ro = 0 ∧ cl_df (cl_De ck cd dk dd) (rk r) (rd r) (rk s) (rd s)) ∨ (ro = 1 ∧ ¬ cl_df (cl_De ck cd dk dd) (rk r) (rd r) (rk s) (rd s))) ∧
          ∀ post : Int32 → SX → Prop, post ro (nI b', nI f', nI q', g12, g22, T', C', M', RT, RC', cl2, se2) →
            ∃ n85, wX_alike_85 post n85 ra 1 0 (nI b') (nI f') (nI q') g1' g2' T' C' M' RT RC' cl1 se0 := by
        rcases o1 with ⟨e1, n1⟩ | ⟨e1, k1, m1⟩
        · subst e1
          exact ⟨0, cl1, se0, g1', g2', Or.inl ⟨rfl, cl_df_no n1⟩, fun post hp => ⟨1, br_f (by decide) (br_t rfl ⟨rfl, hp⟩)⟩⟩
        · subst e1
          have A : cl_AI b' rl' ph' (cl_De ck cd dk dd) ck cd dk dd (rk r) (rd r) (rk s) (rd s) cl1 se0 := by
            refine ⟨fun i j hi hj h => ?_, fun i j hi hj h => ?_, k1⟩
            · rcases m1 i j hi hj h with h | ⟨x1, x2, x3, x4, x5⟩
              · rw [(z1 i j hi).1] at h; exact absurd h (by decide)
              · exact ⟨x2, x3, fun hd => cl_df_pr x1 x2 x3 x4 x5 hd⟩
            · rw [(z1 i j hi).2] at h; exact absurd h (by decide)
          have hU := cl_n_le (cl_Up b' rl' ph' se0) 1024
          obtain ⟨r2, cl2, se2, g12, g22, o2, w2⟩ := cx_85 H (hreg r hr) (hreg s hs) 1025 0 cl1 se0 g1' g2' A (by omega) (by omega)
          exact ⟨r2, cl2, se2, g12, g22, o2, fun post hp => ⟨1027, w2 post 1027 (by omega) hp⟩⟩
      obtain ⟨ro, cl2, se2, g12, g22, o2, w2⟩ := ans
      refine cx_ok hr (br_t rfl (cx_ok hs (br_t rfl (J6 _ cl se (pre _ (w2 _ ?_))))))
      refine cy_ok hr (br_f (by decide) (cy_ok hs (br_f (by decide) (wY _ (fun hd => ⟨?_, cl_in R'⟩) (fun hd => ⟨?_, cl_in R'⟩)))))
      · rcases o2 with ⟨e, _⟩ | ⟨_, h⟩
        · exact e.symm
        · exact absurd hd h
      · rcases o2 with ⟨_, h⟩ | ⟨e, _⟩
        · exact absurd h hd
        · exact e.symm
    · exact cx_ok hr (br_t rfl (hX _ _ (br_f (by decide) (cy_ok hr (br_f (by decide) (hY _ _ (br_t rfl ⟨rfl, cl_in R⟩)))))))
  · exact hX _ _ (br_f (by decide) (hY _ _ (br_t rfl ⟨rfl, cl_in R⟩)))
end
