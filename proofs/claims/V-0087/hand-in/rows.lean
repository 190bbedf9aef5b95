section
/-! pure rows to paste: stores, nI and lN arithmetic, masks, shifts, narrowing, branches by naturals (pk_le, pk_lt, pk_eq), loops (lp1 .. lp16: the measure of the state; rp1 ..: recursion), negatives. Take what you need -/
theorem pk_us {f : Nat → Int32} {k : Nat} {x : Int32} : upd f k x k = x := if_pos rfl
theorem pk_un {f : Nat → Int32} {k j : Nat} {x : Int32} (h : j ≠ k) : upd f k x j = f j := if_neg h
theorem pk_uLs {f : Nat → Int64} {k : Nat} {x : Int64} : vp_updL f k x k = x := if_pos rfl
theorem pk_uLn {f : Nat → Int64} {k j : Nat} {x : Int64} (h : j ≠ k) : vp_updL f k x j = f j := if_neg h
theorem pk_sub {a b : Nat} (h : b ≤ a) : nI a - nI b = nI (a - b) := by
  obtain ⟨c, rfl⟩ : ∃ c, a = c + b := ⟨a - b, by omega⟩
  rw [← nI_add, Int32.add_sub_cancel, Nat.add_sub_cancel]
theorem pk_m1 (n : Nat) : nI (n + 1) + (-1) = nI n := by
  rw [← nI_1, Int32.add_assoc, show (1 : Int32) + (-1) = 0 from rfl, Int32.add_zero]
theorem pk_mul (a b : Nat) : nI a * nI b = nI (a * b) := (Int32.ofNat_mul a b).symm
theorem pk_div {a d : Nat} (ha : a < 2 ^ 31) (h0 : 0 < d) (hd : d < 2 ^ 31) : nI a / nI d = nI (a / d) := by
  apply Int32.toInt_inj.mp
  rw [lg_idiv_nonneg (by rw [nI_toInt ha]; omega) (by rw [nI_toInt hd]; omega), nI_toInt ha, nI_toInt hd, nI_toInt (Nat.lt_of_le_of_lt (Nat.div_le_self a d) ha)]
  first | rfl | exact (Int.natCast_ediv _ _).symm
theorem pk_rem {a d : Nat} (ha : a < 2 ^ 31) (h0 : 0 < d) (hd : d < 2 ^ 31) : nI a - nI a / nI d * nI d = nI (a % d) := by
  rw [pk_div ha h0 hd, pk_mul, pk_sub (Nat.div_mul_le_self a d)]
  exact congrArg nI (by have := Nat.div_add_mod' a d; omega)
theorem pk_sub_toInt {a b : Nat} (ha : a < 2 ^ 30) (hb : b < 2 ^ 30) : (nI a - nI b).toInt = (a : Int) - b := by
  rw [Int32.toInt_sub, nI_toInt (by omega), nI_toInt (by omega)]
  exact Int.bmod_eq_of_le (by omega) (by omega)
theorem pk_sneg {a b : Nat} (hb : b < 2 ^ 30) (h : a < b) : nI a - nI b < 0 := by
  rw [Int32.lt_iff_toInt_lt, pk_sub_toInt (by omega) hb, show (0 : Int32).toInt = 0 from by decide]
  omega
theorem pk_ix (x : Int32) {n : Nat} (hn : n < 2 ^ 31) : x < 0 ∨ nI n ≤ x ∨ ∃ j : Nat, j < n ∧ x = nI j := by
  by_cases h : x < 0
  · exact Or.inl h
  · obtain ⟨j, hj, rfl⟩ := nI_of h
    by_cases h2 : j < n
    · exact Or.inr (Or.inr ⟨j, h2, rfl⟩)
    · exact Or.inr (Or.inl (nI_le (by omega) hj))
theorem pk_le {x y : Int32} {A B : Prop} (a b : Nat) (f : a ≤ b → A) (g : b < a → B) (hx : x = nI a := by rfl) (hy : y = nI b := by rfl) (ha : a < 2 ^ 31 := by omega) (hb : b < 2 ^ 31 := by omega) : (x ≤ y → A) ∧ (¬ x ≤ y → B) := by
  subst hx hy
  rw [nI_leI ha hb]
  exact ⟨f, fun z => g (by omega)⟩
theorem pk_lt {x y : Int32} {A B : Prop} (a b : Nat) (f : a < b → A) (g : b ≤ a → B) (hx : x = nI a := by rfl) (hy : y = nI b := by rfl) (ha : a < 2 ^ 31 := by omega) (hb : b < 2 ^ 31 := by omega) : (x < y → A) ∧ (¬ x < y → B) := by
  subst hx hy
  rw [nI_ltI ha hb]
  exact ⟨f, fun z => g (by omega)⟩
theorem pk_eq {x y : Int32} {A B : Prop} (a b : Nat) (f : a = b → A) (g : a ≠ b → B) (hx : x = nI a := by rfl) (hy : y = nI b := by rfl) (ha : a < 2 ^ 31 := by omega) (hb : b < 2 ^ 31 := by omega) : (x = y → A) ∧ (¬ x = y → B) := by
  subst hx hy
  rw [nI_eq ha hb]
  exact ⟨f, g⟩
theorem pk_in {x : Int32} (n N : Nat) (h : n < N) (hx : x = nI n := by rfl) (hN : N < 2 ^ 31 := by omega) : vp_in x N := by
  subst hx
  exact vp_in_nI h hN
theorem pk_cl {x : Int32} (n : Nat) (hx : x = nI n := by rfl) (h : n < 2 ^ 31 := by omega) : x.toNatClampNeg = n := by
  subst hx
  exact nI_clamp h
theorem pk_tn {n : Nat} (h : n < 2 ^ 32) : (nI n).toBitVec.toNat = n := Nat.mod_eq_of_lt h
theorem pk_and (x : Int32) {m : Int32} (k : Nat) (hm : m.toBitVec.toNat = 2 ^ k - 1) : x &&& m = nI (x.toBitVec.toNat % 2 ^ k) := by
  apply Int32.toBitVec_inj.mp
  apply BitVec.eq_of_toNat_eq
  rw [Int32.toBitVec_and, BitVec.toNat_and, hm, Nat.and_two_pow_sub_one_eq_mod]
  show _ = (BitVec.ofNat 32 _).toNat
  rw [BitVec.toNat_ofNat]
  exact (Nat.mod_eq_of_lt (Nat.lt_of_le_of_lt (Nat.mod_le _ _) x.toBitVec.isLt)).symm
theorem pk_andN {n : Nat} (h : n < 2 ^ 32) {m : Int32} (k : Nat) (hm : m.toBitVec.toNat = 2 ^ k - 1) : nI n &&& m = nI (n % 2 ^ k) := by
  rw [pk_and _ k hm, pk_tn h]
theorem pk_andE (x : Int32) {m : Int32} (k : Nat) (hm : m.toBitVec.toNat = 2 ^ k - 1) : ∃ j : Nat, j < 2 ^ k ∧ x &&& m = nI j := ⟨_, Nat.mod_lt _ (Nat.two_pow_pos k), pk_and x k hm⟩
theorem pk_andIn (x : Int32) {m : Int32} (k : Nat) (hm : m.toBitVec.toNat = 2 ^ k - 1) (hk : k ≤ 30) : vp_in (x &&& m) (2 ^ k) := by
  obtain ⟨j, hj, e⟩ := pk_andE x k hm
  rw [e]
  exact vp_in_nI hj (Nat.lt_of_le_of_lt (Nat.pow_le_pow_right (by decide) hk) (by decide))
theorem pk_shl (a s : Int32) (k : Nat) (hs : (s.toBitVec.smod 32).toNat = k) : (a <<< s).toBitVec.toNat = a.toBitVec.toNat * 2 ^ k % 2 ^ 32 := by
  show (a.toBitVec <<< (s.toBitVec.smod 32).toNat).toNat = _
  rw [hs, BitVec.toNat_shiftLeft, Nat.shiftLeft_eq]
theorem pk_shlN {n : Nat} (s : Int32) (k : Nat) (hs : (s.toBitVec.smod 32).toNat = k) (h : n * 2 ^ k < 2 ^ 32) : nI n <<< s = nI (n * 2 ^ k) := by
  apply Int32.toBitVec_inj.mp
  apply BitVec.eq_of_toNat_eq
  have hn : n < 2 ^ 32 := Nat.lt_of_le_of_lt (Nat.le_mul_of_pos_right n (Nat.two_pow_pos k)) h
  rw [pk_shl _ _ k hs, pk_tn hn, pk_tn h, Nat.mod_eq_of_lt h]
theorem pk_shr (a s : Int32) (k : Nat) (hs : (s.toBitVec.smod 32).toNat = k) : (a >>> s).toInt = a.toInt >>> k := by
  show (a.toBitVec.sshiftRight (s.toBitVec.smod 32).toNat).toInt = _
  rw [hs, BitVec.toInt_sshiftRight]
  rfl
theorem pk_shrN {n : Nat} (h : n < 2 ^ 31) (s : Int32) (k : Nat) (hs : (s.toBitVec.smod 32).toNat = k) : nI n >>> s = nI (n / 2 ^ k) := by
  apply Int32.toInt_inj.mp
  have h2 : n / 2 ^ k ≤ n := Nat.div_le_self _ _
  rw [pk_shr _ _ k hs, nI_toInt h, nI_toInt (by omega), Int.shiftRight_eq_div_pow]
  rfl
theorem pk_ushr (x s : Int32) (k : Nat) (hs : ((s.toUInt32 &&& Int32.toUInt32 31).toBitVec % 32).toNat = k) : (x.toUInt32 >>> (s.toUInt32 &&& Int32.toUInt32 31)).toInt32.toBitVec.toNat = x.toBitVec.toNat / 2 ^ k := by
  have e : (x.toUInt32 >>> (s.toUInt32 &&& Int32.toUInt32 31)).toInt32.toBitVec = x.toBitVec >>> k := by
    rw [← hs]
    exact UInt32.toBitVec_shiftRight _ _
  rw [e, BitVec.toNat_ushiftRight, Nat.shiftRight_eq_div_pow]
theorem pk_ushrN {n : Nat} (hn : n < 2 ^ 32) (s : Int32) (k : Nat) (hs : ((s.toUInt32 &&& Int32.toUInt32 31).toBitVec % 32).toNat = k) : ((nI n).toUInt32 >>> (s.toUInt32 &&& Int32.toUInt32 31)).toInt32 = nI (n / 2 ^ k) := by
  apply Int32.toBitVec_inj.mp
  apply BitVec.eq_of_toNat_eq
  rw [pk_ushr _ s k hs, pk_tn hn, pk_tn (Nat.lt_of_le_of_lt (Nat.div_le_self _ _) hn)]
theorem pk_nb (z : Int32) : narrow .byte (.int z.toInt8.toInt32) = .int z.toInt8.toInt32 := congrArg Value.int (by simp)
theorem pk_ns (z : Int32) : narrow .short (.int z.toInt16.toInt32) = .int z.toInt16.toInt32 := congrArg Value.int (by simp)
theorem pk_fb (r : Int32) : fits .byte (.int r.toInt8.toInt32) = true := by
  have ⟨a, b⟩ := lg_i2b_range r
  have h1 : (-128 : Int32).toInt = -128 := by decide
  have h2 : (127 : Int32).toInt = 127 := by decide
  simp only [fits, Bool.and_eq_true, decide_eq_true_eq, Int32.le_iff_toInt_le, h1, h2]
  omega
theorem pk_fs (r : Int32) : fits .short (.int r.toInt16.toInt32) = true := by
  have ⟨a, b⟩ := lg_i2s_range r
  have h1 : (-32768 : Int32).toInt = -32768 := by decide
  have h2 : (32767 : Int32).toInt = 32767 := by decide
  simp only [fits, Bool.and_eq_true, decide_eq_true_eq, Int32.le_iff_toInt_le, h1, h2]
  omega
theorem pk_charN {q : Nat} (hq : q < 65536) : narrow .char (.int (nI q)) = .int (nI q) ∧ fits .char (.int (nI q)) = true := by
  constructor
  · have e : (nI q).toUInt32.toUInt16.toUInt32.toInt32 = nI q := by
      apply Int32.toBitVec_inj.mp
      apply BitVec.eq_of_toNat_eq
      show (nI q).toUInt32.toUInt16.toUInt32.toNat = q % 2 ^ 32
      rw [UInt16.toNat_toUInt32, UInt32.toNat_toUInt16, show (nI q).toUInt32.toNat = q % 2 ^ 32 from rfl]
      omega
    exact congrArg Value.int e
  · have a : (0 : Int32) ≤ nI q := nI_pos' (by omega)
    have b : nI q ≤ 65535 := nI_le (b := 65535) (by omega) (by decide)
    show (decide ((0 : Int32) ≤ nI q) && decide (nI q ≤ 65535)) = true
    rw [decide_eq_true a, decide_eq_true b]
    rfl
theorem pk_char (x : Int32) : (x.toUInt32 % 65536).toInt32 = nI (x.toBitVec.toNat % 65536) := by
  apply Int32.toBitVec_inj.mp
  apply BitVec.eq_of_toNat_eq
  rw [pk_tn (by omega)]
  show (x.toUInt32 % 65536).toNat = _
  rw [UInt32.toNat_mod]
  rfl
theorem pk_nc (x : Int32) : narrow .char (.int (x.toUInt32 % 65536).toInt32) = .int (x.toUInt32 % 65536).toInt32 := by
  rw [pk_char]
  exact (pk_charN (Nat.mod_lt _ (by decide))).1
theorem pk_fc (x : Int32) : fits .char (.int (x.toUInt32 % 65536).toInt32) = true := by
  rw [pk_char]
  exact (pk_charN (Nat.mod_lt _ (by decide))).2
theorem pk_vb (z : Int32) : vp_nar .byte z.toInt8.toInt32 = z.toInt8.toInt32 := by rw [vp_nar_byte]; simp
theorem pk_vs (z : Int32) : vp_nar .short z.toInt16.toInt32 = z.toInt16.toInt32 := by rw [vp_nar_short]; simp
theorem pk_vc (z : Int32) : vp_nar .char (z.toUInt32 % 65536).toInt32 = (z.toUInt32 % 65536).toInt32 := Value.int.inj (pk_nc z)
theorem pk_lT {n : Nat} (h : n < 2 ^ 63) : (lN n).toInt = (n : Int) := lg_ofNat_toInt h
theorem pk_lLT {a b : Nat} (ha : a < 2 ^ 63) (hb : b < 2 ^ 63) : lN a < lN b ↔ a < b := by
  rw [Int64.lt_iff_toInt_lt, pk_lT ha, pk_lT hb]; omega
theorem pk_lLE {a b : Nat} (ha : a < 2 ^ 63) (hb : b < 2 ^ 63) : lN a ≤ lN b ↔ a ≤ b := by
  rw [Int64.le_iff_toInt_le, pk_lT ha, pk_lT hb]; omega
theorem pk_lEQ {a b : Nat} (ha : a < 2 ^ 63) (hb : b < 2 ^ 63) : lN a = lN b ↔ a = b := by
  rw [← Int64.toInt_inj, pk_lT ha, pk_lT hb]; omega
theorem pk_lOf {x : Int64} (h : ¬ x < 0) : ∃ k : Nat, k < 2 ^ 63 ∧ x = lN k := by
  rw [Int64.lt_iff_toInt_lt] at h
  have h0 : (0 : Int64).toInt = 0 := by decide
  have hx := Int64.toInt_lt x
  refine ⟨x.toInt.toNat, by omega, Int64.toInt_inj.mp ?_⟩
  rw [pk_lT (by omega)]
  omega
theorem pk_lDiv {a b : Nat} (ha : a < 2 ^ 63) (h0 : 0 < b) (hb : b < 2 ^ 63) : lN a / lN b = lN (a / b) := by
  apply Int64.toInt_inj.mp
  rw [lg_ldiv_nonneg (by rw [pk_lT ha]; omega) (by rw [pk_lT hb]; omega), pk_lT ha, pk_lT hb, pk_lT (Nat.lt_of_le_of_lt (Nat.div_le_self a b) ha)]
  rfl
theorem pk_lRem {a b : Nat} (ha : a < 2 ^ 63) (h0 : 0 < b) (hb : b < 2 ^ 63) : lN a - lN a / lN b * lN b = lN (a % b) := by
  rw [pk_lDiv ha h0 hb, lN_mul, lN_sub (Nat.div_mul_le_self a b)]
  exact congrArg lN (by have := Nat.div_add_mod' a b; omega)
theorem pk_loop {σ : Type} (W : Nat → Nat → σ → Prop) (I : Nat → σ → Prop) (e i0 : Nat) (s : σ) (hi : i0 ≤ e) (h0 : I i0 s) (hx : ∀ n s, I e s → W (n + 1) e s)
    (hs : ∀ n i s, i < e → I i s → (∀ s', I (i + 1) s' → W n (i + 1) s') → W (n + 1) i s) : ∃ n, W n i0 s :=
  ⟨e + 1, loop_i W I e hx hs (e + 1) i0 s hi (by omega) h0⟩
theorem pk_loopD {σ : Type} (W : Nat → Nat → σ → Prop) (I : Nat → σ → Prop) (hx : ∀ n s, I 0 s → W (n + 1) 0 s)
    (hs : ∀ n i s, I (i + 1) s → (∀ s', I i s' → W n i s') → W (n + 1) (i + 1) s) : ∀ (e : Nat) (s : σ), I e s → W (e + 1) e s := by
  intro e
  induction e with
  | zero => exact fun s h => hx 0 s h
  | succ e ih => exact fun s h => hs (e + 1) e s h (fun s' h' => ih s' h')
theorem lp1 {A1 : Type} (W : Nat → A1 → Prop) (I : A1 → Prop) (μ : A1 → Nat) (hs : ∀ (n : Nat) (a1 : A1), I a1 → (∀ (b1 : A1), I b1 → μ b1 < μ a1 → W n b1) → W (n + 1) a1) (a1 : A1) (h : I a1) : ∃ n, W n a1 :=
  loop_m (σ := A1) (fun n s => W n s) (fun s => I s) (fun s => μ s) (fun n s hI hk => hs n s hI (fun b1 h9 hm => hk b1 h9 hm)) a1 h
theorem lp2 {A1 A2 : Type} (W : Nat → A1 → A2 → Prop) (I : A1 → A2 → Prop) (μ : A1 → A2 → Nat) (hs : ∀ (n : Nat) (a1 : A1) (a2 : A2), I a1 a2 → (∀ (b1 : A1) (b2 : A2), I b1 b2 → μ b1 b2 < μ a1 a2 → W n b1 b2) → W (n + 1) a1 a2) (a1 : A1) (a2 : A2) (h : I a1 a2) : ∃ n, W n a1 a2 :=
  loop_m (σ := A1 × A2) (fun n s => W n s.1 s.2) (fun s => I s.1 s.2) (fun s => μ s.1 s.2) (fun n s hI hk => hs n s.1 s.2 hI (fun b1 b2 h9 hm => hk (b1, b2) h9 hm)) (a1, a2) h
theorem lp3 {A1 A2 A3 : Type} (W : Nat → A1 → A2 → A3 → Prop) (I : A1 → A2 → A3 → Prop) (μ : A1 → A2 → A3 → Nat) (hs : ∀ (n : Nat) (a1 : A1) (a2 : A2) (a3 : A3), I a1 a2 a3 → (∀ (b1 : A1) (b2 : A2) (b3 : A3), I b1 b2 b3 → μ b1 b2 b3 < μ a1 a2 a3 → W n b1 b2 b3) → W (n + 1) a1 a2 a3) (a1 : A1) (a2 : A2) (a3 : A3) (h : I a1 a2 a3) : ∃ n, W n a1 a2 a3 :=
  loop_m (σ := A1 × A2 × A3) (fun n s => W n s.1 s.2.1 s.2.2) (fun s => I s.1 s.2.1 s.2.2) (fun s => μ s.1 s.2.1 s.2.2) (fun n s hI hk => hs n s.1 s.2.1 s.2.2 hI (fun b1 b2 b3 h9 hm => hk (b1, b2, b3) h9 hm)) (a1, a2, a3) h
theorem lp4 {A1 A2 A3 A4 : Type} (W : Nat → A1 → A2 → A3 → A4 → Prop) (I : A1 → A2 → A3 → A4 → Prop) (μ : A1 → A2 → A3 → A4 → Nat) (hs : ∀ (n : Nat) (a1 : A1) (a2 : A2) (a3 : A3) (a4 : A4), I a1 a2 a3 a4 → (∀ (b1 : A1) (b2 : A2) (b3 : A3) (b4 : A4), I b1 b2 b3 b4 → μ b1 b2 b3 b4 < μ a1 a2 a3 a4 → W n b1 b2 b3 b4) → W (n + 1) a1 a2 a3 a4) (a1 : A1) (a2 : A2) (a3 : A3) (a4 : A4) (h : I a1 a2 a3 a4) : ∃ n, W n a1 a2 a3 a4 :=
  loop_m (σ := A1 × A2 × A3 × A4) (fun n s => W n s.1 s.2.1 s.2.2.1 s.2.2.2) (fun s => I s.1 s.2.1 s.2.2.1 s.2.2.2) (fun s => μ s.1 s.2.1 s.2.2.1 s.2.2.2) (fun n s hI hk => hs n s.1 s.2.1 s.2.2.1 s.2.2.2 hI (fun b1 b2 b3 b4 h9 hm => hk (b1, b2, b3, b4) h9 hm)) (a1, a2, a3, a4) h
theorem lp5 {A1 A2 A3 A4 A5 : Type} (W : Nat → A1 → A2 → A3 → A4 → A5 → Prop) (I : A1 → A2 → A3 → A4 → A5 → Prop) (μ : A1 → A2 → A3 → A4 → A5 → Nat) (hs : ∀ (n : Nat) (a1 : A1) (a2 : A2) (a3 : A3) (a4 : A4) (a5 : A5), I a1 a2 a3 a4 a5 → (∀ (b1 : A1) (b2 : A2) (b3 : A3) (b4 : A4) (b5 : A5), I b1 b2 b3 b4 b5 → μ b1 b2 b3 b4 b5 < μ a1 a2 a3 a4 a5 → W n b1 b2 b3 b4 b5) → W (n + 1) a1 a2 a3 a4 a5) (a1 : A1) (a2 : A2) (a3 : A3) (a4 : A4) (a5 : A5) (h : I a1 a2 a3 a4 a5) : ∃ n, W n a1 a2 a3 a4 a5 :=
  loop_m (σ := A1 × A2 × A3 × A4 × A5) (fun n s => W n s.1 s.2.1 s.2.2.1 s.2.2.2.1 s.2.2.2.2) (fun s => I s.1 s.2.1 s.2.2.1 s.2.2.2.1 s.2.2.2.2) (fun s => μ s.1 s.2.1 s.2.2.1 s.2.2.2.1 s.2.2.2.2) (fun n s hI hk => hs n s.1 s.2.1 s.2.2.1 s.2.2.2.1 s.2.2.2.2 hI (fun b1 b2 b3 b4 b5 h9 hm => hk (b1, b2, b3, b4, b5) h9 hm)) (a1, a2, a3, a4, a5) h
theorem lp6 {A1 A2 A3 A4 A5 A6 : Type} (W : Nat → A1 → A2 → A3 → A4 → A5 → A6 → Prop) (I : A1 → A2 → A3 → A4 → A5 → A6 → Prop) (μ : A1 → A2 → A3 → A4 → A5 → A6 → Nat) (hs : ∀ (n : Nat) (a1 : A1) (a2 : A2) (a3 : A3) (a4 : A4) (a5 : A5) (a6 : A6), I a1 a2 a3 a4 a5 a6 → (∀ (b1 : A1) (b2 : A2) (b3 : A3) (b4 : A4) (b5 : A5) (b6 : A6), I b1 b2 b3 b4 b5 b6 → μ b1 b2 b3 b4 b5 b6 < μ a1 a2 a3 a4 a5 a6 → W n b1 b2 b3 b4 b5 b6) → W (n + 1) a1 a2 a3 a4 a5 a6) (a1 : A1) (a2 : A2) (a3 : A3) (a4 : A4) (a5 : A5) (a6 : A6) (h : I a1 a2 a3 a4 a5 a6) : ∃ n, W n a1 a2 a3 a4 a5 a6 :=
  loop_m (σ := A1 × A2 × A3 × A4 × A5 × A6) (fun n s => W n s.1 s.2.1 s.2.2.1 s.2.2.2.1 s.2.2.2.2.1 s.2.2.2.2.2) (fun s => I s.1 s.2.1 s.2.2.1 s.2.2.2.1 s.2.2.2.2.1 s.2.2.2.2.2) (fun s => μ s.1 s.2.1 s.2.2.1 s.2.2.2.1 s.2.2.2.2.1 s.2.2.2.2.2) (fun n s hI hk => hs n s.1 s.2.1 s.2.2.1 s.2.2.2.1 s.2.2.2.2.1 s.2.2.2.2.2 hI (fun b1 b2 b3 b4 b5 b6 h9 hm => hk (b1, b2, b3, b4, b5, b6) h9 hm)) (a1, a2, a3, a4, a5, a6) h
theorem lp7 {A1 A2 A3 A4 A5 A6 A7 : Type} (W : Nat → A1 → A2 → A3 → A4 → A5 → A6 → A7 → Prop) (I : A1 → A2 → A3 → A4 → A5 → A6 → A7 → Prop) (μ : A1 → A2 → A3 → A4 → A5 → A6 → A7 → Nat) (hs : ∀ (n : Nat) (a1 : A1) (a2 : A2) (a3 : A3) (a4 : A4) (a5 : A5) (a6 : A6) (a7 : A7), I a1 a2 a3 a4 a5 a6 a7 → (∀ (b1 : A1) (b2 : A2) (b3 : A3) (b4 : A4) (b5 : A5) (b6 : A6) (b7 : A7), I b1 b2 b3 b4 b5 b6 b7 → μ b1 b2 b3 b4 b5 b6 b7 < μ a1 a2 a3 a4 a5 a6 a7 → W n b1 b2 b3 b4 b5 b6 b7) → W (n + 1) a1 a2 a3 a4 a5 a6 a7) (a1 : A1) (a2 : A2) (a3 : A3) (a4 : A4) (a5 : A5) (a6 : A6) (a7 : A7) (h : I a1 a2 a3 a4 a5 a6 a7) : ∃ n, W n a1 a2 a3 a4 a5 a6 a7 :=
  loop_m (σ := A1 × A2 × A3 × A4 × A5 × A6 × A7) (fun n s => W n s.1 s.2.1 s.2.2.1 s.2.2.2.1 s.2.2.2.2.1 s.2.2.2.2.2.1 s.2.2.2.2.2.2) (fun s => I s.1 s.2.1 s.2.2.1 s.2.2.2.1 s.2.2.2.2.1 s.2.2.2.2.2.1 s.2.2.2.2.2.2) (fun s => μ s.1 s.2.1 s.2.2.1 s.2.2.2.1 s.2.2.2.2.1 s.2.2.2.2.2.1 s.2.2.2.2.2.2) (fun n s hI hk => hs n s.1 s.2.1 s.2.2.1 s.2.2.2.1 s.2.2.2.2.1 s.2.2.2.2.2.1 s.2.2.2.2.2.2 hI (fun b1 b2 b3 b4 b5 b6 b7 h9 hm => hk (b1, b2, b3, b4, b5, b6, b7) h9 hm)) (a1, a2, a3, a4, a5, a6, a7) h
theorem lp8 {A1 A2 A3 A4 A5 A6 A7 A8 : Type} (W : Nat → A1 → A2 → A3 → A4 → A5 → A6 → A7 → A8 → Prop) (I : A1 → A2 → A3 → A4 → A5 → A6 → A7 → A8 → Prop) (μ : A1 → A2 → A3 → A4 → A5 → A6 → A7 → A8 → Nat) (hs : ∀ (n : Nat) (a1 : A1) (a2 : A2) (a3 : A3) (a4 : A4) (a5 : A5) (a6 : A6) (a7 : A7) (a8 : A8), I a1 a2 a3 a4 a5 a6 a7 a8 → (∀ (b1 : A1) (b2 : A2) (b3 : A3) (b4 : A4) (b5 : A5) (b6 : A6) (b7 : A7) (b8 : A8), I b1 b2 b3 b4 b5 b6 b7 b8 → μ b1 b2 b3 b4 b5 b6 b7 b8 < μ a1 a2 a3 a4 a5 a6 a7 a8 → W n b1 b2 b3 b4 b5 b6 b7 b8) → W (n + 1) a1 a2 a3 a4 a5 a6 a7 a8) (a1 : A1) (a2 : A2) (a3 : A3) (a4 : A4) (a5 : A5) (a6 : A6) (a7 : A7) (a8 : A8) (h : I a1 a2 a3 a4 a5 a6 a7 a8) : ∃ n, W n a1 a2 a3 a4 a5 a6 a7 a8 :=
  loop_m (σ := A1 × A2 × A3 × A4 × A5 × A6 × A7 × A8) (fun n s => W n s.1 s.2.1 s.2.2.1 s.2.2.2.1 s.2.2.2.2.1 s.2.2.2.2.2.1 s.2.2.2.2.2.2.1 s.2.2.2.2.2.2.2) (fun s => I s.1 s.2.1 s.2.2.1 s.2.2.2.1 s.2.2.2.2.1 s.2.2.2.2.2.1 s.2.2.2.2.2.2.1 s.2.2.2.2.2.2.2) (fun s => μ s.1 s.2.1 s.2.2.1 s.2.2.2.1 s.2.2.2.2.1 s.2.2.2.2.2.1 s.2.2.2.2.2.2.1 s.2.2.2.2.2.2.2) (fun n s hI hk => hs n s.1 s.2.1 s.2.2.1 s.2.2.2.1 s.2.2.2.2.1 s.2.2.2.2.2.1 s.2.2.2.2.2.2.1 s.2.2.2.2.2.2.2 hI (fun b1 b2 b3 b4 b5 b6 b7 b8 h9 hm => hk (b1, b2, b3, b4, b5, b6, b7, b8) h9 hm)) (a1, a2, a3, a4, a5, a6, a7, a8) h
theorem lp9 {A1 A2 A3 A4 A5 A6 A7 A8 A9 : Type} (W : Nat → A1 → A2 → A3 → A4 → A5 → A6 → A7 → A8 → A9 → Prop) (I : A1 → A2 → A3 → A4 → A5 → A6 → A7 → A8 → A9 → Prop) (μ : A1 → A2 → A3 → A4 → A5 → A6 → A7 → A8 → A9 → Nat) (hs : ∀ (n : Nat) (a1 : A1) (a2 : A2) (a3 : A3) (a4 : A4) (a5 : A5) (a6 : A6) (a7 : A7) (a8 : A8) (a9 : A9), I a1 a2 a3 a4 a5 a6 a7 a8 a9 → (∀ (b1 : A1) (b2 : A2) (b3 : A3) (b4 : A4) (b5 : A5) (b6 : A6) (b7 : A7) (b8 : A8) (b9 : A9), I b1 b2 b3 b4 b5 b6 b7 b8 b9 → μ b1 b2 b3 b4 b5 b6 b7 b8 b9 < μ a1 a2 a3 a4 a5 a6 a7 a8 a9 → W n b1 b2 b3 b4 b5 b6 b7 b8 b9) → W (n + 1) a1 a2 a3 a4 a5 a6 a7 a8 a9) (a1 : A1) (a2 : A2) (a3 : A3) (a4 : A4) (a5 : A5) (a6 : A6) (a7 : A7) (a8 : A8) (a9 : A9) (h : I a1 a2 a3 a4 a5 a6 a7 a8 a9) : ∃ n, W n a1 a2 a3 a4 a5 a6 a7 a8 a9 :=
  loop_m (σ := A1 × A2 × A3 × A4 × A5 × A6 × A7 × A8 × A9) (fun n s => W n s.1 s.2.1 s.2.2.1 s.2.2.2.1 s.2.2.2.2.1 s.2.2.2.2.2.1 s.2.2.2.2.2.2.1 s.2.2.2.2.2.2.2.1 s.2.2.2.2.2.2.2.2) (fun s => I s.1 s.2.1 s.2.2.1 s.2.2.2.1 s.2.2.2.2.1 s.2.2.2.2.2.1 s.2.2.2.2.2.2.1 s.2.2.2.2.2.2.2.1 s.2.2.2.2.2.2.2.2) (fun s => μ s.1 s.2.1 s.2.2.1 s.2.2.2.1 s.2.2.2.2.1 s.2.2.2.2.2.1 s.2.2.2.2.2.2.1 s.2.2.2.2.2.2.2.1 s.2.2.2.2.2.2.2.2) (fun n s hI hk => hs n s.1 s.2.1 s.2.2.1 s.2.2.2.1 s.2.2.2.2.1 s.2.2.2.2.2.1 s.2.2.2.2.2.2.1 s.2.2.2.2.2.2.2.1 s.2.2.2.2.2.2.2.2 hI (fun b1 b2 b3 b4 b5 b6 b7 b8 b9 h9 hm => hk (b1, b2, b3, b4, b5, b6, b7, b8, b9) h9 hm)) (a1, a2, a3, a4, a5, a6, a7, a8, a9) h
theorem lp10 {A1 A2 A3 A4 A5 A6 A7 A8 A9 A10 : Type} (W : Nat → A1 → A2 → A3 → A4 → A5 → A6 → A7 → A8 → A9 → A10 → Prop) (I : A1 → A2 → A3 → A4 → A5 → A6 → A7 → A8 → A9 → A10 → Prop) (μ : A1 → A2 → A3 → A4 → A5 → A6 → A7 → A8 → A9 → A10 → Nat) (hs : ∀ (n : Nat) (a1 : A1) (a2 : A2) (a3 : A3) (a4 : A4) (a5 : A5) (a6 : A6) (a7 : A7) (a8 : A8) (a9 : A9) (a10 : A10), I a1 a2 a3 a4 a5 a6 a7 a8 a9 a10 → (∀ (b1 : A1) (b2 : A2) (b3 : A3) (b4 : A4) (b5 : A5) (b6 : A6) (b7 : A7) (b8 : A8) (b9 : A9) (b10 : A10), I b1 b2 b3 b4 b5 b6 b7 b8 b9 b10 → μ b1 b2 b3 b4 b5 b6 b7 b8 b9 b10 < μ a1 a2 a3 a4 a5 a6 a7 a8 a9 a10 → W n b1 b2 b3 b4 b5 b6 b7 b8 b9 b10) → W (n + 1) a1 a2 a3 a4 a5 a6 a7 a8 a9 a10) (a1 : A1) (a2 : A2) (a3 : A3) (a4 : A4) (a5 : A5) (a6 : A6) (a7 : A7) (a8 : A8) (a9 : A9) (a10 : A10) (h : I a1 a2 a3 a4 a5 a6 a7 a8 a9 a10) : ∃ n, W n a1 a2 a3 a4 a5 a6 a7 a8 a9 a10 :=
  loop_m (σ := A1 × A2 × A3 × A4 × A5 × A6 × A7 × A8 × A9 × A10) (fun n s => W n s.1 s.2.1 s.2.2.1 s.2.2.2.1 s.2.2.2.2.1 s.2.2.2.2.2.1 s.2.2.2.2.2.2.1 s.2.2.2.2.2.2.2.1 s.2.2.2.2.2.2.2.2.1 s.2.2.2.2.2.2.2.2.2) (fun s => I s.1 s.2.1 s.2.2.1 s.2.2.2.1 s.2.2.2.2.1 s.2.2.2.2.2.1 s.2.2.2.2.2.2.1 s.2.2.2.2.2.2.2.1 s.2.2.2.2.2.2.2.2.1 s.2.2.2.2.2.2.2.2.2) (fun s => μ s.1 s.2.1 s.2.2.1 s.2.2.2.1 s.2.2.2.2.1 s.2.2.2.2.2.1 s.2.2.2.2.2.2.1 s.2.2.2.2.2.2.2.1 s.2.2.2.2.2.2.2.2.1 s.2.2.2.2.2.2.2.2.2) (fun n s hI hk => hs n s.1 s.2.1 s.2.2.1 s.2.2.2.1 s.2.2.2.2.1 s.2.2.2.2.2.1 s.2.2.2.2.2.2.1 s.2.2.2.2.2.2.2.1 s.2.2.2.2.2.2.2.2.1 s.2.2.2.2.2.2.2.2.2 hI (fun b1 b2 b3 b4 b5 b6 b7 b8 b9 b10 h9 hm => hk (b1, b2, b3, b4, b5, b6, b7, b8, b9, b10) h9 hm)) (a1, a2, a3, a4, a5, a6, a7, a8, a9, a10) h
theorem lp11 {A1 A2 A3 A4 A5 A6 A7 A8 A9 A10 A11 : Type} (W : Nat → A1 → A2 → A3 → A4 → A5 → A6 → A7 → A8 → A9 → A10 → A11 → Prop) (I : A1 → A2 → A3 → A4 → A5 → A6 → A7 → A8 → A9 → A10 → A11 → Prop) (μ : A1 → A2 → A3 → A4 → A5 → A6 → A7 → A8 → A9 → A10 → A11 → Nat) (hs : ∀ (n : Nat) (a1 : A1) (a2 : A2) (a3 : A3) (a4 : A4) (a5 : A5) (a6 : A6) (a7 : A7) (a8 : A8) (a9 : A9) (a10 : A10) (a11 : A11), I a1 a2 a3 a4 a5 a6 a7 a8 a9 a10 a11 → (∀ (b1 : A1) (b2 : A2) (b3 : A3) (b4 : A4) (b5 : A5) (b6 : A6) (b7 : A7) (b8 : A8) (b9 : A9) (b10 : A10) (b11 : A11), I b1 b2 b3 b4 b5 b6 b7 b8 b9 b10 b11 → μ b1 b2 b3 b4 b5 b6 b7 b8 b9 b10 b11 < μ a1 a2 a3 a4 a5 a6 a7 a8 a9 a10 a11 → W n b1 b2 b3 b4 b5 b6 b7 b8 b9 b10 b11) → W (n + 1) a1 a2 a3 a4 a5 a6 a7 a8 a9 a10 a11) (a1 : A1) (a2 : A2) (a3 : A3) (a4 : A4) (a5 : A5) (a6 : A6) (a7 : A7) (a8 : A8) (a9 : A9) (a10 : A10) (a11 : A11) (h : I a1 a2 a3 a4 a5 a6 a7 a8 a9 a10 a11) : ∃ n, W n a1 a2 a3 a4 a5 a6 a7 a8 a9 a10 a11 :=
  loop_m (σ := A1 × A2 × A3 × A4 × A5 × A6 × A7 × A8 × A9 × A10 × A11) (fun n s => W n s.1 s.2.1 s.2.2.1 s.2.2.2.1 s.2.2.2.2.1 s.2.2.2.2.2.1 s.2.2.2.2.2.2.1 s.2.2.2.2.2.2.2.1 s.2.2.2.2.2.2.2.2.1 s.2.2.2.2.2.2.2.2.2.1 s.2.2.2.2.2.2.2.2.2.2) (fun s => I s.1 s.2.1 s.2.2.1 s.2.2.2.1 s.2.2.2.2.1 s.2.2.2.2.2.1 s.2.2.2.2.2.2.1 s.2.2.2.2.2.2.2.1 s.2.2.2.2.2.2.2.2.1 s.2.2.2.2.2.2.2.2.2.1 s.2.2.2.2.2.2.2.2.2.2) (fun s => μ s.1 s.2.1 s.2.2.1 s.2.2.2.1 s.2.2.2.2.1 s.2.2.2.2.2.1 s.2.2.2.2.2.2.1 s.2.2.2.2.2.2.2.1 s.2.2.2.2.2.2.2.2.1 s.2.2.2.2.2.2.2.2.2.1 s.2.2.2.2.2.2.2.2.2.2) (fun n s hI hk => hs n s.1 s.2.1 s.2.2.1 s.2.2.2.1 s.2.2.2.2.1 s.2.2.2.2.2.1 s.2.2.2.2.2.2.1 s.2.2.2.2.2.2.2.1 s.2.2.2.2.2.2.2.2.1 s.2.2.2.2.2.2.2.2.2.1 s.2.2.2.2.2.2.2.2.2.2 hI (fun b1 b2 b3 b4 b5 b6 b7 b8 b9 b10 b11 h9 hm => hk (b1, b2, b3, b4, b5, b6, b7, b8, b9, b10, b11) h9 hm)) (a1, a2, a3, a4, a5, a6, a7, a8, a9, a10, a11) h
theorem lp12 {A1 A2 A3 A4 A5 A6 A7 A8 A9 A10 A11 A12 : Type} (W : Nat → A1 → A2 → A3 → A4 → A5 → A6 → A7 → A8 → A9 → A10 → A11 → A12 → Prop) (I : A1 → A2 → A3 → A4 → A5 → A6 → A7 → A8 → A9 → A10 → A11 → A12 → Prop) (μ : A1 → A2 → A3 → A4 → A5 → A6 → A7 → A8 → A9 → A10 → A11 → A12 → Nat) (hs : ∀ (n : Nat) (a1 : A1) (a2 : A2) (a3 : A3) (a4 : A4) (a5 : A5) (a6 : A6) (a7 : A7) (a8 : A8) (a9 : A9) (a10 : A10) (a11 : A11) (a12 : A12), I a1 a2 a3 a4 a5 a6 a7 a8 a9 a10 a11 a12 → (∀ (b1 : A1) (b2 : A2) (b3 : A3) (b4 : A4) (b5 : A5) (b6 : A6) (b7 : A7) (b8 : A8) (b9 : A9) (b10 : A10) (b11 : A11) (b12 : A12), I b1 b2 b3 b4 b5 b6 b7 b8 b9 b10 b11 b12 → μ b1 b2 b3 b4 b5 b6 b7 b8 b9 b10 b11 b12 < μ a1 a2 a3 a4 a5 a6 a7 a8 a9 a10 a11 a12 → W n b1 b2 b3 b4 b5 b6 b7 b8 b9 b10 b11 b12) → W (n + 1) a1 a2 a3 a4 a5 a6 a7 a8 a9 a10 a11 a12) (a1 : A1) (a2 : A2) (a3 : A3) (a4 : A4) (a5 : A5) (a6 : A6) (a7 : A7) (a8 : A8) (a9 : A9) (a10 : A10) (a11 : A11) (a12 : A12) (h : I a1 a2 a3 a4 a5 a6 a7 a8 a9 a10 a11 a12) : ∃ n, W n a1 a2 a3 a4 a5 a6 a7 a8 a9 a10 a11 a12 :=
  loop_m (σ := A1 × A2 × A3 × A4 × A5 × A6 × A7 × A8 × A9 × A10 × A11 × A12) (fun n s => W n s.1 s.2.1 s.2.2.1 s.2.2.2.1 s.2.2.2.2.1 s.2.2.2.2.2.1 s.2.2.2.2.2.2.1 s.2.2.2.2.2.2.2.1 s.2.2.2.2.2.2.2.2.1 s.2.2.2.2.2.2.2.2.2.1 s.2.2.2.2.2.2.2.2.2.2.1 s.2.2.2.2.2.2.2.2.2.2.2) (fun s => I s.1 s.2.1 s.2.2.1 s.2.2.2.1 s.2.2.2.2.1 s.2.2.2.2.2.1 s.2.2.2.2.2.2.1 s.2.2.2.2.2.2.2.1 s.2.2.2.2.2.2.2.2.1 s.2.2.2.2.2.2.2.2.2.1 s.2.2.2.2.2.2.2.2.2.2.1 s.2.2.2.2.2.2.2.2.2.2.2) (fun s => μ s.1 s.2.1 s.2.2.1 s.2.2.2.1 s.2.2.2.2.1 s.2.2.2.2.2.1 s.2.2.2.2.2.2.1 s.2.2.2.2.2.2.2.1 s.2.2.2.2.2.2.2.2.1 s.2.2.2.2.2.2.2.2.2.1 s.2.2.2.2.2.2.2.2.2.2.1 s.2.2.2.2.2.2.2.2.2.2.2) (fun n s hI hk => hs n s.1 s.2.1 s.2.2.1 s.2.2.2.1 s.2.2.2.2.1 s.2.2.2.2.2.1 s.2.2.2.2.2.2.1 s.2.2.2.2.2.2.2.1 s.2.2.2.2.2.2.2.2.1 s.2.2.2.2.2.2.2.2.2.1 s.2.2.2.2.2.2.2.2.2.2.1 s.2.2.2.2.2.2.2.2.2.2.2 hI (fun b1 b2 b3 b4 b5 b6 b7 b8 b9 b10 b11 b12 h9 hm => hk (b1, b2, b3, b4, b5, b6, b7, b8, b9, b10, b11, b12) h9 hm)) (a1, a2, a3, a4, a5, a6, a7, a8, a9, a10, a11, a12) h
theorem lp13 {A1 A2 A3 A4 A5 A6 A7 A8 A9 A10 A11 A12 A13 : Type} (W : Nat → A1 → A2 → A3 → A4 → A5 → A6 → A7 → A8 → A9 → A10 → A11 → A12 → A13 → Prop) (I : A1 → A2 → A3 → A4 → A5 → A6 → A7 → A8 → A9 → A10 → A11 → A12 → A13 → Prop) (μ : A1 → A2 → A3 → A4 → A5 → A6 → A7 → A8 → A9 → A10 → A11 → A12 → A13 → Nat) (hs : ∀ (n : Nat) (a1 : A1) (a2 : A2) (a3 : A3) (a4 : A4) (a5 : A5) (a6 : A6) (a7 : A7) (a8 : A8) (a9 : A9) (a10 : A10) (a11 : A11) (a12 : A12) (a13 : A13), I a1 a2 a3 a4 a5 a6 a7 a8 a9 a10 a11 a12 a13 → (∀ (b1 : A1) (b2 : A2) (b3 : A3) (b4 : A4) (b5 : A5) (b6 : A6) (b7 : A7) (b8 : A8) (b9 : A9) (b10 : A10) (b11 : A11) (b12 : A12) (b13 : A13), I b1 b2 b3 b4 b5 b6 b7 b8 b9 b10 b11 b12 b13 → μ b1 b2 b3 b4 b5 b6 b7 b8 b9 b10 b11 b12 b13 < μ a1 a2 a3 a4 a5 a6 a7 a8 a9 a10 a11 a12 a13 → W n b1 b2 b3 b4 b5 b6 b7 b8 b9 b10 b11 b12 b13) → W (n + 1) a1 a2 a3 a4 a5 a6 a7 a8 a9 a10 a11 a12 a13) (a1 : A1) (a2 : A2) (a3 : A3) (a4 : A4) (a5 : A5) (a6 : A6) (a7 : A7) (a8 : A8) (a9 : A9) (a10 : A10) (a11 : A11) (a12 : A12) (a13 : A13) (h : I a1 a2 a3 a4 a5 a6 a7 a8 a9 a10 a11 a12 a13) : ∃ n, W n a1 a2 a3 a4 a5 a6 a7 a8 a9 a10 a11 a12 a13 :=
  loop_m (σ := A1 × A2 × A3 × A4 × A5 × A6 × A7 × A8 × A9 × A10 × A11 × A12 × A13) (fun n s => W n s.1 s.2.1 s.2.2.1 s.2.2.2.1 s.2.2.2.2.1 s.2.2.2.2.2.1 s.2.2.2.2.2.2.1 s.2.2.2.2.2.2.2.1 s.2.2.2.2.2.2.2.2.1 s.2.2.2.2.2.2.2.2.2.1 s.2.2.2.2.2.2.2.2.2.2.1 s.2.2.2.2.2.2.2.2.2.2.2.1 s.2.2.2.2.2.2.2.2.2.2.2.2) (fun s => I s.1 s.2.1 s.2.2.1 s.2.2.2.1 s.2.2.2.2.1 s.2.2.2.2.2.1 s.2.2.2.2.2.2.1 s.2.2.2.2.2.2.2.1 s.2.2.2.2.2.2.2.2.1 s.2.2.2.2.2.2.2.2.2.1 s.2.2.2.2.2.2.2.2.2.2.1 s.2.2.2.2.2.2.2.2.2.2.2.1 s.2.2.2.2.2.2.2.2.2.2.2.2) (fun s => μ s.1 s.2.1 s.2.2.1 s.2.2.2.1 s.2.2.2.2.1 s.2.2.2.2.2.1 s.2.2.2.2.2.2.1 s.2.2.2.2.2.2.2.1 s.2.2.2.2.2.2.2.2.1 s.2.2.2.2.2.2.2.2.2.1 s.2.2.2.2.2.2.2.2.2.2.1 s.2.2.2.2.2.2.2.2.2.2.2.1 s.2.2.2.2.2.2.2.2.2.2.2.2) (fun n s hI hk => hs n s.1 s.2.1 s.2.2.1 s.2.2.2.1 s.2.2.2.2.1 s.2.2.2.2.2.1 s.2.2.2.2.2.2.1 s.2.2.2.2.2.2.2.1 s.2.2.2.2.2.2.2.2.1 s.2.2.2.2.2.2.2.2.2.1 s.2.2.2.2.2.2.2.2.2.2.1 s.2.2.2.2.2.2.2.2.2.2.2.1 s.2.2.2.2.2.2.2.2.2.2.2.2 hI (fun b1 b2 b3 b4 b5 b6 b7 b8 b9 b10 b11 b12 b13 h9 hm => hk (b1, b2, b3, b4, b5, b6, b7, b8, b9, b10, b11, b12, b13) h9 hm)) (a1, a2, a3, a4, a5, a6, a7, a8, a9, a10, a11, a12, a13) h
theorem lp14 {A1 A2 A3 A4 A5 A6 A7 A8 A9 A10 A11 A12 A13 A14 : Type} (W : Nat → A1 → A2 → A3 → A4 → A5 → A6 → A7 → A8 → A9 → A10 → A11 → A12 → A13 → A14 → Prop) (I : A1 → A2 → A3 → A4 → A5 → A6 → A7 → A8 → A9 → A10 → A11 → A12 → A13 → A14 → Prop) (μ : A1 → A2 → A3 → A4 → A5 → A6 → A7 → A8 → A9 → A10 → A11 → A12 → A13 → A14 → Nat) (hs : ∀ (n : Nat) (a1 : A1) (a2 : A2) (a3 : A3) (a4 : A4) (a5 : A5) (a6 : A6) (a7 : A7) (a8 : A8) (a9 : A9) (a10 : A10) (a11 : A11) (a12 : A12) (a13 : A13) (a14 : A14), I a1 a2 a3 a4 a5 a6 a7 a8 a9 a10 a11 a12 a13 a14 → (∀ (b1 : A1) (b2 : A2) (b3 : A3) (b4 : A4) (b5 : A5) (b6 : A6) (b7 : A7) (b8 : A8) (b9 : A9) (b10 : A10) (b11 : A11) (b12 : A12) (b13 : A13) (b14 : A14), I b1 b2 b3 b4 b5 b6 b7 b8 b9 b10 b11 b12 b13 b14 → μ b1 b2 b3 b4 b5 b6 b7 b8 b9 b10 b11 b12 b13 b14 < μ a1 a2 a3 a4 a5 a6 a7 a8 a9 a10 a11 a12 a13 a14 → W n b1 b2 b3 b4 b5 b6 b7 b8 b9 b10 b11 b12 b13 b14) → W (n + 1) a1 a2 a3 a4 a5 a6 a7 a8 a9 a10 a11 a12 a13 a14) (a1 : A1) (a2 : A2) (a3 : A3) (a4 : A4) (a5 : A5) (a6 : A6) (a7 : A7) (a8 : A8) (a9 : A9) (a10 : A10) (a11 : A11) (a12 : A12) (a13 : A13) (a14 : A14) (h : I a1 a2 a3 a4 a5 a6 a7 a8 a9 a10 a11 a12 a13 a14) : ∃ n, W n a1 a2 a3 a4 a5 a6 a7 a8 a9 a10 a11 a12 a13 a14 :=
  loop_m (σ := A1 × A2 × A3 × A4 × A5 × A6 × A7 × A8 × A9 × A10 × A11 × A12 × A13 × A14) (fun n s => W n s.1 s.2.1 s.2.2.1 s.2.2.2.1 s.2.2.2.2.1 s.2.2.2.2.2.1 s.2.2.2.2.2.2.1 s.2.2.2.2.2.2.2.1 s.2.2.2.2.2.2.2.2.1 s.2.2.2.2.2.2.2.2.2.1 s.2.2.2.2.2.2.2.2.2.2.1 s.2.2.2.2.2.2.2.2.2.2.2.1 s.2.2.2.2.2.2.2.2.2.2.2.2.1 s.2.2.2.2.2.2.2.2.2.2.2.2.2) (fun s => I s.1 s.2.1 s.2.2.1 s.2.2.2.1 s.2.2.2.2.1 s.2.2.2.2.2.1 s.2.2.2.2.2.2.1 s.2.2.2.2.2.2.2.1 s.2.2.2.2.2.2.2.2.1 s.2.2.2.2.2.2.2.2.2.1 s.2.2.2.2.2.2.2.2.2.2.1 s.2.2.2.2.2.2.2.2.2.2.2.1 s.2.2.2.2.2.2.2.2.2.2.2.2.1 s.2.2.2.2.2.2.2.2.2.2.2.2.2) (fun s => μ s.1 s.2.1 s.2.2.1 s.2.2.2.1 s.2.2.2.2.1 s.2.2.2.2.2.1 s.2.2.2.2.2.2.1 s.2.2.2.2.2.2.2.1 s.2.2.2.2.2.2.2.2.1 s.2.2.2.2.2.2.2.2.2.1 s.2.2.2.2.2.2.2.2.2.2.1 s.2.2.2.2.2.2.2.2.2.2.2.1 s.2.2.2.2.2.2.2.2.2.2.2.2.1 s.2.2.2.2.2.2.2.2.2.2.2.2.2) (fun n s hI hk => hs n s.1 s.2.1 s.2.2.1 s.2.2.2.1 s.2.2.2.2.1 s.2.2.2.2.2.1 s.2.2.2.2.2.2.1 s.2.2.2.2.2.2.2.1 s.2.2.2.2.2.2.2.2.1 s.2.2.2.2.2.2.2.2.2.1 s.2.2.2.2.2.2.2.2.2.2.1 s.2.2.2.2.2.2.2.2.2.2.2.1 s.2.2.2.2.2.2.2.2.2.2.2.2.1 s.2.2.2.2.2.2.2.2.2.2.2.2.2 hI (fun b1 b2 b3 b4 b5 b6 b7 b8 b9 b10 b11 b12 b13 b14 h9 hm => hk (b1, b2, b3, b4, b5, b6, b7, b8, b9, b10, b11, b12, b13, b14) h9 hm)) (a1, a2, a3, a4, a5, a6, a7, a8, a9, a10, a11, a12, a13, a14) h
theorem lp15 {A1 A2 A3 A4 A5 A6 A7 A8 A9 A10 A11 A12 A13 A14 A15 : Type} (W : Nat → A1 → A2 → A3 → A4 → A5 → A6 → A7 → A8 → A9 → A10 → A11 → A12 → A13 → A14 → A15 → Prop) (I : A1 → A2 → A3 → A4 → A5 → A6 → A7 → A8 → A9 → A10 → A11 → A12 → A13 → A14 → A15 → Prop) (μ : A1 → A2 → A3 → A4 → A5 → A6 → A7 → A8 → A9 → A10 → A11 → A12 → A13 → A14 → A15 → Nat) (hs : ∀ (n : Nat) (a1 : A1) (a2 : A2) (a3 : A3) (a4 : A4) (a5 : A5) (a6 : A6) (a7 : A7) (a8 : A8) (a9 : A9) (a10 : A10) (a11 : A11) (a12 : A12) (a13 : A13) (a14 : A14) (a15 : A15), I a1 a2 a3 a4 a5 a6 a7 a8 a9 a10 a11 a12 a13 a14 a15 → (∀ (b1 : A1) (b2 : A2) (b3 : A3) (b4 : A4) (b5 : A5) (b6 : A6) (b7 : A7) (b8 : A8) (b9 : A9) (b10 : A10) (b11 : A11) (b12 : A12) (b13 : A13) (b14 : A14) (b15 : A15), I b1 b2 b3 b4 b5 b6 b7 b8 b9 b10 b11 b12 b13 b14 b15 → μ b1 b2 b3 b4 b5 b6 b7 b8 b9 b10 b11 b12 b13 b14 b15 < μ a1 a2 a3 a4 a5 a6 a7 a8 a9 a10 a11 a12 a13 a14 a15 → W n b1 b2 b3 b4 b5 b6 b7 b8 b9 b10 b11 b12 b13 b14 b15) → W (n + 1) a1 a2 a3 a4 a5 a6 a7 a8 a9 a10 a11 a12 a13 a14 a15) (a1 : A1) (a2 : A2) (a3 : A3) (a4 : A4) (a5 : A5) (a6 : A6) (a7 : A7) (a8 : A8) (a9 : A9) (a10 : A10) (a11 : A11) (a12 : A12) (a13 : A13) (a14 : A14) (a15 : A15) (h : I a1 a2 a3 a4 a5 a6 a7 a8 a9 a10 a11 a12 a13 a14 a15) : ∃ n, W n a1 a2 a3 a4 a5 a6 a7 a8 a9 a10 a11 a12 a13 a14 a15 :=
  loop_m (σ := A1 × A2 × A3 × A4 × A5 × A6 × A7 × A8 × A9 × A10 × A11 × A12 × A13 × A14 × A15) (fun n s => W n s.1 s.2.1 s.2.2.1 s.2.2.2.1 s.2.2.2.2.1 s.2.2.2.2.2.1 s.2.2.2.2.2.2.1 s.2.2.2.2.2.2.2.1 s.2.2.2.2.2.2.2.2.1 s.2.2.2.2.2.2.2.2.2.1 s.2.2.2.2.2.2.2.2.2.2.1 s.2.2.2.2.2.2.2.2.2.2.2.1 s.2.2.2.2.2.2.2.2.2.2.2.2.1 s.2.2.2.2.2.2.2.2.2.2.2.2.2.1 s.2.2.2.2.2.2.2.2.2.2.2.2.2.2) (fun s => I s.1 s.2.1 s.2.2.1 s.2.2.2.1 s.2.2.2.2.1 s.2.2.2.2.2.1 s.2.2.2.2.2.2.1 s.2.2.2.2.2.2.2.1 s.2.2.2.2.2.2.2.2.1 s.2.2.2.2.2.2.2.2.2.1 s.2.2.2.2.2.2.2.2.2.2.1 s.2.2.2.2.2.2.2.2.2.2.2.1 s.2.2.2.2.2.2.2.2.2.2.2.2.1 s.2.2.2.2.2.2.2.2.2.2.2.2.2.1 s.2.2.2.2.2.2.2.2.2.2.2.2.2.2) (fun s => μ s.1 s.2.1 s.2.2.1 s.2.2.2.1 s.2.2.2.2.1 s.2.2.2.2.2.1 s.2.2.2.2.2.2.1 s.2.2.2.2.2.2.2.1 s.2.2.2.2.2.2.2.2.1 s.2.2.2.2.2.2.2.2.2.1 s.2.2.2.2.2.2.2.2.2.2.1 s.2.2.2.2.2.2.2.2.2.2.2.1 s.2.2.2.2.2.2.2.2.2.2.2.2.1 s.2.2.2.2.2.2.2.2.2.2.2.2.2.1 s.2.2.2.2.2.2.2.2.2.2.2.2.2.2) (fun n s hI hk => hs n s.1 s.2.1 s.2.2.1 s.2.2.2.1 s.2.2.2.2.1 s.2.2.2.2.2.1 s.2.2.2.2.2.2.1 s.2.2.2.2.2.2.2.1 s.2.2.2.2.2.2.2.2.1 s.2.2.2.2.2.2.2.2.2.1 s.2.2.2.2.2.2.2.2.2.2.1 s.2.2.2.2.2.2.2.2.2.2.2.1 s.2.2.2.2.2.2.2.2.2.2.2.2.1 s.2.2.2.2.2.2.2.2.2.2.2.2.2.1 s.2.2.2.2.2.2.2.2.2.2.2.2.2.2 hI (fun b1 b2 b3 b4 b5 b6 b7 b8 b9 b10 b11 b12 b13 b14 b15 h9 hm => hk (b1, b2, b3, b4, b5, b6, b7, b8, b9, b10, b11, b12, b13, b14, b15) h9 hm)) (a1, a2, a3, a4, a5, a6, a7, a8, a9, a10, a11, a12, a13, a14, a15) h
theorem lp16 {A1 A2 A3 A4 A5 A6 A7 A8 A9 A10 A11 A12 A13 A14 A15 A16 : Type} (W : Nat → A1 → A2 → A3 → A4 → A5 → A6 → A7 → A8 → A9 → A10 → A11 → A12 → A13 → A14 → A15 → A16 → Prop) (I : A1 → A2 → A3 → A4 → A5 → A6 → A7 → A8 → A9 → A10 → A11 → A12 → A13 → A14 → A15 → A16 → Prop) (μ : A1 → A2 → A3 → A4 → A5 → A6 → A7 → A8 → A9 → A10 → A11 → A12 → A13 → A14 → A15 → A16 → Nat) (hs : ∀ (n : Nat) (a1 : A1) (a2 : A2) (a3 : A3) (a4 : A4) (a5 : A5) (a6 : A6) (a7 : A7) (a8 : A8) (a9 : A9) (a10 : A10) (a11 : A11) (a12 : A12) (a13 : A13) (a14 : A14) (a15 : A15) (a16 : A16), I a1 a2 a3 a4 a5 a6 a7 a8 a9 a10 a11 a12 a13 a14 a15 a16 → (∀ (b1 : A1) (b2 : A2) (b3 : A3) (b4 : A4) (b5 : A5) (b6 : A6) (b7 : A7) (b8 : A8) (b9 : A9) (b10 : A10) (b11 : A11) (b12 : A12) (b13 : A13) (b14 : A14) (b15 : A15) (b16 : A16), I b1 b2 b3 b4 b5 b6 b7 b8 b9 b10 b11 b12 b13 b14 b15 b16 → μ b1 b2 b3 b4 b5 b6 b7 b8 b9 b10 b11 b12 b13 b14 b15 b16 < μ a1 a2 a3 a4 a5 a6 a7 a8 a9 a10 a11 a12 a13 a14 a15 a16 → W n b1 b2 b3 b4 b5 b6 b7 b8 b9 b10 b11 b12 b13 b14 b15 b16) → W (n + 1) a1 a2 a3 a4 a5 a6 a7 a8 a9 a10 a11 a12 a13 a14 a15 a16) (a1 : A1) (a2 : A2) (a3 : A3) (a4 : A4) (a5 : A5) (a6 : A6) (a7 : A7) (a8 : A8) (a9 : A9) (a10 : A10) (a11 : A11) (a12 : A12) (a13 : A13) (a14 : A14) (a15 : A15) (a16 : A16) (h : I a1 a2 a3 a4 a5 a6 a7 a8 a9 a10 a11 a12 a13 a14 a15 a16) : ∃ n, W n a1 a2 a3 a4 a5 a6 a7 a8 a9 a10 a11 a12 a13 a14 a15 a16 :=
  loop_m (σ := A1 × A2 × A3 × A4 × A5 × A6 × A7 × A8 × A9 × A10 × A11 × A12 × A13 × A14 × A15 × A16) (fun n s => W n s.1 s.2.1 s.2.2.1 s.2.2.2.1 s.2.2.2.2.1 s.2.2.2.2.2.1 s.2.2.2.2.2.2.1 s.2.2.2.2.2.2.2.1 s.2.2.2.2.2.2.2.2.1 s.2.2.2.2.2.2.2.2.2.1 s.2.2.2.2.2.2.2.2.2.2.1 s.2.2.2.2.2.2.2.2.2.2.2.1 s.2.2.2.2.2.2.2.2.2.2.2.2.1 s.2.2.2.2.2.2.2.2.2.2.2.2.2.1 s.2.2.2.2.2.2.2.2.2.2.2.2.2.2.1 s.2.2.2.2.2.2.2.2.2.2.2.2.2.2.2) (fun s => I s.1 s.2.1 s.2.2.1 s.2.2.2.1 s.2.2.2.2.1 s.2.2.2.2.2.1 s.2.2.2.2.2.2.1 s.2.2.2.2.2.2.2.1 s.2.2.2.2.2.2.2.2.1 s.2.2.2.2.2.2.2.2.2.1 s.2.2.2.2.2.2.2.2.2.2.1 s.2.2.2.2.2.2.2.2.2.2.2.1 s.2.2.2.2.2.2.2.2.2.2.2.2.1 s.2.2.2.2.2.2.2.2.2.2.2.2.2.1 s.2.2.2.2.2.2.2.2.2.2.2.2.2.2.1 s.2.2.2.2.2.2.2.2.2.2.2.2.2.2.2) (fun s => μ s.1 s.2.1 s.2.2.1 s.2.2.2.1 s.2.2.2.2.1 s.2.2.2.2.2.1 s.2.2.2.2.2.2.1 s.2.2.2.2.2.2.2.1 s.2.2.2.2.2.2.2.2.1 s.2.2.2.2.2.2.2.2.2.1 s.2.2.2.2.2.2.2.2.2.2.1 s.2.2.2.2.2.2.2.2.2.2.2.1 s.2.2.2.2.2.2.2.2.2.2.2.2.1 s.2.2.2.2.2.2.2.2.2.2.2.2.2.1 s.2.2.2.2.2.2.2.2.2.2.2.2.2.2.1 s.2.2.2.2.2.2.2.2.2.2.2.2.2.2.2) (fun n s hI hk => hs n s.1 s.2.1 s.2.2.1 s.2.2.2.1 s.2.2.2.2.1 s.2.2.2.2.2.1 s.2.2.2.2.2.2.1 s.2.2.2.2.2.2.2.1 s.2.2.2.2.2.2.2.2.1 s.2.2.2.2.2.2.2.2.2.1 s.2.2.2.2.2.2.2.2.2.2.1 s.2.2.2.2.2.2.2.2.2.2.2.1 s.2.2.2.2.2.2.2.2.2.2.2.2.1 s.2.2.2.2.2.2.2.2.2.2.2.2.2.1 s.2.2.2.2.2.2.2.2.2.2.2.2.2.2.1 s.2.2.2.2.2.2.2.2.2.2.2.2.2.2.2 hI (fun b1 b2 b3 b4 b5 b6 b7 b8 b9 b10 b11 b12 b13 b14 b15 b16 h9 hm => hk (b1, b2, b3, b4, b5, b6, b7, b8, b9, b10, b11, b12, b13, b14, b15, b16) h9 hm)) (a1, a2, a3, a4, a5, a6, a7, a8, a9, a10, a11, a12, a13, a14, a15, a16) h
theorem pk_least (P : Nat → Prop) (h : ∃ k, P k) : ∃ k, P k ∧ ∀ j, j < k → ¬ P j := by
  obtain ⟨k, hk⟩ := h
  induction k using Nat.strongRecOn with
  | ind k ih =>
    by_cases e : ∃ j, j < k ∧ P j
    · obtain ⟨j, hj, pj⟩ := e
      exact ih j hj pj
    · exact ⟨k, hk, fun j hj pj => e ⟨j, hj, pj⟩⟩
theorem rp1 {ρ A1 : Type} (W : Nat → (ρ → Prop) → A1 → Prop) (ok : A1 → Prop) (μ : A1 → Nat) (val : A1 → ρ)
    (hs : ∀ (d : Nat) (post : ρ → Prop) (a1 : A1), ok a1 → post (val a1) → (∀ (post' : ρ → Prop) (b1 : A1), ok b1 → μ b1 < μ a1 → post' (val b1) → W d post' b1) → W (d + 1) post a1) :
    ∀ (d : Nat) (post : ρ → Prop) (a1 : A1), ok a1 → μ a1 < d → post (val a1) → W d post a1 := by
  intro d
  induction d with
  | zero => intro post a1 _ h; omega
  | succ d ih =>
    intro post a1 ho hm hp
    exact hs d post a1 ho hp (fun post' b1 ho' hm' hp' => ih post' b1 ho' (by omega) hp')
theorem rp2 {ρ A1 A2 : Type} (W : Nat → (ρ → Prop) → A1 → A2 → Prop) (ok : A1 → A2 → Prop) (μ : A1 → A2 → Nat) (val : A1 → A2 → ρ)
    (hs : ∀ (d : Nat) (post : ρ → Prop) (a1 : A1) (a2 : A2), ok a1 a2 → post (val a1 a2) → (∀ (post' : ρ → Prop) (b1 : A1) (b2 : A2), ok b1 b2 → μ b1 b2 < μ a1 a2 → post' (val b1 b2) → W d post' b1 b2) → W (d + 1) post a1 a2) :
    ∀ (d : Nat) (post : ρ → Prop) (a1 : A1) (a2 : A2), ok a1 a2 → μ a1 a2 < d → post (val a1 a2) → W d post a1 a2 := by
  intro d
  induction d with
  | zero => intro post a1 a2 _ h; omega
  | succ d ih =>
    intro post a1 a2 ho hm hp
    exact hs d post a1 a2 ho hp (fun post' b1 b2 ho' hm' hp' => ih post' b1 b2 ho' (by omega) hp')
theorem rp3 {ρ A1 A2 A3 : Type} (W : Nat → (ρ → Prop) → A1 → A2 → A3 → Prop) (ok : A1 → A2 → A3 → Prop) (μ : A1 → A2 → A3 → Nat) (val : A1 → A2 → A3 → ρ)
    (hs : ∀ (d : Nat) (post : ρ → Prop) (a1 : A1) (a2 : A2) (a3 : A3), ok a1 a2 a3 → post (val a1 a2 a3) → (∀ (post' : ρ → Prop) (b1 : A1) (b2 : A2) (b3 : A3), ok b1 b2 b3 → μ b1 b2 b3 < μ a1 a2 a3 → post' (val b1 b2 b3) → W d post' b1 b2 b3) → W (d + 1) post a1 a2 a3) :
    ∀ (d : Nat) (post : ρ → Prop) (a1 : A1) (a2 : A2) (a3 : A3), ok a1 a2 a3 → μ a1 a2 a3 < d → post (val a1 a2 a3) → W d post a1 a2 a3 := by
  intro d
  induction d with
  | zero => intro post a1 a2 a3 _ h; omega
  | succ d ih =>
    intro post a1 a2 a3 ho hm hp
    exact hs d post a1 a2 a3 ho hp (fun post' b1 b2 b3 ho' hm' hp' => ih post' b1 b2 b3 ho' (by omega) hp')
theorem rp4 {ρ A1 A2 A3 A4 : Type} (W : Nat → (ρ → Prop) → A1 → A2 → A3 → A4 → Prop) (ok : A1 → A2 → A3 → A4 → Prop) (μ : A1 → A2 → A3 → A4 → Nat) (val : A1 → A2 → A3 → A4 → ρ)
    (hs : ∀ (d : Nat) (post : ρ → Prop) (a1 : A1) (a2 : A2) (a3 : A3) (a4 : A4), ok a1 a2 a3 a4 → post (val a1 a2 a3 a4) → (∀ (post' : ρ → Prop) (b1 : A1) (b2 : A2) (b3 : A3) (b4 : A4), ok b1 b2 b3 b4 → μ b1 b2 b3 b4 < μ a1 a2 a3 a4 → post' (val b1 b2 b3 b4) → W d post' b1 b2 b3 b4) → W (d + 1) post a1 a2 a3 a4) :
    ∀ (d : Nat) (post : ρ → Prop) (a1 : A1) (a2 : A2) (a3 : A3) (a4 : A4), ok a1 a2 a3 a4 → μ a1 a2 a3 a4 < d → post (val a1 a2 a3 a4) → W d post a1 a2 a3 a4 := by
  intro d
  induction d with
  | zero => intro post a1 a2 a3 a4 _ h; omega
  | succ d ih =>
    intro post a1 a2 a3 a4 ho hm hp
    exact hs d post a1 a2 a3 a4 ho hp (fun post' b1 b2 b3 b4 ho' hm' hp' => ih post' b1 b2 b3 b4 ho' (by omega) hp')
theorem rp5 {ρ A1 A2 A3 A4 A5 : Type} (W : Nat → (ρ → Prop) → A1 → A2 → A3 → A4 → A5 → Prop) (ok : A1 → A2 → A3 → A4 → A5 → Prop) (μ : A1 → A2 → A3 → A4 → A5 → Nat) (val : A1 → A2 → A3 → A4 → A5 → ρ)
    (hs : ∀ (d : Nat) (post : ρ → Prop) (a1 : A1) (a2 : A2) (a3 : A3) (a4 : A4) (a5 : A5), ok a1 a2 a3 a4 a5 → post (val a1 a2 a3 a4 a5) → (∀ (post' : ρ → Prop) (b1 : A1) (b2 : A2) (b3 : A3) (b4 : A4) (b5 : A5), ok b1 b2 b3 b4 b5 → μ b1 b2 b3 b4 b5 < μ a1 a2 a3 a4 a5 → post' (val b1 b2 b3 b4 b5) → W d post' b1 b2 b3 b4 b5) → W (d + 1) post a1 a2 a3 a4 a5) :
    ∀ (d : Nat) (post : ρ → Prop) (a1 : A1) (a2 : A2) (a3 : A3) (a4 : A4) (a5 : A5), ok a1 a2 a3 a4 a5 → μ a1 a2 a3 a4 a5 < d → post (val a1 a2 a3 a4 a5) → W d post a1 a2 a3 a4 a5 := by
  intro d
  induction d with
  | zero => intro post a1 a2 a3 a4 a5 _ h; omega
  | succ d ih =>
    intro post a1 a2 a3 a4 a5 ho hm hp
    exact hs d post a1 a2 a3 a4 a5 ho hp (fun post' b1 b2 b3 b4 b5 ho' hm' hp' => ih post' b1 b2 b3 b4 b5 ho' (by omega) hp')
theorem rp6 {ρ A1 A2 A3 A4 A5 A6 : Type} (W : Nat → (ρ → Prop) → A1 → A2 → A3 → A4 → A5 → A6 → Prop) (ok : A1 → A2 → A3 → A4 → A5 → A6 → Prop) (μ : A1 → A2 → A3 → A4 → A5 → A6 → Nat) (val : A1 → A2 → A3 → A4 → A5 → A6 → ρ)
    (hs : ∀ (d : Nat) (post : ρ → Prop) (a1 : A1) (a2 : A2) (a3 : A3) (a4 : A4) (a5 : A5) (a6 : A6), ok a1 a2 a3 a4 a5 a6 → post (val a1 a2 a3 a4 a5 a6) → (∀ (post' : ρ → Prop) (b1 : A1) (b2 : A2) (b3 : A3) (b4 : A4) (b5 : A5) (b6 : A6), ok b1 b2 b3 b4 b5 b6 → μ b1 b2 b3 b4 b5 b6 < μ a1 a2 a3 a4 a5 a6 → post' (val b1 b2 b3 b4 b5 b6) → W d post' b1 b2 b3 b4 b5 b6) → W (d + 1) post a1 a2 a3 a4 a5 a6) :
    ∀ (d : Nat) (post : ρ → Prop) (a1 : A1) (a2 : A2) (a3 : A3) (a4 : A4) (a5 : A5) (a6 : A6), ok a1 a2 a3 a4 a5 a6 → μ a1 a2 a3 a4 a5 a6 < d → post (val a1 a2 a3 a4 a5 a6) → W d post a1 a2 a3 a4 a5 a6 := by
  intro d
  induction d with
  | zero => intro post a1 a2 a3 a4 a5 a6 _ h; omega
  | succ d ih =>
    intro post a1 a2 a3 a4 a5 a6 ho hm hp
    exact hs d post a1 a2 a3 a4 a5 a6 ho hp (fun post' b1 b2 b3 b4 b5 b6 ho' hm' hp' => ih post' b1 b2 b3 b4 b5 b6 ho' (by omega) hp')
theorem rec_p {σ ρ : Type} (W : Nat → (ρ → Prop) → σ → Prop) (ok : σ → Prop) (μ : σ → Nat) (val : σ → ρ)
    (hs : ∀ d s post, ok s → post (val s) → (∀ s' post', ok s' → μ s' < μ s → post' (val s') → W d post' s') → W (d + 1) post s) :
    ∀ d s post, ok s → μ s < d → post (val s) → W d post s := by
  intro d
  induction d with
  | zero => intro s post _ h; omega
  | succ d ih =>
    intro s post ho hm hp
    exact hs d s post ho hp (fun s' post' ho' hm' hp' => ih s' post' ho' (by omega) hp')
theorem rec_q {σ ρ : Type} (W : Nat → (ρ → Prop) → σ → Prop) (ok : σ → Prop) (μ : σ → Nat) (Q : σ → ρ → Prop)
    (hs : ∀ d s post, ok s → (∀ r, Q s r → post r) → (∀ s' post', ok s' → μ s' < μ s → (∀ r, Q s' r → post' r) → W d post' s') → W (d + 1) post s) :
    ∀ d s post, ok s → μ s < d → (∀ r, Q s r → post r) → W d post s := by
  intro d
  induction d with
  | zero => intro s post _ h; omega
  | succ d ih =>
    intro s post ho hm hp
    exact hs d s post ho hp (fun s' post' ho' hm' hp' => ih s' post' ho' (by omega) hp')
def bx_sum (f : Nat → Int32) : Nat → Int32
  | 0 => 0
  | n + 1 => bx_sum f n + f n
theorem ek_u {A : Prop} {B : Nat → Prop} {k N : Nat} (hk : k < N) (h : B k) : (some k = none → A) ∧ (∀ y : Nat, some k = some y → (y < N ∧ B y)) :=
  ⟨fun z => absurd z (Option.some_ne_none k), fun _ e => (by cases e; exact ⟨hk, h⟩)⟩
theorem ek_nu {A : Prop} {B : Nat → Prop} (h : A) : ((none : Option Nat) = none → A) ∧ (∀ y : Nat, (none : Option Nat) = some y → B y) :=
  ⟨fun _ => h, fun _ e => (by cases e)⟩
theorem ek_if {c d A B : Prop} (e : c ↔ d) (f : d → A) (g : ¬ d → B) : (c → A) ∧ (¬ c → B) :=
  ⟨fun z => f (e.mp z), fun z => g (fun y => z (e.mpr y))⟩
theorem ek_v {α : Sort _} {P : α → Prop} {a b : α} (e : a = b) (h : P b) : P a := e ▸ h
theorem co_some {x : Option Nat} {A : Prop} {B : Nat → Prop} (i : Nat) (h : B i) (hx : x = some i := by rfl) : (x = none → A) ∧ (∀ y : Nat, x = some y → B y) := by
  subst hx
  exact ⟨fun e => (nomatch e), fun y e => Option.some.inj e ▸ h⟩
theorem co_none {x : Option Nat} {A : Prop} {B : Nat → Prop} (h : A) (hx : x = none := by rfl) : (x = none → A) ∧ (∀ y : Nat, x = some y → B y) := by
  subst hx
  exact ⟨fun _ => h, fun y e => (nomatch e)⟩
theorem co_any {x : Option Nat} {A : Prop} {B : Nat → Prop} (hn : x = none → A) (hs : ∀ i : Nat, x = some i → B i) : (x = none → A) ∧ (∀ y : Nat, x = some y → B y) := ⟨hn, hs⟩
theorem co_2 {P : Nat → Prop} (h0 : P 0) (h1 : P 1) {i : Nat} (hi : i < 2) : P i :=
  match i, hi with
  | 0, _ => h0
  | 1, _ => h1
theorem co_3 {P : Nat → Prop} (h0 : P 0) (h1 : P 1) (h2 : P 2) {i : Nat} (hi : i < 3) : P i :=
  match i, hi with
  | 0, _ => h0
  | 1, _ => h1
  | 2, _ => h2
theorem co_4 {P : Nat → Prop} (h0 : P 0) (h1 : P 1) (h2 : P 2) (h3 : P 3) {i : Nat} (hi : i < 4) : P i :=
  match i, hi with
  | 0, _ => h0
  | 1, _ => h1
  | 2, _ => h2
  | 3, _ => h3
theorem co_dec {N : Nat} {P : Nat → Prop} [DecidablePred P] (h : (List.range N).all (fun i => decide (P i)) = true) {i : Nat} (hi : i < N) : P i := by
  have := List.all_eq_true.mp h i (List.mem_range.mpr hi)
  exact of_decide_eq_true this
theorem co_tab {α : Type} {l : List α} {d : α} {P : α → Prop} (h : ∀ a, a ∈ l → P a) {i : Nat} (hi : i < l.length) : P (l.getD i d) := by
  rw [List.getD_eq_getElem?_getD, List.getElem?_eq_getElem hi]
  exact h _ (List.getElem_mem hi)
theorem pk_mu {x : Int32} {L : Nat} (h0 : ¬ x < 0) (h : ¬ nI L ≤ x) (hL : L < 2 ^ 31) : ∃ j : Nat, j < L ∧ x = nI j ∧ x + 1 = nI (j + 1) ∧ x.toNatClampNeg = j ∧ L - (x + 1).toNatClampNeg < L - x.toNatClampNeg := by
  obtain ⟨j, hj, rfl⟩ := nI_of h0
  have hl : j < L := Nat.not_le.mp fun q => h (nI_le q hj)
  refine ⟨j, hl, rfl, nI_1 j, nI_clamp hj, ?_⟩
  rw [nI_1, nI_clamp (by omega), nI_clamp hj]
  omega
theorem op_s {α : Type} {r : Option α} {A : Prop} {B : α → Prop} {y : α} (h : r = some y) (b : B y) : (r = none → A) ∧ ∀ z, r = some z → B z :=
  ⟨fun e => (by rw [h] at e; cases e), fun z e => (by rw [h] at e; cases e; exact b)⟩
def l_holds {α : Type} (a : Nat → Option Nat) (LP : List Nat) (p : Nat → α) (c : Nat) (b : Nat → α) : Prop :=
  ∀ j, j < c → ∃ y, a j = some y ∧ y ∈ LP ∧ p y = b j
theorem l_holds_0 {α : Type} {a : Nat → Option Nat} {LP : List Nat} {p b : Nat → α} : l_holds a LP p 0 b := fun j h => absurd h (Nat.not_lt_zero j)
theorem l_in_new (LP : List Nat) (q : Nat) : q ∈ LP ++ [q] := List.mem_append.mpr (Or.inr (List.mem_singleton.mpr rfl))
def l_sum (b : Nat → Int32) : Nat → Int32
  | 0 => 0
  | k + 1 => l_sum b k + b k
theorem sb_shr0 (x : Int32) : x >>> ((0 : Int32) &&& 31) = x := by
  rw [show ((0 : Int32) &&& 31) = 0 by decide]
  simp
theorem sb_shl0 (x : Int32) : x <<< ((0 : Int32) &&& 31) = x := by
  rw [show ((0 : Int32) &&& 31) = 0 by decide]
  simp
theorem sb_cl0 : (0 : Int32).toNatClampNeg = 0 := by decide
theorem sb_m1 {p : Nat} (h : 0 < p) : nI p + (-1) = nI (p - 1) := by
  obtain ⟨q, rfl⟩ : ∃ q, p = q + 1 := ⟨p - 1, by omega⟩
  exact pk_m1 q
def sb_b (c : Nat) : Int32 := (nI c).toInt8.toInt32
theorem sb_byte : ∀ c, c < 256 → sb_b c &&& 255 = nI c ∧ ((nI c).toUInt32 % 65536).toInt32 = nI c ∧ nI c ≤ 255 := by decide +kernel
def sb_Fit (a : Nat → Int32) : Prop := ∀ j, fits .byte (.int (a j)) = true
def sb_Lat (t : Nat → Nat) (n : Nat) (a : Nat → Int32) : Prop := ∀ j, j < n → t j < 256 ∧ a j = sb_b (t j)
theorem sb_fitB (c : Nat) : fits .byte (.int (sb_b c)) = true := pk_fb _
theorem sb_fit0 : sb_Fit (fun _ => 0) := fun _ => by
  show fits .byte (.int 0) = true
  decide
theorem sb_fitU {a : Nat → Int32} {k : Nat} {x : Int32} (h : sb_Fit a) (hx : fits .byte (.int x) = true) : sb_Fit (upd a k x) := by
  intro j
  by_cases e : j = k
  · subst e
    rw [pk_us]
    exact hx
  · rw [pk_un e]
    exact h j
def sb_cat (t : Nat → Nat) (n : Nat) (s : Nat → Nat) : Nat → Nat := fun j => if j < n then t j else s (j - n)
theorem sb_cat_lo {t s : Nat → Nat} {n j : Nat} (h : j < n) : sb_cat t n s j = t j := if_pos h
theorem sb_cat_hi {t s : Nat → Nat} {n j : Nat} : sb_cat t n s (n + j) = s j := by
  show (if n + j < n then t (n + j) else s (n + j - n)) = s j
  rw [if_neg (by omega), Nat.add_sub_cancel_left]
theorem sb_latPut {t s : Nat → Nat} {n w : Nat} {a a' : Nat → Int32} (h : sb_Lat t n a) (hk : ∀ j, j < n → a' j = a j) (hs : ∀ i, i < w → s i < 256 ∧ a' (n + i) = sb_b (s i)) : sb_Lat (sb_cat t n s) (n + w) a' := by
  intro j hj
  by_cases e : j < n
  · rw [sb_cat_lo e, hk j e]
    exact h j e
  · obtain ⟨i, rfl⟩ : ∃ i, j = n + i := ⟨j - n, by omega⟩
    rw [sb_cat_hi]
    exact hs i (by omega)
theorem sb_latKeep {t : Nat → Nat} {n : Nat} {a a' : Nat → Int32} (h : sb_Lat t n a) (hk : ∀ j, j < n → a' j = a j) : sb_Lat t n a' := fun j hj => by
  rw [hk j hj]
  exact h j hj
def sb_cap (q m : Nat) : Nat := if q ≤ m then m else if 2 * m + 2 < q then q else 2 * m + 2
def sb_Room (q m mc ms : Nat) : Prop := q ≤ m ∨ (1 ≤ mc ∧ sb_cap q m ≤ ms ∧ sb_cap q m ≤ 65536)
theorem sb_cap_ge (q m : Nat) : q ≤ sb_cap q m := by
  unfold sb_cap
  split
  · omega
  · split <;> omega
theorem sb_cap_gem (q m : Nat) : m ≤ sb_cap q m := by
  unfold sb_cap
  split
  · omega
  · split <;> omega
theorem sb_cap_le {q m mc ms : Nat} (hm : m ≤ 65536) (hr : sb_Room q m mc ms) : sb_cap q m ≤ 65536 := by
  rcases hr with h | h
  · rw [sb_cap, if_pos h]
    exact hm
  · exact h.2.2
theorem sb_at {P : Int32 → Prop} {x y : Int32} (e : x = y) (h : P y) : P x := e ▸ h
def sb_dg (w : Nat) : Nat := if w < 10 then 1 else if w < 100 then 2 else if w < 1000 then 3 else if w < 10000 then 4 else if w < 100000 then 5 else if w < 1000000 then 6 else if w < 10000000 then 7 else if w < 100000000 then 8 else if w < 1000000000 then 9 else 10
def sb_dec (v : Nat) : Nat → Nat := fun i => 48 + v / 10 ^ (sb_dg v - 1 - i) % 10
theorem sb_dg_in (w : Nat) : 1 ≤ sb_dg w ∧ sb_dg w ≤ 10 := by
  unfold sb_dg
  constructor <;> (repeat' split) <;> omega
theorem sb_dg100 {w : Nat} (h : 100 ≤ w) (hw : w < 2 ^ 31) : sb_dg w = sb_dg (w / 100) + 2 := by
  rw [sb_dg, sb_dg, if_neg (show ¬ w < 10 by omega), if_neg (show ¬ w < 100 by omega)]
  by_cases h3 : w < 1000
  · rw [if_pos h3, if_pos (show w / 100 < 10 by omega)]
  rw [if_neg h3, if_neg (show ¬ w / 100 < 10 by omega)]
  by_cases h4 : w < 10000
  · rw [if_pos h4, if_pos (show w / 100 < 100 by omega)]
  rw [if_neg h4, if_neg (show ¬ w / 100 < 100 by omega)]
  by_cases h5 : w < 100000
  · rw [if_pos h5, if_pos (show w / 100 < 1000 by omega)]
  rw [if_neg h5, if_neg (show ¬ w / 100 < 1000 by omega)]
  by_cases h6 : w < 1000000
  · rw [if_pos h6, if_pos (show w / 100 < 10000 by omega)]
  rw [if_neg h6, if_neg (show ¬ w / 100 < 10000 by omega)]
  by_cases h7 : w < 10000000
  · rw [if_pos h7, if_pos (show w / 100 < 100000 by omega)]
  rw [if_neg h7, if_neg (show ¬ w / 100 < 100000 by omega)]
  by_cases h8 : w < 100000000
  · rw [if_pos h8, if_pos (show w / 100 < 1000000 by omega)]
  rw [if_neg h8, if_neg (show ¬ w / 100 < 1000000 by omega)]
  by_cases h9 : w < 1000000000
  · rw [if_pos h9, if_pos (show w / 100 < 10000000 by omega)]
  rw [if_neg h9, if_neg (show ¬ w / 100 < 10000000 by omega)]
  rw [if_pos (show w / 100 < 100000000 by omega)]
theorem sb_negT {w : Nat} (h : w < 2 ^ 31) : (-nI w).toInt = -(w : Int) := by
  rw [Int32.toInt_neg, nI_toInt h]
  exact Int.bmod_eq_of_le (by omega) (by omega)
theorem sb_nle {a b : Nat} (ha : a < 2 ^ 31) (hb : b < 2 ^ 31) : -nI a ≤ -nI b ↔ b ≤ a := by
  rw [Int32.le_iff_toInt_le, sb_negT ha, sb_negT hb]
  omega
theorem sb_nlt {a b : Nat} (ha : a < 2 ^ 31) (hb : b < 2 ^ 31) : -nI a < -nI b ↔ b < a := by
  rw [Int32.lt_iff_toInt_lt, sb_negT ha, sb_negT hb]
  omega
theorem sb_cmp {A B : Prop} {x : Int32} (v c : Nat) (f : c ≤ v → A) (g : v < c → B) (hv : v < 2 ^ 31) (hx : x = -nI c := by rfl) (hc : c < 2 ^ 31 := by omega) : (-nI v ≤ x → A) ∧ (¬ -nI v ≤ x → B) := by
  subst hx
  rw [sb_nle hv hc]
  exact ⟨f, fun z => g (by omega)⟩
theorem sb_ndiv {w : Nat} (hw : w < 2 ^ 31) : (-nI w) / 100 = -nI (w / 100) := by
  apply Int32.toInt_inj.mp
  have h100 : (100 : Int32).toInt = 100 := by decide
  rw [Int32.toInt_div, sb_negT hw, h100, sb_negT (by omega), Int.neg_tdiv, Int.tdiv_eq_ediv_of_nonneg (by omega), Int.bmod_eq_of_le (by omega) (by omega)]
  omega
theorem sb_nrem {w : Nat} (hw : w < 2 ^ 31) : (-nI (w / 100)) * 100 - (-nI w) = nI (w % 100) := by
  have h := pk_rem (a := w) (d := 100) hw (by decide) (by decide)
  rw [pk_div hw (by decide) (by decide)] at h
  rw [← h]
  show (-nI (w / 100)) * nI 100 - (-nI w) = nI w - nI (w / 100) * nI 100
  rw [Int32.neg_mul, Int32.sub_neg, Int32.add_comm, ← Int32.sub_eq_add_neg]
end
section
/-! rows on bits, shifts and unsigned numbers, to paste: each family out of a closed proof of our own, whole with what it rests on; each by itself clean at Lean in its own claim (generation 39, form 5). Take a family whole -/
/-! ===== Int32 by its bits: bt x i ===== -/
def bt (x : Int32) (i : Nat) : Bool := x.toBitVec.getLsbD i
theorem b_ext {x y : Int32} (h : ∀ i, i < 32 → bt x i = bt y i) : x = y := Int32.toBitVec_inj.mp (BitVec.eq_of_getLsbD_eq (fun i hi => h i hi))
theorem b_or (x y : Int32) (i : Nat) : bt (x ||| y) i = (bt x i || bt y i) := by unfold bt; rw [Int32.toBitVec_or, BitVec.getLsbD_or]
theorem b_and (x y : Int32) (i : Nat) : bt (x &&& y) i = (bt x i && bt y i) := by unfold bt; rw [Int32.toBitVec_and, BitVec.getLsbD_and]
theorem b_xor (x y : Int32) (i : Nat) : bt (x ^^^ y) i = (bt x i ^^ bt y i) := by unfold bt; rw [Int32.toBitVec_xor, BitVec.getLsbD_xor]
theorem b_big {x : Int32} {i : Nat} (h : 32 ≤ i) : bt x i = false := BitVec.getLsbD_of_ge _ _ h
theorem b_255 (i : Nat) : bt 255 i = decide (i < 8) := by
  rcases Nat.lt_or_ge i 32 with h | h
  · exact (by decide +kernel : ∀ i, i < 32 → bt 255 i = decide (i < 8)) i h
  · rw [b_big h, decide_eq_false (by omega)]
theorem b_65535 (i : Nat) : bt 65535 i = decide (i < 16) := by
  rcases Nat.lt_or_ge i 32 with h | h
  · exact (by decide +kernel : ∀ i, i < 32 → bt 65535 i = decide (i < 16)) i h
  · rw [b_big h, decide_eq_false (by omega)]
theorem b_m1 : ∀ i, i < 32 → bt (-1) i = true := by decide +kernel
theorem b_0 (i : Nat) : bt 0 i = false := BitVec.getLsbD_zero
theorem s_l : ∀ n, n < 32 → ((nI n &&& 31).toBitVec.smod 32).toNat = n := by decide +kernel
theorem s_u : ∀ n, n < 32 → (((nI n).toUInt32 &&& Int32.toUInt32 31).toBitVec % 32).toNat = n := by decide +kernel
theorem b_shl (n : Nat) (hn : n < 32) (x : Int32) {i : Nat} (hi : i < 32) : bt (x <<< (nI n &&& 31)) i = (decide (n ≤ i) && bt x (i - n)) := by
  unfold bt
  rw [Int32.toBitVec_shiftLeft]
  show (x.toBitVec <<< ((nI n &&& 31).toBitVec.smod 32).toNat).getLsbD i = _
  rw [s_l n hn, BitVec.getLsbD_shiftLeft]
  rcases Nat.lt_or_ge i n with h | h
  · simp [h, Nat.not_le.mpr h]
  · simp [hi, h, Nat.not_lt.mpr h]
theorem b_ushr (n : Nat) (hn : n < 32) (x : Int32) (i : Nat) : bt ((x.toUInt32 >>> ((nI n).toUInt32 &&& Int32.toUInt32 31)).toInt32) i = bt x (n + i) := by
  show (x.toUInt32 >>> ((nI n).toUInt32 &&& Int32.toUInt32 31)).toBitVec.getLsbD i = x.toUInt32.toBitVec.getLsbD (n + i)
  rw [UInt32.toBitVec_shiftRight]
  show (x.toUInt32.toBitVec >>> (((nI n).toUInt32 &&& Int32.toUInt32 31).toBitVec % 32).toNat).getLsbD i = _
  rw [s_u n hn, BitVec.getLsbD_ushiftRight]
theorem b_sshr (n : Nat) (hn : n < 32) (x : Int32) {i : Nat} (hi : i < 32) : bt (x >>> (nI n &&& 31)) i = if n + i < 32 then bt x (n + i) else bt x 31 := by
  unfold bt
  rw [Int32.toBitVec_shiftRight]
  show (x.toBitVec.sshiftRight ((nI n &&& 31).toBitVec.smod 32).toNat).getLsbD i = _
  rw [s_l n hn, BitVec.getLsbD_sshiftRight, BitVec.msb_eq_getLsbD_last]
  simp [hi]
theorem b_shl8 (x : Int32) {i : Nat} (hi : i < 32) : bt (x <<< ((8 : Int32) &&& 31)) i = (decide (8 ≤ i) && bt x (i - 8)) := b_shl 8 (by omega) x hi
theorem b_shl16 (x : Int32) {i : Nat} (hi : i < 32) : bt (x <<< ((16 : Int32) &&& 31)) i = (decide (16 ≤ i) && bt x (i - 16)) := b_shl 16 (by omega) x hi
theorem b_shl24 (x : Int32) {i : Nat} (hi : i < 32) : bt (x <<< ((24 : Int32) &&& 31)) i = (decide (24 ≤ i) && bt x (i - 24)) := b_shl 24 (by omega) x hi
theorem b_sshr8 (x : Int32) {i : Nat} (hi : i < 32) : bt (x >>> ((8 : Int32) &&& 31)) i = if 8 + i < 32 then bt x (8 + i) else bt x 31 := b_sshr 8 (by omega) x hi
/-! ===== nI under and, xor, >>>, one bit, 65535 ===== -/
theorem nx_and (a b : Nat) : nI a &&& nI b = nI (a &&& b) := by
  apply Int32.toBitVec_inj.1
  show BitVec.ofNat 32 a &&& BitVec.ofNat 32 b = BitVec.ofNat 32 (a &&& b)
  apply BitVec.eq_of_getLsbD_eq
  intro i hi
  simp [hi]
theorem nx_xor (a b : Nat) : nI a ^^^ nI b = nI (a ^^^ b) := by
  apply Int32.toBitVec_inj.1
  show BitVec.ofNat 32 a ^^^ BitVec.ofNat 32 b = BitVec.ofNat 32 (a ^^^ b)
  apply BitVec.eq_of_getLsbD_eq
  intro i hi
  simp [hi]
theorem nx_cnt : ∀ j : Fin 32, (UInt32.ofNat j.val &&& Int32.toUInt32 31).toNat % 32 = j.val := by decide +kernel
theorem nx_ush {k j : Nat} (hk : k < 65536) (hj : j < 32) : ((nI k).toUInt32 >>> ((nI j).toUInt32 &&& Int32.toUInt32 31)).toInt32 = nI (k >>> j) := by
  have hs : k >>> j ≤ k := by
    rw [Nat.shiftRight_eq_div_pow]
    exact Nat.div_le_self _ _
  have e2 : UInt32.ofNat k >>> (UInt32.ofNat j &&& Int32.toUInt32 31) = UInt32.ofNat (k >>> j) := by
    apply UInt32.toNat_inj.1
    have h1 : (UInt32.ofNat k).toNat = k := Nat.mod_eq_of_lt (by omega)
    have h2 : (UInt32.ofNat (k >>> j)).toNat = k >>> j := Nat.mod_eq_of_lt (by omega)
    rw [UInt32.toNat_shiftRight, nx_cnt ⟨j, hj⟩, h1, h2]
  show (UInt32.ofNat k >>> (UInt32.ofNat j &&& Int32.toUInt32 31)).toInt32 = _
  rw [e2]
  rfl
theorem nx_bit {k j : Nat} (hk : k < 65536) (hj : j < 16) : (((nI k).toUInt32 >>> ((nI j).toUInt32 &&& Int32.toUInt32 31)).toInt32 &&& 1) = 0 ↔ k.testBit j = false := by
  rw [nx_ush hk (by omega)]
  show nI (k >>> j) &&& nI 1 = 0 ↔ _
  rw [nx_and, Nat.and_one_is_mod, ← nI_0, nI_eq (by omega) (by omega), Nat.testBit_eq_decide_div_mod_eq, Nat.shiftRight_eq_div_pow, decide_eq_false_iff_not]
  generalize k / 2 ^ j = z
  omega
theorem nx_mod (k : Nat) : nI k &&& 65535 = nI (k % 65536) := by
  show nI k &&& nI 65535 = _
  rw [nx_and, show (65535 : Nat) = 2 ^ 16 - 1 from rfl, Nat.and_two_pow_sub_one_eq_mod]
theorem nx_m16 {k : Nat} (h : k < 65536) : nI k &&& 65535 = nI k := by rw [nx_mod, Nat.mod_eq_of_lt h]
theorem nx_mask (x : Int32) : ∃ k, k < 65536 ∧ x &&& 65535 = nI k := by
  have e : x = nI x.toBitVec.toNat := by
    apply Int32.toBitVec_inj.1
    show x.toBitVec = BitVec.ofNat 32 x.toBitVec.toNat
    simp
  refine ⟨x.toBitVec.toNat % 65536, Nat.mod_lt _ (by omega), ?_⟩
  rw [← nx_mod, ← e]
/-! ===== Int32 as a set of bits: test, set ===== -/
def nf_M (m : Int32) : Nat := 4294967296 - m.toBitVec.toNat
theorem nf_sh : ∀ l, l < 32 → ((1 : Int32) <<< (nI l &&& 31)).toBitVec = BitVec.twoPow 32 l := by decide +kernel
theorem nf_sl : ∀ l, l < 32 → (((nI l).toUInt32 &&& Int32.toUInt32 31).toBitVec % 32).toNat = l := by decide +kernel
theorem nf_tp : ∀ l, l < 32 → BitVec.twoPow 32 l ≠ 0#32 := by decide +kernel
theorem nf_bit (m : Int32) (l : Nat) (hl : l < 32) : ((m.toUInt32 >>> ((nI l).toUInt32 &&& Int32.toUInt32 31)).toInt32 &&& 1) = 0 ↔ (m &&& ((1 : Int32) <<< (nI l &&& 31))) = 0 := by
  have e : ((m.toUInt32 >>> ((nI l).toUInt32 &&& Int32.toUInt32 31)).toInt32).toBitVec = m.toBitVec >>> l := by
    show m.toBitVec >>> (((nI l).toUInt32 &&& Int32.toUInt32 31).toBitVec % 32) = m.toBitVec >>> l
    rw [BitVec.ushiftRight_eq', nf_sl l hl]
  rw [← Int32.toBitVec_inj, ← Int32.toBitVec_inj, Int32.toBitVec_and, Int32.toBitVec_and, nf_sh l hl, e, BitVec.and_twoPow]
  show (m.toBitVec >>> l &&& 1#32) = 0#32 ↔ _ = 0#32
  rw [BitVec.and_one_eq_setWidth_ofBool_getLsbD, BitVec.getLsbD_ushiftRight, Nat.add_zero]
  cases hb : m.toBitVec.getLsbD l
  · exact ⟨fun _ => by simp, fun _ => by decide⟩
  · exact ⟨fun z => absurd z (by decide), fun z => absurd ((if_pos rfl).symm.trans z) (nf_tp l hl)⟩
theorem nf_gr (m k : Int32) (h : m &&& k = 0) (hk : k ≠ 0) : nf_M (m ||| k) < nf_M m := by
  have hm := m.toBitVec.isLt
  have hm' := (m ||| k).toBitVec.isLt
  have h1 : m.toBitVec.toNat ≤ (m ||| k).toBitVec.toNat := by
    rw [Int32.toBitVec_or, BitVec.toNat_or]
    exact Nat.left_le_or
  have h2 : m.toBitVec.toNat ≠ (m ||| k).toBitVec.toNat := by
    intro e
    have e2 : m = m ||| k := Int32.toBitVec_inj.mp (BitVec.eq_of_toNat_eq e)
    apply hk
    apply Int32.toBitVec_inj.mp
    show k.toBitVec = 0#32
    apply BitVec.eq_of_getLsbD_eq
    intro i hi
    have a : m.toBitVec.getLsbD i = (m.toBitVec.getLsbD i || k.toBitVec.getLsbD i) := by rw [← BitVec.getLsbD_or, ← Int32.toBitVec_or, ← e2]
    have b : (m.toBitVec.getLsbD i && k.toBitVec.getLsbD i) = false := by
      rw [← BitVec.getLsbD_and, ← Int32.toBitVec_and, h]
      exact BitVec.getLsbD_zero
    rw [BitVec.getLsbD_zero]
    revert a b
    cases m.toBitVec.getLsbD i <;> cases k.toBitVec.getLsbD i <;> simp
  unfold nf_M
  omega
/-! ===== a byte read unsigned ===== -/
theorem bp_b (x : Int32) : x.toInt8.toInt32 &&& 255 = x &&& 255 := by
  apply Int32.toBitVec_inj.mp
  rw [Int32.toBitVec_and, Int32.toBitVec_and, Int8.toBitVec_toInt32, Int32.toBitVec_toInt8]
  apply BitVec.eq_of_getLsbD_eq
  intro i hi
  rw [BitVec.getLsbD_and, BitVec.getLsbD_and]
  have hm : ∀ i < 32, 8 ≤ i → (255 : Int32).toBitVec.getLsbD i = false := by decide
  rcases Nat.lt_or_ge i 8 with z | z
  · rw [BitVec.getLsbD_signExtend, BitVec.getLsbD_signExtend, if_pos z, if_pos hi]
    simp only [z, hi, decide_true, Bool.true_and]
  · rw [hm i hi z]; simp
/-! ===== the char cast and 65535 ===== -/
theorem em_w (v : Int32) : ∃ w : Nat, w < 65536 ∧ (v.toUInt32 % 65536).toInt32 = nI w ∧ v &&& 65535 = nI w := by
  have hr := lw_u16_r v
  have h0 : (0 : Int32).toInt = 0 := by decide
  obtain ⟨w, h1, h2⟩ := nI_of (x := lw_u16 v) (by rw [Int32.lt_iff_toInt_lt]; omega)
  have h3 : (v.toUInt32 % 65536).toInt32 = nI w := h2
  rw [h2, nI_toInt h1] at hr
  exact ⟨w, by omega, h3, by rw [← lg_i2c_mask, ← lg_i2c_nf, h3]⟩
/-! ===== Int64 as a set of bits: test, set, clear ===== -/
theorem ts_nf {x : Bool} (h : ¬ x = false) : x = true := by cases x <;> first | rfl | exact absurd rfl h
theorem ts_nt {x : Bool} (h : ¬ x = true) : x = false := by cases x <;> first | rfl | exact absurd rfl h
theorem ts_bit {w : Int64} {s : UInt64} {j : Nat} (hj : j < 64) (hs : s.toNat = j) : ((w.toUInt64 >>> s).toInt64 &&& 1) = 0 ↔ w.toBitVec.getLsbD j = false := by
  have e : (w.toUInt64 >>> s).toInt64.toBitVec = w.toBitVec >>> j := by
    apply BitVec.eq_of_toNat_eq
    show (w.toUInt64 >>> s).toNat = _
    rw [UInt64.toNat_shiftRight, hs, Nat.mod_eq_of_lt hj, BitVec.toNat_ushiftRight]
    rfl
  rw [← Int64.toBitVec_inj, Int64.toBitVec_and, e]
  show w.toBitVec >>> j &&& 1#64 = 0#64 ↔ _
  constructor
  · intro h
    have t := congrArg (fun x => x.getLsbD 0) h
    simpa using t
  · intro h
    apply BitVec.eq_of_getLsbD_eq
    intro i hi
    cases i with
    | zero => simp [h]
    | succ i => simp
theorem ts_or {w m : Int64} {j : Nat} (hj : j < 64) (hm : m.toBitVec = BitVec.twoPow 64 j) : (w ||| m) = w ↔ w.toBitVec.getLsbD j = true := by
  rw [← Int64.toBitVec_inj, Int64.toBitVec_or, hm]
  constructor
  · intro h
    have t := congrArg (fun x => x.getLsbD j) h
    simp only [BitVec.getLsbD_or, BitVec.getLsbD_twoPow] at t
    simpa [hj] using t.symm
  · intro h
    apply BitVec.eq_of_getLsbD_eq
    intro i hi
    rw [BitVec.getLsbD_or, BitVec.getLsbD_twoPow]
    by_cases e : j = i
    · subst e; rw [h, Bool.true_or]
    · simp [e]
theorem ts_and {w m : Int64} {j : Nat} (hj : j < 64) (hm : m.toBitVec = BitVec.twoPow 64 j) : (w &&& (m ^^^ (-1))) = w ↔ w.toBitVec.getLsbD j = false := by
  have ha : (-1 : Int64).toBitVec = BitVec.allOnes 64 := by decide
  rw [← Int64.toBitVec_inj, Int64.toBitVec_and, Int64.toBitVec_xor, hm, ha]
  constructor
  · intro h
    have t := congrArg (fun x => x.getLsbD j) h
    simp only [BitVec.getLsbD_and, BitVec.getLsbD_xor, BitVec.getLsbD_twoPow, BitVec.getLsbD_allOnes] at t
    simpa [hj] using t.symm
  · intro h
    apply BitVec.eq_of_getLsbD_eq
    intro i hi
    rw [BitVec.getLsbD_and, BitVec.getLsbD_xor, BitVec.getLsbD_twoPow, BitVec.getLsbD_allOnes]
    by_cases e : j = i
    · subst e; rw [h, Bool.false_and]
    · simp [e, hi]
/-! ===== lN n to 2^64: shifts, and, or, masks, one bit ===== -/
theorem wb_tb (n : Nat) : (lN n).toBitVec = BitVec.ofNat 64 n := rfl
theorem wb_inj {a b : Int64} (h : a.toBitVec = b.toBitVec) : a = b := Int64.toBitVec_inj.mp h
theorem wb_tn {n : Nat} (h : n < 2 ^ 64) : (lN n).toBitVec.toNat = n := by rw [wb_tb, BitVec.toNat_ofNat, Nat.mod_eq_of_lt h]
theorem wb_of (x : Int64) : ∃ n, n < 2 ^ 64 ∧ x = lN n := ⟨x.toBitVec.toNat, x.toBitVec.isLt, wb_inj (by rw [wb_tb]; simp)⟩
theorem wb_of32 (x : Int32) : ∃ n, n < 2 ^ 32 ∧ x = nI n := ⟨x.toBitVec.toNat, x.toBitVec.isLt, Int32.toBitVec_inj.mp (by show _ = BitVec.ofNat 32 _; simp)⟩
theorem wb_c : ∀ k, k < 64 → ((nI k).toInt64 &&& 63) = lN k := by decide +kernel
theorem wb_cu : ∀ k, k < 64 → ((nI k).toInt64.toUInt64 &&& Int64.toUInt64 63) = UInt64.ofNat k := by decide +kernel
theorem wb_sm : ∀ k, k < 64 → (BitVec.ofNat 64 k).smod 64 = BitVec.ofNat 64 k := by decide +kernel
theorem wb_pw {a b : Nat} (h : a ≤ b) : 2 ^ b = 2 ^ a * 2 ^ (b - a) := by rw [← Nat.pow_add]; congr 1; omega
theorem wb_lt2 {a b : Nat} (h : a < b) : 2 ^ a < 2 ^ b := Nat.pow_lt_pow_right (by decide) h
theorem wb_mod (n : Nat) : lN n = lN (n % 2 ^ 64) := wb_inj (by rw [wb_tb, wb_tb]; apply BitVec.eq_of_toNat_eq; rw [BitVec.toNat_ofNat, BitVec.toNat_ofNat, Nat.mod_mod])
theorem wb_shr {n k : Nat} (hn : n < 2 ^ 64) (hk : k < 64) : ((lN n).toUInt64 >>> ((nI k).toInt64.toUInt64 &&& Int64.toUInt64 63)).toInt64 = lN (n / 2 ^ k) := by
  rw [wb_cu k hk]
  apply wb_inj
  apply BitVec.eq_of_toNat_eq
  show ((lN n).toUInt64 >>> UInt64.ofNat k).toNat = (BitVec.ofNat 64 _).toNat
  have h1 : (UInt64.ofNat k).toNat = k := by
    show (BitVec.ofNat 64 k).toNat = k
    rw [BitVec.toNat_ofNat, Nat.mod_eq_of_lt (by omega)]
  have h2 : (lN n).toUInt64.toNat = n := wb_tn hn
  rw [UInt64.toNat_shiftRight, h1, h2, Nat.mod_eq_of_lt hk, Nat.shiftRight_eq_div_pow, BitVec.toNat_ofNat, Nat.mod_eq_of_lt (Nat.lt_of_le_of_lt (Nat.div_le_self _ _) hn)]
theorem wb_shl (n : Nat) {k : Nat} (hk : k < 64) : lN n <<< ((nI k).toInt64 &&& 63) = lN (n * 2 ^ k) := by
  rw [wb_c k hk]
  apply wb_inj
  rw [Int64.toBitVec_shiftLeft, wb_tb, wb_tb, wb_tb, wb_sm k hk]
  apply BitVec.eq_of_toNat_eq
  rw [BitVec.shiftLeft_eq', BitVec.toNat_shiftLeft, BitVec.toNat_ofNat, BitVec.toNat_ofNat, BitVec.toNat_ofNat, Nat.mod_eq_of_lt (show k < 2 ^ 64 by omega), Nat.shiftLeft_eq, Nat.mul_mod, Nat.mod_mod, ← Nat.mul_mod]
theorem wb_and {a b : Nat} (ha : a < 2 ^ 64) (hb : b < 2 ^ 64) : lN a &&& lN b = lN (a &&& b) := by
  apply wb_inj
  rw [Int64.toBitVec_and, wb_tb, wb_tb, wb_tb]
  apply BitVec.eq_of_toNat_eq
  rw [BitVec.toNat_and, BitVec.toNat_ofNat, BitVec.toNat_ofNat, BitVec.toNat_ofNat, Nat.mod_eq_of_lt ha, Nat.mod_eq_of_lt hb, Nat.mod_eq_of_lt (Nat.and_lt_two_pow _ hb)]
theorem wb_or {a b : Nat} (ha : a < 2 ^ 64) (hb : b < 2 ^ 64) : lN a ||| lN b = lN (a ||| b) := by
  apply wb_inj
  rw [Int64.toBitVec_or, wb_tb, wb_tb, wb_tb]
  apply BitVec.eq_of_toNat_eq
  rw [BitVec.toNat_or, BitVec.toNat_ofNat, BitVec.toNat_ofNat, BitVec.toNat_ofNat, Nat.mod_eq_of_lt ha, Nat.mod_eq_of_lt hb, Nat.mod_eq_of_lt (Nat.or_lt_two_pow ha hb)]
theorem wb_mask {n k : Nat} (hn : n < 2 ^ 64) (hk : k < 64) : lN n &&& lN (2 ^ k - 1) = lN (n % 2 ^ k) := by
  rw [wb_and hn (by have := wb_lt2 hk; omega), Nat.and_two_pow_sub_one_eq_mod]
theorem wb_a1 {n : Nat} (hn : n < 2 ^ 64) : lN n &&& 1 = lN (n % 2) := wb_mask (k := 1) hn (by decide)
theorem wb_bit {n k : Nat} (hn : n < 2 ^ 64) (hk : k < 64) : ((lN n).toUInt64 >>> ((nI k).toInt64.toUInt64 &&& Int64.toUInt64 63)).toInt64 &&& 1 = lN (n / 2 ^ k % 2) := by
  rw [wb_shr hn hk, wb_a1 (Nat.lt_of_le_of_lt (Nat.div_le_self _ _) hn)]
theorem wb_xor {q k : Nat} (hk : k < 63) (h : 2 ^ k ≤ q) (h2 : q < 2 ^ (k + 1)) : lN q ^^^ lN (2 ^ k) = lN (q - 2 ^ k) := by
  obtain ⟨r, rfl⟩ : ∃ r, q = 2 ^ k + r := ⟨q - 2 ^ k, by omega⟩
  have hr : r < 2 ^ k := by rw [Nat.pow_succ] at h2; omega
  have hx : (2 ^ k + r) ^^^ 2 ^ k = r := by
    apply Nat.eq_of_testBit_eq
    intro i
    rw [Nat.testBit_xor, Nat.testBit_two_pow]
    rcases Nat.lt_trichotomy i k with h | h | h
    · rw [Nat.testBit_two_pow_add_gt h]
      simp [show ¬ k = i by omega]
    · subst h
      rw [Nat.testBit_two_pow_add_eq]
      simp
    · have a1 : 2 ^ (k + 1) ≤ 2 ^ i := Nat.pow_le_pow_right (by decide) h
      rw [Nat.testBit_lt_two_pow (show 2 ^ k + r < 2 ^ i by omega), Nat.testBit_lt_two_pow (show r < 2 ^ i by omega)]
      simp [show ¬ k = i by omega]
  have b1 := wb_lt2 (show k + 1 < 64 by omega)
  have b2 := wb_lt2 (show k < 64 by omega)
  apply wb_inj
  rw [Int64.toBitVec_xor, wb_tb, wb_tb, wb_tb]
  apply BitVec.eq_of_toNat_eq
  rw [BitVec.toNat_xor, BitVec.toNat_ofNat, BitVec.toNat_ofNat, BitVec.toNat_ofNat, Nat.mod_eq_of_lt (by omega : 2 ^ k + r < 2 ^ 64), Nat.mod_eq_of_lt b2, hx, Nat.add_sub_cancel_left, Nat.mod_eq_of_lt (by omega)]
/-! ===== lN: masks, 'or' of parts that don't overlap is a sum ===== -/
theorem u_tn {n : Nat} (h : n < 2 ^ 64) : (UInt64.ofNat n).toNat = n := Nat.mod_eq_of_lt h
theorem g_and {a b c : Nat} (ha : a < 2 ^ 64) (hb : b < 2 ^ 64) (hc : a &&& b = c) : lN a &&& lN b = lN c := by
  subst hc
  have h : UInt64.ofNat a &&& UInt64.ofNat b = UInt64.ofNat (a &&& b) := UInt64.toNat_inj.mp (by rw [UInt64.toNat_and, u_tn ha, u_tn hb, u_tn (Nat.and_lt_two_pow a hb)])
  have h2 := congrArg UInt64.toInt64 h
  exact h2
theorem g_and1 {a : Nat} (ha : a < 2 ^ 64) : lN a &&& 1 = lN (a % 2) := g_and (b := 1) ha (by decide) (Nat.and_two_pow_sub_one_eq_mod a 1)
theorem g_mask {a s p : Nat} (hp : 2 ^ s = p) (hs : s < 64) (ha : a < 2 ^ 64) : lN a &&& lN (p - 1) = lN (a % p) := by
  subst hp
  have := Nat.pow_lt_pow_right (show 1 < 2 by decide) hs
  exact g_and ha (by omega) (Nat.and_two_pow_sub_one_eq_mod a s)
theorem g_or {k p a b : Nat} (hp : 2 ^ k = p) (ha : a < p) (h : b * p + a < 2 ^ 64) : lN (b * p) ||| lN a = lN (b * p + a) := by
  subst hp
  have h1 : b * 2 ^ k ||| a = b * 2 ^ k + a := by rw [← Nat.shiftLeft_eq, Nat.shiftLeft_add_eq_or_of_lt ha]
  have h3 : UInt64.ofNat (b * 2 ^ k) ||| UInt64.ofNat a = UInt64.ofNat (b * 2 ^ k + a) := UInt64.toNat_inj.mp (by rw [UInt64.toNat_or, u_tn (by omega), u_tn (by omega), u_tn h, h1])
  have h2 := congrArg UInt64.toInt64 h3
  exact h2
theorem g_or' {k p a b : Nat} (hp : 2 ^ k = p) (ha : a < p) (h : a + b * p < 2 ^ 64) : lN a ||| lN (b * p) = lN (a + b * p) := by
  rw [Int64.or_comm, g_or hp ha (by omega), Nat.add_comm]
theorem g_ushr {a k p : Nat} {y : UInt64} (hy : y = UInt64.ofNat k) (hk : k < 64) (hp : 2 ^ k = p) (ha : a < 2 ^ 64) : ((lN a).toUInt64 >>> y).toInt64 = lN (a / p) := by
  subst hy hp
  have h : UInt64.ofNat a >>> UInt64.ofNat k = UInt64.ofNat (a / 2 ^ k) := UInt64.toNat_inj.mp (by rw [UInt64.toNat_shiftRight, u_tn ha, u_tn (by omega), u_tn (Nat.lt_of_le_of_lt (Nat.div_le_self _ _) ha), Nat.mod_eq_of_lt hk, Nat.shiftRight_eq_div_pow])
  have h2 := congrArg UInt64.toInt64 h
  exact h2
theorem g_shl {a k p : Nat} {y : Int64} (hy : y.toBitVec.smod 64 = BitVec.ofNat 64 k) (hk : k < 64) (hp : 2 ^ k = p) (ha : a < 2 ^ 64) : lN a <<< y = lN (a * p) := by
  subst hp
  apply Int64.toBitVec_inj.mp
  rw [Int64.toBitVec_shiftLeft, hy]
  apply BitVec.eq_of_toNat_eq
  have hb : (lN a).toBitVec.toNat = a := Nat.mod_eq_of_lt ha
  have hk' : (BitVec.ofNat 64 k).toNat = k := Nat.mod_eq_of_lt (by omega)
  have h : ((lN a).toBitVec <<< BitVec.ofNat 64 k).toNat = (a * 2 ^ k) % 2 ^ 64 := by simp only [BitVec.shiftLeft_eq', BitVec.toNat_shiftLeft, hb, hk', Nat.shiftLeft_eq]
  exact h
/-! ===== lN to 2^62 under >> and >>> ===== -/
theorem pf_lI {a : Nat} (h : a < 2 ^ 63) : (lN a).toInt = (a : Int) := lg_ofNat_toInt h
theorem pf_shr {a d : Nat} {D : Int64} (hD : (D.toBitVec.smod 64).toNat = d) (h : a < 2 ^ 62) : lN a >>> D = lN (a / 2 ^ d) := by
  have hd : a / 2 ^ d ≤ a := Nat.div_le_self _ _
  apply Int64.toInt_inj.mp
  have e : (lN a >>> D).toInt = (lN a).toInt >>> d := by
    rw [← hD]
    exact BitVec.toInt_sshiftRight ..
  rw [e, Int.shiftRight_eq_div_pow, pf_lI (by omega), pf_lI (by omega)]
  rfl
theorem pf_ushr {a d : Nat} {D : UInt64} (hD : D.toNat % 64 = d) (h : a < 2 ^ 62) : ((lN a).toUInt64 >>> D).toInt64 = lN (a / 2 ^ d) := by
  have hd : a / 2 ^ d ≤ a := Nat.div_le_self _ _
  have e : (lN a).toUInt64 >>> D = UInt64.ofNat (a / 2 ^ d) := UInt64.toNat_inj.mp (by
    rw [UInt64.toNat_shiftRight, hD, Nat.shiftRight_eq_div_pow, UInt64.toNat_ofNat']
    show (UInt64.ofNat a).toNat / 2 ^ d = _
    rw [UInt64.toNat_ofNat', Nat.mod_eq_of_lt (by omega), Nat.mod_eq_of_lt (by omega)])
  rw [e]
  rfl
theorem pf_andw (x : Int64) : ∃ m, m < 2 ^ 32 ∧ x &&& 4294967295 = lN m := ⟨x.toBitVec.toNat % 2 ^ 32, Nat.mod_lt _ (by decide), Int64.toBitVec_inj.mp (BitVec.eq_of_toNat_eq (by
  show (x.toBitVec &&& 4294967295#64).toNat = (BitVec.ofNat 64 (x.toBitVec.toNat % 2 ^ 32)).toNat
  rw [BitVec.toNat_and, show (4294967295#64).toNat = 2 ^ 32 - 1 from by decide, Nat.and_two_pow_sub_one_eq_mod, BitVec.toNat_ofNat]
  omega))⟩
/-! ===== Int64 as an unsigned number: uN x ===== -/
def uN (x : Int64) : Nat := x.toUInt64.toNat
theorem uN_lt (x : Int64) : uN x < 18446744073709551616 := x.toUInt64.toNat_lt
theorem uN_inj {x y : Int64} (h : uN x = uN y) : x = y := congrArg UInt64.toInt64 (UInt64.toNat_inj.mp h)
theorem uN_add (x y : Int64) : uN (x + y) = (uN x + uN y) % 18446744073709551616 := by
  show (x.toUInt64 + y.toUInt64).toNat = _
  exact UInt64.toNat_add _ _
theorem uN_mul (x y : Int64) : uN (x * y) = (uN x * uN y) % 18446744073709551616 := by
  show (x.toUInt64 * y.toUInt64).toNat = _
  exact UInt64.toNat_mul _ _
theorem uN_shl (x : Int64) : uN (x <<< ((1 : Int32).toInt64 &&& 63)) = (2 * uN x) % 18446744073709551616 := by
  have h : (((1 : Int32).toInt64 &&& 63).toBitVec.smod 64).toNat = 1 := by decide
  show (x.toBitVec <<< (((1 : Int32).toInt64 &&& 63).toBitVec.smod 64).toNat).toNat = _
  rw [h, BitVec.toNat_shiftLeft, Nat.shiftLeft_eq, Nat.mul_comm]
  rfl
theorem uN_shr (x : Int64) (s : UInt64) : uN (x.toUInt64 >>> s).toInt64 = uN x / 2 ^ (s.toNat % 64) := by
  show (x.toUInt64 >>> s).toNat = _
  rw [UInt64.toNat_shiftRight, Nat.shiftRight_eq_div_pow]
  rfl
theorem uN_s32 (x : Int64) : uN (x.toUInt64 >>> ((32 : Int32).toInt64.toUInt64 &&& Int64.toUInt64 63)).toInt64 = uN x / 4294967296 := by
  have h : ((32 : Int32).toInt64.toUInt64 &&& Int64.toUInt64 63).toNat % 64 = 32 := by decide
  rw [uN_shr, h]
theorem uN_s63 (x : Int64) : uN (x.toUInt64 >>> ((63 : Int32).toInt64.toUInt64 &&& Int64.toUInt64 63)).toInt64 = uN x / 9223372036854775808 := by
  have h : ((63 : Int32).toInt64.toUInt64 &&& Int64.toUInt64 63).toNat % 64 = 63 := by decide
  rw [uN_shr, h]
theorem uN_lo (x : Int64) : uN (x &&& 4294967295) = uN x % 4294967296 := by
  show (x.toUInt64 &&& Int64.toUInt64 4294967295).toNat = _
  rw [UInt64.toNat_and]
  exact Nat.and_two_pow_sub_one_eq_mod _ 32
theorem uN_bit (x : Int64) : (x &&& 1) = 0 ↔ uN x % 2 = 0 := by
  have h : uN (x &&& 1) = uN x % 2 := by
    show (x.toUInt64 &&& Int64.toUInt64 1).toNat = _
    rw [UInt64.toNat_and]
    exact Nat.and_two_pow_sub_one_eq_mod _ 1
  rw [← h]
  exact ⟨fun z => by rw [z]; rfl, fun z => uN_inj (z.trans rfl)⟩
theorem uN_or {x y : Int64} (hy : uN y < 2) : uN ((x <<< ((1 : Int32).toInt64 &&& 63)) ||| y) = (2 * uN x) % 18446744073709551616 + uN y := by
  have h1 : uN ((x <<< ((1 : Int32).toInt64 &&& 63)) ||| y) = uN (x <<< ((1 : Int32).toInt64 &&& 63)) ||| uN y := UInt64.toNat_or _ _
  have h2 : (2 * uN x) % 18446744073709551616 = 2 ^ 1 * (uN x % 9223372036854775808) := by omega
  rw [h1, uN_shl, h2]
  exact (Nat.two_pow_add_eq_or_of_lt (i := 1) hy _).symm
theorem nat_xor {a : Nat} (h : a < 18446744073709551616) : a ^^^ 2 ^ 63 = (a + 9223372036854775808) % 18446744073709551616 := by
  have h1 : (a ^^^ 2 ^ 63) % 2 ^ 63 = a % 2 ^ 63 := by rw [Nat.xor_mod_two_pow, Nat.mod_self, Nat.xor_zero]
  have h2 : (a ^^^ 2 ^ 63) / 2 ^ 63 = (a / 2 ^ 63) ^^^ 1 := by rw [Nat.xor_div_two_pow, Nat.div_self (Nat.two_pow_pos 63)]
  have h3 : a / 2 ^ 63 = 0 ∨ a / 2 ^ 63 = 1 := by omega
  generalize a ^^^ 2 ^ 63 = t at h1 h2
  rcases h3 with h3 | h3
  · rw [h3] at h2
    have h2 : t / 2 ^ 63 = 1 := h2
    omega
  · rw [h3] at h2
    have h2 : t / 2 ^ 63 = 0 := h2
    omega
theorem uN_xor (x : Int64) : uN (x ^^^ (-9223372036854775808)) = (uN x + 9223372036854775808) % 18446744073709551616 := by
  rw [← nat_xor (uN_lt x)]
  exact UInt64.toNat_xor _ _
theorem uN_int (x : Int64) : x.toInt = if 2 * uN x < 18446744073709551616 then (uN x : Int) else (uN x : Int) - 18446744073709551616 := BitVec.toInt_eq_toNat_cond _
theorem uN_le (x y : Int64) : (x ^^^ (-9223372036854775808)) ≤ (y ^^^ (-9223372036854775808)) ↔ uN x ≤ uN y := by
  have hx := uN_lt x
  have hy := uN_lt y
  rw [Int64.le_iff_toInt_le, uN_int, uN_int, uN_xor, uN_xor]
  omega
theorem uN_sk (x : Int64) {k : Nat} (hk : k < 64) : uN (x.toUInt64 >>> ((nI k).toInt64.toUInt64 &&& Int64.toUInt64 63)).toInt64 = uN x / 2 ^ k := by
  have h : ((nI k).toInt64.toUInt64 &&& Int64.toUInt64 63).toNat % 64 = k := by
    rw [nI_l (by omega), UInt64.toNat_and]
    have e : (lN k).toUInt64.toNat = k % 2 ^ 64 := rfl
    have e2 : (Int64.toUInt64 63).toNat = 2 ^ 6 - 1 := by decide
    rw [e, e2, Nat.and_two_pow_sub_one_eq_mod]
    omega
  rw [uN_shr, h]
/-! ===== unsigned comparison by xor with the least ===== -/
theorem lN_bv (n : Nat) : (lN n).toBitVec = BitVec.ofNat 64 n := rfl
theorem lN_nat {n : Nat} (h : n < 2 ^ 64) : (lN n).toBitVec.toNat = n := by rw [lN_bv, BitVec.toNat_ofNat]; exact Nat.mod_eq_of_lt h
theorem lN_xor (a b : Nat) : lN a ^^^ lN b = lN (a ^^^ b) := by
  apply Int64.toBitVec_inj.mp; rw [Int64.toBitVec_xor, lN_bv, lN_bv, lN_bv]; apply BitVec.eq_of_getLsbD_eq; intro i hi; simp [BitVec.getLsbD_ofNat, Nat.testBit_xor, hi]
theorem lN_ti {m : Nat} (h : m < 2 ^ 64) : (lN m).toInt = if m < 2 ^ 63 then (m : Int) else (m : Int) - 2 ^ 64 := by
  have c := BitVec.toInt_eq_toNat_cond (lN m).toBitVec
  rw [lN_nat h] at c
  show (lN m).toBitVec.toInt = _
  rw [c]
  split <;> split <;> omega
theorem xor63 {x : Nat} (h : x < 2 ^ 63) : x ^^^ 2 ^ 63 = 2 ^ 63 + x := by
  apply Nat.eq_of_testBit_eq
  intro i
  rw [Nat.testBit_xor, Nat.testBit_two_pow]
  rcases Nat.lt_trichotomy i 63 with z | z | z
  · rw [Nat.testBit_two_pow_add_gt z, decide_eq_false (by omega)]; simp
  · subst z; rw [Nat.testBit_two_pow_add_eq]; simp
  · have hp : 2 ^ 64 ≤ 2 ^ i := Nat.pow_le_pow_right (by decide) z
    rw [Nat.testBit_lt_two_pow (show x < 2 ^ i by omega), Nat.testBit_lt_two_pow (show 2 ^ 63 + x < 2 ^ i by omega), decide_eq_false (by omega)]; rfl
theorem xorS {a : Nat} (h : a < 2 ^ 64) : (lN a ^^^ (-9223372036854775808)).toInt = (a : Int) - 2 ^ 63 := by
  rw [show (-9223372036854775808 : Int64) = lN (2 ^ 63) from by decide +kernel, lN_xor]
  rcases Nat.lt_or_ge a (2 ^ 63) with z | z
  · rw [xor63 z, lN_ti (by omega), if_neg (by omega)]; omega
  · obtain ⟨x, rfl⟩ : ∃ x, a = 2 ^ 63 + x := ⟨a - 2 ^ 63, by omega⟩
    rw [← xor63 (by omega), Nat.xor_assoc, Nat.xor_self, Nat.xor_zero, lN_ti (by omega), if_pos (by omega), xor63 (by omega)]; omega
theorem ultL {a b : Nat} (ha : a < 2 ^ 64) (hb : b < 2 ^ 64) : ((lN b ^^^ (-9223372036854775808)) ≤ (lN a ^^^ (-9223372036854775808))) ↔ b ≤ a := by
  rw [Int64.le_iff_toInt_le, xorS ha, xorS hb]; omega
/-! ===== Int64 masks of n low bits ===== -/
theorem cr_bits (W U M : BitVec 64) : ((W &&& U) &&& (U &&& (M ^^^ BitVec.allOnes 64))) = 0#64 ↔ (W &&& U) &&& M = W &&& U := by
  constructor
  · intro h
    apply BitVec.eq_of_getLsbD_eq
    intro i hi
    have e := congrArg (fun x => BitVec.getLsbD x i) h
    simp only [BitVec.getLsbD_and, BitVec.getLsbD_xor, BitVec.getLsbD_allOnes, BitVec.getLsbD_zero, hi, decide_true] at e ⊢
    revert e
    cases W.getLsbD i <;> cases U.getLsbD i <;> cases M.getLsbD i <;> decide
  · intro h
    apply BitVec.eq_of_getLsbD_eq
    intro i hi
    have e := congrArg (fun x => BitVec.getLsbD x i) h
    simp only [BitVec.getLsbD_and, BitVec.getLsbD_xor, BitVec.getLsbD_allOnes, BitVec.getLsbD_zero, hi, decide_true] at e ⊢
    revert e
    cases W.getLsbD i <;> cases U.getLsbD i <;> cases M.getLsbD i <;> decide
theorem cr_mask (w U m : Int64) (n : Nat) (hm : m.toBitVec.toNat = 2 ^ n - 1) : ((w &&& U) &&& (U &&& (m ^^^ (-1)))) = 0 ↔ (w &&& U).toBitVec.toNat < 2 ^ n := by
  have e0 : (-1 : Int64).toBitVec = BitVec.allOnes 64 := by decide
  have z0 : (0 : Int64).toBitVec = 0#64 := by decide
  rw [← Int64.toBitVec_inj, z0, Int64.toBitVec_and, Int64.toBitVec_and, Int64.toBitVec_and, Int64.toBitVec_xor, e0, cr_bits]
  generalize w.toBitVec &&& U.toBitVec = T
  rw [← BitVec.toNat_inj, BitVec.toNat_and, hm, Nat.and_two_pow_sub_one_eq_mod]
  constructor
  · intro h
    have t := Nat.mod_lt T.toNat (Nat.two_pow_pos n)
    rw [h] at t
    exact t
  · exact Nat.mod_eq_of_lt
theorem cr_shr (t : Int64) (x : UInt64) (n : Nat) (hx : x.toNat % 64 = n) : (t.toUInt64 >>> x).toInt64 = 0 ↔ t.toBitVec.toNat < 2 ^ n := by
  rw [← Int64.toBitVec_inj, ← BitVec.toNat_inj]
  show (t.toUInt64 >>> x).toNat = 0 ↔ t.toUInt64.toNat < 2 ^ n
  rw [UInt64.toNat_shiftRight, hx, Nat.shiftRight_eq_div_pow]
  constructor
  · intro h
    have d : t.toUInt64.toNat / 2 ^ n < 1 := by
      rw [h]
      decide
    have e := (Nat.div_lt_iff_lt_mul (Nat.two_pow_pos n)).mp d
    rw [Nat.one_mul] at e
    exact e
  · exact Nat.div_eq_of_lt
theorem cr_amt (s : Int64) : ∃ n, n < 64 ∧ s &&& 63 = lN n ∧ (s.toUInt64 &&& Int64.toUInt64 63).toNat % 64 = n := by
  have e : (s.toUInt64 &&& Int64.toUInt64 63).toNat = s.toUInt64.toNat % 2 ^ 6 := by
    rw [UInt64.toNat_and, show (Int64.toUInt64 63).toNat = 2 ^ 6 - 1 from by decide, Nat.and_two_pow_sub_one_eq_mod]
  refine ⟨s.toUInt64.toNat % 2 ^ 6, by omega, ?_, by omega⟩
  rw [← Int64.toBitVec_inj, ← BitVec.toNat_inj]
  show (s.toUInt64 &&& Int64.toUInt64 63).toNat = (BitVec.ofNat 64 (s.toUInt64.toNat % 2 ^ 6)).toNat
  rw [e, BitVec.toNat_ofNat]
  omega
end
section
/-! numbers, options, booleans -/
def nu_o : Option Nat → Int32
  | none => -1
  | some k => nI k
def nu_b (b : Bool) : Int32 := if b = true then 1 else 0
theorem nu_bt : nu_b true = 1 := rfl
theorem nu_bf : nu_b false = 0 := rfl
theorem nu_b0 (b : Bool) : nu_b b = 0 ↔ b = false := by cases b <;> decide
theorem nu_vb (b : Bool) : vp_nar .boolean (nu_b b) = nu_b b := by cases b <;> decide
theorem nu_v0 : vp_nar .boolean 0 = nu_b false := by decide
theorem nu_v1 : vp_nar .boolean 1 = nu_b true := by decide
theorem nu_nb (b : Bool) : narrow .boolean (.int (nu_b b)) = .int (nu_b b) := by cases b <;> rfl
theorem nu_on : nu_o none = -1 := rfl
theorem nu_os (k : Nat) : nu_o (some k) = nI k := rfl
theorem nu_m1lt : (-1 : Int32) < 0 := by decide
theorem nu_m1le : ¬ (0 : Int32) ≤ -1 := by decide
theorem nu_ne1 {a : Nat} (h : a < 2 ^ 31) : ¬ nI a = -1 := by
  intro e
  have := nI_pos (n := a) h
  rw [e] at this
  exact this nu_m1lt
theorem nu_br {α : Type} {P : α → Prop} {c : Prop} [Decidable c] {a b : α} : ((c → P a) ∧ (¬ c → P b)) ↔ P (if c then a else b) := by
  by_cases h : c
  · simp only [h, if_true]; exact ⟨fun z => z.1 trivial, fun z => ⟨fun _ => z, fun y => absurd trivial y⟩⟩
  · simp only [h, if_false]; exact ⟨fun z => z.2 (fun y => y), fun z => ⟨fun y => y.elim, fun _ => z⟩⟩
theorem nu_tr {α : Type} {P : α → Prop} {a b : α} (h : P b) (e : b = a) : P a := e ▸ h
/-- an option that is a number below N -/
def nu_lt (o : Option Nat) (N : Nat) : Prop := ∀ k, o = some k → k < N
theorem nu_olt {o : Option Nat} (h : nu_lt o (2 ^ 31)) : nu_o o < 0 ↔ o = none := by
  cases o with
  | none => exact ⟨fun _ => rfl, fun _ => nu_m1lt⟩
  | some k => exact ⟨fun z => absurd z (nI_pos (h k rfl)), fun z => by cases z⟩
theorem nu_ole {o : Option Nat} (h : nu_lt o (2 ^ 31)) : 0 ≤ nu_o o ↔ ¬ o = none := by
  cases o with
  | none => exact ⟨fun z => absurd z nu_m1le, fun z => absurd rfl z⟩
  | some k => exact ⟨fun _ z => (by cases z), fun _ => nI_pos' (h k rfl)⟩
theorem nu_oeq {o : Option Nat} {c : Nat} (h : nu_lt o (2 ^ 31)) (hc : c < 2 ^ 31) : nu_o o = nI c ↔ o = some c := by
  cases o with
  | none => exact ⟨fun z => absurd z.symm (nu_ne1 hc), fun z => by cases z⟩
  | some k => exact ⟨fun z => congrArg some ((nI_eq (h k rfl) hc).mp z), fun z => by cases z; rfl⟩
theorem nu_om {o : Option Nat} (h : nu_lt o (2 ^ 31)) : nu_o o = -1 ↔ o = none := by
  cases o with
  | none => exact ⟨fun _ => rfl, fun _ => rfl⟩
  | some k => exact ⟨fun z => absurd z (nu_ne1 (h k rfl)), fun z => by cases z⟩
theorem nu_oinj {o p : Option Nat} (ho : nu_lt o (2 ^ 31)) (hp : nu_lt p (2 ^ 31)) (h : nu_o o = nu_o p) : o = p := by
  cases p with
  | none => exact (nu_om ho).mp h
  | some k => exact (nu_oeq ho (hp k rfl)).mp h
theorem nu_ltm {o : Option Nat} {M N : Nat} (h : nu_lt o M) (hm : M ≤ N) : nu_lt o N := fun k e => Nat.lt_of_lt_of_le (h k e) hm
theorem nu_4 (a : Nat) : 4 * nI a = nI (4 * a) := pk_mul 4 a
theorem nu_r4 (a : Nat) : nI a * 4 = nI (4 * a) := by rw [show nI a * 4 = nI (a * 4) from pk_mul a 4, Nat.mul_comm]
theorem nu_r128 (a : Nat) : nI a * 128 = nI (a * 128) := pk_mul a 128
theorem nu_a2 (a : Nat) : nI a + 2 = nI (a + 2) := nI_add a 2
theorem nu_a3 (a : Nat) : nI a + 3 = nI (a + 3) := nI_add a 3
theorem nu_64 (a : Nat) : 64 + nI a = nI (64 + a) := nI_add 64 a
theorem nu_s3 {a : Nat} (h : 3 ≤ a) : nI a - 3 = nI (a - 3) := pk_sub (b := 3) h
theorem nu_s1 {a : Nat} (h : 1 ≤ a) : nI a - 1 = nI (a - 1) := pk_sub (b := 1) h
theorem nu_m1 {a : Nat} (h : 1 ≤ a) : nI a + (-1) = nI (a - 1) := sb_m1 h
theorem nu_c0 : (0 : Int32).toNatClampNeg = 0 := by decide
theorem nu_lt0 {a : Nat} (h : a < 2 ^ 31) : nI a < 0 ↔ False := by simp only [nI_pos h]
theorem nu_0le {a : Nat} (h : a < 2 ^ 31) : 0 ≤ nI a ↔ True := by simp only [nI_pos' h]
theorem nu_le0 {a : Nat} (h : a < 2 ^ 31) : nI a ≤ 0 ↔ a = 0 := by
  rw [← nI_0, nI_leI h (by omega)]; omega
theorem nu_e0 {a : Nat} (h : a < 2 ^ 31) : nI a = 0 ↔ a = 0 := nI_eq (b := 0) h (by decide)
theorem nu_e1 {a : Nat} (h : a < 2 ^ 31) : nI a = 1 ↔ a = 1 := nI_eq (b := 1) h (by decide)
theorem nu_e2 {a : Nat} (h : a < 2 ^ 31) : nI a = 2 ↔ a = 2 := nI_eq (b := 2) h (by decide)
theorem nu_e3 {a : Nat} (h : a < 2 ^ 31) : nI a = 3 ↔ a = 3 := nI_eq (b := 3) h (by decide)
theorem nu_e4 {a : Nat} (h : a < 2 ^ 31) : nI a = 4 ↔ a = 4 := nI_eq (b := 4) h (by decide)
theorem nu_e5 {a : Nat} (h : a < 2 ^ 31) : nI a = 5 ↔ a = 5 := nI_eq (b := 5) h (by decide)
theorem nu_e6 {a : Nat} (h : a < 2 ^ 31) : nI a = 6 ↔ a = 6 := nI_eq (b := 6) h (by decide)
theorem nu_e7 {a : Nat} (h : a < 2 ^ 31) : nI a = 7 ↔ a = 7 := nI_eq (b := 7) h (by decide)
theorem nu_e8 {a : Nat} (h : a < 2 ^ 31) : nI a = 8 ↔ a = 8 := nI_eq (b := 8) h (by decide)
theorem nu_e9 {a : Nat} (h : a < 2 ^ 31) : nI a = 9 ↔ a = 9 := nI_eq (b := 9) h (by decide)
theorem nu_g1 {a : Nat} (h : a < 2 ^ 31) : 1 ≤ nI a ↔ 1 ≤ a := nI_leI (a := 1) (by decide) h
theorem nu_g2 {a : Nat} (h : a < 2 ^ 31) : 2 ≤ nI a ↔ 2 ≤ a := nI_leI (a := 2) (by decide) h
theorem nu_g3 {a : Nat} (h : a < 2 ^ 31) : 3 ≤ nI a ↔ 3 ≤ a := nI_leI (a := 3) (by decide) h
theorem nu_g4 {a : Nat} (h : a < 2 ^ 31) : 4 ≤ nI a ↔ 4 ≤ a := nI_leI (a := 4) (by decide) h
theorem nu_g5 {a : Nat} (h : a < 2 ^ 31) : 5 ≤ nI a ↔ 5 ≤ a := nI_leI (a := 5) (by decide) h
theorem nu_g8 {a : Nat} (h : a < 2 ^ 31) : 8 ≤ nI a ↔ 8 ≤ a := nI_leI (a := 8) (by decide) h
theorem nu_g11 {a : Nat} (h : a < 2 ^ 31) : 11 ≤ nI a ↔ 11 ≤ a := nI_leI (a := 11) (by decide) h
theorem nu_g16 {a : Nat} (h : a < 2 ^ 31) : 16 ≤ nI a ↔ 16 ≤ a := nI_leI (a := 16) (by decide) h
theorem nu_g48 {a : Nat} (h : a < 2 ^ 31) : 48 ≤ nI a ↔ 48 ≤ a := nI_leI (a := 48) (by decide) h
theorem nu_g64 {a : Nat} (h : a < 2 ^ 31) : 64 ≤ nI a ↔ 64 ≤ a := nI_leI (a := 64) (by decide) h
theorem nu_g128 {a : Nat} (h : a < 2 ^ 31) : 128 ≤ nI a ↔ 128 ≤ a := nI_leI (a := 128) (by decide) h
theorem nu_g192 {a : Nat} (h : a < 2 ^ 31) : 192 ≤ nI a ↔ 192 ≤ a := nI_leI (a := 192) (by decide) h
theorem nu_g16384 {a : Nat} (h : a < 2 ^ 31) : 16384 ≤ nI a ↔ 16384 ≤ a := nI_leI (a := 16384) (by decide) h
theorem nu_g16385 {a : Nat} (h : a < 2 ^ 31) : 16385 ≤ nI a ↔ 16385 ≤ a := nI_leI (a := 16385) (by decide) h
theorem nu_l3 {a : Nat} (h : a < 2 ^ 31) : nI a ≤ 3 ↔ a ≤ 3 := nI_leI (b := 3) h (by decide)
theorem nu_l7 {a : Nat} (h : a < 2 ^ 31) : nI a ≤ 7 ↔ a ≤ 7 := nI_leI (b := 7) h (by decide)
theorem nu_l48 {a : Nat} (h : a < 2 ^ 31) : nI a ≤ 48 ↔ a ≤ 48 := nI_leI (b := 48) h (by decide)
theorem nu_l64 {a : Nat} (h : a < 2 ^ 31) : nI a ≤ 64 ↔ a ≤ 64 := nI_leI (b := 64) h (by decide)
theorem nu_l192 {a : Nat} (h : a < 2 ^ 31) : nI a ≤ 192 ↔ a ≤ 192 := nI_leI (b := 192) h (by decide)
theorem nu_p3 {a : Nat} (h : a < 2 ^ 31) : nI a < 3 ↔ a < 3 := nI_ltI (b := 3) h (by decide)
theorem nu_p4 {a : Nat} (h : a < 2 ^ 31) : nI a < 4 ↔ a < 4 := nI_ltI (b := 4) h (by decide)
theorem nu_p64 {a : Nat} (h : a < 2 ^ 31) : nI a < 64 ↔ a < 64 := nI_ltI (b := 64) h (by decide)
theorem nu_p192 {a : Nat} (h : a < 2 ^ 31) : nI a < 192 ↔ a < 192 := nI_ltI (b := 192) h (by decide)
theorem nu_q2 {a : Nat} (h : a < 2 ^ 31) : 2 < nI a ↔ 2 < a := nI_ltI (a := 2) (by decide) h
theorem nu_q4 {a : Nat} (h : a < 2 ^ 31) : 4 < nI a ↔ 4 < a := nI_ltI (a := 4) (by decide) h
theorem nu_q192 {a : Nat} (h : a < 2 ^ 31) : 192 < nI a ↔ 192 < a := nI_ltI (a := 192) (by decide) h
theorem nu_q4096 {a : Nat} (h : a < 2 ^ 31) : 4096 < nI a ↔ 4096 < a := nI_ltI (a := 4096) (by decide) h
end
section
/-! terms: pure -/
def tm_slot (k i : Nat) : Bool := if k = 3 then i == 1 else if k = 4 ∨ k = 8 then decide (i < 2) else if k = 5 then (i == 1 || i == 2) else if k = 7 then i == 0 else if k = 9 then decide (i < 3) else k == 6
def tm_pc (k : Nat) : Nat := if k = 1 ∨ k = 2 then 1 else if k = 5 ∨ k = 9 then 3 else if k = 6 then 4 else 2
def tm_Ag (n : Nat) (kd : Nat → Nat) (pp ak ap : Nat → Int32) : Prop := (∀ j, j < n → ak j = nI (kd j)) ∧ (∀ i, i < 4 * n → ap i = pp i)
def tm_WF (n : Nat) (kd : Nat → Nat) (cd : Nat → Nat → Option Nat) (pp : Nat → Int32) (par : Nat → Option Nat) : Prop :=
  n ≤ 48 ∧
  (∀ j, j < n → 1 ≤ kd j ∧ kd j ≤ 9) ∧
  (∀ j i, j < n → i < 4 → tm_slot (kd j) i = true → pp (4 * j + i) = nu_o (cd j i)) ∧
  (∀ j i, j < n → cd j i ≠ none → i < 4 ∧ tm_slot (kd j) i = true) ∧
  (∀ j i c, j < n → cd j i = some c → c < j ∧ par c = some j) ∧
  (∀ j i i' c, j < n → cd j i = some c → cd j i' = some c → i = i') ∧
  (∀ c j, par c = some j → j < n ∧ ∃ i, cd j i = some c) ∧
  (∀ j i, j < n → i < 4 → tm_slot (kd j) i = true → kd j ≠ 6 → cd j i ≠ none) ∧
  (∀ j, j < n → kd j = 7 → ∃ q, q ≤ 3 ∧ pp (4 * j + 1) = nI q) ∧
  (∀ j i, j < n → i < 4 → tm_pc (kd j) ≤ i → pp (4 * j + i) = -1)
section
variable {n : Nat} {kd : Nat → Nat} {cd : Nat → Nat → Option Nat} {pp : Nat → Int32} {par : Nat → Option Nat}
theorem tm_n (W : tm_WF n kd cd pp par) : n ≤ 48 := W.1
theorem tm_k (W : tm_WF n kd cd pp par) {j : Nat} (h : j < n) : 1 ≤ kd j ∧ kd j ≤ 9 := W.2.1 j h
theorem tm_s (W : tm_WF n kd cd pp par) {j i : Nat} (h : j < n) (hi : i < 4) (hs : tm_slot (kd j) i = true) : pp (4 * j + i) = nu_o (cd j i) := W.2.2.1 j i h hi hs
theorem tm_o (W : tm_WF n kd cd pp par) {j i : Nat} (h : j < n) (hs : cd j i ≠ none) : i < 4 ∧ tm_slot (kd j) i = true := W.2.2.2.1 j i h hs
theorem tm_c (W : tm_WF n kd cd pp par) {j i c : Nat} (h : j < n) (e : cd j i = some c) : c < j ∧ par c = some j := W.2.2.2.2.1 j i c h e
theorem tm_inj (W : tm_WF n kd cd pp par) {j i i' c : Nat} (h : j < n) (e : cd j i = some c) (e' : cd j i' = some c) : i = i' := W.2.2.2.2.2.1 j i i' c h e e'
theorem tm_p (W : tm_WF n kd cd pp par) {c j : Nat} (e : par c = some j) : j < n ∧ ∃ i, cd j i = some c := W.2.2.2.2.2.2.1 c j e
theorem tm_nn (W : tm_WF n kd cd pp par) {j i : Nat} (h : j < n) (hi : i < 4) (hs : tm_slot (kd j) i = true) (h6 : kd j ≠ 6) : cd j i ≠ none := W.2.2.2.2.2.2.2.1 j i h hi hs h6
theorem tm_lb (W : tm_WF n kd cd pp par) {j : Nat} (h : j < n) (h7 : kd j = 7) : ∃ q, q ≤ 3 ∧ pp (4 * j + 1) = nI q := W.2.2.2.2.2.2.2.2.1 j h h7
theorem tm_pm (W : tm_WF n kd cd pp par) {j i : Nat} (h : j < n) (hi : i < 4) (hs : tm_pc (kd j) ≤ i) : pp (4 * j + i) = -1 := W.2.2.2.2.2.2.2.2.2 j i h hi hs
theorem tm_cl (W : tm_WF n kd cd pp par) {j i : Nat} (h : j < n) : nu_lt (cd j i) j := fun _ e => (tm_c W h e).1
theorem tm_cl' (W : tm_WF n kd cd pp par) {j i : Nat} (h : j < n) : nu_lt (cd j i) (2 ^ 31) := nu_ltm (tm_cl W h) (by have := tm_n W; omega)
theorem tm_ns (W : tm_WF n kd cd pp par) {j i : Nat} (h : j < n) (hs : ¬ tm_slot (kd j) i = true) : cd j i = none := by
  cases e : cd j i with
  | none => rfl
  | some c => exact absurd (tm_o W h (by rw [e]; intro z; cases z)).2 hs
theorem tm_pl (W : tm_WF n kd cd pp par) {c j : Nat} (e : par c = some j) : c < j ∧ j < n := by
  obtain ⟨a, i, h⟩ := tm_p W e
  exact ⟨(tm_c W a h).1, a⟩
theorem tm_plt (W : tm_WF n kd cd pp par) {c : Nat} : nu_lt (par c) (2 ^ 31) := fun k e => by
  have := (tm_pl W e).2
  have := tm_n W
  omega
end
/-- the least part from i on that holds a child -/
def tm_nxd (f : Nat → Option Nat) : Nat → Nat → Nat
  | 0, _ => 4
  | d + 1, i => if f i = none then tm_nxd f d (i + 1) else i
def tm_nx (f : Nat → Option Nat) (i : Nat) : Nat := tm_nxd f (4 - i) i
/-- what a tentative node's part i must be -/
def tm_fit (n : Nat) (par : Nat → Option Nat) (k : Nat) (p : Nat → Int32) (i : Nat) : Prop := tm_slot k i = true → ¬ (k = 6 ∧ p i = -1) → ∃ c, c < n ∧ p i = nI c ∧ par c = none ∧ ∀ j, j < i → tm_slot k j = true → p j ≠ p i
theorem nu_i40 {j N : Nat} (h : 4 * j < N) (hN : N < 2 ^ 31) : vp_in (4 * nI j) N := by rw [nu_4]; exact vp_in_nI h hN
theorem nu_i4 {j i N : Nat} (h : 4 * j + i < N) (hN : N < 2 ^ 31) : vp_in (4 * nI j + nI i) N := by rw [nu_4, nI_add]; exact vp_in_nI h hN
theorem nu_c4 {j i : Nat} (h : 4 * j + i < 2 ^ 31) : (4 * nI j + nI i).toNatClampNeg = 4 * j + i := by rw [nu_4, nI_add, nI_clamp h]
theorem nu_i4' {j i N : Nat} (h : 4 * j + i < N) (hN : N < 2 ^ 31) : vp_in (nI j * 4 + nI i) N := by rw [nu_r4, nI_add]; exact vp_in_nI h hN
theorem nu_c4' {j i : Nat} (h : 4 * j + i < 2 ^ 31) : (nI j * 4 + nI i).toNatClampNeg = 4 * j + i := by rw [nu_r4, nI_add, nI_clamp h]
section
variable {f_maxNodes f_maxWeight f_maxVisits f_nodeCount f_sealed f_verdictNow f_copyCount f_varCount : Int32} {f_atSet : Int64} {f_atNeg f_visitCount f_done f_stuck f_curNode f_curEnv f_resultValue f_valueCount f_envCount f_depth : Int32} {a_nKind a_nPart a_nParent a_cNode a_cUp a_cChild a_cInst a_cParam a_queue : Nat → Int32} {a_rel : Nat → Int64} {a_vKind a_vWord a_vEnv a_vField a_eName a_eValue a_eNext a_fNode a_fEnv a_fPart a_fValue : Nat → Int32} {n : Nat} {kd : Nat → Nat} {cd : Nat → Nat → Option Nat} {pp : Nat → Int32} {par : Nat → Option Nat} {post : Int32 → Prop}
theorem xw_icp {k i : Nat} (hk : k < 10) (hi : i < 4) (h : post (nu_b (tm_slot k i))) : wpX_isChildPart post (f_maxNodes, f_maxWeight, f_maxVisits, f_nodeCount, f_sealed, f_verdictNow, f_copyCount, f_varCount, f_atSet, f_atNeg, f_visitCount, f_done, f_stuck, f_curNode, f_curEnv, f_resultValue, f_valueCount, f_envCount, f_depth, a_nKind, a_nPart, a_nParent, a_cNode, a_cUp, a_cChild, a_cInst, a_cParam, a_queue, a_rel, a_vKind, a_vWord, a_vEnv, a_vField, a_eName, a_eValue, a_eNext, a_fNode, a_fEnv, a_fPart, a_fValue) (nI k) (nI i) := by
  simp only [wpX_isChildPart, wX_isChildPart_27, nu_br (P := post)]
  refine nu_tr h ?_
  clear h
  revert hi; revert i; revert hk; revert k
  decide +kernel
theorem xw_pc {k : Nat} (hk : k < 10) (h : post (nI (tm_pc k))) : wpX_partCount post (f_maxNodes, f_maxWeight, f_maxVisits, f_nodeCount, f_sealed, f_verdictNow, f_copyCount, f_varCount, f_atSet, f_atNeg, f_visitCount, f_done, f_stuck, f_curNode, f_curEnv, f_resultValue, f_valueCount, f_envCount, f_depth, a_nKind, a_nPart, a_nParent, a_cNode, a_cUp, a_cChild, a_cInst, a_cParam, a_queue, a_rel, a_vKind, a_vWord, a_vEnv, a_vField, a_eName, a_eValue, a_eNext, a_fNode, a_fEnv, a_fPart, a_fValue) (nI k) := by
  simp only [wpX_partCount, nu_br (P := post)]
  refine nu_tr h ?_
  clear h
  revert hk; revert k
  decide +kernel
theorem xw_childAt (W : tm_WF n kd cd pp par) (A : tm_Ag n kd pp a_nKind a_nPart) {j i : Nat} (hj : j < n) (hi : i < 4) (h : post (nu_o (cd j i))) : wpX_childAt post (f_maxNodes, f_maxWeight, f_maxVisits, f_nodeCount, f_sealed, f_verdictNow, f_copyCount, f_varCount, f_atSet, f_atNeg, f_visitCount, f_done, f_stuck, f_curNode, f_curEnv, f_resultValue, f_valueCount, f_envCount, f_depth, a_nKind, a_nPart, a_nParent, a_cNode, a_cUp, a_cChild, a_cInst, a_cParam, a_queue, a_rel, a_vKind, a_vWord, a_vEnv, a_vField, a_eName, a_eValue, a_eNext, a_fNode, a_fEnv, a_fPart, a_fValue) (nI j) (nI i) := by
  have hn := tm_n W
  have hk := tm_k W hj
  unfold wpX_childAt
  dsimp only
  refine ⟨vp_in_nI (by omega) (by omega), ?_⟩
  rw [nI_clamp (by omega), A.1 j hj]
  refine xw_icp (by omega) hi ?_
  by_cases hs : tm_slot (kd j) i = true
  · rw [hs]
    refine br_f (by decide) ⟨nu_i4 (by omega) (by omega), ?_⟩
    rw [nu_c4 (by omega), A.2 _ (by omega), tm_s W hj hi hs]
    exact h
  · rw [tm_ns W hj hs] at h
    rw [ts_nt hs]
    exact br_t (by decide) h
theorem xw_ncp0 (W : tm_WF n kd cd pp par) (A : tm_Ag n kd pp a_nKind a_nPart) {j : Nat} (hj : j < n) : ∀ d i, i + d = 4 → post (nI (tm_nxd (cd j) d i)) → wX_nextChildPart_2 post (nI j) f_maxNodes f_maxWeight f_maxVisits f_nodeCount f_sealed f_verdictNow f_copyCount f_varCount f_atSet f_atNeg f_visitCount f_done f_stuck f_curNode f_curEnv f_resultValue f_valueCount f_envCount f_depth a_nKind a_nPart a_nParent a_cNode a_cUp a_cChild a_cInst a_cParam a_queue a_rel a_vKind a_vWord a_vEnv a_vField a_eName a_eValue a_eNext a_fNode a_fEnv a_fPart a_fValue (d + 1) (nI i) := by
  intro d
  induction d with
  | zero =>
    intro i hi h
    have : i = 4 := by omega
    subst this
    exact br_t (by decide) h
  | succ d ih =>
    intro i hi h
    refine br_f ?_ (xw_childAt W A hj (by omega) ?_)
    · show ¬ (4 : Int32) ≤ nI i
      rw [nu_g4 (by omega)]; omega
    · rw [tm_nxd] at h
      refine br_c (fun z => ?_) (fun z => ?_)
      · rw [nu_olt (tm_cl' W hj)] at z
        rw [if_pos z] at h
        refine nm_r (nI_1 i) (ih (i + 1) (by omega) h)
      · rw [nu_olt (tm_cl' W hj)] at z
        rw [if_neg z] at h
        exact h
theorem xw_ncp (W : tm_WF n kd cd pp par) (A : tm_Ag n kd pp a_nKind a_nPart) {j i : Nat} (hj : j < n) (hi : i ≤ 4) (h : post (nI (tm_nx (cd j) i))) : wpX_nextChildPart post (f_maxNodes, f_maxWeight, f_maxVisits, f_nodeCount, f_sealed, f_verdictNow, f_copyCount, f_varCount, f_atSet, f_atNeg, f_visitCount, f_done, f_stuck, f_curNode, f_curEnv, f_resultValue, f_valueCount, f_envCount, f_depth, a_nKind, a_nPart, a_nParent, a_cNode, a_cUp, a_cChild, a_cInst, a_cParam, a_queue, a_rel, a_vKind, a_vWord, a_vEnv, a_vField, a_eName, a_eValue, a_eNext, a_fNode, a_fEnv, a_fPart, a_fValue) (nI j) (nI i) := ⟨_, xw_ncp0 W A hj (4 - i) i (by omega) h⟩
theorem xw_ex {j : Int32} {n : Nat} (hn : n < 2 ^ 31) (h0 : (∀ k, k < n → j ≠ nI k) → post 0) (h1 : ∀ k, k < n → j = nI k → post 1) : wpX_exists post (f_maxNodes, f_maxWeight, f_maxVisits, nI n, f_sealed, f_verdictNow, f_copyCount, f_varCount, f_atSet, f_atNeg, f_visitCount, f_done, f_stuck, f_curNode, f_curEnv, f_resultValue, f_valueCount, f_envCount, f_depth, a_nKind, a_nPart, a_nParent, a_cNode, a_cUp, a_cChild, a_cInst, a_cParam, a_queue, a_rel, a_vKind, a_vWord, a_vEnv, a_vField, a_eName, a_eValue, a_eNext, a_fNode, a_fEnv, a_fPart, a_fValue) j := by
  refine br_c (fun z => h0 fun k hk e => ?_) (fun z => ?_)
  · rw [e] at z; exact nI_pos (by omega) z
  · obtain ⟨k, hk, rfl⟩ := nI_of z
    rw [nI_leI hn hk]
    exact br_c (fun y => h0 fun q hq e => by rw [nI_eq hk (by omega)] at e; omega) (fun y => h1 k (by omega) rfl)
end
end
section
/-! making a node: X -/
def tm_ch (k : Nat) (p : Nat → Int32) (i : Nat) : Int32 := if tm_slot k i = true then p i else -1
def tm_pre (k : Nat) (p : Nat → Int32) : Prop := ((k = 2 ∨ k = 3 ∨ k = 5) → ¬ p 0 < 0 ∧ p 0 ≤ 7) ∧ (k = 7 → ¬ p 1 < 0 ∧ p 1 ≤ 3)
def tm_ok (n : Nat) (par : Nat → Option Nat) (k : Nat) (p : Nat → Int32) : Prop := tm_pre k p ∧ ∀ i, i < 4 → tm_fit n par k p i
section
variable {f_maxNodes f_maxWeight f_maxVisits f_nodeCount f_sealed f_verdictNow f_copyCount f_varCount : Int32} {f_atSet : Int64} {f_atNeg f_visitCount f_done f_stuck f_curNode f_curEnv f_resultValue f_valueCount f_envCount f_depth : Int32} {a_nKind a_nPart a_nParent a_cNode a_cUp a_cChild a_cInst a_cParam a_queue : Nat → Int32} {a_rel : Nat → Int64} {a_vKind a_vWord a_vEnv a_vField a_eName a_eValue a_eNext a_fNode a_fEnv a_fPart a_fValue : Nat → Int32} {n : Nat} {kd : Nat → Nat} {cd : Nat → Nat → Option Nat} {pp : Nat → Int32} {par : Nat → Option Nat} {post : Int32 → Prop} {k : Nat} {p : Nat → Int32} {J : Int32 → Prop}
theorem xw_cAt {j i : Nat} (hj : j < 48) (hi : i < 4) (hk : k < 10) (ek : a_nKind j = nI k) (ep : a_nPart (4 * j + i) = p i) (h : post (tm_ch k p i)) : wpX_childAt post (f_maxNodes, f_maxWeight, f_maxVisits, f_nodeCount, f_sealed, f_verdictNow, f_copyCount, f_varCount, f_atSet, f_atNeg, f_visitCount, f_done, f_stuck, f_curNode, f_curEnv, f_resultValue, f_valueCount, f_envCount, f_depth, a_nKind, a_nPart, a_nParent, a_cNode, a_cUp, a_cChild, a_cInst, a_cParam, a_queue, a_rel, a_vKind, a_vWord, a_vEnv, a_vField, a_eName, a_eValue, a_eNext, a_fNode, a_fEnv, a_fPart, a_fValue) (nI j) (nI i) := by
  unfold wpX_childAt
  dsimp only
  refine ⟨vp_in_nI (by omega) (by omega), ?_⟩
  rw [nI_clamp (by omega), ek]
  refine xw_icp (by omega) hi ?_
  unfold tm_ch at h
  by_cases hs : tm_slot k i = true
  · rw [hs]
    rw [if_pos hs] at h
    refine br_f (by decide) ⟨nu_i4 (by omega) (by omega), ?_⟩
    rw [nu_c4 (by omega), ep]
    exact h
  · rw [if_neg hs] at h
    rw [ts_nt hs]
    exact br_t (by decide) h
theorem xw_cf88 (hk : k < 10) {m i : Nat} (hi : i < 4) (hm : m < 48) (hp : ∀ i, i < 4 → a_nPart (4 * m + i) = p i) {x : Int32} : ∀ d j, j + d = i → ((∃ j', j ≤ j' ∧ j' < i ∧ tm_slot k j' = true ∧ p j' = x) → post 0) → ((∀ j', j ≤ j' → j' < i → tm_slot k j' = true → p j' ≠ x) → J (nI (i + 1))) → wX_childrenFit_88 post J (nI m) (nI k) (nI i) x f_maxNodes f_maxWeight f_maxVisits f_nodeCount f_sealed f_verdictNow f_copyCount f_varCount f_atSet f_atNeg f_visitCount f_done f_stuck f_curNode f_curEnv f_resultValue f_valueCount f_envCount f_depth a_nKind a_nPart a_nParent a_cNode a_cUp a_cChild a_cInst a_cParam a_queue a_rel a_vKind a_vWord a_vEnv a_vField a_eName a_eValue a_eNext a_fNode a_fEnv a_fPart a_fValue (d + 1) (nI j) := by
  intro d
  induction d with
  | zero =>
    intro j hj h0 h1
    refine br_t ?_ (nm_r (nI_1 i) (h1 fun j' _ _ => by omega))
    rw [nI_leI (by omega) (by omega)]; omega
  | succ d ih =>
    intro j hj h0 h1
    refine br_f ?_ (xw_icp hk (by omega) ?_)
    · show ¬ nI i ≤ nI j
      rw [nI_leI (by omega) (by omega)]; omega
    · by_cases hs : tm_slot k j = true
      · rw [hs]
        refine br_f (by decide) ⟨nu_i4 (by omega) (by omega), ?_⟩
        rw [nu_c4 (by omega), hp j (by omega)]
        refine br_c (fun z => h0 ⟨j, Nat.le_refl _, by omega, hs, z⟩) (fun z => nm_r (nI_1 j) (ih (j + 1) (by omega) ?_ ?_))
        · rintro ⟨j', a, b, c, e⟩
          exact h0 ⟨j', by omega, b, c, e⟩
        · intro hn
          refine h1 fun j' a b c e => ?_
          rcases Nat.eq_or_lt_of_le a with q | q
          · subst q; exact z e
          · exact hn j' q b c e
      · rw [ts_nt hs]
        refine br_t (by decide) (nm_r (nI_1 j) (ih (j + 1) (by omega) ?_ ?_))
        · rintro ⟨j', a, b, c, e⟩
          exact h0 ⟨j', by omega, b, c, e⟩
        · intro hn
          refine h1 fun j' a b c e => ?_
          rcases Nat.eq_or_lt_of_le a with q | q
          · subst q; exact hs c
          · exact hn j' q b c e
theorem xw_cf43 (hk : k < 10) {i : Nat} (hi : i < 4) (hn : n < 48) (hpar : ∀ c, c < n → a_nParent c = nu_o (par c)) (hpl : ∀ c, nu_lt (par c) (2 ^ 31)) (hp : ∀ i, i < 4 → a_nPart (4 * n + i) = p i) {z : Bool} (hz : z = true ↔ (k = 6 ∧ p i = -1)) (h1 : tm_fit n par k p i → J (nI (i + 1))) (h0 : ¬ tm_fit n par k p i → post 0) : wX_childrenFit_43 post J (nI n) (nI k) (nI i) (p i) (nu_b z) f_maxNodes f_maxWeight f_maxVisits (nI n) f_sealed f_verdictNow f_copyCount f_varCount f_atSet f_atNeg f_visitCount f_done f_stuck f_curNode f_curEnv f_resultValue f_valueCount f_envCount f_depth a_nKind a_nPart a_nParent a_cNode a_cUp a_cChild a_cInst a_cParam a_queue a_rel a_vKind a_vWord a_vEnv a_vField a_eName a_eValue a_eNext a_fNode a_fEnv a_fPart a_fValue := by
  refine xw_icp hk hi ?_
  by_cases hs : tm_slot k i = true
  · rw [hs]
    refine br_f (by decide) ?_
    cases hzz : z with
    | true =>
      refine br_f (by decide) (nm_r (nI_1 i) (h1 fun _ a => absurd (hz.mp hzz) a))
    | false =>
      have hna : ¬ (k = 6 ∧ p i = -1) := fun a => by rw [hz.mpr a] at hzz; cases hzz
      refine br_t (by decide) (br_c (fun y => h0 fun f => ?_) (fun y => ?_))
      · obtain ⟨c, hc, e, _⟩ := f hs hna
        rw [e] at y
        exact nI_pos (by omega) y
      · obtain ⟨c, hc, e⟩ := nI_of y
        refine br_c (fun y => h0 fun f => ?_) (fun y => ?_)
        · obtain ⟨c', hc', e', _⟩ := f hs hna
          rw [e', nI_leI (by omega) (by omega)] at y
          omega
        · rw [e, nI_leI (by omega) hc] at y
          refine ⟨by rw [e]; exact vp_in_nI (by omega) (by omega), ?_⟩
          rw [show (p i).toNatClampNeg = c by rw [e, nI_clamp hc], hpar c (by omega), nu_olt (hpl c)]
          refine br_c (fun w => ⟨i + 1, xw_cf88 hk hi hn hp i 0 (by omega) ?_ ?_⟩) (fun w => h0 fun f => ?_)
          · rintro ⟨j', _, b, c', e'⟩
            exact h0 fun f => by
              obtain ⟨_, _, _, _, q⟩ := f hs hna
              exact q j' b c' e'
          · intro hd
            exact h1 fun _ _ => ⟨c, by omega, e, w, fun j a b => hd j (Nat.zero_le _) a b⟩
          · obtain ⟨c', hc', e', q, _⟩ := f hs hna
            rw [e] at e'
            rw [(nI_eq hc (by omega)).mp e'] at w
            exact w q
  · rw [ts_nt hs]
    exact br_t (by decide) (nm_r (nI_1 i) (h1 fun a => absurd a hs))
theorem xw_cf9 (hk : k < 10) (hn : n < 48) (hpar : ∀ c, c < n → a_nParent c = nu_o (par c)) (hpl : ∀ c, nu_lt (par c) (2 ^ 31)) (hp : ∀ i, i < 4 → a_nPart (4 * n + i) = p i) : ∀ d i, i + d = 4 → ((∀ i', i ≤ i' → i' < 4 → tm_fit n par k p i') → post 1) → ((¬ ∀ i', i ≤ i' → i' < 4 → tm_fit n par k p i') → post 0) → wX_childrenFit_9 post (nI n) (nI k) f_maxNodes f_maxWeight f_maxVisits (nI n) f_sealed f_verdictNow f_copyCount f_varCount f_atSet f_atNeg f_visitCount f_done f_stuck f_curNode f_curEnv f_resultValue f_valueCount f_envCount f_depth a_nKind a_nPart a_nParent a_cNode a_cUp a_cChild a_cInst a_cParam a_queue a_rel a_vKind a_vWord a_vEnv a_vField a_eName a_eValue a_eNext a_fNode a_fEnv a_fPart a_fValue (d + 1) (nI i) := by
  intro d
  induction d with
  | zero =>
    intro i hi h1 h0
    refine br_t ?_ (h1 fun i' _ _ => by omega)
    show (4 : Int32) ≤ nI i
    rw [nu_g4 (by omega)]; omega
  | succ d ih =>
    intro i hi h1 h0
    have K1 : tm_fit n par k p i → wX_childrenFit_9 post (nI n) (nI k) f_maxNodes f_maxWeight f_maxVisits (nI n) f_sealed f_verdictNow f_copyCount f_varCount f_atSet f_atNeg f_visitCount f_done f_stuck f_curNode f_curEnv f_resultValue f_valueCount f_envCount f_depth a_nKind a_nPart a_nParent a_cNode a_cUp a_cChild a_cInst a_cParam a_queue a_rel a_vKind a_vWord a_vEnv a_vField a_eName a_eValue a_eNext a_fNode a_fEnv a_fPart a_fValue (d + 1) (nI (i + 1)) := fun f => by
      refine ih (i + 1) (by omega) (fun q => h1 fun i' a b => ?_) (fun q => h0 fun w => q fun i' a b => w i' (by omega) b)
      rcases Nat.eq_or_lt_of_le a with e | e
      · subst e; exact f
      · exact q i' e b
    have K0 : ¬ tm_fit n par k p i → post 0 := fun f => h0 fun w => f (w i (Nat.le_refl _) (by omega))
    refine br_f ?_ ⟨nu_i4 (by omega) (by omega), nm_r (e' := p i) ?_ ?_⟩
    · show ¬ (4 : Int32) ≤ nI i
      rw [nu_g4 (by omega)]; omega
    · rw [nu_c4 (by omega), hp i (by omega)]
    · rw [nu_e6 (by omega)]
      refine br_c (fun a => br_c (fun b => ?_) (fun b => ?_)) (fun a => ?_)
      · exact xw_cf43 (z := true) hk (by omega) hn hpar hpl hp ⟨fun _ => ⟨a, b⟩, fun _ => rfl⟩ K1 K0
      · exact xw_cf43 (z := false) hk (by omega) hn hpar hpl hp ⟨fun z => (by cases z), fun z => absurd z.2 b⟩ K1 K0
      · exact xw_cf43 (z := false) hk (by omega) hn hpar hpl hp ⟨fun z => (by cases z), fun z => absurd z.1 a⟩ K1 K0
theorem xw_cf (hk : k < 10) (hn : n < 48) (ek : a_nKind n = nI k) (hpar : ∀ c, c < n → a_nParent c = nu_o (par c)) (hpl : ∀ c, nu_lt (par c) (2 ^ 31)) (hp : ∀ i, i < 4 → a_nPart (4 * n + i) = p i) (h1 : (∀ i, i < 4 → tm_fit n par k p i) → post 1) (h0 : (¬ ∀ i, i < 4 → tm_fit n par k p i) → post 0) : wpX_childrenFit post (f_maxNodes, f_maxWeight, f_maxVisits, nI n, f_sealed, f_verdictNow, f_copyCount, f_varCount, f_atSet, f_atNeg, f_visitCount, f_done, f_stuck, f_curNode, f_curEnv, f_resultValue, f_valueCount, f_envCount, f_depth, a_nKind, a_nPart, a_nParent, a_cNode, a_cUp, a_cChild, a_cInst, a_cParam, a_queue, a_rel, a_vKind, a_vWord, a_vEnv, a_vField, a_eName, a_eValue, a_eNext, a_fNode, a_fEnv, a_fPart, a_fValue) (nI n) := by
  refine ⟨vp_in_nI (by omega) (by omega), nm_r (e' := nI k) (by rw [nI_clamp (by omega), ek]) ⟨5, ?_⟩⟩
  exact xw_cf9 hk hn hpar hpl hp 4 0 rfl (fun q => h1 fun i b => q i (Nat.zero_le _) b) (fun q => h0 fun w => q fun i _ b => w i b)
end
section
variable {f_maxNodes f_maxWeight f_maxVisits f_nodeCount f_sealed f_verdictNow f_copyCount f_varCount : Int32} {f_atSet : Int64} {f_atNeg f_visitCount f_done f_stuck f_curNode f_curEnv f_resultValue f_valueCount f_envCount f_depth : Int32} {a_nKind a_nPart a_nParent a_cNode a_cUp a_cChild a_cInst a_cParam a_queue : Nat → Int32} {a_rel : Nat → Int64} {a_vKind a_vWord a_vEnv a_vField a_eName a_eValue a_eNext a_fNode a_fEnv a_fPart a_fValue : Nat → Int32} {n : Nat} {par : Nat → Option Nat} {post : Int32 → SX → Prop} {k : Nat} {p : Nat → Int32}
theorem xw_mk153 (hk : k < 10) (hn : n < 48) (ek : a_nKind n = nI k) (hp : ∀ i, i < 4 → a_nPart (4 * n + i) = p i) (hf : ∀ i, i < 4 → tm_fit n par k p i) : ∀ d i, i + d = 4 → ∀ pa, (∀ pa', (∀ i' c, i ≤ i' → i' < 4 → c < 48 → tm_ch k p i' = nI c → pa' c = nI n) → (∀ c, c < 48 → (∀ i', i ≤ i' → i' < 4 → tm_ch k p i' ≠ nI c) → pa' c = pa c) → post (nI n) (f_maxNodes, f_maxWeight, f_maxVisits, nI (n + 1), f_sealed, f_verdictNow, f_copyCount, f_varCount, f_atSet, f_atNeg, f_visitCount, f_done, f_stuck, f_curNode, f_curEnv, f_resultValue, f_valueCount, f_envCount, f_depth, a_nKind, a_nPart, pa', a_cNode, a_cUp, a_cChild, a_cInst, a_cParam, a_queue, a_rel, a_vKind, a_vWord, a_vEnv, a_vField, a_eName, a_eValue, a_eNext, a_fNode, a_fEnv, a_fPart, a_fValue)) → wX_make_153 post (nI n) f_maxNodes f_maxWeight f_maxVisits (nI n) f_sealed f_verdictNow f_copyCount f_varCount f_atSet f_atNeg f_visitCount f_done f_stuck f_curNode f_curEnv f_resultValue f_valueCount f_envCount f_depth (d + 1) (nI i) a_nKind a_nPart pa a_cNode a_cUp a_cChild a_cInst a_cParam a_queue a_rel a_vKind a_vWord a_vEnv a_vField a_eName a_eValue a_eNext a_fNode a_fEnv a_fPart a_fValue := by
  intro d
  induction d with
  | zero =>
    intro i hi pa h
    refine br_t ?_ (nm_r (nI_1 n) (h pa (fun i' c a b => by omega) (fun c _ _ => rfl)))
    show (4 : Int32) ≤ nI i
    rw [nu_g4 (by omega)]; omega
  | succ d ih =>
    intro i hi pa h
    refine br_f ?_ (xw_cAt hn (by omega) hk ek (hp i (by omega)) (br_c (fun z => ?_) (fun z => ?_)))
    · show ¬ (4 : Int32) ≤ nI i
      rw [nu_g4 (by omega)]; omega
    · refine nm_r (nI_1 i) (ih (i + 1) (by omega) pa fun pa' h1 h2 => h pa' (fun i' c a b hc e => ?_) (fun c hc e => h2 c hc fun i' a b => e i' (by omega) b))
      rcases Nat.eq_or_lt_of_le a with q | q
      · subst q; rw [e] at z; exact absurd z (nI_pos (by omega))
      · exact h1 i' c q b hc e
    · obtain ⟨c, hc, e⟩ := nI_of z
      have hcn : c < n := by
        unfold tm_ch at e z
        by_cases hs : tm_slot k i = true
        · rw [if_pos hs] at e z
          obtain ⟨c', hc', e', _⟩ := hf i (by omega) hs (fun w => by rw [w.2] at z; exact z nu_m1lt)
          rw [e] at e'
          have := (nI_eq hc (by omega)).mp e'
          omega
        · rw [if_neg hs] at z
          exact absurd nu_m1lt z
      rw [e]
      refine ⟨vp_in_nI (by omega) (by omega), nm_r (e' := upd pa c (nI n)) (by rw [nI_clamp hc]) (nm_r (nI_1 i) (ih (i + 1) (by omega) _ fun pa' h1 h2 => h pa' (fun i' c' a b hc' e' => ?_) (fun c' hc' e' => ?_)))⟩
      · rcases Nat.eq_or_lt_of_le a with q | q
        · subst q
          rw [e] at e'
          have := (nI_eq hc (by omega)).mp e'
          subst this
          by_cases hx : ∀ i', i + 1 ≤ i' → i' < 4 → tm_ch k p i' ≠ nI c
          · rw [h2 c hc' hx]; exact pk_us
          · exact Classical.byContradiction fun w => hx fun i' a b e => w (h1 i' c a b hc' e)
        · exact h1 i' c' q b hc' e'
      · rw [h2 c' hc' fun i' a b => e' i' (by omega) b]
        refine pk_un fun q => e' i (Nat.le_refl _) (by omega) ?_
        rw [e, q]
theorem xw_mk2 {mN : Nat} (hk : k < 10) (h1 : 1 ≤ k) (hm : mN ≤ 48) (hn : n ≤ mN) (hpar : ∀ c, c < n → a_nParent c = nu_o (par c)) (hpl : ∀ c, nu_lt (par c) (2 ^ 31)) (hlt : n < mN)
    (hY : n < mN → tm_ok n par k p → ∀ ak ap pa, (∀ j, j < n → ak j = a_nKind j) → ak n = nI k → (∀ i, i < 4 * n → ap i = a_nPart i) → (∀ i, i < 4 → ap (4 * n + i) = p i) → (∀ i' c, i' < 4 → c < 48 → tm_ch k p i' = nI c → pa c = nI n) → (∀ c, c < n → (∀ i', i' < 4 → tm_ch k p i' ≠ nI c) → pa c = a_nParent c) → ((∀ i', i' < 4 → tm_ch k p i' ≠ nI n) → pa n = -1) → post (nI n) (nI mN, f_maxWeight, f_maxVisits, nI (n + 1), f_sealed, f_verdictNow, f_copyCount, f_varCount, f_atSet, f_atNeg, f_visitCount, f_done, f_stuck, f_curNode, f_curEnv, f_resultValue, f_valueCount, f_envCount, f_depth, ak, ap, pa, a_cNode, a_cUp, a_cChild, a_cInst, a_cParam, a_queue, a_rel, a_vKind, a_vWord, a_vEnv, a_vField, a_eName, a_eValue, a_eNext, a_fNode, a_fEnv, a_fPart, a_fValue))
    (hN : ¬ (n < mN ∧ tm_ok n par k p) → ∀ ak ap pa, (∀ j, j < n → ak j = a_nKind j) → (∀ i, i < 4 * n → ap i = a_nPart i) → (∀ c, c < n → pa c = a_nParent c) → post (-1) (nI mN, f_maxWeight, f_maxVisits, nI n, f_sealed, f_verdictNow, f_copyCount, f_varCount, f_atSet, f_atNeg, f_visitCount, f_done, f_stuck, f_curNode, f_curEnv, f_resultValue, f_valueCount, f_envCount, f_depth, ak, ap, pa, a_cNode, a_cUp, a_cChild, a_cInst, a_cParam, a_queue, a_rel, a_vKind, a_vWord, a_vEnv, a_vField, a_eName, a_eValue, a_eNext, a_fNode, a_fEnv, a_fPart, a_fValue))
    {ak ap pa : Nat → Int32} (q1 : ∀ j, j < n → ak j = a_nKind j) (q2 : ak n = nI k) (q3 : ∀ i, i < 4 * n → ap i = a_nPart i) (q4 : ∀ i, i < 4 → ap (4 * n + i) = p i) (q5 : ∀ c, c < n → pa c = a_nParent c) (q6 : pa n = -1) :
    (((nI k = 2 → (wX_make_98 post (nI k) (p 0) (p 1) (nI n) (nI mN) f_maxWeight f_maxVisits (nI n) f_sealed f_verdictNow f_copyCount f_varCount f_atSet f_atNeg f_visitCount f_done f_stuck f_curNode f_curEnv f_resultValue f_valueCount f_envCount f_depth ak ap pa a_cNode a_cUp a_cChild a_cInst a_cParam a_queue a_rel a_vKind a_vWord a_vEnv a_vField a_eName a_eValue a_eNext a_fNode a_fEnv a_fPart a_fValue)) ∧ (¬ nI k = 2 → (((nI k = 3 → (wX_make_98 post (nI k) (p 0) (p 1) (nI n) (nI mN) f_maxWeight f_maxVisits (nI n) f_sealed f_verdictNow f_copyCount f_varCount f_atSet f_atNeg f_visitCount f_done f_stuck f_curNode f_curEnv f_resultValue f_valueCount f_envCount f_depth ak ap pa a_cNode a_cUp a_cChild a_cInst a_cParam a_queue a_rel a_vKind a_vWord a_vEnv a_vField a_eName a_eValue a_eNext a_fNode a_fEnv a_fPart a_fValue)) ∧ (¬ nI k = 3 → (((nI k = 5 → (wX_make_98 post (nI k) (p 0) (p 1) (nI n) (nI mN) f_maxWeight f_maxVisits (nI n) f_sealed f_verdictNow f_copyCount f_varCount f_atSet f_atNeg f_visitCount f_done f_stuck f_curNode f_curEnv f_resultValue f_valueCount f_envCount f_depth ak ap pa a_cNode a_cUp a_cChild a_cInst a_cParam a_queue a_rel a_vKind a_vWord a_vEnv a_vField a_eName a_eValue a_eNext a_fNode a_fEnv a_fPart a_fValue)) ∧ (¬ nI k = 5 → (wX_make_103 post (nI k) (p 0) (p 1) (nI n) 0 (nI mN) f_maxWeight f_maxVisits (nI n) f_sealed f_verdictNow f_copyCount f_varCount f_atSet f_atNeg f_visitCount f_done f_stuck f_curNode f_curEnv f_resultValue f_valueCount f_envCount f_depth ak ap pa a_cNode a_cUp a_cChild a_cInst a_cParam a_queue a_rel a_vKind a_vWord a_vEnv a_vField a_eName a_eValue a_eNext a_fNode a_fEnv a_fPart a_fValue)))))))))) := by
  have N : ¬ tm_ok n par k p → post (-1) (nI mN, f_maxWeight, f_maxVisits, nI n, f_sealed, f_verdictNow, f_copyCount, f_varCount, f_atSet, f_atNeg, f_visitCount, f_done, f_stuck, f_curNode, f_curEnv, f_resultValue, f_valueCount, f_envCount, f_depth, ak, ap, pa, a_cNode, a_cUp, a_cChild, a_cInst, a_cParam, a_queue, a_rel, a_vKind, a_vWord, a_vEnv, a_vField, a_eName, a_eValue, a_eNext, a_fNode, a_fEnv, a_fPart, a_fValue) := fun z => hN (fun w => z w.2) _ _ _ q1 q3 q5
  have F : tm_pre k p → wX_make_139 post (nI n) (nI mN) f_maxWeight f_maxVisits (nI n) f_sealed f_verdictNow f_copyCount f_varCount f_atSet f_atNeg f_visitCount f_done f_stuck f_curNode f_curEnv f_resultValue f_valueCount f_envCount f_depth ak ap pa a_cNode a_cUp a_cChild a_cInst a_cParam a_queue a_rel a_vKind a_vWord a_vEnv a_vField a_eName a_eValue a_eNext a_fNode a_fEnv a_fPart a_fValue := fun hpre => by
    refine xw_cf hk (by omega) q2 (fun c hc => (q5 c hc).trans (hpar c hc)) hpl q4 (fun f => br_f (by decide) ⟨5, ?_⟩) (fun f => br_t (by decide) (N fun z => f z.2))
    refine xw_mk153 hk (by omega) q2 q4 f 4 0 rfl _ fun pa' g1 g2 => hY hlt ⟨hpre, f⟩ _ _ _ q1 q2 q3 q4 (fun i' c b hc e => g1 i' c (Nat.zero_le _) b hc e) (fun c hc e => (g2 c (by omega) fun i' _ b => e i' b).trans (q5 c hc)) (fun e => (g2 n (by omega) fun i' _ b => e i' b).trans q6)
  have G : ((k = 2 ∨ k = 3 ∨ k = 5) → ¬ p 0 < 0 ∧ p 0 ≤ 7) → wX_make_122 post (nI k) (p 1) (nI n) (nI mN) f_maxWeight f_maxVisits (nI n) f_sealed f_verdictNow f_copyCount f_varCount f_atSet f_atNeg f_visitCount f_done f_stuck f_curNode f_curEnv f_resultValue f_valueCount f_envCount f_depth ak ap pa a_cNode a_cUp a_cChild a_cInst a_cParam a_queue a_rel a_vKind a_vWord a_vEnv a_vField a_eName a_eValue a_eNext a_fNode a_fEnv a_fPart a_fValue := fun ha => by
    unfold wX_make_122
    rw [nu_e7 (by omega)]
    refine br_c (fun h7 => br_c (fun z => N fun w => (w.1.2 h7).1 z) (fun z => br_c (fun y => F ⟨ha, fun _ => ⟨z, y⟩⟩) (fun y => N fun w => y (w.1.2 h7).2))) (fun h7 => F ⟨ha, fun z => absurd z h7⟩)
  have H : (k = 2 ∨ k = 3 ∨ k = 5) → wX_make_98 post (nI k) (p 0) (p 1) (nI n) (nI mN) f_maxWeight f_maxVisits (nI n) f_sealed f_verdictNow f_copyCount f_varCount f_atSet f_atNeg f_visitCount f_done f_stuck f_curNode f_curEnv f_resultValue f_valueCount f_envCount f_depth ak ap pa a_cNode a_cUp a_cChild a_cInst a_cParam a_queue a_rel a_vKind a_vWord a_vEnv a_vField a_eName a_eValue a_eNext a_fNode a_fEnv a_fPart a_fValue := fun hq => by
    unfold wX_make_98 wX_make_103
    exact br_f (by decide) (br_c (fun z => N fun w => (w.1.1 hq).1 z) (fun z => br_c (fun y => G fun _ => ⟨z, y⟩) (fun y => N fun w => y (w.1.1 hq).2)))
  rw [nu_e2 (by omega), nu_e3 (by omega), nu_e5 (by omega)]
  refine br_c (fun z => H (Or.inl z)) (fun z2 => br_c (fun z => H (Or.inr (Or.inl z))) (fun z3 => br_c (fun z => H (Or.inr (Or.inr z))) (fun z5 => br_t (by decide) (G fun z => ?_))))
  rcases z with z | z | z
  · exact absurd z z2
  · exact absurd z z3
  · exact absurd z z5
theorem xw_make {mN : Nat} (hk : k < 10) (h1 : 1 ≤ k) (hm : mN ≤ 48) (hn : n ≤ mN) (hpar : ∀ c, c < n → a_nParent c = nu_o (par c)) (hpl : ∀ c, nu_lt (par c) (2 ^ 31))
    (hY : n < mN → tm_ok n par k p → ∀ ak ap pa, (∀ j, j < n → ak j = a_nKind j) → ak n = nI k → (∀ i, i < 4 * n → ap i = a_nPart i) → (∀ i, i < 4 → ap (4 * n + i) = p i) → (∀ i' c, i' < 4 → c < 48 → tm_ch k p i' = nI c → pa c = nI n) → (∀ c, c < n → (∀ i', i' < 4 → tm_ch k p i' ≠ nI c) → pa c = a_nParent c) → ((∀ i', i' < 4 → tm_ch k p i' ≠ nI n) → pa n = -1) → post (nI n) (nI mN, f_maxWeight, f_maxVisits, nI (n + 1), f_sealed, f_verdictNow, f_copyCount, f_varCount, f_atSet, f_atNeg, f_visitCount, f_done, f_stuck, f_curNode, f_curEnv, f_resultValue, f_valueCount, f_envCount, f_depth, ak, ap, pa, a_cNode, a_cUp, a_cChild, a_cInst, a_cParam, a_queue, a_rel, a_vKind, a_vWord, a_vEnv, a_vField, a_eName, a_eValue, a_eNext, a_fNode, a_fEnv, a_fPart, a_fValue))
    (hN : ¬ (n < mN ∧ tm_ok n par k p) → ∀ ak ap pa, (∀ j, j < n → ak j = a_nKind j) → (∀ i, i < 4 * n → ap i = a_nPart i) → (∀ c, c < n → pa c = a_nParent c) → post (-1) (nI mN, f_maxWeight, f_maxVisits, nI n, f_sealed, f_verdictNow, f_copyCount, f_varCount, f_atSet, f_atNeg, f_visitCount, f_done, f_stuck, f_curNode, f_curEnv, f_resultValue, f_valueCount, f_envCount, f_depth, ak, ap, pa, a_cNode, a_cUp, a_cChild, a_cInst, a_cParam, a_queue, a_rel, a_vKind, a_vWord, a_vEnv, a_vField, a_eName, a_eValue, a_eNext, a_fNode, a_fEnv, a_fPart, a_fValue)) :
    wpX_make post (nI mN, f_maxWeight, f_maxVisits, nI n, f_sealed, f_verdictNow, f_copyCount, f_varCount, f_atSet, f_atNeg, f_visitCount, f_done, f_stuck, f_curNode, f_curEnv, f_resultValue, f_valueCount, f_envCount, f_depth, a_nKind, a_nPart, a_nParent, a_cNode, a_cUp, a_cChild, a_cInst, a_cParam, a_queue, a_rel, a_vKind, a_vWord, a_vEnv, a_vField, a_eName, a_eValue, a_eNext, a_fNode, a_fEnv, a_fPart, a_fValue) (nI k) (p 0) (p 1) (p 2) (p 3) := by
  have c0 : (nI n).toNatClampNeg = n := nI_clamp (by omega)
  have c1 : (4 * nI n).toNatClampNeg = 4 * n := by rw [nu_4, nI_clamp (by omega)]
  have c2 : (4 * nI n + 1).toNatClampNeg = 4 * n + 1 := nu_c4 (i := 1) (by omega)
  have c3 : (4 * nI n + 2).toNatClampNeg = 4 * n + 2 := nu_c4 (i := 2) (by omega)
  have c4 : (4 * nI n + 3).toNatClampNeg = 4 * n + 3 := nu_c4 (i := 3) (by omega)
  unfold wpX_make
  dsimp only
  by_cases hlt : n < mN
  · refine br_t (nI_lt hlt (by omega)) ?_
    refine ⟨vp_in_nI (by omega) (by omega), ?_⟩
    intro ak eak
    refine ⟨vp_in_nI (by omega) (by omega), ?_⟩
    intro pa epa
    refine ⟨nu_i40 (by omega) (by omega), ?_⟩
    intro z1 e1
    refine ⟨nu_i4 (i := 1) (by omega) (by omega), ?_⟩
    intro z2 e2
    refine ⟨nu_i4 (i := 2) (by omega) (by omega), ?_⟩
    intro z3 e3
    refine ⟨nu_i4 (i := 3) (by omega) (by omega), ?_⟩
    intro ap e4
    rw [c0] at eak epa
    rw [c1] at e1
    rw [c2] at e2
    rw [c3] at e3
    rw [c4] at e4
    have q1 : ∀ j, j < n → ak j = a_nKind j := fun j hj => by rw [eak]; exact pk_un (by omega)
    have q2 : ak n = nI k := by rw [eak]; exact pk_us
    have q3 : ∀ i, i < 4 * n → ap i = a_nPart i := fun i hi => by
      rw [e4, e3, e2, e1, pk_un (by omega), pk_un (by omega), pk_un (by omega), pk_un (by omega)]
    have q4 : ∀ i, i < 4 → ap (4 * n + i) = p i := fun i hi => by
      have : i = 0 ∨ i = 1 ∨ i = 2 ∨ i = 3 := by omega
      rw [e4, e3, e2, e1]
      rcases this with rfl | rfl | rfl | rfl
      · rw [pk_un (by omega), pk_un (by omega), pk_un (by omega)]; exact pk_us
      · rw [pk_un (by omega), pk_un (by omega)]; exact pk_us
      · rw [pk_un (by omega)]; exact pk_us
      · exact pk_us
    have q5 : ∀ c, c < n → pa c = a_nParent c := fun c hc => by rw [epa]; exact pk_un (by omega)
    have q6 : pa n = -1 := by rw [epa]; exact pk_us
    clear eak epa e1 e2 e3 e4 c0 c1 c2 c3 c4
    exact xw_mk2 hk h1 hm hn hpar hpl hlt hY hN q1 q2 q3 q4 q5 q6
  · exact br_f (nI_nlt (by omega) (by omega)) (hN (fun z => hlt z.1) _ _ _ (fun _ _ => rfl) (fun _ _ => rfl) (fun _ _ => rfl))
end
end
section
/-! nodes: Y -/
section
variable {g_maxNodes g_maxWeight g_maxVisits g_count g_root g_nc g_weight g_grown g_neg g_made g_next g_nextPar g_nextSlot g_nextLex g_stuck : Int32} {b_kinds b_parts b_cNode b_cPar b_cSlot b_le b_saved b_cur b_nxt b_first b_vNode b_vPar b_vSlot b_vLex b_val b_num : Nat → Int32} {n : Nat} {kd : Nat → Nat} {cd : Nat → Nat → Option Nat} {pp : Nat → Int32} {par : Nat → Option Nat} {post : Int32 → Prop} {k : Nat} {p : Nat → Int32} {J : Int32 → Prop}
theorem yw_slot {k i : Nat} (hk : k < 10) (hi : i < 4) (h : post (nu_b (tm_slot k i))) : wpY_isSlot post (g_maxNodes, g_maxWeight, g_maxVisits, g_count, g_root, g_nc, g_weight, g_grown, g_neg, g_made, g_next, g_nextPar, g_nextSlot, g_nextLex, g_stuck, b_kinds, b_parts, b_cNode, b_cPar, b_cSlot, b_le, b_saved, b_cur, b_nxt, b_first, b_vNode, b_vPar, b_vSlot, b_vLex, b_val, b_num) (nI k) (nI i) := by
  simp only [wpY_isSlot, wY_isSlot_27, nu_br (P := post)]
  refine nu_tr h ?_
  clear h
  revert hi; revert i; revert hk; revert k
  decide +kernel
theorem yw_par12 (W : tm_WF n kd cd pp par) (A : tm_Ag n kd pp b_kinds b_parts) {c m : Nat} (hc : c < 2 ^ 31) (hm : m < n) (hit : ∀ i, cd m i = some c → post (nI m)) : ∀ d i, i + d = 4 → ((∀ i', i ≤ i' → cd m i' ≠ some c) → J (nI (m + 1))) → wY_parent_12 post J (nI c) (nI m) g_maxNodes g_maxWeight g_maxVisits g_count g_root g_nc g_weight g_grown g_neg g_made g_next g_nextPar g_nextSlot g_nextLex g_stuck b_kinds b_parts b_cNode b_cPar b_cSlot b_le b_saved b_cur b_nxt b_first b_vNode b_vPar b_vSlot b_vLex b_val b_num (d + 1) (nI i) := by
  have hn := tm_n W
  have hk := tm_k W hm
  intro d
  induction d with
  | zero =>
    intro i hi h
    refine br_t ?_ (nm_r (nI_1 m) (h fun i' a e => ?_))
    · show (4 : Int32) ≤ nI i
      rw [nu_g4 (by omega)]; omega
    · have := (tm_o W hm (by rw [e]; intro z; cases z)).1
      omega
  | succ d ih =>
    intro i hi h
    have S : cd m i ≠ some c → wY_parent_12 post J (nI c) (nI m) g_maxNodes g_maxWeight g_maxVisits g_count g_root g_nc g_weight g_grown g_neg g_made g_next g_nextPar g_nextSlot g_nextLex g_stuck b_kinds b_parts b_cNode b_cPar b_cSlot b_le b_saved b_cur b_nxt b_first b_vNode b_vPar b_vSlot b_vLex b_val b_num (d + 1) (nI (i + 1)) := fun z => by
      refine ih (i + 1) (by omega) fun g => h fun i' a e => ?_
      rcases Nat.eq_or_lt_of_le a with q | q
      · subst q; exact z e
      · exact g i' q e
    refine br_f ?_ ⟨vp_in_nI (by omega) (by omega), ?_⟩
    · show ¬ (4 : Int32) ≤ nI i
      rw [nu_g4 (by omega)]; omega
    · rw [nI_clamp (by omega), A.1 m hm]
      refine yw_slot (by omega) (by omega) ?_
      by_cases hs : tm_slot (kd m) i = true
      · rw [hs]
        refine br_f (by decide) ⟨nu_i4' (by omega) (by omega), ?_⟩
        rw [nu_c4' (by omega), A.2 _ (by omega), tm_s W hm (by omega) hs, nu_oeq (tm_cl' W hm) hc]
        exact br_c (fun z => hit i z) (fun z => nm_r (nI_1 i) (S z))
      · rw [ts_nt hs]
        exact br_t (by decide) (nm_r (nI_1 i) (S (by rw [tm_ns W hm hs]; intro z; cases z)))
theorem yw_par2 (W : tm_WF n kd cd pp par) (A : tm_Ag n kd pp b_kinds b_parts) {c : Nat} (hc : c < 2 ^ 31) (hit : ∀ m i, m < n → cd m i = some c → post (nI m)) : ∀ d m, m + d = n → ((∀ m' i', m ≤ m' → m' < n → cd m' i' ≠ some c) → post (-1)) → wY_parent_2 post (nI c) g_maxNodes g_maxWeight g_maxVisits (nI n) g_root g_nc g_weight g_grown g_neg g_made g_next g_nextPar g_nextSlot g_nextLex g_stuck b_kinds b_parts b_cNode b_cPar b_cSlot b_le b_saved b_cur b_nxt b_first b_vNode b_vPar b_vSlot b_vLex b_val b_num (d + 1) (nI m) := by
  have hn := tm_n W
  intro d
  induction d with
  | zero =>
    intro m hm h
    refine br_t ?_ (h fun m' i' a b => by omega)
    show nI n ≤ nI m
    rw [nI_leI (by omega) (by omega)]; omega
  | succ d ih =>
    intro m hm h
    refine br_f ?_ ⟨5, yw_par12 W A hc (by omega) (fun i e => hit m i (by omega) e) 4 0 rfl fun g => ih (m + 1) (by omega) fun w => h fun m' i' a b => ?_⟩
    · show ¬ nI n ≤ nI m
      rw [nI_leI (by omega) (by omega)]; omega
    · rcases Nat.eq_or_lt_of_le a with q | q
      · subst q; exact g i' (Nat.zero_le _)
      · exact w m' i' q b
theorem yw_parent (W : tm_WF n kd cd pp par) (A : tm_Ag n kd pp b_kinds b_parts) {c : Nat} (hc : c < 2 ^ 31) (h : post (nu_o (par c))) : wpY_parent post (g_maxNodes, g_maxWeight, g_maxVisits, nI n, g_root, g_nc, g_weight, g_grown, g_neg, g_made, g_next, g_nextPar, g_nextSlot, g_nextLex, g_stuck, b_kinds, b_parts, b_cNode, b_cPar, b_cSlot, b_le, b_saved, b_cur, b_nxt, b_first, b_vNode, b_vPar, b_vSlot, b_vLex, b_val, b_num) (nI c) := by
  refine ⟨n + 1, yw_par2 W A hc (fun m i hm e => ?_) n 0 (by omega) fun g => ?_⟩
  · rw [(tm_c W hm e).2] at h; exact h
  · cases e : par c with
    | none => rw [e] at h; exact h
    | some j =>
      obtain ⟨a, i, e'⟩ := tm_p W e
      exact absurd e' (g j i (Nat.zero_le _) a)
end
section
variable {g_maxNodes g_maxWeight g_maxVisits g_count g_root g_nc g_weight g_grown g_neg g_made g_next g_nextPar g_nextSlot g_nextLex g_stuck : Int32} {b_kinds b_parts b_cNode b_cPar b_cSlot b_le b_saved b_cur b_nxt b_first b_vNode b_vPar b_vSlot b_vLex b_val b_num : Nat → Int32} {n : Nat} {kd : Nat → Nat} {cd : Nat → Nat → Option Nat} {pp : Nat → Int32} {par : Nat → Option Nat} {post : Int32 → SY → Prop} {k : Nat} {p : Nat → Int32} {J : Int32 → Prop}
theorem yw_mk188 (hk : k < 10) {m i : Nat} (hi : i < 4) (hm : m < 48) (hp : ∀ i, i < 4 → b_parts (4 * m + i) = p i) {x : Int32} : ∀ d j, j + d = i → ((∃ j', j ≤ j' ∧ j' < i ∧ tm_slot k j' = true ∧ p j' = x) → post (-1) (g_maxNodes, g_maxWeight, g_maxVisits, g_count, g_root, g_nc, g_weight, g_grown, g_neg, g_made, g_next, g_nextPar, g_nextSlot, g_nextLex, g_stuck, b_kinds, b_parts, b_cNode, b_cPar, b_cSlot, b_le, b_saved, b_cur, b_nxt, b_first, b_vNode, b_vPar, b_vSlot, b_vLex, b_val, b_num)) → ((∀ j', j ≤ j' → j' < i → tm_slot k j' = true → p j' ≠ x) → J (nI (i + 1))) → wY_make_188 post J (nI k) (nI (4 * m)) (nI i) x g_maxNodes g_maxWeight g_maxVisits g_count g_root g_nc g_weight g_grown g_neg g_made g_next g_nextPar g_nextSlot g_nextLex g_stuck b_kinds b_parts b_cNode b_cPar b_cSlot b_le b_saved b_cur b_nxt b_first b_vNode b_vPar b_vSlot b_vLex b_val b_num (d + 1) (nI j) := by
  intro d
  induction d with
  | zero =>
    intro j hj h0 h1
    refine br_t ?_ (nm_r (nI_1 i) (h1 fun j' _ _ => by omega))
    rw [nI_leI (by omega) (by omega)]; omega
  | succ d ih =>
    intro j hj h0 h1
    refine br_f ?_ (yw_slot hk (by omega) ?_)
    · show ¬ nI i ≤ nI j
      rw [nI_leI (by omega) (by omega)]; omega
    · have H0 : (∃ j', j + 1 ≤ j' ∧ j' < i ∧ tm_slot k j' = true ∧ p j' = x) → post (-1) (g_maxNodes, g_maxWeight, g_maxVisits, g_count, g_root, g_nc, g_weight, g_grown, g_neg, g_made, g_next, g_nextPar, g_nextSlot, g_nextLex, g_stuck, b_kinds, b_parts, b_cNode, b_cPar, b_cSlot, b_le, b_saved, b_cur, b_nxt, b_first, b_vNode, b_vPar, b_vSlot, b_vLex, b_val, b_num) := by
        rintro ⟨j', a, b, c, e⟩
        exact h0 ⟨j', by omega, b, c, e⟩
      by_cases hs : tm_slot k j = true
      · rw [hs]
        refine br_f (by decide) ⟨by rw [nI_add]; exact vp_in_nI (by omega) (by omega), ?_⟩
        rw [nI_add, nI_clamp (by omega), hp j (by omega)]
        refine br_c (fun z => h0 ⟨j, Nat.le_refl _, by omega, hs, z⟩) (fun z => nm_r (nI_1 j) (ih (j + 1) (by omega) H0 ?_))
        intro hn
        refine h1 fun j' a b c e => ?_
        rcases Nat.eq_or_lt_of_le a with q | q
        · subst q; exact z e
        · exact hn j' q b c e
      · rw [ts_nt hs]
        refine br_t (by decide) (nm_r (nI_1 j) (ih (j + 1) (by omega) H0 ?_))
        intro hn
        refine h1 fun j' a b c e => ?_
        rcases Nat.eq_or_lt_of_le a with q | q
        · subst q; exact hs c
        · exact hn j' q b c e
theorem yw_mk158 (W : tm_WF n kd cd pp par) (A : tm_Ag n kd pp b_kinds b_parts) (hk : k < 10) {i : Nat} (hi : i < 4) (hn : n < 48) (hp : ∀ i, i < 4 → b_parts (4 * n + i) = p i) (hs : tm_slot k i = true) (hna : ¬ (k = 6 ∧ p i = -1)) (h1 : tm_fit n par k p i → J (nI (i + 1))) (h0 : ¬ tm_fit n par k p i → post (-1) (g_maxNodes, g_maxWeight, g_maxVisits, nI n, g_root, g_nc, g_weight, g_grown, g_neg, g_made, g_next, g_nextPar, g_nextSlot, g_nextLex, g_stuck, b_kinds, b_parts, b_cNode, b_cPar, b_cSlot, b_le, b_saved, b_cur, b_nxt, b_first, b_vNode, b_vPar, b_vSlot, b_vLex, b_val, b_num)) : wY_make_158 post J (nI k) (nI (4 * n)) (nI i) (p i) g_maxNodes g_maxWeight g_maxVisits (nI n) g_root g_nc g_weight g_grown g_neg g_made g_next g_nextPar g_nextSlot g_nextLex g_stuck b_kinds b_parts b_cNode b_cPar b_cSlot b_le b_saved b_cur b_nxt b_first b_vNode b_vPar b_vSlot b_vLex b_val b_num := by
  refine br_c (fun y => h0 fun f => ?_) (fun y => ?_)
  · obtain ⟨c, hc, e, _⟩ := f hs hna
    rw [e] at y
    exact nI_pos (by omega) y
  · obtain ⟨c, hc, e⟩ := nI_of y
    refine br_c (fun y => ?_) (fun y => h0 fun f => ?_)
    · rw [e, nI_ltI hc (by omega)] at y
      rw [e]
      refine yw_parent W A hc ?_
      rw [nu_olt (tm_plt W)]
      refine br_c (fun w => ⟨i + 1, yw_mk188 hk hi hn hp i 0 (by omega) ?_ ?_⟩) (fun w => h0 fun f => ?_)
      · rintro ⟨j', _, b, c', e'⟩
        exact h0 fun f => by
          obtain ⟨_, _, _, _, q⟩ := f hs hna
          exact q j' b c' (e'.trans e.symm)
      · intro hd
        exact h1 fun _ _ => ⟨c, by omega, e, w, fun j a b => by rw [e]; exact hd j (Nat.zero_le _) a b⟩
      · obtain ⟨c', hc', e', q, _⟩ := f hs hna
        rw [e] at e'
        rw [(nI_eq hc (by omega)).mp e'] at w
        exact w q
    · obtain ⟨c', hc', e', _⟩ := f hs hna
      rw [e', nI_ltI (by omega) (by omega)] at y
      omega
theorem yw_mk118 (W : tm_WF n kd cd pp par) (A : tm_Ag n kd pp b_kinds b_parts) (hk : k < 10) (hn : n < 48) (hp : ∀ i, i < 4 → b_parts (4 * n + i) = p i) : ∀ d i, i + d = 4 → ((∀ i', i ≤ i' → i' < 4 → tm_fit n par k p i') → post (nI n) (g_maxNodes, g_maxWeight, g_maxVisits, nI (n + 1), g_root, g_nc, g_weight, g_grown, g_neg, g_made, g_next, g_nextPar, g_nextSlot, g_nextLex, g_stuck, b_kinds, b_parts, b_cNode, b_cPar, b_cSlot, b_le, b_saved, b_cur, b_nxt, b_first, b_vNode, b_vPar, b_vSlot, b_vLex, b_val, b_num)) → ((¬ ∀ i', i ≤ i' → i' < 4 → tm_fit n par k p i') → post (-1) (g_maxNodes, g_maxWeight, g_maxVisits, nI n, g_root, g_nc, g_weight, g_grown, g_neg, g_made, g_next, g_nextPar, g_nextSlot, g_nextLex, g_stuck, b_kinds, b_parts, b_cNode, b_cPar, b_cSlot, b_le, b_saved, b_cur, b_nxt, b_first, b_vNode, b_vPar, b_vSlot, b_vLex, b_val, b_num)) → wY_make_118 post (nI k) (nI (4 * n)) g_maxNodes g_maxWeight g_maxVisits (nI n) g_root g_nc g_weight g_grown g_neg g_made g_next g_nextPar g_nextSlot g_nextLex g_stuck b_kinds b_parts b_cNode b_cPar b_cSlot b_le b_saved b_cur b_nxt b_first b_vNode b_vPar b_vSlot b_vLex b_val b_num (d + 1) (nI i) := by
  intro d
  induction d with
  | zero =>
    intro i hi h1 h0
    refine br_t ?_ (nm_r (nI_1 n) ?_)
    · show (4 : Int32) ≤ nI i
      rw [nu_g4 (by omega)]; omega
    · rw [nI_pred]
      exact h1 fun i' _ _ => by omega
  | succ d ih =>
    intro i hi h1 h0
    have K1 : tm_fit n par k p i → wY_make_118 post (nI k) (nI (4 * n)) g_maxNodes g_maxWeight g_maxVisits (nI n) g_root g_nc g_weight g_grown g_neg g_made g_next g_nextPar g_nextSlot g_nextLex g_stuck b_kinds b_parts b_cNode b_cPar b_cSlot b_le b_saved b_cur b_nxt b_first b_vNode b_vPar b_vSlot b_vLex b_val b_num (d + 1) (nI (i + 1)) := fun f => by
      refine ih (i + 1) (by omega) (fun q => h1 fun i' a b => ?_) (fun q => h0 fun w => q fun i' a b => w i' (by omega) b)
      rcases Nat.eq_or_lt_of_le a with e | e
      · subst e; exact f
      · exact q i' e b
    have K0 : ¬ tm_fit n par k p i → post (-1) (g_maxNodes, g_maxWeight, g_maxVisits, nI n, g_root, g_nc, g_weight, g_grown, g_neg, g_made, g_next, g_nextPar, g_nextSlot, g_nextLex, g_stuck, b_kinds, b_parts, b_cNode, b_cPar, b_cSlot, b_le, b_saved, b_cur, b_nxt, b_first, b_vNode, b_vPar, b_vSlot, b_vLex, b_val, b_num) := fun f => h0 fun w => f (w i (Nat.le_refl _) (by omega))
    refine br_f ?_ ⟨by rw [nI_add]; exact vp_in_nI (by omega) (by omega), nm_r (e' := p i) ?_ ?_⟩
    · show ¬ (4 : Int32) ≤ nI i
      rw [nu_g4 (by omega)]; omega
    · rw [nI_add, nI_clamp (by omega), hp i (by omega)]
    · refine yw_slot hk (by omega) ?_
      by_cases hs : tm_slot k i = true
      · rw [hs, nu_e6 (by omega)]
        refine br_f (by decide) (br_c (fun a => br_c (fun b => nm_r (nI_1 i) (K1 fun _ w => absurd ⟨a, b⟩ w)) (fun b => ?_)) (fun a => ?_))
        · exact yw_mk158 W A hk (by omega) hn hp hs (fun w => b w.2) K1 K0
        · exact yw_mk158 W A hk (by omega) hn hp hs (fun w => a w.1) K1 K0
      · rw [ts_nt hs]
        exact br_t (by decide) (nm_r (nI_1 i) (K1 fun w => absurd w hs))
theorem yw_make {mN : Nat} (W : tm_WF n kd cd pp par) (A : tm_Ag n kd pp b_kinds b_parts) (hk : k < 10) (h1 : 1 ≤ k) (hm : mN ≤ 48) (hn : n ≤ mN)
    (hY : n < mN → tm_ok n par k p → ∀ ak ap, (∀ j, j < n → ak j = b_kinds j) → ak n = nI k → (∀ i, i < 4 * n → ap i = b_parts i) → (∀ i, i < 4 → ap (4 * n + i) = p i) → post (nI n) (nI mN, g_maxWeight, g_maxVisits, nI (n + 1), g_root, g_nc, g_weight, g_grown, g_neg, g_made, g_next, g_nextPar, g_nextSlot, g_nextLex, g_stuck, ak, ap, b_cNode, b_cPar, b_cSlot, b_le, b_saved, b_cur, b_nxt, b_first, b_vNode, b_vPar, b_vSlot, b_vLex, b_val, b_num))
    (hN : ¬ (n < mN ∧ tm_ok n par k p) → ∀ ak ap, (∀ j, j < n → ak j = b_kinds j) → (∀ i, i < 4 * n → ap i = b_parts i) → post (-1) (nI mN, g_maxWeight, g_maxVisits, nI n, g_root, g_nc, g_weight, g_grown, g_neg, g_made, g_next, g_nextPar, g_nextSlot, g_nextLex, g_stuck, ak, ap, b_cNode, b_cPar, b_cSlot, b_le, b_saved, b_cur, b_nxt, b_first, b_vNode, b_vPar, b_vSlot, b_vLex, b_val, b_num)) :
    wpY_make post (nI mN, g_maxWeight, g_maxVisits, nI n, g_root, g_nc, g_weight, g_grown, g_neg, g_made, g_next, g_nextPar, g_nextSlot, g_nextLex, g_stuck, b_kinds, b_parts, b_cNode, b_cPar, b_cSlot, b_le, b_saved, b_cur, b_nxt, b_first, b_vNode, b_vPar, b_vSlot, b_vLex, b_val, b_num) (nI k) (p 0) (p 1) (p 2) (p 3) := by
  have N : ¬ (n < mN ∧ tm_ok n par k p) → post (-1) (nI mN, g_maxWeight, g_maxVisits, nI n, g_root, g_nc, g_weight, g_grown, g_neg, g_made, g_next, g_nextPar, g_nextSlot, g_nextLex, g_stuck, b_kinds, b_parts, b_cNode, b_cPar, b_cSlot, b_le, b_saved, b_cur, b_nxt, b_first, b_vNode, b_vPar, b_vSlot, b_vLex, b_val, b_num) := fun z => hN z _ _ (fun _ _ => rfl) (fun _ _ => rfl)
  unfold wpY_make
  dsimp only
  rw [nI_ltI (by omega) (by omega)]
  refine br_c (fun hlt => ?_) (fun hlt => N fun z => hlt z.1)
  have F : tm_pre k p → wY_make_57 post (nI k) (p 0) (p 1) (p 2) (p 3) (nI mN) g_maxWeight g_maxVisits (nI n) g_root g_nc g_weight g_grown g_neg g_made g_next g_nextPar g_nextSlot g_nextLex g_stuck b_kinds b_parts b_cNode b_cPar b_cSlot b_le b_saved b_cur b_nxt b_first b_vNode b_vPar b_vSlot b_vLex b_val b_num := fun hpre => by
    refine nm_r (nu_r4 n) ⟨vp_in_nI (by omega) (by omega), nm_e ⟨vp_in_nI (by omega) (by omega), nm_e ⟨by rw [nI_1]; exact vp_in_nI (by omega) (by omega), nm_e ⟨by rw [nu_a2]; exact vp_in_nI (by omega) (by omega), nm_e ⟨by rw [nu_a3]; exact vp_in_nI (by omega) (by omega), nm_e ⟨5, ?_⟩⟩⟩⟩⟩⟩
    rw [nI_1, nu_a2, nu_a3, nI_clamp (show n < 2 ^ 31 by omega), nI_clamp (show 4 * n < 2 ^ 31 by omega), nI_clamp (show 4 * n + 1 < 2 ^ 31 by omega), nI_clamp (show 4 * n + 2 < 2 ^ 31 by omega), nI_clamp (show 4 * n + 3 < 2 ^ 31 by omega)]
    generalize eak : upd b_kinds n (nI k) = ak
    generalize eap : upd (upd (upd (upd b_parts (4 * n) (p 0)) (4 * n + 1) (p 1)) (4 * n + 2) (p 2)) (4 * n + 3) (p 3) = ap
    have q1 : ∀ j, j < n → ak j = b_kinds j := fun j hj => by rw [← eak]; exact pk_un (by omega)
    have q2 : ak n = nI k := by rw [← eak]; exact pk_us
    have q3 : ∀ i, i < 4 * n → ap i = b_parts i := fun i hi => by
      rw [← eap, pk_un (by omega), pk_un (by omega), pk_un (by omega), pk_un (by omega)]
    have q4 : ∀ i, i < 4 → ap (4 * n + i) = p i := fun i hi => by
      have : i = 0 ∨ i = 1 ∨ i = 2 ∨ i = 3 := by omega
      rw [← eap]
      rcases this with rfl | rfl | rfl | rfl
      · rw [pk_un (by omega), pk_un (by omega), pk_un (by omega)]; exact pk_us
      · rw [pk_un (by omega), pk_un (by omega)]; exact pk_us
      · rw [pk_un (by omega)]; exact pk_us
      · exact pk_us
    exact yw_mk118 W ⟨fun j hj => (q1 j hj).trans (A.1 j hj), fun i hi => (q3 i hi).trans (A.2 i hi)⟩ hk (by omega) q4 4 0 rfl (fun f => hY hlt ⟨hpre, fun i b => f i (Nat.zero_le _) b⟩ _ _ q1 q2 q3 q4) (fun f => hN (fun w => f fun i _ b => w.2.2 i b) _ _ q1 q3)
  have G : ((k = 2 ∨ k = 3 ∨ k = 5) → ¬ p 0 < 0 ∧ p 0 ≤ 7) → wY_make_40 post (nI k) (p 0) (p 1) (p 2) (p 3) (nI mN) g_maxWeight g_maxVisits (nI n) g_root g_nc g_weight g_grown g_neg g_made g_next g_nextPar g_nextSlot g_nextLex g_stuck b_kinds b_parts b_cNode b_cPar b_cSlot b_le b_saved b_cur b_nxt b_first b_vNode b_vPar b_vSlot b_vLex b_val b_num := fun ha => by
    unfold wY_make_40
    rw [nu_e7 (by omega)]
    exact br_c (fun h7 => br_c (fun z => N fun w => (w.2.1.2 h7).1 z) (fun z => br_c (fun y => F ⟨ha, fun _ => ⟨z, y⟩⟩) (fun y => N fun w => y (w.2.1.2 h7).2))) (fun h7 => F ⟨ha, fun z => absurd z h7⟩)
  have H : (k = 2 ∨ k = 3 ∨ k = 5) → wY_make_28 post (nI k) (p 0) (p 1) (p 2) (p 3) (nI mN) g_maxWeight g_maxVisits (nI n) g_root g_nc g_weight g_grown g_neg g_made g_next g_nextPar g_nextSlot g_nextLex g_stuck b_kinds b_parts b_cNode b_cPar b_cSlot b_le b_saved b_cur b_nxt b_first b_vNode b_vPar b_vSlot b_vLex b_val b_num := fun hq =>
    br_c (fun z => N fun w => (w.2.1.1 hq).1 z) (fun z => br_c (fun y => G fun _ => ⟨z, y⟩) (fun y => N fun w => y (w.2.1.1 hq).2))
  rw [nu_e2 (by omega), nu_e3 (by omega), nu_e5 (by omega)]
  refine br_c (fun z => H (Or.inl z)) (fun z2 => br_c (fun z => H (Or.inr (Or.inl z))) (fun z3 => br_c (fun z => H (Or.inr (Or.inr z))) (fun z5 => G fun z => ?_)))
  rcases z with z | z | z
  · exact absurd z z2
  · exact absurd z z3
  · exact absurd z z5
end
end
section
/-! a new node: the ghosts -/
def tm_dec (x : Int32) : Option Nat := if x < 0 then none else some x.toNatClampNeg
def tm_kd' (kd : Nat → Nat) (n k : Nat) : Nat → Nat := fun j => if j = n then k else kd j
def tm_cd' (cd : Nat → Nat → Option Nat) (n k : Nat) (p : Nat → Int32) : Nat → Nat → Option Nat := fun j i => if j = n then (if i < 4 then tm_dec (tm_ch k p i) else none) else cd j i
def tm_pp' (pp : Nat → Int32) (n : Nat) (p : Nat → Int32) : Nat → Int32 := fun i => if i < 4 * n then pp i else p (i - 4 * n)
def tm_par' (par : Nat → Option Nat) (n k : Nat) (p : Nat → Int32) : Nat → Option Nat := fun c => if (tm_ch k p 0 = nI c ∨ tm_ch k p 1 = nI c ∨ tm_ch k p 2 = nI c ∨ tm_ch k p 3 = nI c) ∧ c < n then some n else par c
theorem tm_decs {x : Int32} {c : Nat} : tm_dec x = some c ↔ x = nI c ∧ c < 2 ^ 31 := by
  unfold tm_dec
  by_cases h : x < 0
  · rw [if_pos h]
    refine ⟨fun z => (by cases z), fun z => ?_⟩
    rw [z.1] at h
    exact absurd h (nI_pos z.2)
  · rw [if_neg h]
    obtain ⟨j, hj, rfl⟩ := nI_of h
    rw [nI_clamp hj]
    refine ⟨fun z => ?_, fun z => ?_⟩
    · cases z; exact ⟨rfl, hj⟩
    · rw [(nI_eq hj z.2).mp z.1]
theorem tm_decn {x : Int32} : tm_dec x = none ↔ x < 0 := by
  unfold tm_dec
  by_cases h : x < 0
  · rw [if_pos h]; exact ⟨fun _ => h, fun _ => rfl⟩
  · rw [if_neg h]; exact ⟨fun z => (by cases z), fun z => absurd z h⟩
section
variable {n : Nat} {kd : Nat → Nat} {cd : Nat → Nat → Option Nat} {pp : Nat → Int32} {par : Nat → Option Nat} {k : Nat} {p : Nat → Int32}
theorem tm_chc (O : tm_ok n par k p) (hn : n ≤ 48) {i c : Nat} (hi : i < 4) (hc : c < 2 ^ 31) (h : tm_ch k p i = nI c) : tm_slot k i = true ∧ p i = nI c ∧ c < n ∧ par c = none ∧ ∀ j, j < i → tm_slot k j = true → p j ≠ p i := by
  unfold tm_ch at h
  by_cases hs : tm_slot k i = true
  · rw [if_pos hs] at h
    obtain ⟨c', a, b, d, e⟩ := O.2 i hi hs (fun w => nu_ne1 hc (by rw [← h, w.2]))
    rw [h] at b
    have := (nI_eq hc (by omega)).mp b
    subst this
    exact ⟨hs, h, a, d, e⟩
  · rw [if_neg hs] at h
    exact absurd h.symm (nu_ne1 hc)
theorem tm_cdn (O : tm_ok n par k p) (hn : n ≤ 48) {i c : Nat} (e : tm_cd' cd n k p n i = some c) : i < 4 ∧ tm_ch k p i = nI c ∧ tm_slot k i = true ∧ p i = nI c ∧ c < n ∧ par c = none ∧ ∀ j, j < i → tm_slot k j = true → p j ≠ p i := by
  unfold tm_cd' at e
  rw [if_pos rfl] at e
  by_cases hi : i < 4
  · rw [if_pos hi, tm_decs] at e
    exact ⟨hi, e.1, tm_chc O hn hi e.2 e.1⟩
  · rw [if_neg hi] at e; cases e
theorem tm_cdo {j i : Nat} (h : j ≠ n) : tm_cd' cd n k p j i = cd j i := if_neg h
theorem tm_kdo {j : Nat} (h : j ≠ n) : tm_kd' kd n k j = kd j := if_neg h
theorem tm_kdn : tm_kd' kd n k n = k := if_pos rfl
theorem tm_ppo {i : Nat} (h : i < 4 * n) : tm_pp' pp n p i = pp i := if_pos h
theorem tm_ppn {i : Nat} : tm_pp' pp n p (4 * n + i) = p i := by
  unfold tm_pp'
  rw [if_neg (by omega)]
  exact congrArg p (by omega)
theorem tm_parc {i c : Nat} (hi : i < 4) (h : tm_ch k p i = nI c) (hc : c < n) : tm_par' par n k p c = some n := by
  unfold tm_par'
  rw [if_pos]
  refine ⟨?_, hc⟩
  have : i = 0 ∨ i = 1 ∨ i = 2 ∨ i = 3 := by omega
  rcases this with rfl | rfl | rfl | rfl
  · exact Or.inl h
  · exact Or.inr (Or.inl h)
  · exact Or.inr (Or.inr (Or.inl h))
  · exact Or.inr (Or.inr (Or.inr h))
theorem tm_paro {c : Nat} (h : c < n → ∀ i, i < 4 → tm_ch k p i ≠ nI c) : tm_par' par n k p c = par c := by
  unfold tm_par'
  rw [if_neg]
  rintro ⟨a | a | a | a, b⟩
  · exact h b 0 (by omega) a
  · exact h b 1 (by omega) a
  · exact h b 2 (by omega) a
  · exact h b 3 (by omega) a
theorem tm_pars (O : tm_ok n par k p) (hn : n ≤ 48) {c j : Nat} (h : par c = some j) : tm_par' par n k p c = some j := by
  rw [tm_paro, h]
  intro hc i hi e
  rw [(tm_chc O hn hi (by omega) e).2.2.2.1] at h
  cases h
theorem tm_park {c j : Nat} (h : tm_par' par n k p c = some j) : par c = some j ∨ (j = n ∧ c < n ∧ ∃ i, i < 4 ∧ tm_ch k p i = nI c) := by
  unfold tm_par' at h
  by_cases z : (tm_ch k p 0 = nI c ∨ tm_ch k p 1 = nI c ∨ tm_ch k p 2 = nI c ∨ tm_ch k p 3 = nI c) ∧ c < n
  · rw [if_pos z] at h
    cases h
    refine Or.inr ⟨rfl, z.2, ?_⟩
    rcases z.1 with a | a | a | a
    · exact ⟨0, by omega, a⟩
    · exact ⟨1, by omega, a⟩
    · exact ⟨2, by omega, a⟩
    · exact ⟨3, by omega, a⟩
  · rw [if_neg z] at h
    exact Or.inl h
theorem tm_mkWF (W : tm_WF n kd cd pp par) (hn : n < 48) (hk : 1 ≤ k ∧ k ≤ 9) (O : tm_ok n par k p) (hm : ∀ i, i < 4 → tm_pc k ≤ i → p i = -1) : tm_WF (n + 1) (tm_kd' kd n k) (tm_cd' cd n k p) (tm_pp' pp n p) (tm_par' par n k p) := by
  have O' := @tm_cdn n cd par k p O (by omega)
  have C : ∀ j, j < n + 1 → j ≠ n → j < n := fun j a b => by omega
  refine ⟨by omega, fun j hj => ?_, fun j i hj hi hs => ?_, fun j i hj hc => ?_, fun j i c hj e => ?_, fun j i i' c hj e e' => ?_, fun c j e => ?_, fun j i hj hi hs h6 => ?_, fun j hj h7 => ?_, fun j i hj hi hs => ?_⟩
  · by_cases h : j = n
    · subst h; rw [tm_kdn]; exact hk
    · rw [tm_kdo h]; exact tm_k W (C j hj h)
  · by_cases h : j = n
    · subst h
      rw [tm_kdn] at hs
      rw [tm_ppn]
      unfold tm_cd' tm_ch
      rw [if_pos rfl, if_pos hi, if_pos hs]
      cases e : tm_dec (p i) with
      | none =>
        rw [tm_decn] at e
        by_cases w : k = 6 ∧ p i = -1
        · exact w.2
        · obtain ⟨c, a, b, _⟩ := O.2 i hi hs w
          rw [b] at e
          exact absurd e (nI_pos (by omega))
      | some c => exact (tm_decs.mp e).1
    · rw [tm_kdo h] at hs
      have := C j hj h
      rw [tm_cdo h, tm_ppo (by omega)]
      exact tm_s W this hi hs
  · by_cases h : j = n
    · subst h
      rw [tm_kdn]
      cases e : tm_cd' cd j k p j i with
      | none => exact absurd e hc
      | some c => exact ⟨(O' e).1, (O' e).2.2.1⟩
    · rw [tm_kdo h]
      rw [tm_cdo h] at hc
      exact tm_o W (C j hj h) hc
  · by_cases h : j = n
    · subst h
      have z := O' e
      exact ⟨z.2.2.2.2.1, tm_parc z.1 z.2.1 z.2.2.2.2.1⟩
    · rw [tm_cdo h] at e
      have z := tm_c W (C j hj h) e
      exact ⟨z.1, tm_pars O (by omega) z.2⟩
  · by_cases h : j = n
    · subst h
      have z := O' e
      have z' := O' e'
      rcases Nat.lt_trichotomy i i' with q | q | q
      · exact absurd (z.2.2.2.1.trans z'.2.2.2.1.symm) (z'.2.2.2.2.2.2 i q z.2.2.1)
      · exact q
      · exact absurd (z'.2.2.2.1.trans z.2.2.2.1.symm) (z.2.2.2.2.2.2 i' q z'.2.2.1)
    · rw [tm_cdo h] at e e'
      exact tm_inj W (C j hj h) e e'
  · rcases tm_park e with q | ⟨q, hc, i, hi, w⟩
    · obtain ⟨a, i, b⟩ := tm_p W q
      exact ⟨by omega, i, by rw [tm_cdo (by omega)]; exact b⟩
    · subst q
      refine ⟨by omega, i, ?_⟩
      unfold tm_cd'
      rw [if_pos rfl, if_pos hi, tm_decs]
      exact ⟨w, by omega⟩
  · by_cases h : j = n
    · subst h
      rw [tm_kdn] at hs h6
      unfold tm_cd' tm_ch
      rw [if_pos rfl, if_pos hi, if_pos hs]
      intro z
      rw [tm_decn] at z
      obtain ⟨c, a, b, _⟩ := O.2 i hi hs (fun w => h6 w.1)
      rw [b] at z
      exact absurd z (nI_pos (by omega))
    · rw [tm_kdo h] at hs h6
      rw [tm_cdo h]
      exact tm_nn W (C j hj h) hi hs h6
  · by_cases h : j = n
    · subst h
      rw [tm_kdn] at h7
      rw [tm_ppn]
      obtain ⟨a, b⟩ := O.1.2 h7
      obtain ⟨q, hq, e⟩ := nI_of a
      rw [e, nu_l3 hq] at b
      exact ⟨q, b, e⟩
    · rw [tm_kdo h] at h7
      have := C j hj h
      rw [tm_ppo (by omega)]
      exact tm_lb W this h7
  · by_cases h : j = n
    · subst h
      rw [tm_kdn] at hs
      rw [tm_ppn]
      exact hm i hi hs
    · rw [tm_kdo h] at hs
      have := C j hj h
      rw [tm_ppo (by omega)]
      exact tm_pm W this hi hs
end
end
section
/-! binders: pure, X and Y -/
def bd_w (kd : Nat → Nat) (cd : Nat → Nat → Option Nat) (pp : Nat → Int32) (par : Nat → Option Nat) (r v : Nat) : Nat → Nat → Option Nat
  | 0, _ => none
  | f + 1, a => if a = r then none else match par a with
    | none => none
    | some b => if (kd b = 3 ∨ (kd b = 5 ∧ cd b 2 = some a)) ∧ pp (4 * b) = pp (4 * v) then some b else bd_w kd cd pp par r v f b
def bd_b (kd : Nat → Nat) (cd : Nat → Nat → Option Nat) (pp : Nat → Int32) (par : Nat → Option Nat) (r v : Nat) : Option Nat := bd_w kd cd pp par r v 48 v
def bd_in (par : Nat → Option Nat) (r : Nat) : Nat → Nat → Bool
  | 0, a => decide (a = r)
  | f + 1, a => if a = r then true else match par a with
    | none => false
    | some b => bd_in par r f b
def bd_cl (n : Nat) (kd : Nat → Nat) (cd : Nat → Nat → Option Nat) (pp : Nat → Int32) (par : Nat → Option Nat) (r v : Nat) : Prop := v < n → kd v = 2 → bd_in par r 48 v = true → bd_b kd cd pp par r v ≠ none
/-- the instance below a variable: e1 of its LET -/
def bd_i (kd : Nat → Nat) (cd : Nat → Nat → Option Nat) (pp : Nat → Int32) (par : Nat → Option Nat) (r v : Nat) : Option Nat := if kd v = 2 then (match bd_b kd cd pp par r v with
  | none => none
  | some b => if kd b = 5 then cd b 1 else none) else none
section
variable {kd : Nat → Nat} {cd : Nat → Nat → Option Nat} {pp : Nat → Int32} {par : Nat → Option Nat} {r v : Nat}
theorem bd_w_r {f : Nat} : bd_w kd cd pp par r v (f + 1) r = none := if_pos rfl
theorem bd_w_n {f a : Nat} (h : a ≠ r) (e : par a = none) : bd_w kd cd pp par r v (f + 1) a = none := by
  rw [bd_w, if_neg h, e]
theorem bd_w_s {f a b : Nat} (h : a ≠ r) (e : par a = some b) : bd_w kd cd pp par r v (f + 1) a = if (kd b = 3 ∨ (kd b = 5 ∧ cd b 2 = some a)) ∧ pp (4 * b) = pp (4 * v) then some b else bd_w kd cd pp par r v f b := by
  rw [bd_w, if_neg h, e]
theorem bd_in_r {f : Nat} : bd_in par r f r = true := by
  cases f with
  | zero => exact decide_eq_true rfl
  | succ f => exact if_pos rfl
theorem bd_in_n {f a : Nat} (h : a ≠ r) (e : par a = none) : bd_in par r (f + 1) a = false := by
  rw [bd_in, if_neg h, e]
theorem bd_in_s {f a b : Nat} (h : a ≠ r) (e : par a = some b) : bd_in par r (f + 1) a = bd_in par r f b := by
  rw [bd_in, if_neg h, e]
theorem bd_i_2 (h : kd v = 2) : bd_i kd cd pp par r v = match bd_b kd cd pp par r v with
  | none => none
  | some b => if kd b = 5 then cd b 1 else none := if_pos h
theorem bd_i_n (h : ¬ kd v = 2) : bd_i kd cd pp par r v = none := if_neg h
theorem bd_i_s {b : Nat} (h : kd v = 2) (e : bd_b kd cd pp par r v = some b) : bd_i kd cd pp par r v = if kd b = 5 then cd b 1 else none := by
  rw [bd_i_2 h, e]
theorem bd_wlt {n : Nat} (W : tm_WF n kd cd pp par) : ∀ f a, nu_lt (bd_w kd cd pp par r v f a) n := by
  intro f
  induction f with
  | zero => intro a k e; cases e
  | succ f ih =>
    intro a k e
    by_cases h : a = r
    · subst h; rw [bd_w_r] at e; cases e
    · cases ea : par a with
      | none => rw [bd_w_n h ea] at e; cases e
      | some b =>
        rw [bd_w_s h ea] at e
        split at e
        · cases e; exact (tm_pl W ea).2
        · exact ih b k e
theorem bd_blt {n : Nat} (W : tm_WF n kd cd pp par) : nu_lt (bd_b kd cd pp par r v) n := bd_wlt W 48 v
theorem bd_blt' {n : Nat} (W : tm_WF n kd cd pp par) : nu_lt (bd_b kd cd pp par r v) (2 ^ 31) := nu_ltm (bd_blt W) (by have := tm_n W; omega)
theorem bd_ilt {n : Nat} (W : tm_WF n kd cd pp par) : nu_lt (bd_i kd cd pp par r v) n := by
  intro k e
  by_cases h : kd v = 2
  · cases eb : bd_b kd cd pp par r v with
    | none => rw [bd_i_2 h, eb] at e; cases e
    | some b =>
      rw [bd_i_s h eb] at e
      have hb := bd_blt W b eb
      split at e
      · have := (tm_c W hb e).1; omega
      · cases e
  · rw [bd_i_n h] at e; cases e
theorem bd_ilt' {n : Nat} (W : tm_WF n kd cd pp par) : nu_lt (bd_i kd cd pp par r v) (2 ^ 31) := nu_ltm (bd_ilt W) (by have := tm_n W; omega)
end
section
variable {f_maxNodes f_maxWeight f_maxVisits f_nodeCount f_sealed f_verdictNow f_copyCount f_varCount : Int32} {f_atSet : Int64} {f_atNeg f_visitCount f_done f_stuck f_curNode f_curEnv f_resultValue f_valueCount f_envCount f_depth : Int32} {a_nKind a_nPart a_nParent a_cNode a_cUp a_cChild a_cInst a_cParam a_queue : Nat → Int32} {a_rel : Nat → Int64} {a_vKind a_vWord a_vEnv a_vField a_eName a_eValue a_eNext a_fNode a_fEnv a_fPart a_fValue : Nat → Int32} {n : Nat} {kd : Nat → Nat} {cd : Nat → Nat → Option Nat} {pp : Nat → Int32} {par : Nat → Option Nat} {post : Int32 → Prop} {r v : Nat}
theorem xw_bd15 (W : tm_WF n kd cd pp par) (A : tm_Ag n kd pp a_nKind a_nPart) (hpar : ∀ c, c < n → a_nParent c = nu_o (par c)) (hr : r < n) : ∀ f s a, s + f = 48 → a < n → post (nu_o (bd_w kd cd pp par r v f a)) → wX_binderOf_15 post (nI r) (pp (4 * v)) f_maxNodes f_maxWeight f_maxVisits f_nodeCount f_sealed f_verdictNow f_copyCount f_varCount f_atSet f_atNeg f_visitCount f_done f_stuck f_curNode f_curEnv f_resultValue f_valueCount f_envCount f_depth a_nKind a_nPart a_nParent a_cNode a_cUp a_cChild a_cInst a_cParam a_queue a_rel a_vKind a_vWord a_vEnv a_vField a_eName a_eValue a_eNext a_fNode a_fEnv a_fPart a_fValue (f + 1) (nI a) (nI s) := by
  have hn := tm_n W
  intro f
  induction f with
  | zero =>
    intro s a hs ha h
    refine br_t ?_ h
    show (48 : Int32) ≤ nI s
    rw [nu_g48 (by omega)]; omega
  | succ f ih =>
    intro s a hs ha h
    refine br_f ?_ ?_
    · show ¬ (48 : Int32) ≤ nI s
      rw [nu_g48 (by omega)]; omega
    rw [nI_eq (by omega) (by omega)]
    refine br_c (fun z => ?_) (fun z => ⟨vp_in_nI (by omega) (by omega), nm_r (e' := nu_o (par a)) (by rw [nI_clamp (by omega), hpar a ha]) ?_⟩)
    · subst z; rw [bd_w_r] at h; exact h
    · cases ea : par a with
      | none =>
        rw [bd_w_n z ea] at h
        exact br_f (by decide) h
      | some b =>
        have hb := tm_pl W ea
        have hk := tm_k W hb.2
        rw [bd_w_s z ea] at h
        refine br_t (nI_pos' (by omega)) ⟨by rw [show nu_o (some b) = nI b from rfl, nu_4]; exact vp_in_nI (by omega) (by omega), ?_⟩
        rw [show nu_o (some b) = nI b from rfl, show (4 * nI b).toNatClampNeg = 4 * b by rw [nu_4, nI_clamp (by omega)], A.2 _ (by omega), nI_clamp (by omega), A.1 b hb.2, show (4 * nI b + 2).toNatClampNeg = 4 * b + 2 from nu_c4 (i := 2) (by omega), A.2 _ (by omega), nu_e3 (by omega), nu_e5 (by omega)]
        have I : ¬ ((kd b = 3 ∨ (kd b = 5 ∧ cd b 2 = some a)) ∧ pp (4 * b) = pp (4 * v)) → wX_binderOf_15 post (nI r) (pp (4 * v)) f_maxNodes f_maxWeight f_maxVisits f_nodeCount f_sealed f_verdictNow f_copyCount f_varCount f_atSet f_atNeg f_visitCount f_done f_stuck f_curNode f_curEnv f_resultValue f_valueCount f_envCount f_depth a_nKind a_nPart a_nParent a_cNode a_cUp a_cChild a_cInst a_cParam a_queue a_rel a_vKind a_vWord a_vEnv a_vField a_eName a_eValue a_eNext a_fNode a_fEnv a_fPart a_fValue (f + 1) (nI b) (nI (s + 1)) := fun w => ih (s + 1) b (by omega) hb.2 (by rw [if_neg w] at h; exact h)
        have Y : ((kd b = 3 ∨ (kd b = 5 ∧ cd b 2 = some a)) ∧ pp (4 * b) = pp (4 * v)) → post (nI b) := fun w => by rw [if_pos w] at h; exact h
        refine br_c (fun e1 => ⟨vp_in_nI (by omega) (by omega), br_c (fun e2 => Y ⟨Or.inl e2, e1⟩) (fun e2 => ⟨vp_in_nI (by omega) (by omega), br_c (fun e3 => ⟨nu_i4 (i := 2) (by omega) (by omega), ?_⟩) (fun e3 => nm_r (nI_1 s) (I fun w => ?_))⟩)⟩) (fun e1 => nm_r (nI_1 s) (I fun w => e1 w.2))
        · rw [tm_s W hb.2 (by omega) (by rw [e3]; rfl), nu_oeq (tm_cl' W hb.2) (by omega)]
          refine br_c (fun e4 => Y ⟨Or.inr ⟨e3, e4⟩, e1⟩) (fun e4 => nm_r (nI_1 s) (I fun w => ?_))
          rcases w.1 with q | q
          · exact e2 q
          · exact e4 q.2
        · rcases w.1 with q | q
          · exact e2 q
          · exact e3 q.1
theorem xw_bd (W : tm_WF n kd cd pp par) (A : tm_Ag n kd pp a_nKind a_nPart) (hpar : ∀ c, c < n → a_nParent c = nu_o (par c)) (hr : r < n) (hv : v < n) (h : post (nu_o (bd_b kd cd pp par r v))) : wpX_binderOf post (f_maxNodes, f_maxWeight, f_maxVisits, f_nodeCount, f_sealed, f_verdictNow, f_copyCount, f_varCount, f_atSet, f_atNeg, f_visitCount, f_done, f_stuck, f_curNode, f_curEnv, f_resultValue, f_valueCount, f_envCount, f_depth, a_nKind, a_nPart, a_nParent, a_cNode, a_cUp, a_cChild, a_cInst, a_cParam, a_queue, a_rel, a_vKind, a_vWord, a_vEnv, a_vField, a_eName, a_eValue, a_eNext, a_fNode, a_fEnv, a_fPart, a_fValue) (nI r) (nI v) := by
  have hn := tm_n W
  refine ⟨nu_i40 (by omega) (by omega), nm_r (e' := pp (4 * v)) ?_ ⟨49, ?_⟩⟩
  · rw [nu_4, nI_clamp (by omega), A.2 _ (by omega)]
  · exact xw_bd15 W A hpar hr 48 0 v (by omega) hv h
theorem xw_in5 (W : tm_WF n kd cd pp par) (hpar : ∀ c, c < n → a_nParent c = nu_o (par c)) (hr : r < n) : ∀ f s a, s + f = 48 → a < n → post (nu_b (bd_in par r f a)) → wX_inTree_5 post (nI r) f_maxNodes f_maxWeight f_maxVisits f_nodeCount f_sealed f_verdictNow f_copyCount f_varCount f_atSet f_atNeg f_visitCount f_done f_stuck f_curNode f_curEnv f_resultValue f_valueCount f_envCount f_depth a_nKind a_nPart a_nParent a_cNode a_cUp a_cChild a_cInst a_cParam a_queue a_rel a_vKind a_vWord a_vEnv a_vField a_eName a_eValue a_eNext a_fNode a_fEnv a_fPart a_fValue (f + 1) (nI a) (nI s) := by
  have hn := tm_n W
  have L : ∀ a, a < n → post (nu_b (decide (a = r))) → wX_inTree_34 post (nI r) (nI a) f_maxNodes f_maxWeight f_maxVisits f_nodeCount f_sealed f_verdictNow f_copyCount f_varCount f_atSet f_atNeg f_visitCount f_done f_stuck f_curNode f_curEnv f_resultValue f_valueCount f_envCount f_depth a_nKind a_nPart a_nParent a_cNode a_cUp a_cChild a_cInst a_cParam a_queue a_rel a_vKind a_vWord a_vEnv a_vField a_eName a_eValue a_eNext a_fNode a_fEnv a_fPart a_fValue := fun a ha h => by
    unfold wX_inTree_34
    rw [nI_eq (by omega) (by omega)]
    exact br_c (fun z => by rw [decide_eq_true z] at h; exact h) (fun z => by rw [decide_eq_false z] at h; exact h)
  intro f
  induction f with
  | zero =>
    intro s a hs ha h
    refine br_t ?_ (L a ha h)
    show (48 : Int32) ≤ nI s
    rw [nu_g48 (by omega)]; omega
  | succ f ih =>
    intro s a hs ha h
    refine br_f ?_ (br_f (nI_pos (by omega)) ?_)
    · show ¬ (48 : Int32) ≤ nI s
      rw [nu_g48 (by omega)]; omega
    rw [nI_eq (by omega) (by omega)]
    refine br_c (fun z => L a ha ?_) (fun z => ⟨vp_in_nI (by omega) (by omega), nm_r (e' := nu_o (par a)) (by rw [nI_clamp (by omega), hpar a ha]) (nm_r (nI_1 s) ?_)⟩)
    · subst z; rw [bd_in_r] at h; rw [decide_eq_true rfl]; exact h
    · cases ea : par a with
      | none =>
        rw [bd_in_n z ea] at h
        have Z : wX_inTree_34 post (nI r) (-1) f_maxNodes f_maxWeight f_maxVisits f_nodeCount f_sealed f_verdictNow f_copyCount f_varCount f_atSet f_atNeg f_visitCount f_done f_stuck f_curNode f_curEnv f_resultValue f_valueCount f_envCount f_depth a_nKind a_nPart a_nParent a_cNode a_cUp a_cChild a_cInst a_cParam a_queue a_rel a_vKind a_vWord a_vEnv a_vField a_eName a_eValue a_eNext a_fNode a_fEnv a_fPart a_fValue := br_f (fun w => nu_ne1 (a := r) (by omega) w.symm) h
        exact br_c (fun _ => Z) (fun _ => br_t (by decide) Z)
      | some b =>
        rw [bd_in_s z ea] at h
        exact ih (s + 1) b (by omega) (tm_pl W ea).2 h
theorem xw_in (W : tm_WF n kd cd pp par) (hpar : ∀ c, c < n → a_nParent c = nu_o (par c)) (hr : r < n) (hv : v < n) (h : post (nu_b (bd_in par r 48 v))) : wpX_inTree post (f_maxNodes, f_maxWeight, f_maxVisits, f_nodeCount, f_sealed, f_verdictNow, f_copyCount, f_varCount, f_atSet, f_atNeg, f_visitCount, f_done, f_stuck, f_curNode, f_curEnv, f_resultValue, f_valueCount, f_envCount, f_depth, a_nKind, a_nPart, a_nParent, a_cNode, a_cUp, a_cChild, a_cInst, a_cParam, a_queue, a_rel, a_vKind, a_vWord, a_vEnv, a_vField, a_eName, a_eValue, a_eNext, a_fNode, a_fEnv, a_fPart, a_fValue) (nI r) (nI v) := ⟨49, xw_in5 W hpar hr 48 0 v (by omega) hv h⟩
theorem xw_op2 (W : tm_WF n kd cd pp par) (A : tm_Ag n kd pp a_nKind a_nPart) (hpar : ∀ c, c < n → a_nParent c = nu_o (par c)) (hr : r < n) : ∀ d v, v + d = n → ((∀ w, v ≤ w → bd_cl n kd cd pp par r w) → post 0) → ((¬ ∀ w, v ≤ w → bd_cl n kd cd pp par r w) → post 1) → wX_isOpen_2 post (nI r) f_maxNodes f_maxWeight f_maxVisits (nI n) f_sealed f_verdictNow f_copyCount f_varCount f_atSet f_atNeg f_visitCount f_done f_stuck f_curNode f_curEnv f_resultValue f_valueCount f_envCount f_depth a_nKind a_nPart a_nParent a_cNode a_cUp a_cChild a_cInst a_cParam a_queue a_rel a_vKind a_vWord a_vEnv a_vField a_eName a_eValue a_eNext a_fNode a_fEnv a_fPart a_fValue (d + 1) (nI v) := by
  have hn := tm_n W
  intro d
  induction d with
  | zero =>
    intro v hv h0 h1
    refine br_t ?_ (h0 fun w a b => by omega)
    show nI n ≤ nI v
    rw [nI_leI (by omega) (by omega)]; omega
  | succ d ih =>
    intro v hv h0 h1
    have hk := tm_k W (j := v) (by omega)
    have K1 : bd_cl n kd cd pp par r v → wX_isOpen_2 post (nI r) f_maxNodes f_maxWeight f_maxVisits (nI n) f_sealed f_verdictNow f_copyCount f_varCount f_atSet f_atNeg f_visitCount f_done f_stuck f_curNode f_curEnv f_resultValue f_valueCount f_envCount f_depth a_nKind a_nPart a_nParent a_cNode a_cUp a_cChild a_cInst a_cParam a_queue a_rel a_vKind a_vWord a_vEnv a_vField a_eName a_eValue a_eNext a_fNode a_fEnv a_fPart a_fValue (d + 1) (nI (v + 1)) := fun f => by
      refine ih (v + 1) (by omega) (fun q => h0 fun w a => ?_) (fun q => h1 fun w => q fun w' a => w w' (by omega))
      rcases Nat.eq_or_lt_of_le a with e | e
      · subst e; exact f
      · exact q w e
    have K0 : ¬ bd_cl n kd cd pp par r v → post 1 := fun f => h1 fun w => f (w v (Nat.le_refl _))
    refine br_f ?_ ⟨vp_in_nI (by omega) (by omega), ?_⟩
    · show ¬ nI n ≤ nI v
      rw [nI_leI (by omega) (by omega)]; omega
    rw [nI_clamp (by omega), A.1 v (by omega), nu_e2 (by omega)]
    refine br_c (fun h2 => xw_in W hpar hr (by omega) ?_) (fun h2 => nm_r (nI_1 v) (K1 fun _ w => absurd w h2))
    rw [nu_b0]
    refine br_c (fun z => nm_r (nI_1 v) (K1 fun _ _ w => by rw [z] at w; cases w)) (fun z => xw_bd W A hpar hr (by omega) ?_)
    rw [nu_ole (bd_blt' W)]
    exact br_c (fun w => nm_r (nI_1 v) (K1 fun _ _ _ => w)) (fun w => K0 fun q => w (q (by omega) h2 (ts_nf z)))
theorem xw_op (W : tm_WF n kd cd pp par) (A : tm_Ag n kd pp a_nKind a_nPart) (hpar : ∀ c, c < n → a_nParent c = nu_o (par c)) (hr : r < n) (h0 : (∀ w, bd_cl n kd cd pp par r w) → post 0) (h1 : (¬ ∀ w, bd_cl n kd cd pp par r w) → post 1) : wpX_isOpen post (f_maxNodes, f_maxWeight, f_maxVisits, nI n, f_sealed, f_verdictNow, f_copyCount, f_varCount, f_atSet, f_atNeg, f_visitCount, f_done, f_stuck, f_curNode, f_curEnv, f_resultValue, f_valueCount, f_envCount, f_depth, a_nKind, a_nPart, a_nParent, a_cNode, a_cUp, a_cChild, a_cInst, a_cParam, a_queue, a_rel, a_vKind, a_vWord, a_vEnv, a_vField, a_eName, a_eValue, a_eNext, a_fNode, a_fEnv, a_fPart, a_fValue) (nI r) :=
  ⟨n + 1, xw_op2 W A hpar hr n 0 (by omega) (fun q => h0 fun w => q w (Nat.zero_le _)) (fun q => h1 fun w => q fun w' _ => w w')⟩
theorem xw_inst (W : tm_WF n kd cd pp par) (A : tm_Ag n kd pp a_nKind a_nPart) (hpar : ∀ c, c < n → a_nParent c = nu_o (par c)) (hr : r < n) (hv : v < n) (h : post (nu_o (bd_i kd cd pp par r v))) : wpX_instanceNode post (f_maxNodes, f_maxWeight, f_maxVisits, f_nodeCount, f_sealed, f_verdictNow, f_copyCount, f_varCount, f_atSet, f_atNeg, f_visitCount, f_done, f_stuck, f_curNode, f_curEnv, f_resultValue, f_valueCount, f_envCount, f_depth, a_nKind, a_nPart, a_nParent, a_cNode, a_cUp, a_cChild, a_cInst, a_cParam, a_queue, a_rel, a_vKind, a_vWord, a_vEnv, a_vField, a_eName, a_eValue, a_eNext, a_fNode, a_fEnv, a_fPart, a_fValue) (nI r) (nI v) := by
  have hn := tm_n W
  have hk := tm_k W hv
  unfold wpX_instanceNode
  dsimp only
  refine ⟨vp_in_nI (by omega) (by omega), ?_⟩
  rw [nI_clamp (by omega), A.1 v hv, nu_e2 (by omega)]
  refine br_c (fun h2 => xw_bd W A hpar hr hv ?_) (fun h2 => by rw [bd_i_n h2] at h; exact h)
  cases e : bd_b kd cd pp par r v with
  | none =>
    rw [bd_i_2 h2, e] at h
    exact br_t (by decide) h
  | some b =>
    have hb := bd_blt W b e
    have hkb := tm_k W hb
    rw [bd_i_s h2 e] at h
    refine br_f (nI_pos (by omega)) ⟨vp_in_nI (by omega) (by omega), ?_⟩
    rw [show nu_o (some b) = nI b from rfl, nI_clamp (by omega), A.1 b hb, nu_e5 (by omega)]
    refine br_c (fun h5 => ⟨nu_i4 (i := 1) (by omega) (by omega), ?_⟩) (fun h5 => by rw [if_neg h5] at h; exact h)
    rw [show (4 * nI b + 1).toNatClampNeg = 4 * b + 1 from nu_c4 (i := 1) (by omega), A.2 _ (by omega), tm_s W hb (by omega) (by rw [h5]; rfl)]
    rw [if_pos h5] at h
    exact h
end
section
variable {g_maxNodes g_maxWeight g_maxVisits g_count g_root g_nc g_weight g_grown g_neg g_made g_next g_nextPar g_nextSlot g_nextLex g_stuck : Int32} {b_kinds b_parts b_cNode b_cPar b_cSlot b_le b_saved b_cur b_nxt b_first b_vNode b_vPar b_vSlot b_vLex b_val b_num : Nat → Int32} {n : Nat} {kd : Nat → Nat} {cd : Nat → Nat → Option Nat} {pp : Nat → Int32} {par : Nat → Option Nat} {post : Int32 → Prop} {r v : Nat}
theorem yw_bd5 (W : tm_WF n kd cd pp par) (A : tm_Ag n kd pp b_kinds b_parts) (hr : r < n) (hv : v < n) : ∀ f s a, s + f = 48 → a < n → post (nu_o (bd_w kd cd pp par r v f a)) → wY_binder_5 post (nI v) (nI r) g_maxNodes g_maxWeight g_maxVisits (nI n) g_root g_nc g_weight g_grown g_neg g_made g_next g_nextPar g_nextSlot g_nextLex g_stuck b_kinds b_parts b_cNode b_cPar b_cSlot b_le b_saved b_cur b_nxt b_first b_vNode b_vPar b_vSlot b_vLex b_val b_num (f + 1) (nI a) (nI s) := by
  have hn := tm_n W
  intro f
  induction f with
  | zero =>
    intro s a hs ha h
    refine br_t ?_ h
    show (48 : Int32) ≤ nI s
    rw [nu_g48 (by omega)]; omega
  | succ f ih =>
    intro s a hs ha h
    refine br_f ?_ ?_
    · show ¬ (48 : Int32) ≤ nI s
      rw [nu_g48 (by omega)]; omega
    rw [nI_eq (by omega) (by omega)]
    refine br_c (fun z => ?_) (fun z => yw_parent W A (by omega) ?_)
    · subst z; rw [bd_w_r] at h; exact h
    · cases ea : par a with
      | none =>
        rw [bd_w_n z ea] at h
        exact br_f (by decide) h
      | some b =>
        have hb := tm_pl W ea
        have hk := tm_k W hb.2
        rw [bd_w_s z ea] at h
        refine br_t (nI_pos' (by omega)) ⟨vp_in_nI (by omega) (by omega), ?_⟩
        rw [show nu_o (some b) = nI b from rfl, nI_clamp (by omega), A.1 b hb.2, nu_e3 (by omega), nu_e5 (by omega), show (nI b * 4 + 2).toNatClampNeg = 4 * b + 2 from nu_c4' (i := 2) (by omega), A.2 _ (by omega)]
        have I : ¬ ((kd b = 3 ∨ (kd b = 5 ∧ cd b 2 = some a)) ∧ pp (4 * b) = pp (4 * v)) → wY_binder_5 post (nI v) (nI r) g_maxNodes g_maxWeight g_maxVisits (nI n) g_root g_nc g_weight g_grown g_neg g_made g_next g_nextPar g_nextSlot g_nextLex g_stuck b_kinds b_parts b_cNode b_cPar b_cSlot b_le b_saved b_cur b_nxt b_first b_vNode b_vPar b_vSlot b_vLex b_val b_num (f + 1) (nI b) (nI (s + 1)) := fun w => ih (s + 1) b (by omega) hb.2 (by rw [if_neg w] at h; exact h)
        have Y : ((kd b = 3 ∨ (kd b = 5 ∧ cd b 2 = some a)) ∧ pp (4 * b) = pp (4 * v)) → post (nI b) := fun w => by rw [if_pos w] at h; exact h
        have T : (kd b = 3 ∨ (kd b = 5 ∧ cd b 2 = some a)) → wY_binder_68 post (wY_binder_5 post (nI v) (nI r) g_maxNodes g_maxWeight g_maxVisits (nI n) g_root g_nc g_weight g_grown g_neg g_made g_next g_nextPar g_nextSlot g_nextLex g_stuck b_kinds b_parts b_cNode b_cPar b_cSlot b_le b_saved b_cur b_nxt b_first b_vNode b_vPar b_vSlot b_vLex b_val b_num (f + 1)) (nI v) (nI r) (nI s) (nI b) g_maxNodes g_maxWeight g_maxVisits (nI n) g_root g_nc g_weight g_grown g_neg g_made g_next g_nextPar g_nextSlot g_nextLex g_stuck b_kinds b_parts b_cNode b_cPar b_cSlot b_le b_saved b_cur b_nxt b_first b_vNode b_vPar b_vSlot b_vLex b_val b_num := fun q => by
          unfold wY_binder_68 wY_binder_73
          refine br_f (by decide) ⟨by rw [nu_r4]; exact vp_in_nI (by omega) (by omega), by rw [nu_r4]; exact vp_in_nI (by omega) (by omega), ?_⟩
          rw [nu_r4, nu_r4, nI_clamp (by omega), nI_clamp (by omega), A.2 _ (by omega), A.2 _ (by omega)]
          exact br_c (fun e => Y ⟨q, e⟩) (fun e => nm_r (nI_1 s) (I fun w => e w.2))
        have F : ¬ (kd b = 3 ∨ (kd b = 5 ∧ cd b 2 = some a)) → wY_binder_72 post (wY_binder_5 post (nI v) (nI r) g_maxNodes g_maxWeight g_maxVisits (nI n) g_root g_nc g_weight g_grown g_neg g_made g_next g_nextPar g_nextSlot g_nextLex g_stuck b_kinds b_parts b_cNode b_cPar b_cSlot b_le b_saved b_cur b_nxt b_first b_vNode b_vPar b_vSlot b_vLex b_val b_num (f + 1)) (nI v) (nI r) (nI s) (nI b) g_maxNodes g_maxWeight g_maxVisits (nI n) g_root g_nc g_weight g_grown g_neg g_made g_next g_nextPar g_nextSlot g_nextLex g_stuck b_kinds b_parts b_cNode b_cPar b_cSlot b_le b_saved b_cur b_nxt b_first b_vNode b_vPar b_vSlot b_vLex b_val b_num := fun q => by
          unfold wY_binder_72 wY_binder_73
          exact br_t (by decide) (nm_r (nI_1 s) (I fun w => q w.1))
        refine br_c (fun e2 => T (Or.inl e2)) (fun e2 => ⟨vp_in_nI (by omega) (by omega), br_c (fun e3 => ⟨nu_i4' (i := 2) (by omega) (by omega), ?_⟩) (fun e3 => F fun w => ?_)⟩)
        · rw [tm_s W hb.2 (by omega) (by rw [e3]; rfl), nu_oeq (tm_cl' W hb.2) (by omega)]
          refine br_c (fun e4 => T (Or.inr ⟨e3, e4⟩)) (fun e4 => F fun w => ?_)
          rcases w with q | q
          · exact e2 q
          · exact e4 q.2
        · rcases w with q | q
          · exact e2 q
          · exact e3 q.1
theorem yw_bd (W : tm_WF n kd cd pp par) (A : tm_Ag n kd pp b_kinds b_parts) (hr : r < n) (hv : v < n) (h : post (nu_o (bd_b kd cd pp par r v))) : wpY_binder post (g_maxNodes, g_maxWeight, g_maxVisits, nI n, g_root, g_nc, g_weight, g_grown, g_neg, g_made, g_next, g_nextPar, g_nextSlot, g_nextLex, g_stuck, b_kinds, b_parts, b_cNode, b_cPar, b_cSlot, b_le, b_saved, b_cur, b_nxt, b_first, b_vNode, b_vPar, b_vSlot, b_vLex, b_val, b_num) (nI v) (nI r) := ⟨49, yw_bd5 W A hr hv 48 0 v (by omega) hv h⟩
theorem yw_in5 (W : tm_WF n kd cd pp par) (A : tm_Ag n kd pp b_kinds b_parts) (hr : r < n) : ∀ f s a, s + f = 48 → a < n → post (nu_b (bd_in par r f a)) → wY_inside_5 post (nI r) g_maxNodes g_maxWeight g_maxVisits (nI n) g_root g_nc g_weight g_grown g_neg g_made g_next g_nextPar g_nextSlot g_nextLex g_stuck b_kinds b_parts b_cNode b_cPar b_cSlot b_le b_saved b_cur b_nxt b_first b_vNode b_vPar b_vSlot b_vLex b_val b_num (f + 1) (nI a) (nI s) := by
  have hn := tm_n W
  have L : ∀ a, a < n → post (nu_b (decide (a = r))) → wY_inside_33 post (nI r) (nI a) g_maxNodes g_maxWeight g_maxVisits (nI n) g_root g_nc g_weight g_grown g_neg g_made g_next g_nextPar g_nextSlot g_nextLex g_stuck b_kinds b_parts b_cNode b_cPar b_cSlot b_le b_saved b_cur b_nxt b_first b_vNode b_vPar b_vSlot b_vLex b_val b_num := fun a ha h => by
    unfold wY_inside_33
    rw [nI_eq (by omega) (by omega)]
    exact br_c (fun z => by rw [decide_eq_true z] at h; exact h) (fun z => by rw [decide_eq_false z] at h; exact h)
  intro f
  induction f with
  | zero =>
    intro s a hs ha h
    refine br_t ?_ (L a ha h)
    show (48 : Int32) ≤ nI s
    rw [nu_g48 (by omega)]; omega
  | succ f ih =>
    intro s a hs ha h
    refine br_f ?_ (br_f (nI_pos (by omega)) ?_)
    · show ¬ (48 : Int32) ≤ nI s
      rw [nu_g48 (by omega)]; omega
    rw [nI_eq (by omega) (by omega)]
    refine br_c (fun z => L a ha ?_) (fun z => yw_parent W A (by omega) (nm_r (nI_1 s) ?_))
    · subst z; rw [bd_in_r] at h; rw [decide_eq_true rfl]; exact h
    · cases ea : par a with
      | none =>
        rw [bd_in_n z ea] at h
        have Z : wY_inside_33 post (nI r) (-1) g_maxNodes g_maxWeight g_maxVisits (nI n) g_root g_nc g_weight g_grown g_neg g_made g_next g_nextPar g_nextSlot g_nextLex g_stuck b_kinds b_parts b_cNode b_cPar b_cSlot b_le b_saved b_cur b_nxt b_first b_vNode b_vPar b_vSlot b_vLex b_val b_num := br_f (fun w => nu_ne1 (a := r) (by omega) w.symm) h
        exact br_c (fun _ => Z) (fun _ => br_t (by decide) Z)
      | some b =>
        rw [bd_in_s z ea] at h
        exact ih (s + 1) b (by omega) (tm_pl W ea).2 h
theorem yw_in (W : tm_WF n kd cd pp par) (A : tm_Ag n kd pp b_kinds b_parts) (hr : r < n) (hv : v < n) (h : post (nu_b (bd_in par r 48 v))) : wpY_inside post (g_maxNodes, g_maxWeight, g_maxVisits, nI n, g_root, g_nc, g_weight, g_grown, g_neg, g_made, g_next, g_nextPar, g_nextSlot, g_nextLex, g_stuck, b_kinds, b_parts, b_cNode, b_cPar, b_cSlot, b_le, b_saved, b_cur, b_nxt, b_first, b_vNode, b_vPar, b_vSlot, b_vLex, b_val, b_num) (nI v) (nI r) := ⟨49, yw_in5 W A hr 48 0 v (by omega) hv h⟩
end
section
variable {g_maxNodes g_maxWeight g_maxVisits g_count g_root g_nc g_weight g_grown g_neg g_made g_next g_nextPar g_nextSlot g_nextLex g_stuck : Int32} {b_kinds b_parts b_cNode b_cPar b_cSlot b_le b_saved b_cur b_nxt b_first b_vNode b_vPar b_vSlot b_vLex b_val b_num : Nat → Int32} {n : Nat} {kd : Nat → Nat} {cd : Nat → Nat → Option Nat} {pp : Nat → Int32} {par : Nat → Option Nat} {post : Int32 → SY → Prop} {r v : Nat}
theorem yw_op (W : tm_WF n kd cd pp par) (A : tm_Ag n kd pp b_kinds b_parts) (hr : r < n) : ∀ d v, v + d = n → ((∀ w, v ≤ w → bd_cl n kd cd pp par r w) → wY_seal_16 post (nI r) g_maxNodes g_maxWeight g_maxVisits (nI n) g_root g_nc g_weight g_grown g_neg g_made g_next g_nextPar g_nextSlot g_nextLex g_stuck b_kinds b_parts b_cNode b_cPar b_cSlot b_le b_saved b_cur b_nxt b_first b_vNode b_vPar b_vSlot b_vLex b_val b_num 1 (nI n)) → ((¬ ∀ w, v ≤ w → bd_cl n kd cd pp par r w) → post (-2) (g_maxNodes, g_maxWeight, g_maxVisits, nI n, g_root, g_nc, g_weight, g_grown, g_neg, g_made, g_next, g_nextPar, g_nextSlot, g_nextLex, g_stuck, b_kinds, b_parts, b_cNode, b_cPar, b_cSlot, b_le, b_saved, b_cur, b_nxt, b_first, b_vNode, b_vPar, b_vSlot, b_vLex, b_val, b_num)) → wY_seal_16 post (nI r) g_maxNodes g_maxWeight g_maxVisits (nI n) g_root g_nc g_weight g_grown g_neg g_made g_next g_nextPar g_nextSlot g_nextLex g_stuck b_kinds b_parts b_cNode b_cPar b_cSlot b_le b_saved b_cur b_nxt b_first b_vNode b_vPar b_vSlot b_vLex b_val b_num (d + 1) (nI v) := by
  have hn := tm_n W
  intro d
  induction d with
  | zero =>
    intro v hv h0 h1
    have : v = n := by omega
    subst this
    exact h0 fun w a b => by omega
  | succ d ih =>
    intro v hv h0 h1
    have hk := tm_k W (j := v) (by omega)
    have K1 : bd_cl n kd cd pp par r v → wY_seal_16 post (nI r) g_maxNodes g_maxWeight g_maxVisits (nI n) g_root g_nc g_weight g_grown g_neg g_made g_next g_nextPar g_nextSlot g_nextLex g_stuck b_kinds b_parts b_cNode b_cPar b_cSlot b_le b_saved b_cur b_nxt b_first b_vNode b_vPar b_vSlot b_vLex b_val b_num (d + 1) (nI (v + 1)) := fun f => by
      refine ih (v + 1) (by omega) (fun q => h0 fun w a => ?_) (fun q => h1 fun w => q fun w' a => w w' (by omega))
      rcases Nat.eq_or_lt_of_le a with e | e
      · subst e; exact f
      · exact q w e
    have K0 : ¬ bd_cl n kd cd pp par r v → post (-2) (g_maxNodes, g_maxWeight, g_maxVisits, nI n, g_root, g_nc, g_weight, g_grown, g_neg, g_made, g_next, g_nextPar, g_nextSlot, g_nextLex, g_stuck, b_kinds, b_parts, b_cNode, b_cPar, b_cSlot, b_le, b_saved, b_cur, b_nxt, b_first, b_vNode, b_vPar, b_vSlot, b_vLex, b_val, b_num) := fun f => h1 fun w => f (w v (Nat.le_refl _))
    refine br_f ?_ ⟨vp_in_nI (by omega) (by omega), ?_⟩
    · show ¬ nI n ≤ nI v
      rw [nI_leI (by omega) (by omega)]; omega
    rw [nI_clamp (by omega), A.1 v (by omega), nu_e2 (by omega)]
    refine br_c (fun h2 => yw_in W A hr (by omega) ?_) (fun h2 => nm_r (nI_1 v) (K1 fun _ w => absurd w h2))
    rw [nu_b0]
    refine br_c (fun z => nm_r (nI_1 v) (K1 fun _ _ w => by rw [z] at w; cases w)) (fun z => yw_bd W A hr (by omega) ?_)
    rw [nu_ole (bd_blt' W)]
    exact br_c (fun w => nm_r (nI_1 v) (K1 fun _ _ _ => w)) (fun w => K0 fun q => w (q (by omega) h2 (ts_nf z)))
end
end
section
/-! unfolding: pure -/
def un_ki (kd : Nat → Nat) (cd : Nat → Nat → Option Nat) (pp : Nat → Int32) (par : Nat → Option Nat) (r m i : Nat) : Option Nat := if i < 4 then cd m i else bd_i kd cd pp par r m
def un_step (ki : Nat → Nat → Option Nat) (L : List (Nat × Option Nat × Nat)) (t : Nat) : List (Nat × Option Nat × Nat) :=
  if t / 5 < L.length then (match ki (L.getD (t / 5) (0, none, 0)).1 (t % 5) with
    | none => L
    | some x => L ++ [(x, some (t / 5), t % 5)]) else L
def un_B (ki : Nat → Nat → Option Nat) (r : Nat) : Nat → List (Nat × Option Nat × Nat)
  | 0 => [(r, none, 0)]
  | t + 1 => un_step ki (un_B ki r t) t
def un_S (ki : Nat → Nat → Option Nat) (r : Nat) (len cn : Nat → Nat) (cu : Nat → Option Nat) (cs : Nat → Nat) : Prop :=
  len 0 = 1 ∧ cn 0 = r ∧ cu 0 = none ∧ cs 0 = 0 ∧
  (∀ t x, t < 320 → t / 5 < len t → ki (cn (t / 5)) (t % 5) = some x → len (t + 1) = len t + 1 ∧ cn (len t) = x ∧ cu (len t) = some (t / 5) ∧ cs (len t) = t % 5) ∧
  (∀ t, t < 320 → t / 5 < len t → ki (cn (t / 5)) (t % 5) = none → len (t + 1) = len t) ∧
  (∀ t, t < 320 → len t ≤ t / 5 → len (t + 1) = len t)
theorem un_ge {ki : Nat → Nat → Option Nat} {L : List (Nat × Option Nat × Nat)} {t : Nat} (h : L.length ≤ t / 5) : un_step ki L t = L := if_neg (by omega)
theorem un_no {ki : Nat → Nat → Option Nat} {L : List (Nat × Option Nat × Nat)} {t : Nat} (e : ki (L.getD (t / 5) (0, none, 0)).1 (t % 5) = none) : un_step ki L t = L := by
  unfold un_step
  rw [e]
  split <;> rfl
theorem un_so {ki : Nat → Nat → Option Nat} {L : List (Nat × Option Nat × Nat)} {t x : Nat} (h : t / 5 < L.length) (e : ki (L.getD (t / 5) (0, none, 0)).1 (t % 5) = some x) : un_step ki L t = L ++ [(x, some (t / 5), t % 5)] := by
  unfold un_step
  rw [if_pos h, e]
theorem un_ap (ki : Nat → Nat → Option Nat) (L : List (Nat × Option Nat × Nat)) (t : Nat) : ∃ M, un_step ki L t = L ++ M := by
  by_cases h : t / 5 < L.length
  · cases e : ki (L.getD (t / 5) (0, none, 0)).1 (t % 5) with
    | none => exact ⟨[], by rw [un_no e, List.append_nil]⟩
    | some x => exact ⟨_, un_so h e⟩
  · exact ⟨[], by rw [un_ge (by omega), List.append_nil]⟩
theorem un_pre (ki : Nat → Nat → Option Nat) (r : Nat) : ∀ d t, ∃ M, un_B ki r (t + d) = un_B ki r t ++ M := by
  intro d
  induction d with
  | zero => exact fun t => ⟨[], by rw [List.append_nil]; rfl⟩
  | succ d ih =>
    intro t
    obtain ⟨M, e⟩ := ih t
    obtain ⟨M', e'⟩ := un_ap ki (un_B ki r (t + d)) (t + d)
    refine ⟨M ++ M', ?_⟩
    rw [← List.append_assoc, ← e, ← e']
    rfl
theorem un_get (ki : Nat → Nat → Option Nat) (r : Nat) {t T k : Nat} (h : t ≤ T) (hk : k < (un_B ki r t).length) : (un_B ki r T).getD k (0, none, 0) = (un_B ki r t).getD k (0, none, 0) := by
  obtain ⟨M, e⟩ := un_pre ki r (T - t) t
  rw [show t + (T - t) = T by omega] at e
  rw [e, List.getD_eq_getElem?_getD, List.getD_eq_getElem?_getD, List.getElem?_append_left hk]
theorem un_ex (ki : Nat → Nat → Option Nat) (r : Nat) : ∃ len cn cu cs, un_S ki r len cn cu cs := by
  refine ⟨fun t => (un_B ki r t).length, fun k => ((un_B ki r 320).getD k (0, none, 0)).1, fun k => ((un_B ki r 320).getD k (0, none, 0)).2.1, fun k => ((un_B ki r 320).getD k (0, none, 0)).2.2, ?_⟩
  have e0 : (un_B ki r 320).getD 0 (0, none, 0) = (r, none, 0) := un_get ki r (t := 0) (by omega) (Nat.zero_lt_one)
  refine ⟨rfl, ?_, ?_, ?_, fun t x ht h e => ?_, fun t ht h e => ?_, fun t ht h => ?_⟩
  · dsimp only; rw [e0]
  · dsimp only; rw [e0]
  · dsimp only; rw [e0]
  · dsimp only at h e ⊢
    rw [un_get ki r (t := t) (by omega) h] at e
    have q : un_B ki r (t + 1) = un_B ki r t ++ [(x, some (t / 5), t % 5)] := un_so h e
    have z : (un_B ki r 320).getD (un_B ki r t).length (0, none, 0) = (x, some (t / 5), t % 5) := by
      rw [un_get ki r (t := t + 1) (by omega) (by rw [q, List.length_append]; exact Nat.lt_succ_self _), q, List.getD_eq_getElem?_getD, List.getElem?_append_right (Nat.le_refl _), Nat.sub_self]
      rfl
    rw [z, q, List.length_append]
    exact ⟨rfl, rfl, rfl, rfl⟩
  · dsimp only at h e ⊢
    rw [un_get ki r (t := t) (by omega) h] at e
    exact congrArg List.length (un_no e)
  · dsimp only at h ⊢
    exact congrArg List.length (un_ge h)
def un_l (kd cn : Nat → Nat) : Nat → Nat
  | 0 => 0
  | k + 1 => un_l kd cn k + (if kd (cn k) = 3 then 1 else 0)
def un_w (kd cn : Nat → Nat) : Nat → Nat
  | 0 => 0
  | k + 1 => un_w kd cn k + (if kd (cn k) = 3 then 2 else 1)
theorem un_wl (kd cn : Nat → Nat) : ∀ k, un_w kd cn k = k + un_l kd cn k
  | 0 => rfl
  | k + 1 => by
    have := un_wl kd cn k
    simp only [un_w, un_l]
    split <;> omega
theorem un_wm (kd cn : Nat → Nat) : ∀ d k, un_w kd cn k + d ≤ un_w kd cn (k + d)
  | 0, _ => Nat.le_refl _
  | d + 1, k => by
    have := un_wm kd cn d k
    show _ ≤ un_w kd cn (k + d) + _
    split <;> omega
theorem un_lm (kd cn : Nat → Nat) {a b : Nat} (h : a ≤ b) : un_l kd cn a ≤ un_l kd cn b := by
  obtain ⟨d, rfl⟩ : ∃ d, b = a + d := ⟨b - a, by omega⟩
  have := un_wm kd cn d a
  rw [un_wl, un_wl] at this
  omega
section
variable {ki : Nat → Nat → Option Nat} {r : Nat} {len cn : Nat → Nat} {cu : Nat → Option Nat} {cs : Nat → Nat}
theorem un_s1 (S : un_S ki r len cn cu cs) {c i x : Nat} (hc : c < 64) (hi : i < 5) (h : c < len (5 * c + i)) (e : ki (cn c) i = some x) : len (5 * c + i + 1) = len (5 * c + i) + 1 ∧ cn (len (5 * c + i)) = x ∧ cu (len (5 * c + i)) = some c ∧ cs (len (5 * c + i)) = i := by
  have a : (5 * c + i) / 5 = c := by omega
  have b : (5 * c + i) % 5 = i := by omega
  have := S.2.2.2.2.1 (5 * c + i) x (by omega) (by rw [a]; exact h) (by rw [a, b]; exact e)
  rw [a, b] at this
  exact this
theorem un_s0 (S : un_S ki r len cn cu cs) {c i : Nat} (hc : c < 64) (hi : i < 5) (h : c < len (5 * c + i)) (e : ki (cn c) i = none) : len (5 * c + i + 1) = len (5 * c + i) := by
  have a : (5 * c + i) / 5 = c := by omega
  have b : (5 * c + i) % 5 = i := by omega
  exact S.2.2.2.2.2.1 (5 * c + i) (by omega) (by rw [a]; exact h) (by rw [a, b]; exact e)
theorem un_m1 (S : un_S ki r len cn cu cs) {t : Nat} (ht : t < 320) : len t ≤ len (t + 1) ∧ len (t + 1) ≤ len t + 1 := by
  by_cases h : t / 5 < len t
  · cases e : ki (cn (t / 5)) (t % 5) with
    | none => rw [S.2.2.2.2.2.1 t ht h e]; omega
    | some x => rw [(S.2.2.2.2.1 t x ht h e).1]; omega
  · rw [S.2.2.2.2.2.2 t ht (by omega)]; omega
theorem un_md (S : un_S ki r len cn cu cs) : ∀ d t, t + d ≤ 320 → len t ≤ len (t + d) := by
  intro d
  induction d with
  | zero => exact fun t _ => Nat.le_refl _
  | succ d ih =>
    intro t h
    exact Nat.le_trans (ih t (by omega)) (un_m1 S (t := t + d) (by omega)).1
theorem un_m (S : un_S ki r len cn cu cs) {t T : Nat} (h : t ≤ T) (hT : T ≤ 320) : len t ≤ len T := by
  have := un_md S (T - t) t (by omega)
  rwa [show t + (T - t) = T by omega] at this
theorem un_p (S : un_S ki r len cn cu cs) {t : Nat} (h : t ≤ 320) : 1 ≤ len t := by
  have := un_m S (Nat.zero_le t) h
  rw [S.1] at this
  exact this
theorem un_std (S : un_S ki r len cn cu cs) : ∀ d t, t + d ≤ 320 → len t ≤ t / 5 → len (t + d) = len t := by
  intro d
  induction d with
  | zero => exact fun t _ _ => rfl
  | succ d ih =>
    intro t h e
    have := ih t (by omega) e
    rw [← this]
    exact S.2.2.2.2.2.2 (t + d) (by omega) (by rw [this]; omega)
theorem un_st (S : un_S ki r len cn cu cs) {c : Nat} (hc : c ≤ 64) (h : len (5 * c) ≤ c) : len 320 = len (5 * c) := by
  have := un_std S (320 - 5 * c) (5 * c) (by omega) (by omega)
  rwa [show 5 * c + (320 - 5 * c) = 320 by omega] at this
/-- a copy is there before it is unfolded -/
theorem un_th (S : un_S ki r len cn cu cs) {c i : Nat} (hc : c < 64) (hi : i ≤ 5) (h : c < len 320) : c < len (5 * c + i) := by
  refine Nat.lt_of_lt_of_le ?_ (un_m S (show 5 * c ≤ 5 * c + i by omega) (by omega))
  apply Classical.byContradiction
  intro z
  have := un_st S (c := c) (by omega) (by omega)
  omega
theorem un_nt (S : un_S ki r len cn cu cs) {n : Nat} (hr : r < n) (hk : ∀ m i x, m < n → ki m i = some x → x < n) : ∀ t, t ≤ 320 → ∀ k, k < len t → cn k < n := by
  intro t
  induction t with
  | zero =>
    intro _ k hk
    rw [S.1] at hk
    rw [show k = 0 by omega, S.2.1]; exact hr
  | succ t ih =>
    intro ht k h
    by_cases q : k < len t
    · exact ih (by omega) k q
    · by_cases w : t / 5 < len t
      · cases e : ki (cn (t / 5)) (t % 5) with
        | none => rw [S.2.2.2.2.2.1 t (by omega) w e] at h; omega
        | some x =>
          have z := S.2.2.2.2.1 t x (by omega) w e
          rw [show k = len t by omega, z.2.1]
          exact hk _ _ _ (ih (by omega) _ w) e
      · rw [S.2.2.2.2.2.2 t (by omega) (by omega)] at h; omega
theorem un_src (S : un_S ki r len cn cu cs) : ∀ t, t ≤ 320 → ∀ k, 0 < k → k < len t → ∃ c i, c < 64 ∧ i < 5 ∧ c < len (5 * c + i) ∧ len (5 * c + i) = k ∧ ki (cn c) i = some (cn k) ∧ cu k = some c ∧ cs k = i := by
  intro t
  induction t with
  | zero =>
    intro _ k h0 hk
    rw [S.1] at hk; omega
  | succ t ih =>
    intro ht k h0 h
    by_cases q : k < len t
    · exact ih (by omega) k h0 q
    · by_cases w : t / 5 < len t
      · cases e : ki (cn (t / 5)) (t % 5) with
        | none => rw [S.2.2.2.2.2.1 t (by omega) w e] at h; omega
        | some x =>
          have z := S.2.2.2.2.1 t x (by omega) w e
          have ek : len t = k := by omega
          refine ⟨t / 5, t % 5, by omega, by omega, ?_⟩
          rw [show 5 * (t / 5) + t % 5 = t by omega]
          rw [ek] at z w ⊢
          exact ⟨w, rfl, by rw [z.2.1]; exact e, z.2.2.1, z.2.2.2⟩
      · rw [S.2.2.2.2.2.2 t (by omega) (by omega)] at h; omega
end
/-- the copy in slot s directly below copy c -/
def un_sb (ki : Nat → Nat → Option Nat) (len cn : Nat → Nat) (c s : Nat) : Option Nat := if ki (cn c) s = none then none else some (len (5 * c + s))
section
variable {ki : Nat → Nat → Option Nat} {r : Nat} {len cn : Nat → Nat} {cu : Nat → Option Nat} {cs : Nat → Nat}
theorem un_sbs {c s k : Nat} (h : un_sb ki len cn c s = some k) : ki (cn c) s ≠ none ∧ k = len (5 * c + s) := by
  unfold un_sb at h
  split at h
  · cases h
  · cases h; exact ⟨by assumption, rfl⟩
theorem un_sbn {c s : Nat} : un_sb ki len cn c s = none ↔ ki (cn c) s = none := by
  unfold un_sb
  split
  · exact ⟨fun _ => by assumption, fun _ => rfl⟩
  · exact ⟨fun z => (by cases z), fun z => absurd z (by assumption)⟩
/-- what is known of a sub copy -/
theorem un_sbk (S : un_S ki r len cn cu cs) (h64 : len 320 ≤ 64) {c s k : Nat} (hc : c < len 320) (hs : s < 5) (h : un_sb ki len cn c s = some k) : c < k ∧ k < len 320 ∧ ki (cn c) s = some (cn k) ∧ cu k = some c ∧ cs k = s := by
  obtain ⟨a, b⟩ := un_sbs h
  have t := un_th S (i := s) (by omega) (by omega) hc
  cases e : ki (cn c) s with
  | none => exact absurd e a
  | some x =>
    have z := un_s1 S (by omega) hs t e
    have m := un_m S (show 5 * c + s + 1 ≤ 320 by omega) (Nat.le_refl _)
    rw [b]
    exact ⟨t, by omega, by rw [z.2.1], z.2.2.1, z.2.2.2⟩
theorem un_sbi (S : un_S ki r len cn cu cs) {c s k : Nat} (hk : k < len 320) (h1 : cu k = some c) (h2 : cs k = s) : un_sb ki len cn c s = some k := by
  by_cases h0 : k = 0
  · rw [h0, S.2.2.1] at h1; cases h1
  · obtain ⟨c', i, a, b, d, e, f, g, j⟩ := un_src S 320 (Nat.le_refl _) k (by omega) hk
    rw [h1] at g
    cases g
    rw [← h2, j]
    unfold un_sb
    rw [if_neg (by rw [f]; intro z; cases z), e]
theorem un_cu (S : un_S ki r len cn cu cs) {k : Nat} (hk : k < len 320) : nu_lt (cu k) k := by
  intro c e
  by_cases h0 : k = 0
  · rw [h0, S.2.2.1] at e; cases e
  · obtain ⟨c', i, a, b, d, f, _, g, _⟩ := un_src S 320 (Nat.le_refl _) k (by omega) hk
    rw [g] at e; cases e; omega
theorem un_cs (S : un_S ki r len cn cu cs) {k : Nat} (hk : k < len 320) : cs k < 5 := by
  by_cases h0 : k = 0
  · rw [h0, S.2.2.2.1]; omega
  · obtain ⟨c', i, a, b, _, _, _, _, g⟩ := un_src S 320 (Nat.le_refl _) k (by omega) hk
    rw [g]; exact b
theorem un_eqS {ki' : Nat → Nat → Option Nat} (S : un_S ki r len cn cu cs) (h : ∀ c i, c < len 320 → i < 5 → ki' (cn c) i = ki (cn c) i) : un_S ki' r len cn cu cs := by
  refine ⟨S.1, S.2.1, S.2.2.1, S.2.2.2.1, fun t x ht w e => ?_, fun t ht w e => ?_, S.2.2.2.2.2.2⟩
  · have := un_m S (show t ≤ 320 by omega) (Nat.le_refl _)
    rw [h _ _ (by omega) (by omega)] at e
    exact S.2.2.2.2.1 t x ht w e
  · have := un_m S (show t ≤ 320 by omega) (Nat.le_refl _)
    rw [h _ _ (by omega) (by omega)] at e
    exact S.2.2.2.2.2.1 t ht w e
end
end
section
/-! unfolding: X -/
theorem un_k4 {kd : Nat → Nat} {cd : Nat → Nat → Option Nat} {pp : Nat → Int32} {par : Nat → Option Nat} {r m i : Nat} (h : i < 4) : un_ki kd cd pp par r m i = cd m i := if_pos h
theorem un_k5 {kd : Nat → Nat} {cd : Nat → Nat → Option Nat} {pp : Nat → Int32} {par : Nat → Option Nat} {r m : Nat} : un_ki kd cd pp par r m 4 = bd_i kd cd pp par r m := if_neg (by omega)
theorem un_klt {n : Nat} {kd : Nat → Nat} {cd : Nat → Nat → Option Nat} {pp : Nat → Int32} {par : Nat → Option Nat} (W : tm_WF n kd cd pp par) {r m i x : Nat} (h : m < n) (e : un_ki kd cd pp par r m i = some x) : x < n := by
  unfold un_ki at e
  split at e
  · have := (tm_c W h e).1; omega
  · exact bd_ilt W x e
section
variable {f_maxNodes f_maxWeight f_maxVisits f_nodeCount f_sealed f_verdictNow f_copyCount f_varCount : Int32} {f_atSet : Int64} {f_atNeg f_visitCount f_done f_stuck f_curNode f_curEnv f_resultValue f_valueCount f_envCount f_depth : Int32} {a_nKind a_nPart a_nParent a_cNode a_cUp a_cChild a_cInst a_cParam a_queue : Nat → Int32} {a_rel : Nat → Int64} {a_vKind a_vWord a_vEnv a_vField a_eName a_eValue a_eNext a_fNode a_fEnv a_fPart a_fValue : Nat → Int32} {n : Nat} {kd : Nat → Nat} {cd : Nat → Nat → Option Nat} {pp : Nat → Int32} {par : Nat → Option Nat} {r : Nat} {len cn : Nat → Nat} {cu : Nat → Option Nat} {cs : Nat → Nat} {mW : Nat} {post : Int32 → SX → Prop}
theorem xw_wg83 {J28 J53 : Int32 → Int32 → Int32 → (Nat → Int32) → (Nat → Int32) → (Nat → Int32) → (Nat → Int32) → (Nat → Int32) → (Nat → Int32) → (Nat → Int32) → (Nat → Int32) → (Nat → Int32) → (Nat → Int64) → (Nat → Int32) → (Nat → Int32) → (Nat → Int32) → (Nat → Int32) → (Nat → Int32) → (Nat → Int32) → (Nat → Int32) → (Nat → Int32) → (Nat → Int32) → (Nat → Int32) → (Nat → Int32) → Prop} (W : tm_WF n kd cd pp par) (A : tm_Ag n kd pp a_nKind a_nPart) (S : un_S (un_ki kd cd pp par r) r len cn cu cs) (hr : r < n) (hm : mW ≤ 64) {c i : Nat} (hc : c < 64) (hi : i < 5) (hl : c < len (5 * c + i)) (hw : un_w kd cn (len (5 * c + i)) ≤ mW) {q : Nat → Int32} (hq : ∀ k, k < len (5 * c + i) → q k = nI (cn k))
    (hJ : ∀ q', (∀ k, k < len (5 * c + i + 1) → q' k = nI (cn k)) → un_w kd cn (len (5 * c + i + 1)) ≤ mW → J53 (nI (len (5 * c + i + 1))) (nI (un_w kd cn (len (5 * c + i + 1)))) (nI (i + 1)) a_nKind a_nPart a_nParent a_cNode a_cUp a_cChild a_cInst a_cParam q' a_rel a_vKind a_vWord a_vEnv a_vField a_eName a_eValue a_eNext a_fNode a_fEnv a_fPart a_fValue)
    (hP : mW < un_w kd cn (len 320) → ∀ q', post (-1) (f_maxNodes, nI mW, f_maxVisits, f_nodeCount, f_sealed, f_verdictNow, f_copyCount, f_varCount, f_atSet, f_atNeg, f_visitCount, f_done, f_stuck, f_curNode, f_curEnv, f_resultValue, f_valueCount, f_envCount, f_depth, a_nKind, a_nPart, a_nParent, a_cNode, a_cUp, a_cChild, a_cInst, a_cParam, q', a_rel, a_vKind, a_vWord, a_vEnv, a_vField, a_eName, a_eValue, a_eNext, a_fNode, a_fEnv, a_fPart, a_fValue)) :
    wX_weigh_83 post J28 J53 (nI r) (nI (len (5 * c + i))) (nI (un_w kd cn (len (5 * c + i)))) (nI c) (nI (cn c)) (nI i) (nu_o (un_ki kd cd pp par r (cn c) i)) f_maxNodes (nI mW) f_maxVisits f_nodeCount f_sealed f_verdictNow f_copyCount f_varCount f_atSet f_atNeg f_visitCount f_done f_stuck f_curNode f_curEnv f_resultValue f_valueCount f_envCount f_depth a_nKind a_nPart a_nParent a_cNode a_cUp a_cChild a_cInst a_cParam q a_rel a_vKind a_vWord a_vEnv a_vField a_eName a_eValue a_eNext a_fNode a_fEnv a_fPart a_fValue := by
  have hn := tm_n W
  have hcn := un_nt S hr (fun m i x a b => un_klt W a b) (5 * c + i) (by omega) c hl
  cases e : un_ki kd cd pp par r (cn c) i with
  | none =>
    rw [un_s0 S hc hi hl e] at hJ
    exact br_t (by decide) (nm_r (nI_1 i) (hJ q hq hw))
  | some x =>
    have z := un_s1 S hc hi hl e
    have hx := un_klt W hcn e
    have hkx := tm_k W hx
    have hwl := un_wl kd cn (len (5 * c + i))
    rw [z.1] at hJ
    have T : ∀ w : Nat, w ≤ 2 → 1 ≤ w → un_w kd cn (len (5 * c + i) + 1) = un_w kd cn (len (5 * c + i)) + w → wX_weigh_107 post J28 J53 (nI r) (nI (len (5 * c + i))) (nI c) (nI (cn c)) (nI i) (nI x) (nI w) (nI (un_w kd cn (len (5 * c + i)))) f_maxNodes (nI mW) f_maxVisits f_nodeCount f_sealed f_verdictNow f_copyCount f_varCount f_atSet f_atNeg f_visitCount f_done f_stuck f_curNode f_curEnv f_resultValue f_valueCount f_envCount f_depth a_nKind a_nPart a_nParent a_cNode a_cUp a_cChild a_cInst a_cParam q a_rel a_vKind a_vWord a_vEnv a_vField a_eName a_eValue a_eNext a_fNode a_fEnv a_fPart a_fValue := fun w hw2 hw1 ew => by
      refine nm_r (nI_add _ _) ?_
      rw [nI_leI (by omega) (by omega)]
      refine br_c (fun y => ⟨vp_in_nI (by omega) (by omega), nm_r (e' := upd q (len (5 * c + i)) (nI x)) (by rw [nI_clamp (by omega)]) (nm_r (nI_1 _) (nm_r (nI_1 i) ?_))⟩) (fun y => hP ?_ q)
      · rw [← ew]
        refine hJ _ (fun k hk => ?_) (by omega)
        rcases Nat.lt_or_ge k (len (5 * c + i)) with a | a
        · rw [pk_un (by omega)]; exact hq k a
        · have : k = len (5 * c + i) := by omega
          rw [this, z.2.1]; exact pk_us
      · have m := un_m S (show 5 * c + i + 1 ≤ 320 by omega) (Nat.le_refl _)
        have m2 := un_wm kd cn (len 320 - len (5 * c + i + 1)) (len (5 * c + i + 1))
        rw [show len (5 * c + i + 1) + (len 320 - len (5 * c + i + 1)) = len 320 by omega, z.1, ew] at m2
        omega
    refine br_f (nI_pos (by omega)) ⟨vp_in_nI (by omega) (by omega), ?_⟩
    rw [show nu_o (some x) = nI x from rfl, nI_clamp (by omega), A.1 x hx, nu_e3 (by omega)]
    refine br_c (fun y => T 2 (by omega) (by omega) ?_) (fun y => T 1 (by omega) (by omega) ?_)
    · rw [un_w, z.2.1, if_pos y]
    · rw [un_w, z.2.1, if_neg y]
theorem xw_wg53 {J28 : Int32 → Int32 → Int32 → (Nat → Int32) → (Nat → Int32) → (Nat → Int32) → (Nat → Int32) → (Nat → Int32) → (Nat → Int32) → (Nat → Int32) → (Nat → Int32) → (Nat → Int32) → (Nat → Int64) → (Nat → Int32) → (Nat → Int32) → (Nat → Int32) → (Nat → Int32) → (Nat → Int32) → (Nat → Int32) → (Nat → Int32) → (Nat → Int32) → (Nat → Int32) → (Nat → Int32) → (Nat → Int32) → Prop} (W : tm_WF n kd cd pp par) (A : tm_Ag n kd pp a_nKind a_nPart) (hpar : ∀ c, c < n → a_nParent c = nu_o (par c)) (S : un_S (un_ki kd cd pp par r) r len cn cu cs) (hr : r < n) (hm : mW ≤ 64) {c : Nat} (hc : c < 64)
    (hJ : ∀ q', (∀ k, k < len (5 * c + 5) → q' k = nI (cn k)) → un_w kd cn (len (5 * c + 5)) ≤ mW → J28 (nI (len (5 * c + 5))) (nI (un_w kd cn (len (5 * c + 5)))) (nI (c + 1)) a_nKind a_nPart a_nParent a_cNode a_cUp a_cChild a_cInst a_cParam q' a_rel a_vKind a_vWord a_vEnv a_vField a_eName a_eValue a_eNext a_fNode a_fEnv a_fPart a_fValue)
    (hP : mW < un_w kd cn (len 320) → ∀ q', post (-1) (f_maxNodes, nI mW, f_maxVisits, f_nodeCount, f_sealed, f_verdictNow, f_copyCount, f_varCount, f_atSet, f_atNeg, f_visitCount, f_done, f_stuck, f_curNode, f_curEnv, f_resultValue, f_valueCount, f_envCount, f_depth, a_nKind, a_nPart, a_nParent, a_cNode, a_cUp, a_cChild, a_cInst, a_cParam, q', a_rel, a_vKind, a_vWord, a_vEnv, a_vField, a_eName, a_eValue, a_eNext, a_fNode, a_fEnv, a_fPart, a_fValue)) : ∀ d i, i + d = 5 → c < len (5 * c + i) → un_w kd cn (len (5 * c + i)) ≤ mW → ∀ q, (∀ k, k < len (5 * c + i) → q k = nI (cn k)) →
    wX_weigh_53 post J28 (nI r) (nI c) (nI (cn c)) f_maxNodes (nI mW) f_maxVisits f_nodeCount f_sealed f_verdictNow f_copyCount f_varCount f_atSet f_atNeg f_visitCount f_done f_stuck f_curNode f_curEnv f_resultValue f_valueCount f_envCount f_depth (d + 1) (nI (len (5 * c + i))) (nI (un_w kd cn (len (5 * c + i)))) (nI i) a_nKind a_nPart a_nParent a_cNode a_cUp a_cChild a_cInst a_cParam q a_rel a_vKind a_vWord a_vEnv a_vField a_eName a_eValue a_eNext a_fNode a_fEnv a_fPart a_fValue := by
  have hn := tm_n W
  intro d
  induction d with
  | zero =>
    intro i hi hl hw q hq
    have : i = 5 := by omega
    subst this
    exact br_t (by decide) (nm_r (nI_1 c) (hJ q hq hw))
  | succ d ih =>
    intro i hi hl hw q hq
    have hcn := un_nt S hr (fun m i x a b => un_klt W a b) (5 * c + i) (by omega) c hl
    have hm1 := un_m1 S (t := 5 * c + i) (by omega)
    have K := xw_wg83 (post := post) (J28 := J28) (J53 := wX_weigh_53 post J28 (nI r) (nI c) (nI (cn c)) f_maxNodes (nI mW) f_maxVisits f_nodeCount f_sealed f_verdictNow f_copyCount f_varCount f_atSet f_atNeg f_visitCount f_done f_stuck f_curNode f_curEnv f_resultValue f_valueCount f_envCount f_depth (d + 1)) W A S hr hm hc (by omega) hl hw hq (fun q' hq' hw' => ih (i + 1) (by omega) (Nat.lt_of_lt_of_le hl hm1.1) hw' q' hq') hP
    refine br_f ?_ ?_
    · show ¬ (5 : Int32) ≤ nI i
      rw [nu_g5 (by omega)]; omega
    rw [nu_g4 (by omega)]
    refine br_c (fun y => xw_inst W A hpar hr hcn ?_) (fun y => xw_childAt W A hcn (by omega) ?_)
    · have : i = 4 := by omega
      subst this
      rw [un_k5] at K
      exact K
    · rw [un_k4 (by omega)] at K
      exact K
theorem xw_wg28 (W : tm_WF n kd cd pp par) (A : tm_Ag n kd pp a_nKind a_nPart) (hpar : ∀ c, c < n → a_nParent c = nu_o (par c)) (S : un_S (un_ki kd cd pp par r) r len cn cu cs) (hr : r < n) (hm : mW ≤ 64)
    (hY : un_w kd cn (len 320) ≤ mW → ∀ q', post (nI (un_w kd cn (len 320))) (f_maxNodes, nI mW, f_maxVisits, f_nodeCount, f_sealed, f_verdictNow, f_copyCount, f_varCount, f_atSet, f_atNeg, f_visitCount, f_done, f_stuck, f_curNode, f_curEnv, f_resultValue, f_valueCount, f_envCount, f_depth, a_nKind, a_nPart, a_nParent, a_cNode, a_cUp, a_cChild, a_cInst, a_cParam, q', a_rel, a_vKind, a_vWord, a_vEnv, a_vField, a_eName, a_eValue, a_eNext, a_fNode, a_fEnv, a_fPart, a_fValue))
    (hP : mW < un_w kd cn (len 320) → ∀ q', post (-1) (f_maxNodes, nI mW, f_maxVisits, f_nodeCount, f_sealed, f_verdictNow, f_copyCount, f_varCount, f_atSet, f_atNeg, f_visitCount, f_done, f_stuck, f_curNode, f_curEnv, f_resultValue, f_valueCount, f_envCount, f_depth, a_nKind, a_nPart, a_nParent, a_cNode, a_cUp, a_cChild, a_cInst, a_cParam, q', a_rel, a_vKind, a_vWord, a_vEnv, a_vField, a_eName, a_eValue, a_eNext, a_fNode, a_fEnv, a_fPart, a_fValue)) : ∀ d c, c + d = 64 → un_w kd cn (len (5 * c)) ≤ mW → ∀ q, (∀ k, k < len (5 * c) → q k = nI (cn k)) →
    wX_weigh_28 post (nI r) f_maxNodes (nI mW) f_maxVisits f_nodeCount f_sealed f_verdictNow f_copyCount f_varCount f_atSet f_atNeg f_visitCount f_done f_stuck f_curNode f_curEnv f_resultValue f_valueCount f_envCount f_depth (d + 1) (nI (len (5 * c))) (nI (un_w kd cn (len (5 * c)))) (nI c) a_nKind a_nPart a_nParent a_cNode a_cUp a_cChild a_cInst a_cParam q a_rel a_vKind a_vWord a_vEnv a_vField a_eName a_eValue a_eNext a_fNode a_fEnv a_fPart a_fValue := by
  intro d
  induction d with
  | zero =>
    intro c hc hw q hq
    have hwl := un_wl kd cn (len (5 * c))
    have e := un_st S (c := c) (by omega) (by omega)
    rw [← e] at hw hwl ⊢
    refine br_t ?_ (hY hw q)
    rw [nI_leI (by omega) (by omega)]; omega
  | succ d ih =>
    intro c hc hw q hq
    have hwl := un_wl kd cn (len (5 * c))
    by_cases hl : len (5 * c) ≤ c
    · have e := un_st S (c := c) (by omega) (by omega)
      rw [← e] at hw hwl ⊢
      refine br_t ?_ (hY hw q)
      rw [nI_leI (by omega) (by omega)]; omega
    · refine br_f ?_ (br_f ?_ ⟨vp_in_nI (by omega) (by omega), nm_r (e' := nI (cn c)) (by rw [nI_clamp (by omega), hq c (by omega)]) ⟨6, ?_⟩⟩)
      · show ¬ nI (len (5 * c)) ≤ nI c
        rw [nI_leI (by omega) (by omega)]; omega
      · show ¬ (64 : Int32) ≤ nI c
        rw [nu_g64 (by omega)]; omega
      · exact xw_wg53 W A hpar S hr hm (by omega) (fun q' hq' hw' => ih (c + 1) (by omega) hw' q' hq') hP 5 0 rfl (by show c < len (5 * c); omega) hw q hq
theorem xw_weigh (W : tm_WF n kd cd pp par) (A : tm_Ag n kd pp a_nKind a_nPart) (hpar : ∀ c, c < n → a_nParent c = nu_o (par c)) (S : un_S (un_ki kd cd pp par r) r len cn cu cs) (hr : r < n) (hm : mW ≤ 64) (hm2 : 16 ≤ mW)
    (hY : un_w kd cn (len 320) ≤ mW → ∀ q', post (nI (un_w kd cn (len 320))) (f_maxNodes, nI mW, f_maxVisits, f_nodeCount, f_sealed, f_verdictNow, f_copyCount, f_varCount, f_atSet, f_atNeg, f_visitCount, f_done, f_stuck, f_curNode, f_curEnv, f_resultValue, f_valueCount, f_envCount, f_depth, a_nKind, a_nPart, a_nParent, a_cNode, a_cUp, a_cChild, a_cInst, a_cParam, q', a_rel, a_vKind, a_vWord, a_vEnv, a_vField, a_eName, a_eValue, a_eNext, a_fNode, a_fEnv, a_fPart, a_fValue))
    (hP : mW < un_w kd cn (len 320) → ∀ q', post (-1) (f_maxNodes, nI mW, f_maxVisits, f_nodeCount, f_sealed, f_verdictNow, f_copyCount, f_varCount, f_atSet, f_atNeg, f_visitCount, f_done, f_stuck, f_curNode, f_curEnv, f_resultValue, f_valueCount, f_envCount, f_depth, a_nKind, a_nPart, a_nParent, a_cNode, a_cUp, a_cChild, a_cInst, a_cParam, q', a_rel, a_vKind, a_vWord, a_vEnv, a_vField, a_eName, a_eValue, a_eNext, a_fNode, a_fEnv, a_fPart, a_fValue)) : wpX_weigh post (f_maxNodes, nI mW, f_maxVisits, f_nodeCount, f_sealed, f_verdictNow, f_copyCount, f_varCount, f_atSet, f_atNeg, f_visitCount, f_done, f_stuck, f_curNode, f_curEnv, f_resultValue, f_valueCount, f_envCount, f_depth, a_nKind, a_nPart, a_nParent, a_cNode, a_cUp, a_cChild, a_cInst, a_cParam, a_queue, a_rel, a_vKind, a_vWord, a_vEnv, a_vField, a_eName, a_eValue, a_eNext, a_fNode, a_fEnv, a_fPart, a_fValue) (nI r) := by
  have hn := tm_n W
  have hk := tm_k W hr
  have H := xw_wg28 (post := post) W A hpar S hr hm hY hP 64 0 rfl
  have e0 : len (5 * 0) = 1 := S.1
  rw [e0] at H
  have ew : un_w kd cn 1 = if kd r = 3 then 2 else 1 := by
    show 0 + (if kd (cn 0) = 3 then 2 else 1) = _
    rw [S.2.1, Nat.zero_add]
  have hq : ∀ k, k < 1 → upd a_queue 0 (nI r) k = nI (cn k) := fun k hk => by
    rw [show k = 0 by omega, S.2.1]; exact pk_us
  refine nm_e ⟨vp_in_nI (by omega) (by omega), ?_⟩
  rw [nI_clamp (by omega), A.1 r hr, nu_e3 (by omega)]
  refine br_c (fun y => ⟨65, ?_⟩) (fun y => ⟨65, ?_⟩)
  · rw [ew, if_pos y] at H
    exact H (by omega) _ hq
  · rw [ew, if_neg y] at H
    exact H (by omega) _ hq
end
end
section
/-! unfolding: X, the copies -/
def un_XI (ki : Nat → Nat → Option Nat) (len cn : Nat → Nat) (cu : Nat → Option Nat) (L c i : Nat) (aN aU aC aI : Nat → Int32) : Prop :=
  (∀ k, k < L → aN k = nI (cn k) ∧ aU k = nu_o (cu k)) ∧ (∀ c' s, c' < c → s < 4 → aC (4 * c' + s) = nu_o (un_sb ki len cn c' s)) ∧ (∀ s, s < i → s < 4 → aC (4 * c + s) = nu_o (un_sb ki len cn c s)) ∧ (∀ c', c' < c → aI c' = nu_o (un_sb ki len cn c' 4))
section
variable {f_maxNodes f_maxWeight f_maxVisits f_nodeCount f_sealed f_verdictNow f_copyCount f_varCount : Int32} {f_atSet : Int64} {f_atNeg f_visitCount f_done f_stuck f_curNode f_curEnv f_resultValue f_valueCount f_envCount f_depth : Int32} {a_nKind a_nPart a_nParent a_cNode a_cUp a_cChild a_cInst a_cParam a_queue : Nat → Int32} {a_rel : Nat → Int64} {a_vKind a_vWord a_vEnv a_vField a_eName a_eValue a_eNext a_fNode a_fEnv a_fPart a_fValue : Nat → Int32} {n : Nat} {kd : Nat → Nat} {cd : Nat → Nat → Option Nat} {pp : Nat → Int32} {par : Nat → Option Nat} {r : Nat} {len cn : Nat → Nat} {cu : Nat → Option Nat} {cs : Nat → Nat}
/-- addCopy at copy c, slot i: the next entry of the list, or nothing -/
theorem xw_addc {post : Int32 → SX → Prop} (W : tm_WF n kd cd pp par) (S : un_S (un_ki kd cd pp par r) r len cn cu cs) (hr : r < n) {c i : Nat} (h64 : len 320 ≤ 64) (hc : c < len 320) (hi : i < 5) {aN aU : Nat → Int32} (hq : ∀ k, k < len (5 * c + i) → aN k = nI (cn k) ∧ aU k = nu_o (cu k))
    (h : ∀ aN' aU', (∀ k, k < len (5 * c + i + 1) → aN' k = nI (cn k) ∧ aU' k = nu_o (cu k)) → post (nu_o (un_sb (un_ki kd cd pp par r) len cn c i)) (f_maxNodes, f_maxWeight, f_maxVisits, f_nodeCount, f_sealed, f_verdictNow, nI (len (5 * c + i + 1)), f_varCount, f_atSet, f_atNeg, f_visitCount, f_done, f_stuck, f_curNode, f_curEnv, f_resultValue, f_valueCount, f_envCount, f_depth, a_nKind, a_nPart, a_nParent, aN', aU', a_cChild, a_cInst, a_cParam, a_queue, a_rel, a_vKind, a_vWord, a_vEnv, a_vField, a_eName, a_eValue, a_eNext, a_fNode, a_fEnv, a_fPart, a_fValue)) :
    wpX_addCopy post (f_maxNodes, f_maxWeight, f_maxVisits, f_nodeCount, f_sealed, f_verdictNow, nI (len (5 * c + i)), f_varCount, f_atSet, f_atNeg, f_visitCount, f_done, f_stuck, f_curNode, f_curEnv, f_resultValue, f_valueCount, f_envCount, f_depth, a_nKind, a_nPart, a_nParent, aN, aU, a_cChild, a_cInst, a_cParam, a_queue, a_rel, a_vKind, a_vWord, a_vEnv, a_vField, a_eName, a_eValue, a_eNext, a_fNode, a_fEnv, a_fPart, a_fValue) (nu_o (un_ki kd cd pp par r (cn c) i)) (nI c) := by
  have hn := tm_n W
  have hl := un_th S (i := i) (by omega) (by omega) hc
  have hcn := un_nt S hr (fun m i x a b => un_klt W a b) 320 (by omega) c hc
  have hm := un_m S (show 5 * c + i + 1 ≤ 320 by omega) (Nat.le_refl _)
  unfold wpX_addCopy
  dsimp only
  cases e : un_ki kd cd pp par r (cn c) i with
  | none =>
    rw [un_s0 S (by omega) hi hl e, un_sbn.mpr e] at h
    exact br_t (by decide) (h aN aU hq)
  | some x =>
    have hx := un_klt W hcn e
    have z := un_s1 S (by omega) hi hl e
    have es : un_sb (un_ki kd cd pp par r) len cn c i = some (len (5 * c + i)) := by
      unfold un_sb
      rw [if_neg (by rw [e]; intro y; cases y)]
    rw [z.1, es] at h
    rw [z.1] at hm
    refine br_f (nI_pos (by omega)) (br_t ?_ ⟨vp_in_nI (by omega) (by omega), nm_r (e' := upd aN (len (5 * c + i)) (nI x)) (by rw [nI_clamp (by omega)]; rfl) ⟨vp_in_nI (by omega) (by omega), nm_r (e' := upd aU (len (5 * c + i)) (nI c)) (by rw [nI_clamp (by omega)]) (nm_r (nI_1 _) (h _ _ fun k hk => ?_))⟩⟩)
    · show nI (len (5 * c + i)) < 64
      rw [nu_p64 (by omega)]; omega
    · rcases Nat.lt_or_ge k (len (5 * c + i)) with a | a
      · rw [pk_un (by omega), pk_un (by omega)]; exact hq k a
      · have : k = len (5 * c + i) := by omega
        rw [this, z.2.1, z.2.2.1]; exact ⟨pk_us, pk_us⟩
variable {post : SX → Prop}
theorem xw_uf38 {J14 : Int32 → Int32 → Int32 → Int32 → Int32 → Int32 → Int32 → Int32 → Int32 → Int64 → Int32 → Int32 → Int32 → Int32 → Int32 → Int32 → Int32 → Int32 → Int32 → Int32 → (Nat → Int32) → (Nat → Int32) → (Nat → Int32) → (Nat → Int32) → (Nat → Int32) → (Nat → Int32) → (Nat → Int32) → (Nat → Int32) → (Nat → Int32) → (Nat → Int64) → (Nat → Int32) → (Nat → Int32) → (Nat → Int32) → (Nat → Int32) → (Nat → Int32) → (Nat → Int32) → (Nat → Int32) → (Nat → Int32) → (Nat → Int32) → (Nat → Int32) → (Nat → Int32) → Prop} (W : tm_WF n kd cd pp par) (A : tm_Ag n kd pp a_nKind a_nPart) (hpar : ∀ c, c < n → a_nParent c = nu_o (par c)) (S : un_S (un_ki kd cd pp par r) r len cn cu cs) (hr : r < n) (h64 : len 320 ≤ 64) {c : Nat} (hc : c < len 320)
    (hJ : ∀ aN aU aC aI, un_XI (un_ki kd cd pp par r) len cn cu (len (5 * c + 5)) (c + 1) 0 aN aU aC aI → J14 (nI (c + 1)) f_maxNodes f_maxWeight f_maxVisits f_nodeCount f_sealed f_verdictNow (nI (len (5 * c + 5))) f_varCount f_atSet f_atNeg f_visitCount f_done f_stuck f_curNode f_curEnv f_resultValue f_valueCount f_envCount f_depth a_nKind a_nPart a_nParent aN aU aC aI a_cParam a_queue a_rel a_vKind a_vWord a_vEnv a_vField a_eName a_eValue a_eNext a_fNode a_fEnv a_fPart a_fValue) : ∀ d i, i + d = 4 → ∀ aN aU aC aI, un_XI (un_ki kd cd pp par r) len cn cu (len (5 * c + i)) c i aN aU aC aI →
    wX_unfold_38 post J14 (nI r) (nI c) (nI (cn c)) (d + 1) (nI i) f_maxNodes f_maxWeight f_maxVisits f_nodeCount f_sealed f_verdictNow (nI (len (5 * c + i))) f_varCount f_atSet f_atNeg f_visitCount f_done f_stuck f_curNode f_curEnv f_resultValue f_valueCount f_envCount f_depth a_nKind a_nPart a_nParent aN aU aC aI a_cParam a_queue a_rel a_vKind a_vWord a_vEnv a_vField a_eName a_eValue a_eNext a_fNode a_fEnv a_fPart a_fValue := by
  have hn := tm_n W
  have hcn := un_nt S hr (fun m i x a b => un_klt W a b) 320 (by omega) c hc
  intro d
  induction d with
  | zero =>
    intro i hi aN aU aC aI I
    have : i = 4 := by omega
    subst this
    refine br_t (by decide) (xw_inst W A hpar hr hcn ?_)
    rw [← un_k5]
    refine xw_addc W S hr h64 hc (by omega) I.1 fun aN' aU' hq => ⟨vp_in_nI (by omega) (by omega), nm_r (e' := upd aI c (nu_o (un_sb (un_ki kd cd pp par r) len cn c 4))) (by rw [nI_clamp (by omega)]) (nm_r (nI_1 c) (hJ _ _ _ _ ⟨hq, fun c' s a b => ?_, fun s a => by omega, fun c' a => ?_⟩))⟩
    · rcases Nat.lt_or_ge c' c with q | q
      · exact I.2.1 c' s q b
      · have : c' = c := by omega
        subst this
        exact I.2.2.1 s b b
    · rcases Nat.lt_or_ge c' c with q | q
      · rw [pk_un (by omega)]; exact I.2.2.2 c' q
      · have : c' = c := by omega
        subst this
        exact pk_us
  | succ d ih =>
    intro i hi aN aU aC aI I
    refine br_f ?_ (xw_childAt W A hcn (by omega) ?_)
    · show ¬ (4 : Int32) ≤ nI i
      rw [nu_g4 (by omega)]; omega
    rw [← un_k4 (kd := kd) (cd := cd) (pp := pp) (par := par) (r := r) (m := cn c) (show i < 4 by omega)]
    refine xw_addc W S hr h64 hc (by omega) I.1 fun aN' aU' hq => ⟨nu_i4 (by omega) (by omega), nm_r (e' := upd aC (4 * c + i) (nu_o (un_sb (un_ki kd cd pp par r) len cn c i))) (by rw [nu_c4 (by omega)]) (nm_r (nI_1 i) (ih (i + 1) (by omega) _ _ _ _ ⟨hq, fun c' s a b => ?_, fun s a b => ?_, I.2.2.2⟩))⟩
    · rw [pk_un (by omega)]; exact I.2.1 c' s a b
    · rcases Nat.lt_or_ge s i with q | q
      · rw [pk_un (by omega)]; exact I.2.2.1 s q b
      · have : s = i := by omega
        subst this
        exact pk_us
/-- the parameters' variables -/
def un_P (kd cn : Nat → Nat) (nc c : Nat) (aP : Nat → Int32) : Prop := ∀ c', c' < c → aP c' = nu_o (if kd (cn c') = 3 then some (nc + un_l kd cn c') else none)
theorem xw_uf114 (W : tm_WF n kd cd pp par) (A : tm_Ag n kd pp a_nKind a_nPart) {nc : Nat} (h64 : nc ≤ 64) (hcn : ∀ k, k < nc → a_cNode k = nI (cn k) ∧ cn k < n)
    (h : ∀ aP, un_P kd cn nc nc aP → post (f_maxNodes, f_maxWeight, f_maxVisits, f_nodeCount, f_sealed, f_verdictNow, nI nc, nI (un_w kd cn nc), f_atSet, f_atNeg, f_visitCount, f_done, f_stuck, f_curNode, f_curEnv, f_resultValue, f_valueCount, f_envCount, f_depth, a_nKind, a_nPart, a_nParent, a_cNode, a_cUp, a_cChild, a_cInst, aP, a_queue, a_rel, a_vKind, a_vWord, a_vEnv, a_vField, a_eName, a_eValue, a_eNext, a_fNode, a_fEnv, a_fPart, a_fValue)) : ∀ d c, c + d = nc → ∀ aP, un_P kd cn nc c aP →
    wX_unfold_114 post f_maxNodes f_maxWeight f_maxVisits f_nodeCount f_sealed f_verdictNow (nI nc) f_atSet f_atNeg f_visitCount f_done f_stuck f_curNode f_curEnv f_resultValue f_valueCount f_envCount f_depth (d + 1) (nI c) (nI (nc + un_l kd cn c)) a_nKind a_nPart a_nParent a_cNode a_cUp a_cChild a_cInst aP a_queue a_rel a_vKind a_vWord a_vEnv a_vField a_eName a_eValue a_eNext a_fNode a_fEnv a_fPart a_fValue := by
  have hn := tm_n W
  intro d
  induction d with
  | zero =>
    intro c hc aP I
    have : c = nc := by omega
    subst this
    refine br_t ?_ ?_
    · rw [nI_leI (by omega) (by omega)]; omega
    · rw [← un_wl]; exact h aP I
  | succ d ih =>
    intro c hc aP I
    have hl := un_wl kd cn c
    have hll : un_l kd cn c ≤ c := by
      have : ∀ k, un_l kd cn k ≤ k := fun k => by
        induction k with
        | zero => exact Nat.le_refl _
        | succ k ih => rw [un_l]; split <;> omega
      exact this c
    have hc1 := hcn c (by omega)
    have hkc := tm_k W hc1.2
    refine br_f ?_ ⟨vp_in_nI (by omega) (by omega), nm_r (e' := upd aP c (-1)) (by rw [nI_clamp (by omega)]) ⟨vp_in_nI (by omega) (by omega), ?_⟩⟩
    · show ¬ nI nc ≤ nI c
      rw [nI_leI (by omega) (by omega)]; omega
    rw [nI_clamp (by omega), hc1.1, nI_clamp (by omega), A.1 _ hc1.2, nu_e3 (by omega)]
    refine ⟨vp_in_nI (by omega) (by omega), br_c (fun y => ⟨vp_in_nI (by omega) (by omega), nm_r (e' := upd (upd aP c (-1)) c (nI (nc + un_l kd cn c))) rfl (nm_r (nI_1 _) (nm_r (nI_1 c) ?_))⟩) (fun y => nm_r (nI_1 c) ?_)⟩
    · have H := ih (c + 1) (by omega) (upd (upd aP c (-1)) c (nI (nc + un_l kd cn c))) (fun c' a => ?_)
      · rw [un_l, if_pos y] at H
        exact H
      · rcases Nat.lt_or_ge c' c with q | q
        · rw [pk_un (by omega), pk_un (by omega)]; exact I c' q
        · have : c' = c := by omega
          subst this
          rw [if_pos y]
          exact pk_us
    · have H := ih (c + 1) (by omega) (upd aP c (-1)) (fun c' a => ?_)
      · rw [un_l, if_neg y] at H
        exact H
      · rcases Nat.lt_or_ge c' c with q | q
        · rw [pk_un (by omega)]; exact I c' q
        · have : c' = c := by omega
          subst this
          rw [if_neg y]
          exact pk_us
theorem xw_uf14 (W : tm_WF n kd cd pp par) (A : tm_Ag n kd pp a_nKind a_nPart) (hpar : ∀ c, c < n → a_nParent c = nu_o (par c)) (S : un_S (un_ki kd cd pp par r) r len cn cu cs) (hr : r < n) (h64 : len 320 ≤ 64)
    (h : ∀ aN aU aC aI aP, un_XI (un_ki kd cd pp par r) len cn cu (len 320) (len 320) 0 aN aU aC aI → un_P kd cn (len 320) (len 320) aP → post (f_maxNodes, f_maxWeight, f_maxVisits, f_nodeCount, f_sealed, f_verdictNow, nI (len 320), nI (un_w kd cn (len 320)), f_atSet, f_atNeg, f_visitCount, f_done, f_stuck, f_curNode, f_curEnv, f_resultValue, f_valueCount, f_envCount, f_depth, a_nKind, a_nPart, a_nParent, aN, aU, aC, aI, aP, a_queue, a_rel, a_vKind, a_vWord, a_vEnv, a_vField, a_eName, a_eValue, a_eNext, a_fNode, a_fEnv, a_fPart, a_fValue)) : ∀ d c, c + d = len 320 → ∀ aN aU aC aI, un_XI (un_ki kd cd pp par r) len cn cu (len (5 * c)) c 0 aN aU aC aI →
    wX_unfold_14 post (nI r) (d + 1) (nI c) f_maxNodes f_maxWeight f_maxVisits f_nodeCount f_sealed f_verdictNow (nI (len (5 * c))) f_varCount f_atSet f_atNeg f_visitCount f_done f_stuck f_curNode f_curEnv f_resultValue f_valueCount f_envCount f_depth a_nKind a_nPart a_nParent aN aU aC aI a_cParam a_queue a_rel a_vKind a_vWord a_vEnv a_vField a_eName a_eValue a_eNext a_fNode a_fEnv a_fPart a_fValue := by
  have hn := tm_n W
  have hcn := un_nt S hr (fun m i x a b => un_klt W a b) 320 (by omega)
  intro d
  induction d with
  | zero =>
    intro c hc aN aU aC aI I
    have hm := un_m S (show 5 * c ≤ 320 by omega) (Nat.le_refl _)
    have e := un_st S (c := c) (by omega) (by omega)
    rw [← e] at I ⊢
    refine br_t ?_ ⟨len 320 + 1, ?_⟩
    · rw [nI_leI (by omega) (by omega)]; omega
    · have : c = len 320 := by omega
      rw [this] at I
      exact xw_uf114 W A h64 (fun k hk => ⟨(I.1 k hk).1, hcn k hk⟩) (fun aP hP => h _ _ _ _ _ I hP) (len 320) 0 (by omega) a_cParam (fun c' a => by omega)
  | succ d ih =>
    intro c hc aN aU aC aI I
    have hl := un_th S (c := c) (i := 0) (by omega) (by omega) (by omega)
    have hm := un_m S (show 5 * c ≤ 320 by omega) (Nat.le_refl _)
    have hl' : c < len (5 * c) := hl
    refine br_f ?_ (br_f ?_ ⟨vp_in_nI (by omega) (by omega), nm_r (e' := nI (cn c)) (by rw [nI_clamp (by omega), (I.1 c hl).1]) ⟨5, ?_⟩⟩)
    · show ¬ nI (len (5 * c)) ≤ nI c
      rw [nI_leI (by omega) (by omega)]; omega
    · show ¬ (64 : Int32) ≤ nI c
      rw [nu_g64 (by omega)]; omega
    · exact xw_uf38 W A hpar S hr h64 (by omega) (fun aN aU aC aI I' => ih (c + 1) (by omega) aN aU aC aI I') 4 0 rfl aN aU aC aI I
theorem xw_unfold (W : tm_WF n kd cd pp par) (A : tm_Ag n kd pp a_nKind a_nPart) (hpar : ∀ c, c < n → a_nParent c = nu_o (par c)) (S : un_S (un_ki kd cd pp par r) r len cn cu cs) (hr : r < n) (h64 : len 320 ≤ 64)
    (h : ∀ aN aU aC aI aP, un_XI (un_ki kd cd pp par r) len cn cu (len 320) (len 320) 0 aN aU aC aI → un_P kd cn (len 320) (len 320) aP → post (f_maxNodes, f_maxWeight, f_maxVisits, f_nodeCount, f_sealed, f_verdictNow, nI (len 320), nI (un_w kd cn (len 320)), f_atSet, f_atNeg, f_visitCount, f_done, f_stuck, f_curNode, f_curEnv, f_resultValue, f_valueCount, f_envCount, f_depth, a_nKind, a_nPart, a_nParent, aN, aU, aC, aI, aP, a_queue, a_rel, a_vKind, a_vWord, a_vEnv, a_vField, a_eName, a_eValue, a_eNext, a_fNode, a_fEnv, a_fPart, a_fValue)) : wpX_unfold post (f_maxNodes, f_maxWeight, f_maxVisits, f_nodeCount, f_sealed, f_verdictNow, f_copyCount, f_varCount, f_atSet, f_atNeg, f_visitCount, f_done, f_stuck, f_curNode, f_curEnv, f_resultValue, f_valueCount, f_envCount, f_depth, a_nKind, a_nPart, a_nParent, a_cNode, a_cUp, a_cChild, a_cInst, a_cParam, a_queue, a_rel, a_vKind, a_vWord, a_vEnv, a_vField, a_eName, a_eValue, a_eNext, a_fNode, a_fEnv, a_fPart, a_fValue) (nI r) := by
  have hn := tm_n W
  have e0 : len (5 * 0) = 1 := S.1
  unfold wpX_unfold wpX_addCopy
  dsimp only
  refine br_f (nI_pos (by omega)) (br_t (by decide) ⟨vp_in_iff.mpr (by decide), nm_r (e' := upd a_cNode 0 (nI r)) (by rw [nu_c0]) ⟨vp_in_iff.mpr (by decide), nm_r (e' := upd a_cUp 0 (-1)) (by rw [nu_c0]) (nm_r (e' := nI 1) (by decide) ⟨len 320 + 1, ?_⟩)⟩⟩)
  have H := xw_uf14 (f_varCount := f_varCount) (a_cParam := a_cParam) W A hpar S hr h64 h (len 320) 0 (by omega) (upd a_cNode 0 (nI r)) (upd a_cUp 0 (-1)) a_cChild a_cInst ⟨fun k hk => ?_, fun c' s a => by omega, fun s a => by omega, fun c' a => by omega⟩
  · rw [e0] at H
    exact H
  · rw [e0] at hk
    rw [show k = 0 by omega, S.2.1, S.2.2.1]
    exact ⟨pk_us, pk_us⟩
end
end
section
/-! unfolding: Y -/
def un_YI (cn : Nat → Nat) (cu : Nat → Option Nat) (cs : Nat → Nat) (L : Nat) (bN bP bS : Nat → Int32) : Prop := ∀ k, k < L → bN k = nI (cn k) ∧ bP k = nu_o (cu k) ∧ bS k = nI (cs k)
section
variable {g_maxNodes g_maxWeight g_maxVisits g_count g_root g_nc g_weight g_grown g_neg g_made g_next g_nextPar g_nextSlot g_nextLex g_stuck : Int32} {b_kinds b_parts b_cNode b_cPar b_cSlot b_le b_saved b_cur b_nxt b_first b_vNode b_vPar b_vSlot b_vLex b_val b_num : Nat → Int32} {n : Nat} {kd : Nat → Nat} {cd : Nat → Nat → Option Nat} {pp : Nat → Int32} {par : Nat → Option Nat} {r : Nat} {len cn : Nat → Nat} {cu : Nat → Option Nat} {cs : Nat → Nat} {mW : Nat} {post : SY → Prop}
theorem yw_addb (W : tm_WF n kd cd pp par) (A : tm_Ag n kd pp b_kinds b_parts) {x w : Nat} {p1 p2 : Int32} (hx : x < n) (hm : mW ≤ 64) (hw : mW < w) (hw2 : w < 10000) (h : ∀ w', w < w' → w' ≤ w + 2 → post (g_maxNodes, nI mW, g_maxVisits, g_count, g_root, g_nc, nI w', g_grown, g_neg, g_made, g_next, g_nextPar, g_nextSlot, g_nextLex, g_stuck, b_kinds, b_parts, b_cNode, b_cPar, b_cSlot, b_le, b_saved, b_cur, b_nxt, b_first, b_vNode, b_vPar, b_vSlot, b_vLex, b_val, b_num)) : wpY_add post (g_maxNodes, nI mW, g_maxVisits, g_count, g_root, g_nc, nI w, g_grown, g_neg, g_made, g_next, g_nextPar, g_nextSlot, g_nextLex, g_stuck, b_kinds, b_parts, b_cNode, b_cPar, b_cSlot, b_le, b_saved, b_cur, b_nxt, b_first, b_vNode, b_vPar, b_vSlot, b_vLex, b_val, b_num) (nI x) p1 p2 := by
  have hn := tm_n W
  have hk := tm_k W hx
  unfold wpY_add
  dsimp only
  refine ⟨vp_in_nI (by omega) (by omega), br_c (fun _ => nm_r (nI_add w 2) (br_t ?_ (h _ (by omega) (by omega)))) (fun _ => nm_r (nI_add w 1) (br_t ?_ (h _ (by omega) (by omega))))⟩
  · rw [nI_ltI (by omega) (by omega)]; omega
  · rw [nI_ltI (by omega) (by omega)]; omega
/-- from a node with slots: what is asked at slot i -/
theorem yw_u43b {J : Int32 → Int32 → Int32 → Int32 → Int32 → Int32 → Int32 → Int32 → Int32 → Int32 → Int32 → Int32 → Int32 → Int32 → Int32 → Int32 → (Nat → Int32) → (Nat → Int32) → (Nat → Int32) → (Nat → Int32) → (Nat → Int32) → (Nat → Int32) → (Nat → Int32) → (Nat → Int32) → (Nat → Int32) → (Nat → Int32) → (Nat → Int32) → (Nat → Int32) → (Nat → Int32) → (Nat → Int32) → (Nat → Int32) → (Nat → Int32) → Prop} (W : tm_WF n kd cd pp par) (A : tm_Ag n kd pp b_kinds b_parts) (hr : r < n) (hm : mW ≤ 64) {c m M : Nat} (hmn : m < n) (hM : M ≤ 9000)
    (hJ : ∀ w, mW < w → w ≤ M → J (nI (c + 1)) g_maxNodes (nI mW) g_maxVisits (nI n) g_root g_nc (nI w) g_grown g_neg g_made g_next g_nextPar g_nextSlot g_nextLex g_stuck b_kinds b_parts b_cNode b_cPar b_cSlot b_le b_saved b_cur b_nxt b_first b_vNode b_vPar b_vSlot b_vLex b_val b_num) : ∀ d i w, i + d = 4 → mW < w → w + 2 * (d + 1) ≤ M →
    wY_unfold_43 post J (nI r) (nI c) (nI m) (d + 1) (nI i) g_maxNodes (nI mW) g_maxVisits (nI n) g_root g_nc (nI w) g_grown g_neg g_made g_next g_nextPar g_nextSlot g_nextLex g_stuck b_kinds b_parts b_cNode b_cPar b_cSlot b_le b_saved b_cur b_nxt b_first b_vNode b_vPar b_vSlot b_vLex b_val b_num := by
  have hn := tm_n W
  have hk := tm_k W hmn
  intro d
  induction d with
  | zero =>
    intro i w hi h1 h2
    have : i = 4 := by omega
    subst this
    have Z : wY_unfold_122 post J (nI r) (nI c) (-1) g_maxNodes (nI mW) g_maxVisits (nI n) g_root g_nc (nI w) g_grown g_neg g_made g_next g_nextPar g_nextSlot g_nextLex g_stuck b_kinds b_parts b_cNode b_cPar b_cSlot b_le b_saved b_cur b_nxt b_first b_vNode b_vPar b_vSlot b_vLex b_val b_num := br_t (by decide) (nm_r (nI_1 c) (hJ w h1 (by omega)))
    refine br_t (by decide) ⟨vp_in_nI (by omega) (by omega), ?_⟩
    refine br_c (fun y => yw_bd W A hr hmn ?_) (fun y => Z)
    cases e : bd_b kd cd pp par r m with
    | none => exact Z
    | some b =>
      have hb := bd_blt W b e
      have hkb := tm_k W hb
      refine br_f (nI_pos (by omega)) ⟨vp_in_nI (by omega) (by omega), ?_⟩
      rw [show nu_o (some b) = nI b from rfl, nI_clamp (by omega), A.1 b hb, nu_e5 (by omega)]
      refine br_c (fun y5 => ⟨nu_i4' (i := 1) (by omega) (by omega), ?_⟩) (fun y5 => nm_r (nI_1 c) (hJ w h1 (by omega)))
      have hs : tm_slot (kd b) 1 = true := by rw [y5]; rfl
      rw [show (nI b * 4 + 1).toNatClampNeg = 4 * b + 1 from nu_c4' (i := 1) (by omega), A.2 _ (by omega), tm_s W hb (by omega) hs]
      cases ec : cd b 1 with
      | none => exact absurd ec (tm_nn W hb (by omega) hs (by omega))
      | some x =>
        have := (tm_c W hb ec).1
        exact yw_addb W A (x := x) (by omega) hm h1 (by omega) fun w' a b => nm_r (nI_1 c) (hJ w' (by omega) (by omega))
  | succ d ih =>
    intro i w hi h1 h2
    refine br_f ?_ ⟨vp_in_nI (by omega) (by omega), ?_⟩
    · show ¬ (4 : Int32) ≤ nI i
      rw [nu_g4 (by omega)]; omega
    rw [nI_clamp (by omega), A.1 m hmn]
    refine yw_slot (by omega) (by omega) ?_
    by_cases hs : tm_slot (kd m) i = true
    · rw [hs]
      refine br_f (by decide) ⟨nu_i4' (by omega) (by omega), ?_⟩
      rw [nu_c4' (by omega), A.2 _ (by omega), tm_s W hmn (by omega) hs]
      cases ec : cd m i with
      | none => exact br_t (by decide) (nm_r (nI_1 i) (ih (i + 1) w (by omega) h1 (by omega)))
      | some x =>
        have := (tm_c W hmn ec).1
        exact br_f (nI_pos (by omega)) ⟨nu_i4' (by omega) (by omega), yw_addb W A (x := x) (by omega) hm h1 (by omega) fun w' a b => nm_r (nI_1 i) (ih (i + 1) w' (by omega) (by omega) (by omega))⟩
    · rw [ts_nt hs]
      exact br_t (by decide) (nm_r (nI_1 i) (ih (i + 1) w (by omega) h1 (by omega)))
theorem yw_u19b (W : tm_WF n kd cd pp par) (A : tm_Ag n kd pp b_kinds b_parts) (hr : r < n) (hm : mW ≤ 64) {q : Nat} (hq : q ≤ 64) (hb : ∀ k, k < q → ∃ m, m < n ∧ b_cNode k = nI m)
    (hP : ∀ w, mW < w → w < 2 ^ 31 → post (g_maxNodes, nI mW, g_maxVisits, nI n, g_root, nI q, nI w, g_grown, g_neg, g_made, g_next, g_nextPar, g_nextSlot, g_nextLex, g_stuck, b_kinds, b_parts, b_cNode, b_cPar, b_cSlot, b_le, b_saved, b_cur, b_nxt, b_first, b_vNode, b_vPar, b_vSlot, b_vLex, b_val, b_num)) : ∀ d c w, c + d = 64 → mW < w → w + 10 * d ≤ 9000 →
    wY_unfold_19 post (nI r) (d + 1) (nI c) g_maxNodes (nI mW) g_maxVisits (nI n) g_root (nI q) (nI w) g_grown g_neg g_made g_next g_nextPar g_nextSlot g_nextLex g_stuck b_kinds b_parts b_cNode b_cPar b_cSlot b_le b_saved b_cur b_nxt b_first b_vNode b_vPar b_vSlot b_vLex b_val b_num := by
  intro d
  induction d with
  | zero =>
    intro c w hc h1 h2
    refine br_t ?_ (hP w h1 (by omega))
    show (64 : Int32) ≤ nI c
    rw [nu_g64 (by omega)]; omega
  | succ d ih =>
    intro c w hc h1 h2
    refine br_f ?_ ?_
    · show ¬ (64 : Int32) ≤ nI c
      rw [nu_g64 (by omega)]; omega
    rw [nI_leI (by omega) (by omega)]
    refine br_c (fun y => hP w h1 (by omega)) (fun y => ⟨vp_in_nI (by omega) (by omega), ?_⟩)
    obtain ⟨m, hmn, em⟩ := hb c (by omega)
    refine nm_r (e' := nI m) (by rw [nI_clamp (by omega), em]) ⟨5, ?_⟩
    exact yw_u43b W A hr hm hmn (M := w + 10) (by omega) (fun w' a b => ih (c + 1) w' (by omega) a (by omega)) 4 0 w rfl h1 (by omega)
/-- one entry more, or the weight too great -/
theorem yw_addg (W : tm_WF n kd cd pp par) (A : tm_Ag n kd pp b_kinds b_parts) {x L c i : Nat} (hx : x < n) (hm : mW ≤ 64) (h1 : cn L = x) (h2 : cu L = some c) (h3 : cs L = i) (hw : un_w kd cn L ≤ mW) (I : un_YI cn cu cs L b_cNode b_cPar b_cSlot)
    (hG : ∀ bN bP bS, un_YI cn cu cs (L + 1) bN bP bS → un_w kd cn (L + 1) ≤ mW → post (g_maxNodes, nI mW, g_maxVisits, g_count, g_root, nI (L + 1), nI (un_w kd cn (L + 1)), g_grown, g_neg, g_made, g_next, g_nextPar, g_nextSlot, g_nextLex, g_stuck, b_kinds, b_parts, bN, bP, bS, b_le, b_saved, b_cur, b_nxt, b_first, b_vNode, b_vPar, b_vSlot, b_vLex, b_val, b_num))
    (hB : mW < un_w kd cn (L + 1) → ∀ w, mW < w → w ≤ 66 → post (g_maxNodes, nI mW, g_maxVisits, g_count, g_root, nI L, nI w, g_grown, g_neg, g_made, g_next, g_nextPar, g_nextSlot, g_nextLex, g_stuck, b_kinds, b_parts, b_cNode, b_cPar, b_cSlot, b_le, b_saved, b_cur, b_nxt, b_first, b_vNode, b_vPar, b_vSlot, b_vLex, b_val, b_num)) : wpY_add post (g_maxNodes, nI mW, g_maxVisits, g_count, g_root, nI L, nI (un_w kd cn L), g_grown, g_neg, g_made, g_next, g_nextPar, g_nextSlot, g_nextLex, g_stuck, b_kinds, b_parts, b_cNode, b_cPar, b_cSlot, b_le, b_saved, b_cur, b_nxt, b_first, b_vNode, b_vPar, b_vSlot, b_vLex, b_val, b_num) (nI x) (nI c) (nI i) := by
  have hn := tm_n W
  have hk := tm_k W hx
  have hwl := un_wl kd cn L
  have T : ∀ w, w ≤ 2 → 1 ≤ w → un_w kd cn (L + 1) = un_w kd cn L + w → wY_add_20 post (nI x) (nI c) (nI i) (nI w) (nI (un_w kd cn L)) g_maxNodes (nI mW) g_maxVisits g_count g_root (nI L) (nI (un_w kd cn L)) g_grown g_neg g_made g_next g_nextPar g_nextSlot g_nextLex g_stuck b_kinds b_parts b_cNode b_cPar b_cSlot b_le b_saved b_cur b_nxt b_first b_vNode b_vPar b_vSlot b_vLex b_val b_num := fun w a b e => by
    refine nm_r (nI_add _ _) ?_
    rw [← e, nI_ltI (by omega) (by omega)]
    refine br_c (fun y => hB y _ y (by omega)) (fun y => ⟨vp_in_nI (by omega) (by omega), nm_e ⟨vp_in_nI (by omega) (by omega), nm_e ⟨vp_in_nI (by omega) (by omega), nm_e (nm_r (nI_1 L) (hG _ _ _ (fun k hk => ?_) (by omega)))⟩⟩⟩)
    rw [nI_clamp (by omega)]
    rcases Nat.lt_or_ge k L with q | q
    · rw [pk_un (by omega), pk_un (by omega), pk_un (by omega)]; exact I k q
    · have : k = L := by omega
      subst this
      rw [h1, h2, h3]
      exact ⟨pk_us, pk_us, pk_us⟩
  unfold wpY_add
  dsimp only
  refine ⟨vp_in_nI (by omega) (by omega), ?_⟩
  rw [nI_clamp (by omega), A.1 x hx, nu_e3 (by omega)]
  refine br_c (fun y => T 2 (by omega) (by omega) ?_) (fun y => T 1 (by omega) (by omega) ?_)
  · rw [un_w, h1, if_pos y]
  · rw [un_w, h1, if_neg y]
theorem yw_u43 {J : Int32 → Int32 → Int32 → Int32 → Int32 → Int32 → Int32 → Int32 → Int32 → Int32 → Int32 → Int32 → Int32 → Int32 → Int32 → Int32 → (Nat → Int32) → (Nat → Int32) → (Nat → Int32) → (Nat → Int32) → (Nat → Int32) → (Nat → Int32) → (Nat → Int32) → (Nat → Int32) → (Nat → Int32) → (Nat → Int32) → (Nat → Int32) → (Nat → Int32) → (Nat → Int32) → (Nat → Int32) → (Nat → Int32) → (Nat → Int32) → Prop} (W : tm_WF n kd cd pp par) (A : tm_Ag n kd pp b_kinds b_parts) (S : un_S (un_ki kd cd pp par r) r len cn cu cs) (hr : r < n) (hm : mW ≤ 64) {c : Nat} (hc : c < 64)
    (hJ : ∀ bN bP bS, un_YI cn cu cs (len (5 * c + 5)) bN bP bS → un_w kd cn (len (5 * c + 5)) ≤ mW → J (nI (c + 1)) g_maxNodes (nI mW) g_maxVisits (nI n) g_root (nI (len (5 * c + 5))) (nI (un_w kd cn (len (5 * c + 5)))) g_grown g_neg g_made g_next g_nextPar g_nextSlot g_nextLex g_stuck b_kinds b_parts bN bP bS b_le b_saved b_cur b_nxt b_first b_vNode b_vPar b_vSlot b_vLex b_val b_num)
    (hB : mW < un_w kd cn (len 320) → ∀ bN bP bS q w, q ≤ 64 → (∀ k, k < q → ∃ m, m < n ∧ bN k = nI m) → mW < w → w ≤ 100 → J (nI (c + 1)) g_maxNodes (nI mW) g_maxVisits (nI n) g_root (nI q) (nI w) g_grown g_neg g_made g_next g_nextPar g_nextSlot g_nextLex g_stuck b_kinds b_parts bN bP bS b_le b_saved b_cur b_nxt b_first b_vNode b_vPar b_vSlot b_vLex b_val b_num) : ∀ d i, i + d = 4 → c < len (5 * c + i) → un_w kd cn (len (5 * c + i)) ≤ mW → ∀ bN bP bS, un_YI cn cu cs (len (5 * c + i)) bN bP bS →
    wY_unfold_43 post J (nI r) (nI c) (nI (cn c)) (d + 1) (nI i) g_maxNodes (nI mW) g_maxVisits (nI n) g_root (nI (len (5 * c + i))) (nI (un_w kd cn (len (5 * c + i)))) g_grown g_neg g_made g_next g_nextPar g_nextSlot g_nextLex g_stuck b_kinds b_parts bN bP bS b_le b_saved b_cur b_nxt b_first b_vNode b_vPar b_vSlot b_vLex b_val b_num := by
  have hn := tm_n W
  have Bd : ∀ i, i < 5 → len (5 * c + i + 1) = len (5 * c + i) + 1 → mW < un_w kd cn (len (5 * c + i) + 1) → mW < un_w kd cn (len 320) := fun i hi e h => by
    have m := un_m S (show 5 * c + i + 1 ≤ 320 by omega) (Nat.le_refl _)
    have m2 := un_wm kd cn (len 320 - len (5 * c + i + 1)) (len (5 * c + i + 1))
    rw [show len (5 * c + i + 1) + (len 320 - len (5 * c + i + 1)) = len 320 by omega, e] at m2
    omega
  have nd := un_nt S hr (fun m i x a b => un_klt W a b)
  intro d
  induction d with
  | zero =>
    intro i hi hl hw bN bP bS I
    have : i = 4 := by omega
    subst this
    have hmn := nd (5 * c + 4) (by omega) c hl
    have hk := tm_k W hmn
    have hwl := un_wl kd cn (len (5 * c + 4))
    have Z : un_ki kd cd pp par r (cn c) 4 = none → J (nI (c + 1)) g_maxNodes (nI mW) g_maxVisits (nI n) g_root (nI (len (5 * c + 4))) (nI (un_w kd cn (len (5 * c + 4)))) g_grown g_neg g_made g_next g_nextPar g_nextSlot g_nextLex g_stuck b_kinds b_parts bN bP bS b_le b_saved b_cur b_nxt b_first b_vNode b_vPar b_vSlot b_vLex b_val b_num := fun e => by
      have z := un_s0 S hc (by omega) hl e
      rw [z] at hJ
      exact hJ _ _ _ I hw
    refine br_t (by decide) ⟨vp_in_nI (by omega) (by omega), ?_⟩
    rw [nI_clamp (by omega), A.1 _ hmn, nu_e2 (by omega)]
    refine br_c (fun y => yw_bd W A hr hmn ?_) (fun y => br_t (by decide) (nm_r (nI_1 c) (Z (by rw [un_k5, bd_i_n y]))))
    cases e : bd_b kd cd pp par r (cn c) with
    | none => exact br_t (by decide) (nm_r (nI_1 c) (Z (by rw [un_k5, bd_i_2 y, e])))
    | some b =>
      have hb := bd_blt W b e
      have hkb := tm_k W hb
      have ei := bd_i_s y e
      refine br_f (nI_pos (by omega)) ⟨vp_in_nI (by omega) (by omega), ?_⟩
      rw [show nu_o (some b) = nI b from rfl, nI_clamp (by omega), A.1 b hb, nu_e5 (by omega)]
      refine br_c (fun y5 => ⟨nu_i4' (i := 1) (by omega) (by omega), ?_⟩) (fun y5 => nm_r (nI_1 c) (Z (by rw [un_k5, ei, if_neg y5])))
      have hs : tm_slot (kd b) 1 = true := by rw [y5]; rfl
      rw [show (nI b * 4 + 1).toNatClampNeg = 4 * b + 1 from nu_c4' (i := 1) (by omega), A.2 _ (by omega), tm_s W hb (by omega) hs]
      rw [if_pos y5] at ei
      cases ec : cd b 1 with
      | none => exact absurd ec (tm_nn W hb (by omega) hs (by omega))
      | some x =>
        have hx := (tm_c W hb ec).1
        have z := un_s1 S hc (by omega) hl (show un_ki kd cd pp par r (cn c) 4 = some x by rw [un_k5, ei, ec])
        rw [z.1] at hJ
        exact yw_addg W A (x := x) (by omega) hm z.2.1 z.2.2.1 z.2.2.2 hw I (fun bN bP bS I' hw' => nm_r (nI_1 c) (hJ _ _ _ I' hw')) (fun hb w h1 h2 => nm_r (nI_1 c) (hB (Bd 4 (by omega) z.1 hb) _ _ _ _ _ (by omega) (fun k hk => ⟨cn k, nd _ (by omega) k hk, (I k hk).1⟩) h1 (by omega)))
  | succ d ih =>
    intro i hi hl hw bN bP bS I
    have hmn := nd (5 * c + i) (by omega) c hl
    have hk := tm_k W hmn
    have hwl := un_wl kd cn (len (5 * c + i))
    have hm1 := un_m1 S (t := 5 * c + i) (by omega)
    have Z : un_ki kd cd pp par r (cn c) i = none → wY_unfold_43 post J (nI r) (nI c) (nI (cn c)) (d + 1) (nI (i + 1)) g_maxNodes (nI mW) g_maxVisits (nI n) g_root (nI (len (5 * c + i))) (nI (un_w kd cn (len (5 * c + i)))) g_grown g_neg g_made g_next g_nextPar g_nextSlot g_nextLex g_stuck b_kinds b_parts bN bP bS b_le b_saved b_cur b_nxt b_first b_vNode b_vPar b_vSlot b_vLex b_val b_num := fun e => by
      have z := un_s0 S hc (by omega) hl e
      have H := ih (i + 1) (by omega)
      rw [show 5 * c + (i + 1) = 5 * c + i + 1 from rfl, z] at H
      exact H hl hw _ _ _ I
    refine br_f ?_ ⟨vp_in_nI (by omega) (by omega), ?_⟩
    · show ¬ (4 : Int32) ≤ nI i
      rw [nu_g4 (by omega)]; omega
    rw [nI_clamp (by omega), A.1 _ hmn]
    refine yw_slot (by omega) (by omega) ?_
    by_cases hs : tm_slot (kd (cn c)) i = true
    · rw [hs]
      refine br_f (by decide) ⟨nu_i4' (by omega) (by omega), ?_⟩
      rw [nu_c4' (by omega), A.2 _ (by omega), tm_s W hmn (by omega) hs]
      cases ec : cd (cn c) i with
      | none => exact br_t (by decide) (nm_r (nI_1 i) (Z (by rw [un_k4 (by omega), ec])))
      | some x =>
        have hx := (tm_c W hmn ec).1
        have z := un_s1 S hc (by omega) hl (show un_ki kd cd pp par r (cn c) i = some x by rw [un_k4 (by omega), ec])
        have H := ih (i + 1) (by omega)
        rw [show 5 * c + (i + 1) = 5 * c + i + 1 from rfl, z.1] at H
        refine br_f (nI_pos (by omega)) ⟨nu_i4' (by omega) (by omega), yw_addg W A (x := x) (by omega) hm z.2.1 z.2.2.1 z.2.2.2 hw I (fun bN bP bS I' hw' => nm_r (nI_1 i) (H (by omega) hw' _ _ _ I')) (fun hb w h1 h2 => nm_r (nI_1 i) ?_)⟩
        exact yw_u43b W A hr hm hmn (M := w + 20) (by omega) (fun w' a b' => hB (Bd i (by omega) z.1 hb) _ _ _ _ _ (by omega) (fun k hk => ⟨cn k, nd _ (by omega) k hk, (I k hk).1⟩) a (by omega)) d (i + 1) w (by omega) h1 (by omega)
    · rw [ts_nt hs]
      exact br_t (by decide) (nm_r (nI_1 i) (Z (by rw [un_k4 (by omega), tm_ns W hmn hs])))
theorem yw_u19 (W : tm_WF n kd cd pp par) (A : tm_Ag n kd pp b_kinds b_parts) (S : un_S (un_ki kd cd pp par r) r len cn cu cs) (hr : r < n) (hm : mW ≤ 64)
    (hG : un_w kd cn (len 320) ≤ mW → ∀ bN bP bS, un_YI cn cu cs (len 320) bN bP bS → post (g_maxNodes, nI mW, g_maxVisits, nI n, g_root, nI (len 320), nI (un_w kd cn (len 320)), g_grown, g_neg, g_made, g_next, g_nextPar, g_nextSlot, g_nextLex, g_stuck, b_kinds, b_parts, bN, bP, bS, b_le, b_saved, b_cur, b_nxt, b_first, b_vNode, b_vPar, b_vSlot, b_vLex, b_val, b_num))
    (hB : mW < un_w kd cn (len 320) → ∀ bN bP bS q w, mW < w → w < 2 ^ 31 → post (g_maxNodes, nI mW, g_maxVisits, nI n, g_root, q, nI w, g_grown, g_neg, g_made, g_next, g_nextPar, g_nextSlot, g_nextLex, g_stuck, b_kinds, b_parts, bN, bP, bS, b_le, b_saved, b_cur, b_nxt, b_first, b_vNode, b_vPar, b_vSlot, b_vLex, b_val, b_num)) : ∀ d c, c + d = 64 → un_w kd cn (len (5 * c)) ≤ mW → ∀ bN bP bS, un_YI cn cu cs (len (5 * c)) bN bP bS →
    wY_unfold_19 post (nI r) (d + 1) (nI c) g_maxNodes (nI mW) g_maxVisits (nI n) g_root (nI (len (5 * c))) (nI (un_w kd cn (len (5 * c)))) g_grown g_neg g_made g_next g_nextPar g_nextSlot g_nextLex g_stuck b_kinds b_parts bN bP bS b_le b_saved b_cur b_nxt b_first b_vNode b_vPar b_vSlot b_vLex b_val b_num := by
  intro d
  induction d with
  | zero =>
    intro c hc hw bN bP bS I
    have hwl := un_wl kd cn (len (5 * c))
    have e := un_st S (c := c) (by omega) (by omega)
    rw [← e] at hw I ⊢
    refine br_t ?_ (hG hw _ _ _ I)
    show (64 : Int32) ≤ nI c
    rw [nu_g64 (by omega)]; omega
  | succ d ih =>
    intro c hc hw bN bP bS I
    have hwl := un_wl kd cn (len (5 * c))
    refine br_f ?_ ?_
    · show ¬ (64 : Int32) ≤ nI c
      rw [nu_g64 (by omega)]; omega
    rw [nI_leI (by omega) (by omega)]
    refine br_c (fun y => ?_) (fun y => ⟨vp_in_nI (by omega) (by omega), nm_r (e' := nI (cn c)) (by rw [nI_clamp (by omega), (I c (by omega)).1]) ⟨5, ?_⟩⟩)
    · have e := un_st S (c := c) (by omega) y
      rw [← e] at hw I ⊢
      exact hG hw _ _ _ I
    · exact yw_u43 W A S hr hm (by omega) (fun bN bP bS I' hw' => ih (c + 1) (by omega) hw' bN bP bS I') (fun hb bN bP bS q w hq hn h1 h2 => yw_u19b W A hr hm hq hn (fun w' a b => hB hb _ _ _ _ _ a b) d (c + 1) w (by omega) h1 (by omega)) 4 0 rfl (by show c < len (5 * c); omega) hw bN bP bS I
theorem yw_unfold (W : tm_WF n kd cd pp par) (A : tm_Ag n kd pp b_kinds b_parts) (S : un_S (un_ki kd cd pp par r) r len cn cu cs) (hr : r < n) (hm : mW ≤ 64) (hm2 : 16 ≤ mW)
    (hG : un_w kd cn (len 320) ≤ mW → ∀ bN bP bS, un_YI cn cu cs (len 320) bN bP bS → post (g_maxNodes, nI mW, g_maxVisits, nI n, g_root, nI (len 320), nI (un_w kd cn (len 320)), g_grown, g_neg, g_made, g_next, g_nextPar, g_nextSlot, g_nextLex, g_stuck, b_kinds, b_parts, bN, bP, bS, b_le, b_saved, b_cur, b_nxt, b_first, b_vNode, b_vPar, b_vSlot, b_vLex, b_val, b_num))
    (hB : mW < un_w kd cn (len 320) → ∀ bN bP bS q w, mW < w → w < 2 ^ 31 → post (g_maxNodes, nI mW, g_maxVisits, nI n, g_root, q, nI w, g_grown, g_neg, g_made, g_next, g_nextPar, g_nextSlot, g_nextLex, g_stuck, b_kinds, b_parts, bN, bP, bS, b_le, b_saved, b_cur, b_nxt, b_first, b_vNode, b_vPar, b_vSlot, b_vLex, b_val, b_num)) : wpY_unfold post (g_maxNodes, nI mW, g_maxVisits, nI n, g_root, g_nc, g_weight, g_grown, g_neg, g_made, g_next, g_nextPar, g_nextSlot, g_nextLex, g_stuck, b_kinds, b_parts, b_cNode, b_cPar, b_cSlot, b_le, b_saved, b_cur, b_nxt, b_first, b_vNode, b_vPar, b_vSlot, b_vLex, b_val, b_num) (nI r) := by
  have hn := tm_n W
  have hk := tm_k W hr
  have H := yw_u19 W A S hr hm hG hB 64 0 rfl
  have e0 : len (5 * 0) = 1 := S.1
  have ew : un_w kd cn 1 = if kd r = 3 then 2 else 1 := by
    show 0 + (if kd (cn 0) = 3 then 2 else 1) = _
    rw [S.2.1, Nat.zero_add]
  rw [e0] at H
  have I : un_YI cn cu cs 1 (upd b_cNode 0 (nI r)) (upd b_cPar 0 (-1)) (upd b_cSlot 0 0) := fun k hk => by
    rw [show k = 0 by omega, S.2.1, S.2.2.1, S.2.2.2.1]
    exact ⟨pk_us, pk_us, pk_us⟩
  unfold wpY_unfold wpY_add
  dsimp only
  refine ⟨vp_in_nI (by omega) (by omega), ?_⟩
  rw [nI_clamp (by omega), A.1 r hr, nu_e3 (by omega)]
  refine br_c (fun y => ?_) (fun y => ?_)
  · rw [ew, if_pos y] at H
    refine nm_r (e' := nI 2) (by decide) (br_f ?_ ⟨vp_in_iff.mpr (by decide), nm_r (e' := upd b_cNode 0 (nI r)) (by rw [nu_c0]) ⟨vp_in_iff.mpr (by decide), nm_r (e' := upd b_cPar 0 (-1)) (by rw [nu_c0]) ⟨vp_in_iff.mpr (by decide), nm_r (e' := upd b_cSlot 0 0) (by rw [nu_c0]) (nm_r (e' := nI 1) (by decide) ⟨65, H (by omega) _ _ _ I⟩)⟩⟩⟩)
    rw [nI_ltI (by omega) (by omega)]; omega
  · rw [ew, if_neg y] at H
    refine nm_r (e' := nI 1) (by decide) (br_f ?_ ⟨vp_in_iff.mpr (by decide), nm_r (e' := upd b_cNode 0 (nI r)) (by rw [nu_c0]) ⟨vp_in_iff.mpr (by decide), nm_r (e' := upd b_cPar 0 (-1)) (by rw [nu_c0]) ⟨vp_in_iff.mpr (by decide), nm_r (e' := upd b_cSlot 0 0) (by rw [nu_c0]) (nm_r (e' := nI 1) (by decide) ⟨65, H (by omega) _ _ _ I⟩)⟩⟩⟩)
    rw [nI_ltI (by omega) (by omega)]; omega
end
end
section
/-! the relation's closure: pure -/
noncomputable def kc_b (P : Prop) : Nat := @ite Nat P (Classical.propDecidable P) 1 0
theorem kc_bt {P : Prop} (h : P) : kc_b P = 1 := by unfold kc_b; rw [if_pos h]
theorem kc_bf {P : Prop} (h : ¬ P) : kc_b P = 0 := by unfold kc_b; rw [if_neg h]
theorem kc_bl (P : Prop) : kc_b P ≤ 1 := by
  rcases Classical.em P with h | h
  · rw [kc_bt h]; omega
  · rw [kc_bf h]; omega
theorem kc_bm {P Q : Prop} (h : P → Q) : kc_b P ≤ kc_b Q := by
  rcases Classical.em P with hp | hp
  · rw [kc_bt hp, kc_bt (h hp)]; omega
  · rw [kc_bf hp]; omega
/-- how many below N have P -/
noncomputable def kc_n (P : Nat → Prop) : Nat → Nat
  | 0 => 0
  | k + 1 => kc_n P k + kc_b (P k)
theorem kc_m {P Q : Nat → Prop} : ∀ {N : Nat}, (∀ k, k < N → P k → Q k) → kc_n P N ≤ kc_n Q N
  | 0, _ => Nat.le_refl _
  | N + 1, h => by
    have a := kc_m (P := P) (Q := Q) (N := N) (fun k hk => h k (by omega))
    have b := kc_bm (h N (by omega))
    simp only [kc_n]; omega
theorem kc_lt {P Q : Nat → Prop} {a : Nat} (hp : ¬ P a) (hq : Q a) : ∀ {N : Nat}, (∀ k, k < N → P k → Q k) → a < N → kc_n P N < kc_n Q N
  | 0, _, h => by omega
  | N + 1, h, ha => by
    simp only [kc_n]
    rcases Nat.lt_or_ge a N with z | z
    · have x := kc_lt hp hq (N := N) (fun k hk => h k (by omega)) z
      have b := kc_bm (h N (by omega))
      omega
    · have e : a = N := by omega
      subst e
      have x := kc_m (P := P) (Q := Q) (N := a) (fun k hk => h k (by omega))
      rw [kc_bt hq, kc_bf hp]; omega
theorem kc_le (P : Nat → Prop) : ∀ N, kc_n P N ≤ N
  | 0 => Nat.le_refl _
  | N + 1 => by have := kc_le P N; have := kc_bl (P N); simp only [kc_n]; omega
/-- closed under the rules 6 and 7 -/
def cl_R (nc : Nat) (kc : Nat → Nat) (sb : Nat → Nat → Option Nat) (lb : Nat → Nat) (S : Nat → Nat → Prop) : Prop :=
  ∀ c d w, c < nc → d < nc → sb d 0 = some w → S c w →
    (kc c = 3 → kc d = 4 → (∀ a, sb d 1 = some a → S a (64 + c)) ∧ (∀ b, sb c 1 = some b → S b d)) ∧ (kc c = 6 → kc d = 7 → ∀ f, sb c (lb d) = some f → S f d)
def cl_C (nc : Nat) (kc : Nat → Nat) (sb : Nat → Nat → Option Nat) (lb : Nat → Nat) (E : Nat → Nat → Prop) (x y : Nat) : Prop :=
  ∀ S : Nat → Nat → Prop, (∀ x y, E x y → S x y) → (∀ x, x < 128 → S x x) → (∀ x y z, S x y → S y z → S x z) → cl_R nc kc sb lb S → S x y
section
variable {nc : Nat} {kc : Nat → Nat} {sb : Nat → Nat → Option Nat} {lb : Nat → Nat} {E : Nat → Nat → Prop}
theorem cl_e {x y : Nat} (h : E x y) : cl_C nc kc sb lb E x y := fun _ a _ _ _ => a x y h
theorem cl_r {x : Nat} (h : x < 128) : cl_C nc kc sb lb E x x := fun _ _ a _ _ => a x h
theorem cl_t {x y z : Nat} (h : cl_C nc kc sb lb E x y) (h' : cl_C nc kc sb lb E y z) : cl_C nc kc sb lb E x z := fun S a b c d => c x y z (h S a b c d) (h' S a b c d)
theorem cl_app {c d w a : Nat} (hc : c < nc) (hd : d < nc) (hw : sb d 0 = some w) (h : cl_C nc kc sb lb E c w) (k1 : kc c = 3) (k2 : kc d = 4) (e : sb d 1 = some a) : cl_C nc kc sb lb E a (64 + c) := fun S p q r s => ((s c d w hc hd hw (h S p q r s)).1 k1 k2).1 a e
theorem cl_res {c d w a : Nat} (hc : c < nc) (hd : d < nc) (hw : sb d 0 = some w) (h : cl_C nc kc sb lb E c w) (k1 : kc c = 3) (k2 : kc d = 4) (e : sb c 1 = some a) : cl_C nc kc sb lb E a d := fun S p q r s => ((s c d w hc hd hw (h S p q r s)).1 k1 k2).2 a e
theorem cl_sel {c d w f : Nat} (hc : c < nc) (hd : d < nc) (hw : sb d 0 = some w) (h : cl_C nc kc sb lb E c w) (k1 : kc c = 6) (k2 : kc d = 7) (e : sb c (lb d) = some f) : cl_C nc kc sb lb E f d := fun S p q r s => (s c d w hc hd hw (h S p q r s)).2 k1 k2 f e
end
/-- X's variable of a variable of Y -/
def cl_x (nc : Nat) (kc pv : Nat → Nat) (y : Nat) : Option Nat := if y < nc then some y else if 64 ≤ y ∧ y < 64 + nc ∧ kc (y - 64) = 3 then some (pv (y - 64)) else none
/-- the parameters' variables lie above the copies, one each, below vc -/
def cl_pv (nc vc : Nat) (kc pv : Nat → Nat) : Prop := nc ≤ 64 ∧ nc ≤ vc ∧ vc ≤ 64 ∧ (∀ c, c < nc → kc c = 3 → nc ≤ pv c ∧ pv c < vc) ∧ (∀ c c', c < nc → c' < nc → kc c = 3 → kc c' = 3 → pv c = pv c' → c = c')
section
variable {nc vc : Nat} {kc pv : Nat → Nat}
theorem cl_xc {c : Nat} (h : c < nc) : cl_x nc kc pv c = some c := if_pos h
theorem cl_xp (P : cl_pv nc vc kc pv) {c : Nat} (h : c < nc) (k : kc c = 3) : cl_x nc kc pv (64 + c) = some (pv c) := by
  have := P.1
  unfold cl_x
  rw [if_neg (by omega), if_pos ⟨by omega, by omega, by rw [show 64 + c - 64 = c by omega]; exact k⟩, show 64 + c - 64 = c by omega]
theorem cl_xk {y v : Nat} (h : cl_x nc kc pv y = some v) : (y < nc ∧ v = y) ∨ (64 ≤ y ∧ y - 64 < nc ∧ kc (y - 64) = 3 ∧ v = pv (y - 64)) := by
  unfold cl_x at h
  split at h
  · cases h; exact Or.inl ⟨by assumption, rfl⟩
  · split at h
    · next _ z => cases h; exact Or.inr ⟨z.1, by omega, z.2.2, rfl⟩
    · cases h
theorem cl_xlt (P : cl_pv nc vc kc pv) {y v : Nat} (h : cl_x nc kc pv y = some v) : v < vc ∧ y < 128 := by
  have p1 := P.1
  have p2 := P.2.1
  rcases cl_xk h with ⟨a, b⟩ | ⟨a, b, c, d⟩
  · omega
  · have := P.2.2.2.1 _ b c
    omega
theorem cl_xi (P : cl_pv nc vc kc pv) {y z v : Nat} (h : cl_x nc kc pv y = some v) (h' : cl_x nc kc pv z = some v) : y = z := by
  rcases cl_xk h with ⟨a, b⟩ | ⟨a, b, c, d⟩
  · rcases cl_xk h' with ⟨a', b'⟩ | ⟨a', b', c', d'⟩
    · omega
    · have := P.2.2.2.1 _ b' c'; omega
  · rcases cl_xk h' with ⟨a', b'⟩ | ⟨a', b', c', d'⟩
    · have := P.2.2.2.1 _ b c; omega
    · have := P.2.2.2.2 _ _ b b' c c' (by omega); omega
end
def cl_tb (w : Int64) (j : Nat) : Bool := w.toBitVec.getLsbD j
/-- bit w of row b + v -/
def cl_a (a : Nat → Int64) (b v w : Nat) : Prop := cl_tb (a (b + v)) w = true
def cl_G (vc b : Nat) (a : Nat → Int64) : Prop := (∀ v, v < vc → cl_a a b v v) ∧ (∀ u v w, u < vc → v < vc → cl_a a b u v → cl_a a b v w → cl_a a b u w)
/-- X's rows hold nothing that isn't in C -/
def cl_Sd (x : Nat → Option Nat) (C : Nat → Nat → Prop) (b : Nat) (a : Nat → Int64) : Prop := ∀ y z v w, x y = some v → x z = some w → cl_a a b v w → C y z
def cl_S (x : Nat → Option Nat) (b : Nat) (a : Nat → Int64) (y z : Nat) : Prop := y = z ∨ ∃ v w, x y = some v ∧ x z = some w ∧ cl_a a b v w
def cl_le (a a' : Nat → Int64) : Prop := ∀ i j, cl_tb (a i) j = true → cl_tb (a' i) j = true
/-- one edge more, kept transitive -/
def cl_add (vc b v w : Nat) (a a' : Nat → Int64) : Prop := (∀ x j, x < vc → (cl_a a' b x j ↔ cl_a a b x j ∨ (cl_a a b x v ∧ cl_a a b w j))) ∧ (∀ i, (i < b ∨ b + vc ≤ i) → a' i = a i)
theorem cl_addle {vc b v w : Nat} {a a' : Nat → Int64} (h : cl_add vc b v w a a') : cl_le a a' := by
  intro i j q
  by_cases z : i < b ∨ b + vc ≤ i
  · rw [h.2 i z]; exact q
  · have := (h.1 (i - b) j (by omega)).mpr (Or.inl (by unfold cl_a; rw [show b + (i - b) = i by omega]; exact q))
    unfold cl_a at this
    rwa [show b + (i - b) = i by omega] at this
theorem cl_addG {vc b v w : Nat} {a a' : Nat → Int64} (hv : v < vc) (hw : w < vc) (G : cl_G vc b a) (h : cl_add vc b v w a a') : cl_G vc b a' := by
  refine ⟨fun u hu => (h.1 u u hu).mpr (Or.inl (G.1 u hu)), fun p q r hp hq h1 h2 => ?_⟩
  rw [h.1 p q hp] at h1
  rw [h.1 q r hq] at h2
  rw [h.1 p r hp]
  rcases h1 with h1 | ⟨h1, h1'⟩
  · rcases h2 with h2 | ⟨h2, h2'⟩
    · exact Or.inl (G.2 p q r hp hq h1 h2)
    · exact Or.inr ⟨G.2 p q v hp hq h1 h2, h2'⟩
  · rcases h2 with h2 | ⟨h2, h2'⟩
    · exact Or.inr ⟨h1, G.2 w q r hw hq h1' h2⟩
    · exact Or.inr ⟨h1, h2'⟩
theorem cl_addn {vc b v w : Nat} {a a' : Nat → Int64} (hv : v < vc) (hw : w < vc) (G : cl_G vc b a) (h : cl_add vc b v w a a') : cl_a a' b v w := (h.1 v w hv).mpr (Or.inr ⟨G.1 v hv, G.1 w hw⟩)
theorem cl_adds {vc b v w : Nat} {a a' : Nat → Int64} {x : Nat → Option Nat} {C : Nat → Nat → Prop} (hC : ∀ p q r, C p q → C q r → C p r) {y z : Nat} (hx : ∀ y v, x y = some v → v < vc) (ey : x y = some v) (ez : x z = some w) (hyz : C y z) (D : cl_Sd x C b a) (h : cl_add vc b v w a a') : cl_Sd x C b a' := by
  intro p q v' w' ep eq hb
  rw [h.1 v' w' (hx p v' ep)] at hb
  rcases hb with hb | ⟨h1, h2⟩
  · exact D p q v' w' ep eq hb
  · exact hC p y q (D p y v' v ep ey h1) (hC y z q hyz (D z q w w' ez eq h2))
theorem cl_Sm {x : Nat → Option Nat} {b : Nat} {a a' : Nat → Int64} (h : cl_le a a') {y z : Nat} (s : cl_S x b a y z) : cl_S x b a' y z := by
  rcases s with e | ⟨v, w, p, q, r⟩
  · exact Or.inl e
  · exact Or.inr ⟨v, w, p, q, h _ _ r⟩
/-- the number of bits in the 64 rows from b on -/
noncomputable def cl_n (b : Nat) (a : Nat → Int64) : Nat := kc_n (fun i => cl_a a b (i / 64) (i % 64)) 4096
theorem cl_nle (b : Nat) (a : Nat → Int64) : cl_n b a ≤ 4096 := kc_le _ _
theorem cl_nm {b : Nat} {a a' : Nat → Int64} (h : cl_le a a') : cl_n b a ≤ cl_n b a' := kc_m fun _ _ z => h _ _ z
theorem cl_nlt {b : Nat} {a a' : Nat → Int64} (h : cl_le a a') {v w : Nat} (hv : v < 64) (hw : w < 64) (h0 : ¬ cl_a a b v w) (h1 : cl_a a' b v w) : cl_n b a < cl_n b a' := by
  refine kc_lt (a := v * 64 + w) ?_ ?_ (fun _ _ z => h _ _ z) (by omega)
  · show ¬ cl_a a b ((v * 64 + w) / 64) ((v * 64 + w) % 64)
    rw [show (v * 64 + w) / 64 = v by omega, show (v * 64 + w) % 64 = w by omega]
    exact h0
  · show cl_a a' b ((v * 64 + w) / 64) ((v * 64 + w) % 64)
    rw [show (v * 64 + w) / 64 = v by omega, show (v * 64 + w) % 64 = w by omega]
    exact h1
/-- X's rows, once closed, are the closure -/
theorem cl_X {nc vc b : Nat} {kc pv : Nat → Nat} {sb : Nat → Nat → Option Nat} {lb : Nat → Nat} {E : Nat → Nat → Prop} {a : Nat → Int64} (P : cl_pv nc vc kc pv) (G : cl_G vc b a) (D : cl_Sd (cl_x nc kc pv) (cl_C nc kc sb lb E) b a) (hE : ∀ y z, E y z → cl_S (cl_x nc kc pv) b a y z) (hR : cl_R nc kc sb lb (cl_S (cl_x nc kc pv) b a)) {y z : Nat} : cl_C nc kc sb lb E y z → cl_S (cl_x nc kc pv) b a y z := by
  intro h
  refine h _ hE (fun x _ => Or.inl rfl) ?_ hR
  intro p q r h1 h2
  rcases h1 with e | ⟨v, w, e1, e2, e3⟩
  · subst e; exact h2
  · rcases h2 with e | ⟨v', w', e1', e2', e3'⟩
    · subst e; exact Or.inr ⟨v, w, e1, e2, e3⟩
    · rw [e2] at e1'
      cases e1'
      exact Or.inr ⟨v, w', e1, e2', G.2 _ _ _ (cl_xlt P e1).1 (cl_xlt P e2).1 e3 e3'⟩
end
section
/-! bits, and X's edges -/
theorem bi_t {w : Int64} {k : Nat} (hk : k < 64) : (((w.toUInt64 >>> ((nI k).toInt64.toUInt64 &&& Int64.toUInt64 63)).toInt64) &&& 1) = 0 ↔ ¬ cl_tb w k = true := by
  rw [ts_bit (j := k) hk (by rw [wb_cu k hk, u_tn (by omega)])]
  unfold cl_tb
  exact Bool.not_eq_true _ ▸ Iff.rfl
theorem bi_or (a b : Int64) (j : Nat) : cl_tb (a ||| b) j = true ↔ cl_tb a j = true ∨ cl_tb b j = true := by
  unfold cl_tb
  rw [Int64.toBitVec_or, BitVec.getLsbD_or, Bool.or_eq_true]
theorem bi_0 (j : Nat) : ¬ cl_tb 0 j = true := by
  unfold cl_tb
  show ¬ (0#64).getLsbD j = true
  rw [BitVec.getLsbD_zero]
  intro z; cases z
theorem bi_1 {v j : Nat} (hv : v < 64) : cl_tb ((1 : Int64) <<< ((nI v).toInt64 &&& 63)) j = true ↔ j = v := by
  have e : (1 : Int64) <<< ((nI v).toInt64 &&& 63) = lN (1 * 2 ^ v) := wb_shl 1 hv
  rw [e, Nat.one_mul]
  unfold cl_tb
  rw [wb_tb, BitVec.getLsbD_ofNat, Nat.testBit_two_pow]
  by_cases h : v = j
  · subst h; simp [hv]
  · rw [decide_eq_false h, Bool.and_false]
    exact ⟨fun z => (by cases z), fun z => absurd z.symm h⟩
theorem bi_an (a b : Int64) : (a &&& b) = 0 ↔ ¬ ∃ j, cl_tb a j = true ∧ cl_tb b j = true := by
  constructor
  · rintro h ⟨j, h1, h2⟩
    have : cl_tb (a &&& b) j = cl_tb 0 j := congrArg (fun x => cl_tb x j) h
    unfold cl_tb at this h1 h2
    rw [Int64.toBitVec_and, BitVec.getLsbD_and, h1, h2] at this
    exact bi_0 j this.symm
  · intro h
    apply Int64.toBitVec_inj.mp
    apply BitVec.eq_of_getLsbD_eq
    intro i hi
    rw [Int64.toBitVec_and, BitVec.getLsbD_and]
    show _ = (0#64).getLsbD i
    rw [BitVec.getLsbD_zero]
    cases e1 : a.toBitVec.getLsbD i with
    | false => rfl
    | true =>
      cases e2 : b.toBitVec.getLsbD i with
      | false => rfl
      | true => exact absurd ⟨i, e1, e2⟩ h
theorem bi_lt {w : Int64} {j : Nat} (h : cl_tb w j = true) : j < 64 := by
  apply Classical.byContradiction
  intro z
  unfold cl_tb at h
  rw [BitVec.getLsbD_of_ge _ _ (by omega)] at h
  cases h
section
variable {f_maxNodes f_maxWeight f_maxVisits f_nodeCount f_sealed f_verdictNow f_copyCount f_varCount : Int32} {f_atSet : Int64} {f_atNeg f_visitCount f_done f_stuck f_curNode f_curEnv f_resultValue f_valueCount f_envCount f_depth : Int32} {a_nKind a_nPart a_nParent a_cNode a_cUp a_cChild a_cInst a_cParam a_queue : Nat → Int32} {a_rel : Nat → Int64} {a_vKind a_vWord a_vEnv a_vField a_eName a_eValue a_eNext a_fNode a_fEnv a_fPart a_fValue : Nat → Int32} {post : Int32 → SX → Prop} {vc b v w : Nat}
theorem xw_ae40 (hv : v < 64) (hvc : vc ≤ 64) (hb : b ≤ 64) {g : Int64} (a0 : Nat → Int64) (h : ∀ a', (∀ x j, x < vc → (cl_a a' b x j ↔ cl_a a0 b x j ∨ (cl_a a0 b x v ∧ cl_tb g j = true))) → (∀ i, (i < b ∨ b + vc ≤ i) → a' i = a0 i) → post 1 (f_maxNodes, f_maxWeight, f_maxVisits, f_nodeCount, f_sealed, f_verdictNow, f_copyCount, nI vc, f_atSet, f_atNeg, f_visitCount, f_done, f_stuck, f_curNode, f_curEnv, f_resultValue, f_valueCount, f_envCount, f_depth, a_nKind, a_nPart, a_nParent, a_cNode, a_cUp, a_cChild, a_cInst, a_cParam, a_queue, a', a_vKind, a_vWord, a_vEnv, a_vField, a_eName, a_eValue, a_eNext, a_fNode, a_fEnv, a_fPart, a_fValue)) : ∀ d x, x + d = vc → ∀ a, (∀ y j, y < x → (cl_a a b y j ↔ cl_a a0 b y j ∨ (cl_a a0 b y v ∧ cl_tb g j = true))) → (∀ i, (i < b ∨ b + x ≤ i) → a i = a0 i) →
    wX_addEdge_40 post (nI b) (nI v) g f_maxNodes f_maxWeight f_maxVisits f_nodeCount f_sealed f_verdictNow f_copyCount (nI vc) f_atSet f_atNeg f_visitCount f_done f_stuck f_curNode f_curEnv f_resultValue f_valueCount f_envCount f_depth (d + 1) (nI x) a_nKind a_nPart a_nParent a_cNode a_cUp a_cChild a_cInst a_cParam a_queue a a_vKind a_vWord a_vEnv a_vField a_eName a_eValue a_eNext a_fNode a_fEnv a_fPart a_fValue := by
  intro d
  induction d with
  | zero =>
    intro x hx a h1 h2
    have : x = vc := by omega
    subst this
    refine br_t ?_ (h a h1 h2)
    rw [nI_leI (by omega) (by omega)]; omega
  | succ d ih =>
    intro x hx a h1 h2
    refine br_f ?_ ⟨by rw [nI_add]; exact vp_in_nI (by omega) (by omega), ?_⟩
    · show ¬ nI vc ≤ nI x
      rw [nI_leI (by omega) (by omega)]; omega
    rw [nI_add, nI_clamp (by omega), bi_t hv]
    have ex : a (b + x) = a0 (b + x) := h2 _ (by omega)
    refine br_c (fun y => nm_r (nI_1 x) (ih (x + 1) (by omega) a (fun q j hq => ?_) (fun i hi => h2 i (by omega)))) (fun y => ⟨vp_in_nI (by omega) (by omega), vp_in_nI (by omega) (by omega), nm_e (nm_r (nI_1 x) (ih (x + 1) (by omega) _ (fun q j hq => ?_) (fun i hi => ?_)))⟩)
    · rcases Nat.lt_or_ge q x with z | z
      · exact h1 q j z
      · have : q = x := by omega
        subst this
        unfold cl_a
        rw [ex]
        rw [ex] at y
        exact ⟨Or.inl, fun r => r.elim id (fun r => absurd r.1 y)⟩
    · unfold cl_a at h1 ⊢
      rcases Nat.lt_or_ge q x with z | z
      · rw [pk_uLn (by omega)]; exact h1 q j z
      · have : q = x := by omega
        subst this
        rw [pk_uLs, bi_or, ex]
        rw [ex] at y
        exact ⟨fun r => r.elim Or.inl (fun r => Or.inr ⟨Classical.not_not.mp y, r⟩), fun r => r.elim Or.inl (fun r => Or.inr r.2)⟩
    · rw [pk_uLn (by omega)]; exact h2 i (by omega)
/-- addEdge between two variables -/
theorem xw_ae (hvc : vc ≤ 64) (hb : b ≤ 64) (hv : v < vc) (hw : w < vc) (h0 : cl_a a_rel b v w → post 0 (f_maxNodes, f_maxWeight, f_maxVisits, f_nodeCount, f_sealed, f_verdictNow, f_copyCount, nI vc, f_atSet, f_atNeg, f_visitCount, f_done, f_stuck, f_curNode, f_curEnv, f_resultValue, f_valueCount, f_envCount, f_depth, a_nKind, a_nPart, a_nParent, a_cNode, a_cUp, a_cChild, a_cInst, a_cParam, a_queue, a_rel, a_vKind, a_vWord, a_vEnv, a_vField, a_eName, a_eValue, a_eNext, a_fNode, a_fEnv, a_fPart, a_fValue)) (h1 : ¬ cl_a a_rel b v w → ∀ a', cl_add vc b v w a_rel a' → post 1 (f_maxNodes, f_maxWeight, f_maxVisits, f_nodeCount, f_sealed, f_verdictNow, f_copyCount, nI vc, f_atSet, f_atNeg, f_visitCount, f_done, f_stuck, f_curNode, f_curEnv, f_resultValue, f_valueCount, f_envCount, f_depth, a_nKind, a_nPart, a_nParent, a_cNode, a_cUp, a_cChild, a_cInst, a_cParam, a_queue, a', a_vKind, a_vWord, a_vEnv, a_vField, a_eName, a_eValue, a_eNext, a_fNode, a_fEnv, a_fPart, a_fValue)) : wpX_addEdge post (f_maxNodes, f_maxWeight, f_maxVisits, f_nodeCount, f_sealed, f_verdictNow, f_copyCount, nI vc, f_atSet, f_atNeg, f_visitCount, f_done, f_stuck, f_curNode, f_curEnv, f_resultValue, f_valueCount, f_envCount, f_depth, a_nKind, a_nPart, a_nParent, a_cNode, a_cUp, a_cChild, a_cInst, a_cParam, a_queue, a_rel, a_vKind, a_vWord, a_vEnv, a_vField, a_eName, a_eValue, a_eNext, a_fNode, a_fEnv, a_fPart, a_fValue) (nI b) (nI v) (nI w) := by
  unfold wpX_addEdge
  dsimp only
  refine br_f (nI_pos (by omega)) (br_f (nI_pos (by omega)) ⟨by rw [nI_add]; exact vp_in_nI (by omega) (by omega), ?_⟩)
  rw [nI_add, nI_add, nI_clamp (by omega), nI_clamp (by omega), bi_t (by omega)]
  refine br_c (fun y => ⟨vp_in_nI (by omega) (by omega), nm_e ⟨vc + 1, ?_⟩⟩) (fun y => h0 (Classical.not_not.mp y))
  exact xw_ae40 (by omega) hvc hb a_rel (fun a' q1 q2 => h1 y a' ⟨q1, q2⟩) vc 0 (by omega) a_rel (fun y j hy => by omega) (fun i hi => rfl)
theorem xw_ae0 {x : Int32} (h : post 0 (f_maxNodes, f_maxWeight, f_maxVisits, f_nodeCount, f_sealed, f_verdictNow, f_copyCount, f_varCount, f_atSet, f_atNeg, f_visitCount, f_done, f_stuck, f_curNode, f_curEnv, f_resultValue, f_valueCount, f_envCount, f_depth, a_nKind, a_nPart, a_nParent, a_cNode, a_cUp, a_cChild, a_cInst, a_cParam, a_queue, a_rel, a_vKind, a_vWord, a_vEnv, a_vField, a_eName, a_eValue, a_eNext, a_fNode, a_fEnv, a_fPart, a_fValue)) : wpX_addEdge post (f_maxNodes, f_maxWeight, f_maxVisits, f_nodeCount, f_sealed, f_verdictNow, f_copyCount, f_varCount, f_atSet, f_atNeg, f_visitCount, f_done, f_stuck, f_curNode, f_curEnv, f_resultValue, f_valueCount, f_envCount, f_depth, a_nKind, a_nPart, a_nParent, a_cNode, a_cUp, a_cChild, a_cInst, a_cParam, a_queue, a_rel, a_vKind, a_vWord, a_vEnv, a_vField, a_eName, a_eValue, a_eNext, a_fNode, a_fEnv, a_fPart, a_fValue) (nI b) (-1) x := br_t (by decide) h
theorem xw_ae1 (hv : v < 2 ^ 31) (h : post 0 (f_maxNodes, f_maxWeight, f_maxVisits, f_nodeCount, f_sealed, f_verdictNow, f_copyCount, f_varCount, f_atSet, f_atNeg, f_visitCount, f_done, f_stuck, f_curNode, f_curEnv, f_resultValue, f_valueCount, f_envCount, f_depth, a_nKind, a_nPart, a_nParent, a_cNode, a_cUp, a_cChild, a_cInst, a_cParam, a_queue, a_rel, a_vKind, a_vWord, a_vEnv, a_vField, a_eName, a_eValue, a_eNext, a_fNode, a_fEnv, a_fPart, a_fValue)) : wpX_addEdge post (f_maxNodes, f_maxWeight, f_maxVisits, f_nodeCount, f_sealed, f_verdictNow, f_copyCount, f_varCount, f_atSet, f_atNeg, f_visitCount, f_done, f_stuck, f_curNode, f_curEnv, f_resultValue, f_valueCount, f_envCount, f_depth, a_nKind, a_nPart, a_nParent, a_cNode, a_cUp, a_cChild, a_cInst, a_cParam, a_queue, a_rel, a_vKind, a_vWord, a_vEnv, a_vField, a_eName, a_eValue, a_eNext, a_fNode, a_fEnv, a_fPart, a_fValue) (nI b) (nI v) (-1) := br_f (nI_pos hv) (br_t (by decide) h)
end
/-- the nearest copy of the node l from copy a upwards -/
def un_bc (cn : Nat → Nat) (cu : Nat → Option Nat) (l : Nat) : Nat → Nat → Option Nat
  | 0, _ => none
  | f + 1, a => if cn a = l then some a else match cu a with
    | none => none
    | some b => un_bc cn cu l f b
theorem un_bcs {cn : Nat → Nat} {cu : Nat → Option Nat} {l nc : Nat} (hu : ∀ k, k < nc → nu_lt (cu k) k) : ∀ f a c, a < nc → un_bc cn cu l f a = some c → c < nc ∧ cn c = l := by
  intro f
  induction f with
  | zero => intro a c _ h; cases h
  | succ f ih =>
    intro a c ha h
    rw [un_bc] at h
    split at h
    · cases h; exact ⟨ha, by assumption⟩
    · split at h
      · cases h
      · next b e =>
        have := hu a ha b e
        exact ih b c (by omega) h
section
variable {f_maxNodes f_maxWeight f_maxVisits f_nodeCount f_sealed f_verdictNow f_copyCount f_varCount : Int32} {f_atSet : Int64} {f_atNeg f_visitCount f_done f_stuck f_curNode f_curEnv f_resultValue f_valueCount f_envCount f_depth : Int32} {a_nKind a_nPart a_nParent a_cNode a_cUp a_cChild a_cInst a_cParam a_queue : Nat → Int32} {a_rel : Nat → Int64} {a_vKind a_vWord a_vEnv a_vField a_eName a_eValue a_eNext a_fNode a_fEnv a_fPart a_fValue : Nat → Int32} {post : Int32 → Prop} {cn : Nat → Nat} {cu : Nat → Option Nat} {l nc n : Nat}
theorem xw_bc5 (hnc : nc ≤ 64) (hn : n ≤ 48) (hl : l < n) (hN : ∀ k, k < nc → a_cNode k = nI (cn k) ∧ a_cUp k = nu_o (cu k) ∧ cn k < n) (hu : ∀ k, k < nc → nu_lt (cu k) k) : ∀ f a s, a < nc → a < f → s + a < 64 → post (nu_o (un_bc cn cu l f a)) → wX_binderCopy_5 post (nI l) f_maxNodes f_maxWeight f_maxVisits f_nodeCount f_sealed f_verdictNow f_copyCount f_varCount f_atSet f_atNeg f_visitCount f_done f_stuck f_curNode f_curEnv f_resultValue f_valueCount f_envCount f_depth a_nKind a_nPart a_nParent a_cNode a_cUp a_cChild a_cInst a_cParam a_queue a_rel a_vKind a_vWord a_vEnv a_vField a_eName a_eValue a_eNext a_fNode a_fEnv a_fPart a_fValue (f + 1) (nI a) (nI s) := by
  intro f
  induction f with
  | zero => intro a s _ h; omega
  | succ f ih =>
    intro a s ha hf hs h
    have q := hN a ha
    refine br_f ?_ (br_f (nI_pos (by omega)) ⟨vp_in_nI (by omega) (by omega), ?_⟩)
    · show ¬ (64 : Int32) ≤ nI s
      rw [nu_g64 (by omega)]; omega
    rw [nI_clamp (by omega), q.1, nI_eq (by omega) (by omega)]
    rw [un_bc] at h
    refine br_c (fun y => by rw [if_pos y] at h; exact h) (fun y => ⟨vp_in_nI (by omega) (by omega), nm_r (e' := nu_o (cu a)) q.2.1 (nm_r (nI_1 s) ?_)⟩)
    rw [if_neg y] at h
    cases e : cu a with
    | none =>
      rw [e] at h
      exact br_c (fun _ => h) (fun _ => br_t (by decide) h)
    | some b =>
      rw [e] at h
      have := hu a ha b e
      exact ih b (s + 1) (by omega) (by omega) (by omega) h
theorem xw_bc (hnc : nc ≤ 64) (hn : n ≤ 48) (hl : l < n) (hN : ∀ k, k < nc → a_cNode k = nI (cn k) ∧ a_cUp k = nu_o (cu k) ∧ cn k < n) (hu : ∀ k, k < nc → nu_lt (cu k) k) {a : Nat} (ha : a < nc) (h : post (nu_o (un_bc cn cu l 64 a))) : wpX_binderCopy post (f_maxNodes, f_maxWeight, f_maxVisits, f_nodeCount, f_sealed, f_verdictNow, f_copyCount, f_varCount, f_atSet, f_atNeg, f_visitCount, f_done, f_stuck, f_curNode, f_curEnv, f_resultValue, f_valueCount, f_envCount, f_depth, a_nKind, a_nPart, a_nParent, a_cNode, a_cUp, a_cChild, a_cInst, a_cParam, a_queue, a_rel, a_vKind, a_vWord, a_vEnv, a_vField, a_eName, a_eValue, a_eNext, a_fNode, a_fEnv, a_fPart, a_fValue) (nI a) (nI l) := ⟨65, xw_bc5 hnc hn hl hN hu 64 a 0 ha (by omega) (by omega) h⟩
end
end
section
/-! X: the base edges -/
def tm_l (pp : Nat → Int32) (m : Nat) : Nat := (pp (4 * m + 1)).toNatClampNeg
theorem tm_l7 {n : Nat} {kd : Nat → Nat} {cd : Nat → Nat → Option Nat} {pp : Nat → Int32} {par : Nat → Option Nat} (W : tm_WF n kd cd pp par) {m : Nat} (h : m < n) (h7 : kd m = 7) : pp (4 * m + 1) = nI (tm_l pp m) ∧ tm_l pp m ≤ 3 := by
  obtain ⟨q, a, b⟩ := tm_lb W h h7
  unfold tm_l
  rw [b, nI_clamp (by omega)]
  exact ⟨rfl, a⟩
/-- X's copies -/
def cp_X (n nc : Nat) (kd cn : Nat → Nat) (cu : Nat → Option Nat) (sb : Nat → Nat → Option Nat) (pv : Nat → Nat) (aN aU aC aI aP : Nat → Int32) : Prop :=
  (∀ k, k < nc → aN k = nI (cn k) ∧ aU k = nu_o (cu k) ∧ cn k < n) ∧ (∀ c s, c < nc → s < 4 → aC (4 * c + s) = nu_o (sb c s)) ∧ (∀ c, c < nc → aI c = nu_o (sb c 4)) ∧ (∀ c, c < nc → aP c = nu_o (if kd (cn c) = 3 then some (pv c) else none))
/-- the copies' tree -/
def cp_T (nc : Nat) (cu : Nat → Option Nat) (sb : Nat → Nat → Option Nat) : Prop := nc ≤ 64 ∧ (∀ k, k < nc → nu_lt (cu k) k) ∧ (∀ c s k, c < nc → s < 5 → sb c s = some k → k < nc)
def cl_bp (kd : Nat → Nat) (bb cu : Nat → Option Nat) (cn : Nat → Nat) (y : Nat) : Option Nat := match bb (cn y) with
  | none => none
  | some l => if kd l = 3 then un_bc cn cu l 64 y else none
/-- the base edges -/
def cl_B (nc : Nat) (kd cn : Nat → Nat) (sb : Nat → Nat → Option Nat) (bp : Nat → Option Nat) (x y : Nat) : Prop := y < nc ∧ ((kd (cn y) = 9 ∧ (sb y 1 = some x ∨ sb y 2 = some x)) ∨ (kd (cn y) = 5 ∧ sb y 2 = some x) ∨ (kd (cn y) = 2 ∧ (sb y 4 = some x ∨ ∃ c, bp y = some c ∧ x = 64 + c)))
/-- what X's rows keep -/
def cl_I (vc : Nat) (x : Nat → Option Nat) (C : Nat → Nat → Prop) (b : Nat) (a : Nat → Int64) : Prop := cl_G vc b a ∧ cl_Sd x C b a
section
variable {f_maxNodes f_maxWeight f_maxVisits f_nodeCount f_sealed f_verdictNow f_copyCount f_varCount : Int32} {f_atSet : Int64} {f_atNeg f_visitCount f_done f_stuck f_curNode f_curEnv f_resultValue f_valueCount f_envCount f_depth : Int32} {a_nKind a_nPart a_nParent a_cNode a_cUp a_cChild a_cInst a_cParam a_queue : Nat → Int32} {a_rel : Nat → Int64} {a_vKind a_vWord a_vEnv a_vField a_eName a_eValue a_eNext a_fNode a_fEnv a_fPart a_fValue : Nat → Int32} {vc b : Nat} {x : Nat → Option Nat} {C : Nat → Nat → Prop}
theorem xw_edge {post : Int32 → SX → Prop} {v w y z : Nat} (hvc : vc ≤ 64) (hb : b ≤ 64) (hx : ∀ y v, x y = some v → v < vc) (hC : ∀ p q r, C p q → C q r → C p r) (ey : x y = some v) (ez : x z = some w) (hyz : C y z) (I : cl_I vc x C b a_rel)
    (h : ∀ g a', cl_I vc x C b a' → cl_le a_rel a' → cl_S x b a' y z → (∀ i, (i < b ∨ b + vc ≤ i) → a' i = a_rel i) → (g = false → a' = a_rel) → (g = true → cl_n b a_rel < cl_n b a') → post (nu_b g) (f_maxNodes, f_maxWeight, f_maxVisits, f_nodeCount, f_sealed, f_verdictNow, f_copyCount, nI vc, f_atSet, f_atNeg, f_visitCount, f_done, f_stuck, f_curNode, f_curEnv, f_resultValue, f_valueCount, f_envCount, f_depth, a_nKind, a_nPart, a_nParent, a_cNode, a_cUp, a_cChild, a_cInst, a_cParam, a_queue, a', a_vKind, a_vWord, a_vEnv, a_vField, a_eName, a_eValue, a_eNext, a_fNode, a_fEnv, a_fPart, a_fValue)) : wpX_addEdge post (f_maxNodes, f_maxWeight, f_maxVisits, f_nodeCount, f_sealed, f_verdictNow, f_copyCount, nI vc, f_atSet, f_atNeg, f_visitCount, f_done, f_stuck, f_curNode, f_curEnv, f_resultValue, f_valueCount, f_envCount, f_depth, a_nKind, a_nPart, a_nParent, a_cNode, a_cUp, a_cChild, a_cInst, a_cParam, a_queue, a_rel, a_vKind, a_vWord, a_vEnv, a_vField, a_eName, a_eValue, a_eNext, a_fNode, a_fEnv, a_fPart, a_fValue) (nI b) (nI v) (nI w) := by
  have hv := hx y v ey
  have hw := hx z w ez
  refine xw_ae hvc hb hv hw (fun q => h false a_rel I (fun _ _ z => z) (Or.inr ⟨v, w, ey, ez, q⟩) (fun _ _ => rfl) (fun _ => rfl) (fun z => by cases z)) (fun q a' g => ?_)
  have n := cl_addn hv hw I.1 g
  exact h true a' ⟨cl_addG hv hw I.1 g, cl_adds hC hx ey ez hyz I.2 g⟩ (cl_addle g) (Or.inr ⟨v, w, ey, ez, n⟩) g.2 (fun z => by cases z) (fun _ => cl_nlt (cl_addle g) (by omega) (by omega) q n)
/-- from an option that may hold no variable -/
theorem xw_edgo {post : Int32 → SX → Prop} {o : Option Nat} {w z : Nat} (hvc : vc ≤ 64) (hb : b ≤ 64) (hx : ∀ y v, x y = some v → v < vc) (hC : ∀ p q r, C p q → C q r → C p r) (ho : ∀ y, o = some y → x y = some y ∧ C y z) (ez : x z = some w) (I : cl_I vc x C b a_rel)
    (h : ∀ g a', cl_I vc x C b a' → cl_le a_rel a' → (∀ y, o = some y → cl_S x b a' y z) → (∀ i, (i < b ∨ b + vc ≤ i) → a' i = a_rel i) → (g = false → a' = a_rel) → (g = true → cl_n b a_rel < cl_n b a') → post (nu_b g) (f_maxNodes, f_maxWeight, f_maxVisits, f_nodeCount, f_sealed, f_verdictNow, f_copyCount, nI vc, f_atSet, f_atNeg, f_visitCount, f_done, f_stuck, f_curNode, f_curEnv, f_resultValue, f_valueCount, f_envCount, f_depth, a_nKind, a_nPart, a_nParent, a_cNode, a_cUp, a_cChild, a_cInst, a_cParam, a_queue, a', a_vKind, a_vWord, a_vEnv, a_vField, a_eName, a_eValue, a_eNext, a_fNode, a_fEnv, a_fPart, a_fValue)) : wpX_addEdge post (f_maxNodes, f_maxWeight, f_maxVisits, f_nodeCount, f_sealed, f_verdictNow, f_copyCount, nI vc, f_atSet, f_atNeg, f_visitCount, f_done, f_stuck, f_curNode, f_curEnv, f_resultValue, f_valueCount, f_envCount, f_depth, a_nKind, a_nPart, a_nParent, a_cNode, a_cUp, a_cChild, a_cInst, a_cParam, a_queue, a_rel, a_vKind, a_vWord, a_vEnv, a_vField, a_eName, a_eValue, a_eNext, a_fNode, a_fEnv, a_fPart, a_fValue) (nI b) (nu_o o) (nI w) := by
  cases e : o with
  | none => exact xw_ae0 (h false a_rel I (fun _ _ z => z) (fun y q => by rw [e] at q; cases q) (fun _ _ => rfl) (fun _ => rfl) (fun z => by cases z))
  | some y =>
    have q := ho y e
    exact xw_edge hvc hb hx hC q.1 ez q.2 I fun g a' h1 h2 h3 h4 h5 h6 => h g a' h1 h2 (fun y' e' => by rw [e] at e'; cases e'; exact h3) h4 h5 h6
end
section
variable {f_maxNodes f_maxWeight f_maxVisits f_nodeCount f_sealed f_verdictNow f_copyCount f_varCount : Int32} {f_atSet : Int64} {f_atNeg f_visitCount f_done f_stuck f_curNode f_curEnv f_resultValue f_valueCount f_envCount f_depth : Int32} {a_nKind a_nPart a_nParent a_cNode a_cUp a_cChild a_cInst a_cParam a_queue : Nat → Int32} {a_rel : Nat → Int64} {a_vKind a_vWord a_vEnv a_vField a_eName a_eValue a_eNext a_fNode a_fEnv a_fPart a_fValue : Nat → Int32} {n : Nat} {kd : Nat → Nat} {cd : Nat → Nat → Option Nat} {pp : Nat → Int32} {par : Nat → Option Nat} {r nc vc : Nat} {cn : Nat → Nat} {cu : Nat → Option Nat} {sb : Nat → Nat → Option Nat} {pv : Nat → Nat} {C : Nat → Nat → Prop} {post : SX → Prop}
theorem xw_rv (W : tm_WF n kd cd pp par) (A : tm_Ag n kd pp a_nKind a_nPart) (hpar : ∀ c, c < n → a_nParent c = nu_o (par c)) (hr : r < n) (X : cp_X n nc kd cn cu sb pv a_cNode a_cUp a_cChild a_cInst a_cParam) (T : cp_T nc cu sb) (P : cl_pv nc vc (fun c => kd (cn c)) pv) (hC : ∀ p q r, C p q → C q r → C p r) {d : Nat} (hd : d < nc) (h2 : kd (cn d) = 2)
    (hcl : ∃ l, bd_b kd cd pp par r (cn d) = some l ∧ (sb d 4 = none → kd l = 3) ∧ (sb d 4 ≠ none → kd l ≠ 3)) (hE : ∀ x, cl_B nc kd cn sb (cl_bp kd (bd_b kd cd pp par r) cu cn) x d → C x d) (I : cl_I vc (cl_x nc (fun c => kd (cn c)) pv) C 0 a_rel)
    (h : ∀ a', cl_I vc (cl_x nc (fun c => kd (cn c)) pv) C 0 a' → cl_le a_rel a' → (∀ i, (i < 0 ∨ 0 + vc ≤ i) → a' i = a_rel i) → (∀ x, cl_B nc kd cn sb (cl_bp kd (bd_b kd cd pp par r) cu cn) x d → cl_S (cl_x nc (fun c => kd (cn c)) pv) 0 a' x d) → post (f_maxNodes, f_maxWeight, f_maxVisits, f_nodeCount, f_sealed, f_verdictNow, f_copyCount, nI vc, f_atSet, f_atNeg, f_visitCount, f_done, f_stuck, f_curNode, f_curEnv, f_resultValue, f_valueCount, f_envCount, f_depth, a_nKind, a_nPart, a_nParent, a_cNode, a_cUp, a_cChild, a_cInst, a_cParam, a_queue, a', a_vKind, a_vWord, a_vEnv, a_vField, a_eName, a_eValue, a_eNext, a_fNode, a_fEnv, a_fPart, a_fValue)) : wpX_relateVar post (f_maxNodes, f_maxWeight, f_maxVisits, f_nodeCount, f_sealed, f_verdictNow, f_copyCount, nI vc, f_atSet, f_atNeg, f_visitCount, f_done, f_stuck, f_curNode, f_curEnv, f_resultValue, f_valueCount, f_envCount, f_depth, a_nKind, a_nPart, a_nParent, a_cNode, a_cUp, a_cChild, a_cInst, a_cParam, a_queue, a_rel, a_vKind, a_vWord, a_vEnv, a_vField, a_eName, a_eValue, a_eNext, a_fNode, a_fEnv, a_fPart, a_fValue) (nI r) (nI d) := by
  have hn := tm_n W
  have hnc := T.1
  have hx : ∀ y v, cl_x nc (fun c => kd (cn c)) pv y = some v → v < vc := fun y v e => (cl_xlt P e).1
  obtain ⟨l, el, hl1, hl2⟩ := hcl
  have hln := bd_blt W l el
  have q := X.1 d hd
  unfold wpX_relateVar
  dsimp only
  refine ⟨vp_in_nI (by omega) (by omega), ?_⟩
  rw [nI_clamp (by omega), X.2.2.1 d hd, q.1]
  have eb : cl_bp kd (bd_b kd cd pp par r) cu cn d = if kd l = 3 then un_bc cn cu l 64 d else none := by
    unfold cl_bp; rw [el]
  cases e4 : sb d 4 with
  | none =>
    have k3 := hl1 e4
    rw [if_pos k3] at eb
    refine br_t (by decide) ⟨vp_in_nI (by omega) (by omega), xw_bd W A hpar hr q.2.2 ?_⟩
    rw [el]
    refine xw_bc (nc := nc) hnc hn hln X.1 T.2.1 hd ?_
    cases ec : un_bc cn cu l 64 d with
    | none =>
      refine br_t (by decide) (h a_rel I (fun _ _ z => z) (fun _ _ => rfl) (fun x ex => ?_))
      obtain ⟨_, z⟩ := ex
      rcases z with z | z | ⟨_, z | ⟨c, z, _⟩⟩
      · omega
      · omega
      · rw [e4] at z; cases z
      · rw [eb, ec] at z; cases z
    | some c =>
      have hc := un_bcs T.2.1 64 d c hd ec
      have kc3 : kd (cn c) = 3 := by rw [hc.2]; exact k3
      refine br_f (nI_pos (by omega)) ⟨vp_in_nI (by omega) (by omega), ?_⟩
      rw [show nu_o (some c) = nI c from rfl, nI_clamp (by omega), X.2.2.2 c hc.1, if_pos kc3]
      have ee : cl_B nc kd cn sb (cl_bp kd (bd_b kd cd pp par r) cu cn) (64 + c) d := ⟨hd, Or.inr (Or.inr ⟨h2, Or.inr ⟨c, by rw [eb, ec], rfl⟩⟩)⟩
      refine xw_edge (b := 0) P.2.2.1 (by omega) hx hC (cl_xp P hc.1 kc3) (cl_xc hd) (hE _ ee) I fun g a' i1 i2 i3 i4 _ _ => h a' i1 i2 i4 (fun x ex => ?_)
      obtain ⟨_, z⟩ := ex
      rcases z with z | z | ⟨_, z | ⟨c', z, zx⟩⟩
      · omega
      · omega
      · rw [e4] at z; cases z
      · rw [eb, ec] at z; cases z; rw [zx]; exact i3
  | some k =>
    have hk := T.2.2 d 4 k hd (by omega) e4
    refine br_f (nI_pos (by omega)) ⟨vp_in_nI (by omega) (by omega), ?_⟩
    have ee : cl_B nc kd cn sb (cl_bp kd (bd_b kd cd pp par r) cu cn) k d := ⟨hd, Or.inr (Or.inr ⟨h2, Or.inl e4⟩)⟩
    refine xw_edge (b := 0) P.2.2.1 (by omega) hx hC (cl_xc hk) (cl_xc hd) (hE _ ee) I fun g a' i1 i2 i3 i4 _ _ => h a' i1 i2 i4 (fun x ex => ?_)
    obtain ⟨_, z⟩ := ex
    rcases z with z | z | ⟨_, z | ⟨c', z, zx⟩⟩
    · omega
    · omega
    · rw [e4] at z; cases z; exact i3
    · rw [eb, if_neg (hl2 (by rw [e4]; intro w; cases w))] at z; cases z
theorem xw_rl27 (W : tm_WF n kd cd pp par) (A : tm_Ag n kd pp a_nKind a_nPart) (hpar : ∀ c, c < n → a_nParent c = nu_o (par c)) (hr : r < n) (X : cp_X n nc kd cn cu sb pv a_cNode a_cUp a_cChild a_cInst a_cParam) (T : cp_T nc cu sb) (P : cl_pv nc vc (fun c => kd (cn c)) pv) (hC : ∀ p q r, C p q → C q r → C p r)
    (hcl : ∀ d, d < nc → kd (cn d) = 2 → ∃ l, bd_b kd cd pp par r (cn d) = some l ∧ (sb d 4 = none → kd l = 3) ∧ (sb d 4 ≠ none → kd l ≠ 3)) (hE : ∀ x d, cl_B nc kd cn sb (cl_bp kd (bd_b kd cd pp par r) cu cn) x d → C x d)
    (h : ∀ a', cl_I vc (cl_x nc (fun c => kd (cn c)) pv) C 0 a' → (∀ x y, cl_B nc kd cn sb (cl_bp kd (bd_b kd cd pp par r) cu cn) x y → cl_S (cl_x nc (fun c => kd (cn c)) pv) 0 a' x y) → post (f_maxNodes, f_maxWeight, f_maxVisits, f_nodeCount, f_sealed, f_verdictNow, nI nc, nI vc, f_atSet, f_atNeg, f_visitCount, f_done, f_stuck, f_curNode, f_curEnv, f_resultValue, f_valueCount, f_envCount, f_depth, a_nKind, a_nPart, a_nParent, a_cNode, a_cUp, a_cChild, a_cInst, a_cParam, a_queue, a', a_vKind, a_vWord, a_vEnv, a_vField, a_eName, a_eValue, a_eNext, a_fNode, a_fEnv, a_fPart, a_fValue)) : ∀ m d, d + m = nc → ∀ a, cl_I vc (cl_x nc (fun c => kd (cn c)) pv) C 0 a → (∀ x y, y < d → cl_B nc kd cn sb (cl_bp kd (bd_b kd cd pp par r) cu cn) x y → cl_S (cl_x nc (fun c => kd (cn c)) pv) 0 a x y) →
    wX_relate_27 post (nI r) (m + 1) (nI d) f_maxNodes f_maxWeight f_maxVisits f_nodeCount f_sealed f_verdictNow (nI nc) (nI vc) f_atSet f_atNeg f_visitCount f_done f_stuck f_curNode f_curEnv f_resultValue f_valueCount f_envCount f_depth a_nKind a_nPart a_nParent a_cNode a_cUp a_cChild a_cInst a_cParam a_queue a a_vKind a_vWord a_vEnv a_vField a_eName a_eValue a_eNext a_fNode a_fEnv a_fPart a_fValue := by
  have hn := tm_n W
  have hnc := T.1
  have hx : ∀ y v, cl_x nc (fun c => kd (cn c)) pv y = some v → v < vc := fun y v e => (cl_xlt P e).1
  intro m
  induction m with
  | zero =>
    intro d hd a I D
    refine br_t ?_ (h a I fun x y e => D x y (by have := e.1; omega) e)
    show nI nc ≤ nI d
    rw [nI_leI (by omega) (by omega)]; omega
  | succ m ih =>
    intro d hd a I D
    have hdn : d < nc := by omega
    have q := X.1 d hdn
    have hk := tm_k W q.2.2
    have N : ∀ a', cl_I vc (cl_x nc (fun c => kd (cn c)) pv) C 0 a' → cl_le a a' → (∀ x, cl_B nc kd cn sb (cl_bp kd (bd_b kd cd pp par r) cu cn) x d → cl_S (cl_x nc (fun c => kd (cn c)) pv) 0 a' x d) → wX_relate_27 post (nI r) (m + 1) (nI (d + 1)) f_maxNodes f_maxWeight f_maxVisits f_nodeCount f_sealed f_verdictNow (nI nc) (nI vc) f_atSet f_atNeg f_visitCount f_done f_stuck f_curNode f_curEnv f_resultValue f_valueCount f_envCount f_depth a_nKind a_nPart a_nParent a_cNode a_cUp a_cChild a_cInst a_cParam a_queue a' a_vKind a_vWord a_vEnv a_vField a_eName a_eValue a_eNext a_fNode a_fEnv a_fPart a_fValue := fun a' I' l' e' => by
      refine ih (d + 1) (by omega) a' I' (fun x y hy e => ?_)
      rcases Nat.lt_or_ge y d with z | z
      · exact cl_Sm l' (D x y z e)
      · have : y = d := by omega
        subst this
        exact e' x e
    refine br_f ?_ ⟨vp_in_nI (by omega) (by omega), ?_⟩
    · show ¬ nI nc ≤ nI d
      rw [nI_leI (by omega) (by omega)]; omega
    rw [nI_clamp (by omega), q.1]
    refine ⟨vp_in_nI (by omega) (by omega), nm_r (e' := nI (kd (cn d))) (by rw [nI_clamp (by omega), A.1 _ q.2.2]) ?_⟩
    rw [nu_e2 (by omega), nu_e5 (by omega), nu_e9 (by omega)]
    refine br_c (fun y2 => xw_rv W A hpar hr X T P hC hdn y2 (hcl d hdn y2) (fun x e => hE x d e) I fun a' i1 i2 _ i3 => nm_r (nI_1 d) (N a' i1 i2 i3)) (fun y2 => br_c (fun y5 => ⟨nu_i4 (i := 2) (by omega) (by omega), ?_⟩) (fun y5 => br_c (fun y9 => ⟨nu_i4 (i := 1) (by omega) (by omega), ?_⟩) (fun y9 => nm_r (nI_1 d) (N a I (fun _ _ z => z) fun x e => ?_))))
    · rw [show (4 * nI d + 2).toNatClampNeg = 4 * d + 2 from nu_c4 (i := 2) (by omega), X.2.1 d 2 hdn (by omega)]
      refine xw_edgo (b := 0) P.2.2.1 (by omega) hx hC (fun y e => ⟨cl_xc (T.2.2 d 2 y hdn (by omega) e), hE y d ⟨hdn, Or.inr (Or.inl ⟨y5, e⟩)⟩⟩) (cl_xc hdn) I fun g a' i1 i2 i3 _ _ _ => nm_r (nI_1 d) (N a' i1 i2 fun x ex => ?_)
      obtain ⟨_, z⟩ := ex
      rcases z with z | z | z
      · omega
      · exact i3 x z.2
      · omega
    · rw [show (4 * nI d + 1).toNatClampNeg = 4 * d + 1 from nu_c4 (i := 1) (by omega), X.2.1 d 1 hdn (by omega)]
      refine xw_edgo (b := 0) P.2.2.1 (by omega) hx hC (fun y e => ⟨cl_xc (T.2.2 d 1 y hdn (by omega) e), hE y d ⟨hdn, Or.inl ⟨y9, Or.inl e⟩⟩⟩) (cl_xc hdn) I fun g a1 i1 i2 i3 _ _ _ => ⟨nu_i4 (i := 2) (by omega) (by omega), ?_⟩
      rw [show (4 * nI d + 2).toNatClampNeg = 4 * d + 2 from nu_c4 (i := 2) (by omega), X.2.1 d 2 hdn (by omega)]
      refine xw_edgo (b := 0) P.2.2.1 (by omega) hx hC (fun y e => ⟨cl_xc (T.2.2 d 2 y hdn (by omega) e), hE y d ⟨hdn, Or.inl ⟨y9, Or.inr e⟩⟩⟩) (cl_xc hdn) i1 fun g a' j1 j2 j3 _ _ _ => nm_r (nI_1 d) (N a' j1 (fun i j w => j2 i j (i2 i j w)) fun x ex => ?_)
      obtain ⟨_, z⟩ := ex
      rcases z with ⟨_, z | z⟩ | z | z
      · exact cl_Sm j2 (i3 x z)
      · exact j3 x z
      · omega
      · omega
    · obtain ⟨_, z⟩ := e
      rcases z with z | z | z
      · exact absurd z.1 y9
      · exact absurd z.1 y5
      · exact absurd z.1 y2
theorem xw_relate (W : tm_WF n kd cd pp par) (A : tm_Ag n kd pp a_nKind a_nPart) (hpar : ∀ c, c < n → a_nParent c = nu_o (par c)) (hr : r < n) (X : cp_X n nc kd cn cu sb pv a_cNode a_cUp a_cChild a_cInst a_cParam) (T : cp_T nc cu sb) (P : cl_pv nc vc (fun c => kd (cn c)) pv) (hC : ∀ p q r, C p q → C q r → C p r) (hC1 : ∀ p, p < 128 → C p p)
    (hcl : ∀ d, d < nc → kd (cn d) = 2 → ∃ l, bd_b kd cd pp par r (cn d) = some l ∧ (sb d 4 = none → kd l = 3) ∧ (sb d 4 ≠ none → kd l ≠ 3)) (hE : ∀ x d, cl_B nc kd cn sb (cl_bp kd (bd_b kd cd pp par r) cu cn) x d → C x d)
    (h : ∀ a', cl_I vc (cl_x nc (fun c => kd (cn c)) pv) C 0 a' → (∀ x y, cl_B nc kd cn sb (cl_bp kd (bd_b kd cd pp par r) cu cn) x y → cl_S (cl_x nc (fun c => kd (cn c)) pv) 0 a' x y) → post (f_maxNodes, f_maxWeight, f_maxVisits, f_nodeCount, f_sealed, f_verdictNow, nI nc, nI vc, f_atSet, f_atNeg, f_visitCount, f_done, f_stuck, f_curNode, f_curEnv, f_resultValue, f_valueCount, f_envCount, f_depth, a_nKind, a_nPart, a_nParent, a_cNode, a_cUp, a_cChild, a_cInst, a_cParam, a_queue, a', a_vKind, a_vWord, a_vEnv, a_vField, a_eName, a_eValue, a_eNext, a_fNode, a_fEnv, a_fPart, a_fValue)) : wpX_relate post (f_maxNodes, f_maxWeight, f_maxVisits, f_nodeCount, f_sealed, f_verdictNow, nI nc, nI vc, f_atSet, f_atNeg, f_visitCount, f_done, f_stuck, f_curNode, f_curEnv, f_resultValue, f_valueCount, f_envCount, f_depth, a_nKind, a_nPart, a_nParent, a_cNode, a_cUp, a_cChild, a_cInst, a_cParam, a_queue, a_rel, a_vKind, a_vWord, a_vEnv, a_vField, a_eName, a_eValue, a_eNext, a_fNode, a_fEnv, a_fPart, a_fValue) (nI r) := by
  have hv := P.2.2.1
  have key : ∀ m v, v + m = vc → ∀ a : Nat → Int64, (∀ u j, u < v → (cl_a a 0 u j ↔ j = u)) → wX_relate_2 post (nI r) f_maxNodes f_maxWeight f_maxVisits f_nodeCount f_sealed f_verdictNow (nI nc) (nI vc) f_atSet f_atNeg f_visitCount f_done f_stuck f_curNode f_curEnv f_resultValue f_valueCount f_envCount f_depth (m + 1) (nI v) a_nKind a_nPart a_nParent a_cNode a_cUp a_cChild a_cInst a_cParam a_queue a a_vKind a_vWord a_vEnv a_vField a_eName a_eValue a_eNext a_fNode a_fEnv a_fPart a_fValue := by
    intro m
    induction m with
    | zero =>
      intro v hvm a D
      have : v = vc := by omega
      subst this
      refine br_t ?_ ⟨nc + 1, xw_rl27 W A hpar hr X T P hC hcl hE h nc 0 (by omega) a ⟨⟨fun u hu => (D u u hu).mpr rfl, fun u p q hu hp h1 h2 => ?_⟩, fun y z p q ey ez hb => ?_⟩ (fun x y hy => by omega)⟩
      · show nI v ≤ nI v
        rw [nI_leI (by omega) (by omega)]; omega
      · rw [D u p hu] at h1
        subst h1
        exact h2
      · rw [D p q (cl_xlt P ey).1] at hb
        subst hb
        rw [cl_xi P ez ey]
        exact hC1 y (cl_xlt P ey).2
    | succ m ih =>
      intro v hvm a D
      refine br_f ?_ ⟨vp_in_nI (by omega) (by omega), nm_r (e' := vp_updL a v ((1 : Int64) <<< ((nI v).toInt64 &&& 63))) (by rw [nI_clamp (by omega)]) (nm_r (nI_1 v) (ih (v + 1) (by omega) _ fun u j hu => ?_))⟩
      · show ¬ nI vc ≤ nI v
        rw [nI_leI (by omega) (by omega)]; omega
      · unfold cl_a
        rw [Nat.zero_add]
        rcases Nat.lt_or_ge u v with z | z
        · rw [pk_uLn (by omega)]
          have := D u j z
          unfold cl_a at this
          rwa [Nat.zero_add] at this
        · have : u = v := by omega
          subst this
          rw [pk_uLs, bi_1 (by omega)]
  exact ⟨vc + 1, key vc 0 (by omega) a_rel (fun u j hu => by omega)⟩
end
end
section
/-! X: uses, clashes, saturation -/
def cl_u (k : Nat) : Nat := if k = 8 then 2 else if k = 4 ∨ k = 7 ∨ k = 9 then 1 else 0
def cl_src (k : Nat) : Bool := k == 1 || k == 3 || k == 6 || k == 8
/-- a use of copy d is in the set -/
def cl_ur (kc : Nat → Nat) (sb : Nat → Nat → Option Nat) (Q : Nat → Prop) (d : Nat) : Prop := ∃ i w, i < cl_u (kc d) ∧ sb d i = some w ∧ Q w
def cl_k (kd : Nat → Nat) (cd : Nat → Nat → Option Nat) (pp : Nat → Int32) (m m' : Nat) : Bool := if kd m' = 4 then decide (kd m ≠ 3) else if kd m' = 7 then decide (kd m ≠ 6 ∨ cd m (tm_l pp m') = none) else decide (kd m ≠ 1 ∧ kd m ≠ 8)
theorem cl_u2 (k : Nat) : cl_u k ≤ 2 := by unfold cl_u; split <;> (try split) <;> omega
section
variable {f_maxNodes f_maxWeight f_maxVisits f_nodeCount f_sealed f_verdictNow f_copyCount f_varCount : Int32} {f_atSet : Int64} {f_atNeg f_visitCount f_done f_stuck f_curNode f_curEnv f_resultValue f_valueCount f_envCount f_depth : Int32} {a_nKind a_nPart a_nParent a_cNode a_cUp a_cChild a_cInst a_cParam a_queue : Nat → Int32} {a_rel : Nat → Int64} {a_vKind a_vWord a_vEnv a_vField a_eName a_eValue a_eNext a_fNode a_fEnv a_fPart a_fValue : Nat → Int32} {n : Nat} {kd : Nat → Nat} {cd : Nat → Nat → Option Nat} {pp : Nat → Int32} {par : Nat → Option Nat} {nc vc : Nat} {cn : Nat → Nat} {cu : Nat → Option Nat} {sb : Nat → Nat → Option Nat} {pv : Nat → Nat} {post : Int32 → Prop} {k : Nat}
theorem xw_uc (hk : k < 10) (h : post (nI (cl_u k))) : wpX_useCount post (f_maxNodes, f_maxWeight, f_maxVisits, f_nodeCount, f_sealed, f_verdictNow, f_copyCount, f_varCount, f_atSet, f_atNeg, f_visitCount, f_done, f_stuck, f_curNode, f_curEnv, f_resultValue, f_valueCount, f_envCount, f_depth, a_nKind, a_nPart, a_nParent, a_cNode, a_cUp, a_cChild, a_cInst, a_cParam, a_queue, a_rel, a_vKind, a_vWord, a_vEnv, a_vField, a_eName, a_eValue, a_eNext, a_fNode, a_fEnv, a_fPart, a_fValue) (nI k) := by
  simp only [wpX_useCount, nu_br (P := post)]
  refine nu_tr h ?_
  clear h
  revert hk; revert k
  decide +kernel
theorem xw_src (hk : k < 10) (h : post (nu_b (cl_src k))) : wpX_isSource post (f_maxNodes, f_maxWeight, f_maxVisits, f_nodeCount, f_sealed, f_verdictNow, f_copyCount, f_varCount, f_atSet, f_atNeg, f_visitCount, f_done, f_stuck, f_curNode, f_curEnv, f_resultValue, f_valueCount, f_envCount, f_depth, a_nKind, a_nPart, a_nParent, a_cNode, a_cUp, a_cChild, a_cInst, a_cParam, a_queue, a_rel, a_vKind, a_vWord, a_vEnv, a_vField, a_eName, a_eValue, a_eNext, a_fNode, a_fEnv, a_fPart, a_fValue) (nI k) := by
  simp only [wpX_isSource, nu_br (P := post)]
  refine nu_tr h ?_
  clear h
  revert hk; revert k
  decide +kernel
theorem xw_ur20 (X : cp_X n nc kd cn cu sb pv a_cNode a_cUp a_cChild a_cInst a_cParam) (T : cp_T nc cu sb) {d u : Nat} (hd : d < nc) (hu : u ≤ 2) {s : Int64} : ∀ m i, i + m = u → ((∃ i' w, i ≤ i' ∧ i' < u ∧ sb d i' = some w ∧ cl_tb s w = true) → post 1) → ((¬ ∃ i' w, i ≤ i' ∧ i' < u ∧ sb d i' = some w ∧ cl_tb s w = true) → post 0) → wX_useReached_20 post (nI d) s (nI u) f_maxNodes f_maxWeight f_maxVisits f_nodeCount f_sealed f_verdictNow f_copyCount f_varCount f_atSet f_atNeg f_visitCount f_done f_stuck f_curNode f_curEnv f_resultValue f_valueCount f_envCount f_depth a_nKind a_nPart a_nParent a_cNode a_cUp a_cChild a_cInst a_cParam a_queue a_rel a_vKind a_vWord a_vEnv a_vField a_eName a_eValue a_eNext a_fNode a_fEnv a_fPart a_fValue (m + 1) (nI i) := by
  have hnc := T.1
  intro m
  induction m with
  | zero =>
    intro i hi h1 h0
    refine br_t ?_ (h0 ?_)
    · show nI u ≤ nI i
      rw [nI_leI (by omega) (by omega)]; omega
    · rintro ⟨i', w, a, b, _⟩; omega
  | succ m ih =>
    intro i hi h1 h0
    have N : (¬ ∃ w, sb d i = some w ∧ cl_tb s w = true) → wX_useReached_20 post (nI d) s (nI u) f_maxNodes f_maxWeight f_maxVisits f_nodeCount f_sealed f_verdictNow f_copyCount f_varCount f_atSet f_atNeg f_visitCount f_done f_stuck f_curNode f_curEnv f_resultValue f_valueCount f_envCount f_depth a_nKind a_nPart a_nParent a_cNode a_cUp a_cChild a_cInst a_cParam a_queue a_rel a_vKind a_vWord a_vEnv a_vField a_eName a_eValue a_eNext a_fNode a_fEnv a_fPart a_fValue (m + 1) (nI (i + 1)) := fun z => by
      refine ih (i + 1) (by omega) (fun q => h1 ?_) (fun q => h0 ?_)
      · obtain ⟨i', w, a, b⟩ := q
        exact ⟨i', w, by omega, b⟩
      · rintro ⟨i', w, a, b, c⟩
        rcases Nat.eq_or_lt_of_le a with e | e
        · subst e; exact z ⟨w, c⟩
        · exact q ⟨i', w, e, b, c⟩
    refine br_f ?_ ⟨nu_i4 (by omega) (by omega), nm_r (e' := nu_o (sb d i)) (by rw [nu_c4 (by omega), X.2.1 d i hd (by omega)]) ?_⟩
    · show ¬ nI u ≤ nI i
      rw [nI_leI (by omega) (by omega)]; omega
    cases e : sb d i with
    | none => exact br_t (by decide) (nm_r (nI_1 i) (N (by rw [e]; rintro ⟨w, z, _⟩; cases z)))
    | some w =>
      have hw := T.2.2 d i w hd (by omega) e
      refine br_f (nI_pos (by omega)) ?_
      rw [show nu_o (some w) = nI w from rfl, bi_t (by omega)]
      refine br_c (fun y => nm_r (nI_1 i) (N ?_)) (fun y => h1 ⟨i, w, Nat.le_refl _, by omega, e, Classical.not_not.mp y⟩)
      rw [e]
      rintro ⟨w', z, q⟩
      cases z
      exact y q
theorem xw_ur (W : tm_WF n kd cd pp par) (A : tm_Ag n kd pp a_nKind a_nPart) (X : cp_X n nc kd cn cu sb pv a_cNode a_cUp a_cChild a_cInst a_cParam) (T : cp_T nc cu sb) {d : Nat} (hd : d < nc) {s : Int64} (h1 : cl_ur (fun c => kd (cn c)) sb (fun w => cl_tb s w = true) d → post 1) (h0 : ¬ cl_ur (fun c => kd (cn c)) sb (fun w => cl_tb s w = true) d → post 0) : wpX_useReached post (f_maxNodes, f_maxWeight, f_maxVisits, f_nodeCount, f_sealed, f_verdictNow, f_copyCount, f_varCount, f_atSet, f_atNeg, f_visitCount, f_done, f_stuck, f_curNode, f_curEnv, f_resultValue, f_valueCount, f_envCount, f_depth, a_nKind, a_nPart, a_nParent, a_cNode, a_cUp, a_cChild, a_cInst, a_cParam, a_queue, a_rel, a_vKind, a_vWord, a_vEnv, a_vField, a_eName, a_eValue, a_eNext, a_fNode, a_fEnv, a_fPart, a_fValue) (nI d) s := by
  have hn := tm_n W
  have hnc := T.1
  have q := X.1 d hd
  have hk := tm_k W q.2.2
  unfold wpX_useReached
  dsimp only
  refine ⟨vp_in_nI (by omega) (by omega), ?_⟩
  rw [nI_clamp (by omega), q.1]
  refine ⟨vp_in_nI (by omega) (by omega), ?_⟩
  rw [nI_clamp (by omega), A.1 _ q.2.2]
  refine xw_uc (by omega) ⟨cl_u (kd (cn d)) + 1, xw_ur20 X T hd (cl_u2 _) (cl_u (kd (cn d))) 0 (by omega) (fun z => h1 ?_) (fun z => h0 ?_)⟩
  · obtain ⟨i, w, _, b⟩ := z
    exact ⟨i, w, b⟩
  · rintro ⟨i, w, b⟩
    exact z ⟨i, w, Nat.zero_le _, b⟩
theorem xw_clash (W : tm_WF n kd cd pp par) (A : tm_Ag n kd pp a_nKind a_nPart) {m m' : Nat} (hm : m < n) (hm' : m' < n) (h : post (nu_b (cl_k kd cd pp m m'))) : wpX_clashes post (f_maxNodes, f_maxWeight, f_maxVisits, f_nodeCount, f_sealed, f_verdictNow, f_copyCount, f_varCount, f_atSet, f_atNeg, f_visitCount, f_done, f_stuck, f_curNode, f_curEnv, f_resultValue, f_valueCount, f_envCount, f_depth, a_nKind, a_nPart, a_nParent, a_cNode, a_cUp, a_cChild, a_cInst, a_cParam, a_queue, a_rel, a_vKind, a_vWord, a_vEnv, a_vField, a_eName, a_eValue, a_eNext, a_fNode, a_fEnv, a_fPart, a_fValue) (nI m) (nI m') := by
  have hn := tm_n W
  have hk := tm_k W hm
  have hk' := tm_k W hm'
  unfold cl_k at h
  refine ⟨vp_in_nI (by omega) (by omega), nm_r (e' := nI (kd m)) (by rw [nI_clamp (by omega), A.1 m hm]) ⟨vp_in_nI (by omega) (by omega), nm_r (e' := nI (kd m')) (by rw [nI_clamp (by omega), A.1 m' hm']) ?_⟩⟩
  rw [nu_e4 (by omega), nu_e7 (by omega), nu_e3 (by omega), nu_e6 (by omega), nu_e1 (by omega), nu_e8 (by omega)]
  refine br_c (fun y4 => ?_) (fun y4 => br_c (fun y7 => ?_) (fun y7 => ?_))
  · rw [if_pos y4] at h
    exact br_c (fun z => by rw [decide_eq_false (fun w => w z)] at h; exact h) (fun z => by rw [decide_eq_true z] at h; exact h)
  · rw [if_neg y4, if_pos y7] at h
    refine br_c (fun z => ?_) (fun z => by rw [decide_eq_true (Or.inl z)] at h; exact h)
    have L := tm_l7 W hm' y7
    have hs : tm_slot (kd m) (tm_l pp m') = true := by rw [z]; rfl
    rw [show (4 * nI m' + 1).toNatClampNeg = 4 * m' + 1 from nu_c4 (i := 1) (by omega), A.2 _ (by omega), L.1, nu_c4 (by omega), A.2 _ (by omega), tm_s W hm (by omega) hs, nu_ole (tm_cl' W hm)]
    refine ⟨nu_i4 (i := 1) (by omega) (by omega), nu_i4 (by omega) (by omega), br_c (fun w => ?_) (fun w => ?_)⟩
    · rw [decide_eq_false (fun q => q.elim (fun q => q z) w)] at h; exact h
    · rw [decide_eq_true (Or.inr (Classical.not_not.mp w))] at h; exact h
  · rw [if_neg y4, if_neg y7] at h
    refine br_c (fun z => ?_) (fun z => br_c (fun w => ?_) (fun w => ?_))
    · rw [decide_eq_false (fun q => q.1 z)] at h; exact h
    · rw [decide_eq_false (fun q => q.2 w)] at h; exact h
    · rw [decide_eq_true ⟨z, w⟩] at h; exact h
/-- some source meets a use that it clashes with -/
def cl_ac (nc : Nat) (kd cn : Nat → Nat) (cd : Nat → Nat → Option Nat) (pp : Nat → Int32) (sb : Nat → Nat → Option Nat) (Q : Nat → Nat → Prop) (c d : Nat) : Prop := c < nc ∧ d < nc ∧ cl_src (kd (cn c)) = true ∧ cl_ur (fun c => kd (cn c)) sb (Q c) d ∧ cl_k kd cd pp (cn c) (cn d) = true
theorem xw_ac30 (W : tm_WF n kd cd pp par) (A : tm_Ag n kd pp a_nKind a_nPart) (X : cp_X n nc kd cn cu sb pv a_cNode a_cUp a_cChild a_cInst a_cParam) (T : cp_T nc cu sb) {b c : Nat} (hb : b ≤ 64) (hc : c < nc) (hs : cl_src (kd (cn c)) = true) {J : Int32 → Prop} : ∀ m d, d + m = nc → ((∃ d', d ≤ d' ∧ cl_ac nc kd cn cd pp sb (cl_a a_rel b) c d') → post 1) → ((¬ ∃ d', d ≤ d' ∧ cl_ac nc kd cn cd pp sb (cl_a a_rel b) c d') → J (nI (c + 1))) → wX_anyClash_30 post J (nI b) (nI c) f_maxNodes f_maxWeight f_maxVisits f_nodeCount f_sealed f_verdictNow (nI nc) f_varCount f_atSet f_atNeg f_visitCount f_done f_stuck f_curNode f_curEnv f_resultValue f_valueCount f_envCount f_depth a_nKind a_nPart a_nParent a_cNode a_cUp a_cChild a_cInst a_cParam a_queue a_rel a_vKind a_vWord a_vEnv a_vField a_eName a_eValue a_eNext a_fNode a_fEnv a_fPart a_fValue (m + 1) (nI d) := by
  have hn := tm_n W
  have hnc := T.1
  intro m
  induction m with
  | zero =>
    intro d hd h1 h0
    refine br_t ?_ (nm_r (nI_1 c) (h0 ?_))
    · show nI nc ≤ nI d
      rw [nI_leI (by omega) (by omega)]; omega
    · rintro ⟨d', a, _, q, _⟩; omega
  | succ m ih =>
    intro d hd h1 h0
    have N : (¬ cl_ac nc kd cn cd pp sb (cl_a a_rel b) c d) → wX_anyClash_30 post J (nI b) (nI c) f_maxNodes f_maxWeight f_maxVisits f_nodeCount f_sealed f_verdictNow (nI nc) f_varCount f_atSet f_atNeg f_visitCount f_done f_stuck f_curNode f_curEnv f_resultValue f_valueCount f_envCount f_depth a_nKind a_nPart a_nParent a_cNode a_cUp a_cChild a_cInst a_cParam a_queue a_rel a_vKind a_vWord a_vEnv a_vField a_eName a_eValue a_eNext a_fNode a_fEnv a_fPart a_fValue (m + 1) (nI (d + 1)) := fun z => by
      refine ih (d + 1) (by omega) (fun q => h1 ?_) (fun q => h0 ?_)
      · obtain ⟨d', a, q⟩ := q
        exact ⟨d', by omega, q⟩
      · rintro ⟨d', a, w⟩
        rcases Nat.eq_or_lt_of_le a with e | e
        · subst e; exact z w
        · exact q ⟨d', e, w⟩
    refine br_f ?_ ⟨by rw [nI_add]; exact vp_in_nI (by omega) (by omega), ?_⟩
    · show ¬ nI nc ≤ nI d
      rw [nI_leI (by omega) (by omega)]; omega
    rw [nI_add, nI_clamp (show b + c < 2 ^ 31 by omega)]
    refine xw_ur W A X T (by omega) (fun y => br_f (by decide) ⟨vp_in_nI (by omega) (by omega), vp_in_nI (by omega) (by omega), ?_⟩) (fun y => br_t rfl (nm_r (nI_1 d) (N fun z => y z.2.2.2.1)))
    rw [nI_clamp (show c < 2 ^ 31 by omega), nI_clamp (show d < 2 ^ 31 by omega), (X.1 c hc).1, (X.1 d (by omega)).1]
    refine xw_clash W A (X.1 c hc).2.2 (X.1 d (by omega)).2.2 ?_
    rw [nu_b0]
    exact br_c (fun z => nm_r (nI_1 d) (N fun w => by rw [w.2.2.2.2] at z; cases z)) (fun z => h1 ⟨d, Nat.le_refl _, hc, by omega, hs, y, ts_nf z⟩)
theorem xw_ac (W : tm_WF n kd cd pp par) (A : tm_Ag n kd pp a_nKind a_nPart) (X : cp_X n nc kd cn cu sb pv a_cNode a_cUp a_cChild a_cInst a_cParam) (T : cp_T nc cu sb) {b : Nat} (hb : b ≤ 64) (h1 : (∃ c d, cl_ac nc kd cn cd pp sb (cl_a a_rel b) c d) → post 1) (h0 : (¬ ∃ c d, cl_ac nc kd cn cd pp sb (cl_a a_rel b) c d) → post 0) : wpX_anyClash post (f_maxNodes, f_maxWeight, f_maxVisits, f_nodeCount, f_sealed, f_verdictNow, nI nc, f_varCount, f_atSet, f_atNeg, f_visitCount, f_done, f_stuck, f_curNode, f_curEnv, f_resultValue, f_valueCount, f_envCount, f_depth, a_nKind, a_nPart, a_nParent, a_cNode, a_cUp, a_cChild, a_cInst, a_cParam, a_queue, a_rel, a_vKind, a_vWord, a_vEnv, a_vField, a_eName, a_eValue, a_eNext, a_fNode, a_fEnv, a_fPart, a_fValue) (nI b) := by
  have hn := tm_n W
  have hnc := T.1
  have key : ∀ m c, c + m = nc → ((∃ c' d, c ≤ c' ∧ cl_ac nc kd cn cd pp sb (cl_a a_rel b) c' d) → post 1) → ((¬ ∃ c' d, c ≤ c' ∧ cl_ac nc kd cn cd pp sb (cl_a a_rel b) c' d) → post 0) → wX_anyClash_2 post (nI b) f_maxNodes f_maxWeight f_maxVisits f_nodeCount f_sealed f_verdictNow (nI nc) f_varCount f_atSet f_atNeg f_visitCount f_done f_stuck f_curNode f_curEnv f_resultValue f_valueCount f_envCount f_depth a_nKind a_nPart a_nParent a_cNode a_cUp a_cChild a_cInst a_cParam a_queue a_rel a_vKind a_vWord a_vEnv a_vField a_eName a_eValue a_eNext a_fNode a_fEnv a_fPart a_fValue (m + 1) (nI c) := by
    intro m
    induction m with
    | zero =>
      intro c hc h1 h0
      refine br_t ?_ (h0 ?_)
      · show nI nc ≤ nI c
        rw [nI_leI (by omega) (by omega)]; omega
      · rintro ⟨c', d', a, q, _⟩; omega
    | succ m ih =>
      intro c hc h1 h0
      have q := X.1 c (by omega)
      have hk := tm_k W q.2.2
      have N : (¬ ∃ d, cl_ac nc kd cn cd pp sb (cl_a a_rel b) c d) → wX_anyClash_2 post (nI b) f_maxNodes f_maxWeight f_maxVisits f_nodeCount f_sealed f_verdictNow (nI nc) f_varCount f_atSet f_atNeg f_visitCount f_done f_stuck f_curNode f_curEnv f_resultValue f_valueCount f_envCount f_depth a_nKind a_nPart a_nParent a_cNode a_cUp a_cChild a_cInst a_cParam a_queue a_rel a_vKind a_vWord a_vEnv a_vField a_eName a_eValue a_eNext a_fNode a_fEnv a_fPart a_fValue (m + 1) (nI (c + 1)) := fun z => by
        refine ih (c + 1) (by omega) (fun q => h1 ?_) (fun q => h0 ?_)
        · obtain ⟨c', d, a, q⟩ := q
          exact ⟨c', d, by omega, q⟩
        · rintro ⟨c', d, a, w⟩
          rcases Nat.eq_or_lt_of_le a with e | e
          · subst e; exact z ⟨d, w⟩
          · exact q ⟨c', d, e, w⟩
      refine br_f ?_ ⟨vp_in_nI (by omega) (by omega), ?_⟩
      · show ¬ nI nc ≤ nI c
        rw [nI_leI (by omega) (by omega)]; omega
      rw [nI_clamp (by omega), q.1]
      refine ⟨vp_in_nI (by omega) (by omega), ?_⟩
      rw [nI_clamp (by omega), A.1 _ q.2.2]
      refine xw_src (by omega) ?_
      rw [nu_b0]
      refine br_c (fun z => nm_r (nI_1 c) (N ?_)) (fun z => ⟨nc + 1, xw_ac30 W A X T hb (by omega) (ts_nf z) nc 0 (by omega) (fun w => h1 ?_) (fun w => N ?_)⟩)
      · rintro ⟨d, _, _, w, _⟩
        rw [w] at z; cases z
      · obtain ⟨d, _, w⟩ := w
        exact ⟨c, d, Nat.le_refl _, w⟩
      · rintro ⟨d, q⟩
        exact w ⟨d, Nat.zero_le _, q⟩
  refine ⟨nc + 1, key nc 0 (by omega) (fun z => h1 ?_) (fun z => h0 ?_)⟩
  · obtain ⟨c, d, _, z⟩ := z
    exact ⟨c, d, z⟩
  · rintro ⟨c, d, w⟩
    exact z ⟨c, d, Nat.zero_le _, w⟩
end
/-- the rules 6 and 7 at source c, use d -/
def cl_r1 (kc : Nat → Nat) (sb : Nat → Nat → Option Nat) (lb : Nat → Nat) (S : Nat → Nat → Prop) (c d : Nat) : Prop := ∀ w, sb d 0 = some w → S c w →
    (kc c = 3 → kc d = 4 → (∀ a, sb d 1 = some a → S a (64 + c)) ∧ (∀ b, sb c 1 = some b → S b d)) ∧ (kc c = 6 → kc d = 7 → ∀ f, sb c (lb d) = some f → S f d)
section
variable {f_maxNodes f_maxWeight f_maxVisits f_nodeCount f_sealed f_verdictNow f_copyCount f_varCount : Int32} {f_atSet : Int64} {f_atNeg f_visitCount f_done f_stuck f_curNode f_curEnv f_resultValue f_valueCount f_envCount f_depth : Int32} {a_nKind a_nPart a_nParent a_cNode a_cUp a_cChild a_cInst a_cParam a_queue : Nat → Int32} {a_rel : Nat → Int64} {a_vKind a_vWord a_vEnv a_vField a_eName a_eValue a_eNext a_fNode a_fEnv a_fPart a_fValue : Nat → Int32} {n : Nat} {kd : Nat → Nat} {cd : Nat → Nat → Option Nat} {pp : Nat → Int32} {par : Nat → Option Nat} {nc vc b : Nat} {cn : Nat → Nat} {cu : Nat → Option Nat} {sb : Nat → Nat → Option Nat} {pv : Nat → Nat} {E : Nat → Nat → Prop}
theorem xw_grow {post : Int32 → SX → Prop} (W : tm_WF n kd cd pp par) (A : tm_Ag n kd pp a_nKind a_nPart) (X : cp_X n nc kd cn cu sb pv a_cNode a_cUp a_cChild a_cInst a_cParam) (T : cp_T nc cu sb) (P : cl_pv nc vc (fun c => kd (cn c)) pv) (hb : b ≤ 64) {c d : Nat} (hc : c < nc) (hd : d < nc) (I : cl_I vc (cl_x nc (fun c => kd (cn c)) pv) (cl_C nc (fun c => kd (cn c)) sb (fun c => tm_l pp (cn c)) E) b a_rel)
    (h : ∀ g a', cl_I vc (cl_x nc (fun c => kd (cn c)) pv) (cl_C nc (fun c => kd (cn c)) sb (fun c => tm_l pp (cn c)) E) b a' → cl_le a_rel a' → (∀ i, (i < b ∨ b + vc ≤ i) → a' i = a_rel i) → (g = false → a' = a_rel ∧ cl_r1 (fun c => kd (cn c)) sb (fun c => tm_l pp (cn c)) (cl_S (cl_x nc (fun c => kd (cn c)) pv) b a_rel) c d) → (g = true → cl_n b a_rel < cl_n b a') → post (nu_b g) (f_maxNodes, f_maxWeight, f_maxVisits, f_nodeCount, f_sealed, f_verdictNow, nI nc, nI vc, f_atSet, f_atNeg, f_visitCount, f_done, f_stuck, f_curNode, f_curEnv, f_resultValue, f_valueCount, f_envCount, f_depth, a_nKind, a_nPart, a_nParent, a_cNode, a_cUp, a_cChild, a_cInst, a_cParam, a_queue, a', a_vKind, a_vWord, a_vEnv, a_vField, a_eName, a_eValue, a_eNext, a_fNode, a_fEnv, a_fPart, a_fValue)) : wpX_grow post (f_maxNodes, f_maxWeight, f_maxVisits, f_nodeCount, f_sealed, f_verdictNow, nI nc, nI vc, f_atSet, f_atNeg, f_visitCount, f_done, f_stuck, f_curNode, f_curEnv, f_resultValue, f_valueCount, f_envCount, f_depth, a_nKind, a_nPart, a_nParent, a_cNode, a_cUp, a_cChild, a_cInst, a_cParam, a_queue, a_rel, a_vKind, a_vWord, a_vEnv, a_vField, a_eName, a_eValue, a_eNext, a_fNode, a_fEnv, a_fPart, a_fValue) (nI b) (nI c) (nI d) := by
  have hn := tm_n W
  have hnc := T.1
  have hx : ∀ y v, (cl_x nc (fun c => kd (cn c)) pv) y = some v → v < vc := fun y v e => (cl_xlt P e).1
  have hC : ∀ p q r, (cl_C nc (fun c => kd (cn c)) sb (fun c => tm_l pp (cn c)) E) p q → (cl_C nc (fun c => kd (cn c)) sb (fun c => tm_l pp (cn c)) E) q r → (cl_C nc (fun c => kd (cn c)) sb (fun c => tm_l pp (cn c)) E) p r := fun p q r => cl_t
  have qc := X.1 c hc
  have qd := X.1 d hd
  have hkc := tm_k W qc.2.2
  have hkd := tm_k W qd.2.2
  have Z : ¬ (kd (cn c) = 3 ∧ kd (cn d) = 4) → ¬ (kd (cn c) = 6 ∧ kd (cn d) = 7) → post 0 (f_maxNodes, f_maxWeight, f_maxVisits, f_nodeCount, f_sealed, f_verdictNow, nI nc, nI vc, f_atSet, f_atNeg, f_visitCount, f_done, f_stuck, f_curNode, f_curEnv, f_resultValue, f_valueCount, f_envCount, f_depth, a_nKind, a_nPart, a_nParent, a_cNode, a_cUp, a_cChild, a_cInst, a_cParam, a_queue, a_rel, a_vKind, a_vWord, a_vEnv, a_vField, a_eName, a_eValue, a_eNext, a_fNode, a_fEnv, a_fPart, a_fValue) := fun z1 z2 =>
    h false a_rel I (fun _ _ z => z) (fun _ _ => rfl) (fun _ => ⟨rfl, fun w _ _ => ⟨fun a b => absurd ⟨a, b⟩ z1, fun a b => absurd ⟨a, b⟩ z2⟩⟩) (fun z => by cases z)
  have F : ∀ z : Bool, (z = true → kd (cn c) = 3 ∧ kd (cn d) = 4) → (z = false → kd (cn c) = 6 ∧ kd (cn d) = 7) → wX_grow_78 post (nI b) (nI c) (nI d) (nu_b z) f_maxNodes f_maxWeight f_maxVisits f_nodeCount f_sealed f_verdictNow (nI nc) (nI vc) f_atSet f_atNeg f_visitCount f_done f_stuck f_curNode f_curEnv f_resultValue f_valueCount f_envCount f_depth a_nKind a_nPart a_nParent a_cNode a_cUp a_cChild a_cInst a_cParam a_queue a_rel a_vKind a_vWord a_vEnv a_vField a_eName a_eValue a_eNext a_fNode a_fEnv a_fPart a_fValue := fun z z1 z2 => by
    have hu : cl_u (kd (cn d)) = 1 := by
      cases ez : z with
      | true => rw [(z1 ez).2]; rfl
      | false => rw [(z2 ez).2]; rfl
    refine ⟨by rw [nI_add]; exact vp_in_nI (by omega) (by omega), ?_⟩
    rw [nI_add, nI_clamp (show b + c < 2 ^ 31 by omega)]
    refine xw_ur W A X T hd (fun y => br_f (by decide) ?_) (fun y => br_t rfl (h false a_rel I (fun _ _ z => z) (fun _ _ => rfl) (fun _ => ⟨rfl, fun w ew es => ?_⟩) (fun z => by cases z)))
    · obtain ⟨i, w, hi, ew, hbit⟩ := y
      have : i = 0 := by
        have hi' : i < cl_u (kd (cn d)) := hi
        omega
      subst this
      have hw := T.2.2 d 0 w hd (by omega) ew
      have hcw : (cl_C nc (fun c => kd (cn c)) sb (fun c => tm_l pp (cn c)) E) c w := I.2 c w c w (cl_xc hc) (cl_xc hw) hbit
      cases ez : z with
      | true =>
        have k3 := (z1 ez).1
        have k4 := (z1 ez).2
        refine br_f (by decide) ⟨nu_i4 (i := 1) (by omega) (by omega), vp_in_nI (by omega) (by omega), ?_⟩
        rw [show (4 * nI d + 1).toNatClampNeg = 4 * d + 1 from nu_c4 (i := 1) (by omega), X.2.1 d 1 hd (by omega), nI_clamp (by omega), X.2.2.2 c hc, if_pos k3]
        refine xw_edgo (z := 64 + c) P.2.2.1 hb hx hC (fun y e => ⟨cl_xc (T.2.2 d 1 y hd (by omega) e), cl_app hc hd ew hcw k3 k4 e⟩) (cl_xp P hc k3) I fun g1 a1 i1 i2 i3 i4 i5 i6 => ⟨nu_i4 (i := 1) (by omega) (by omega), ?_⟩
        rw [show (4 * nI c + 1).toNatClampNeg = 4 * c + 1 from nu_c4 (i := 1) (by omega), X.2.1 c 1 hc (by omega)]
        refine xw_edgo (z := d) P.2.2.1 hb hx hC (fun y e => ⟨cl_xc (T.2.2 c 1 y hc (by omega) e), cl_res hc hd ew hcw k3 k4 e⟩) (cl_xc hd) i1 fun g2 a2 j1 j2 j3 j4 j5 j6 => ?_
        have le2 : cl_le a_rel a2 := fun i j w => j2 i j (i2 i j w)
        have rest : ∀ i, (i < b ∨ b + vc ≤ i) → a2 i = a_rel i := fun i hi => (j4 i hi).trans (i4 i hi)
        have G1 : (g1 = true ∨ g2 = true) → post 1 (f_maxNodes, f_maxWeight, f_maxVisits, f_nodeCount, f_sealed, f_verdictNow, nI nc, nI vc, f_atSet, f_atNeg, f_visitCount, f_done, f_stuck, f_curNode, f_curEnv, f_resultValue, f_valueCount, f_envCount, f_depth, a_nKind, a_nPart, a_nParent, a_cNode, a_cUp, a_cChild, a_cInst, a_cParam, a_queue, a2, a_vKind, a_vWord, a_vEnv, a_vField, a_eName, a_eValue, a_eNext, a_fNode, a_fEnv, a_fPart, a_fValue) := fun g => by
          refine h true a2 j1 le2 rest (fun z => by cases z) (fun _ => ?_)
          rcases g with g | g
          · exact Nat.lt_of_lt_of_le (i6 g) (cl_nm j2)
          · exact Nat.lt_of_le_of_lt (cl_nm i2) (j6 g)
        cases eg1 : g1 with
        | true => exact br_f (by decide) (G1 (Or.inl eg1))
        | false =>
          refine br_t rfl ?_
          cases eg2 : g2 with
          | true => exact br_f (by decide) (G1 (Or.inr eg2))
          | false =>
            have e1 := i5 eg1
            have e2 := j5 eg2
            subst e1
            subst e2
            refine br_t rfl (h false _ I (fun _ _ z => z) (fun _ _ => rfl) (fun _ => ⟨rfl, fun w' ew' es => ⟨fun _ _ => ⟨fun y e => i3 y e, fun y e => j3 y e⟩, fun k6 _ => ?_⟩⟩) (fun z => by cases z))
            exact absurd (k3.symm.trans k6 : (3 : Nat) = 6) (by decide)
      | false =>
        have k6 := (z2 ez).1
        have k7 := (z2 ez).2
        have L := tm_l7 W qd.2.2 k7
        refine br_t (by decide) ⟨vp_in_nI (by omega) (by omega), ?_⟩
        rw [nI_clamp (by omega), qd.1]
        refine ⟨nu_i4 (i := 1) (by omega) (by omega), nm_r (e' := nI (tm_l pp (cn d))) ?_ ⟨nu_i4 (by omega) (by omega), ?_⟩⟩
        · rw [show (4 * nI (cn d) + 1).toNatClampNeg = 4 * cn d + 1 from nu_c4 (i := 1) (by omega), A.2 _ (by omega), L.1]
        rw [nu_c4 (by omega), X.2.1 c _ hc (by omega)]
        refine xw_edgo (z := d) P.2.2.1 hb hx hC (fun y e => ⟨cl_xc (T.2.2 c _ y hc (by omega) e), cl_sel hc hd ew hcw k6 k7 e⟩) (cl_xc hd) I fun g a1 i1 i2 i3 i4 i5 i6 => ⟨nu_nb g, h g a1 i1 i2 i4 (fun eg => ?_) i6⟩
        have e1 := i5 eg
        subst e1
        exact ⟨rfl, fun w' ew' es => ⟨fun k3 _ => absurd (k6.symm.trans k3 : (6 : Nat) = 3) (by decide), fun _ _ f e => i3 f e⟩⟩
    · exfalso
      refine y ⟨0, w, by show 0 < cl_u (kd (cn d)); omega, ew, ?_⟩
      have hw := T.2.2 d 0 w hd (by omega) ew
      rcases es with e | ⟨v, v', e1, e2, e3⟩
      · subst e
        exact I.1.1 c (by have := P.2.1; omega)
      · rw [cl_xc hc] at e1
        rw [cl_xc hw] at e2
        cases e1
        cases e2
        exact e3
  have F1 : kd (cn c) = 3 → kd (cn d) = 4 → wX_grow_43 post (nI b) (nI c) (nI d) (nI (kd (cn c))) (nI (kd (cn d))) 1 f_maxNodes f_maxWeight f_maxVisits f_nodeCount f_sealed f_verdictNow (nI nc) (nI vc) f_atSet f_atNeg f_visitCount f_done f_stuck f_curNode f_curEnv f_resultValue f_valueCount f_envCount f_depth a_nKind a_nPart a_nParent a_cNode a_cUp a_cChild a_cInst a_cParam a_queue a_rel a_vKind a_vWord a_vEnv a_vField a_eName a_eValue a_eNext a_fNode a_fEnv a_fPart a_fValue := fun k3 k4 => by
    unfold wX_grow_43
    rw [nu_e6 (by omega)]
    refine br_f (by omega) (br_f (by decide) (F true (fun _ => ⟨k3, k4⟩) (fun z => by cases z)))
  have F2 : ¬ (kd (cn c) = 3 ∧ kd (cn d) = 4) → wX_grow_42 post (nI b) (nI c) (nI d) (nI (kd (cn c))) (nI (kd (cn d))) f_maxNodes f_maxWeight f_maxVisits f_nodeCount f_sealed f_verdictNow (nI nc) (nI vc) f_atSet f_atNeg f_visitCount f_done f_stuck f_curNode f_curEnv f_resultValue f_valueCount f_envCount f_depth a_nKind a_nPart a_nParent a_cNode a_cUp a_cChild a_cInst a_cParam a_queue a_rel a_vKind a_vWord a_vEnv a_vField a_eName a_eValue a_eNext a_fNode a_fEnv a_fPart a_fValue := fun k34 => by
    unfold wX_grow_42 wX_grow_43
    rw [nu_e6 (by omega), nu_e7 (by omega)]
    refine br_c (fun k6 => br_c (fun k7 => br_t rfl (br_f (by decide) (F false (fun z => by cases z) (fun _ => ⟨k6, k7⟩)))) (fun k7 => br_t rfl (br_t rfl (Z k34 fun w => k7 w.2)))) (fun k6 => br_t rfl (br_t rfl (Z k34 fun w => k6 w.1)))
  unfold wpX_grow
  dsimp only
  refine ⟨vp_in_nI (by omega) (by omega), ?_⟩
  rw [nI_clamp (show c < 2 ^ 31 by omega), qc.1]
  refine ⟨vp_in_nI (by omega) (by omega), nm_r (e' := nI (kd (cn c))) (by rw [nI_clamp (by omega), A.1 _ qc.2.2]) ⟨vp_in_nI (by omega) (by omega), ?_⟩⟩
  rw [nI_clamp (show d < 2 ^ 31 by omega), qd.1]
  refine ⟨vp_in_nI (by omega) (by omega), nm_r (e' := nI (kd (cn d))) (by rw [nI_clamp (by omega), A.1 _ qd.2.2]) ?_⟩
  rw [nu_e3 (by omega), nu_e4 (by omega)]
  exact br_c (fun k3 => br_c (fun k4 => F1 k3 k4) (fun k4 => F2 fun w => k4 w.2)) (fun k3 => F2 fun w => k3 w.1)
/-- a round's state: from rows s to rows a, changed or not -/
def cl_Q (vc : Nat) (x : Nat → Option Nat) (C : Nat → Nat → Prop) (b : Nat) (s : Nat → Int64) (g : Bool) (a : Nat → Int64) : Prop := cl_I vc x C b a ∧ cl_le s a ∧ (∀ i, (i < b ∨ b + vc ≤ i) → a i = s i) ∧ (g = false → a = s) ∧ (g = true → cl_n b s < cl_n b a)
variable {post : SX → Prop}
theorem xw_st32 {J4 J20 : Int32 → Int32 → Int32 → Int32 → Int32 → Int32 → Int32 → Int32 → Int32 → Int32 → Int64 → Int32 → Int32 → Int32 → Int32 → Int32 → Int32 → Int32 → Int32 → Int32 → Int32 → (Nat → Int32) → (Nat → Int32) → (Nat → Int32) → (Nat → Int32) → (Nat → Int32) → (Nat → Int32) → (Nat → Int32) → (Nat → Int32) → (Nat → Int32) → (Nat → Int64) → (Nat → Int32) → (Nat → Int32) → (Nat → Int32) → (Nat → Int32) → (Nat → Int32) → (Nat → Int32) → (Nat → Int32) → (Nat → Int32) → (Nat → Int32) → (Nat → Int32) → (Nat → Int32) → Prop} {x3 : Int32} {PR : Prop} (W : tm_WF n kd cd pp par) (A : tm_Ag n kd pp a_nKind a_nPart) (X : cp_X n nc kd cn cu sb pv a_cNode a_cUp a_cChild a_cInst a_cParam) (T : cp_T nc cu sb) (P : cl_pv nc vc (fun c => kd (cn c)) pv) (hb : b ≤ 64) {c : Nat} (hc : c < nc) {s : Nat → Int64}
    (h : ∀ g a, cl_Q vc (cl_x nc (fun c => kd (cn c)) pv) (cl_C nc (fun c => kd (cn c)) sb (fun c => tm_l pp (cn c)) E) b s g a → (g = false → PR ∧ ∀ d, d < nc → cl_r1 (fun c => kd (cn c)) sb (fun c => tm_l pp (cn c)) (cl_S (cl_x nc (fun c => kd (cn c)) pv) b s) c d) → J20 (nu_b g) (nI (c + 1)) f_maxNodes f_maxWeight f_maxVisits f_nodeCount f_sealed f_verdictNow (nI nc) (nI vc) f_atSet f_atNeg f_visitCount f_done f_stuck f_curNode f_curEnv f_resultValue f_valueCount f_envCount f_depth a_nKind a_nPart a_nParent a_cNode a_cUp a_cChild a_cInst a_cParam a_queue a a_vKind a_vWord a_vEnv a_vField a_eName a_eValue a_eNext a_fNode a_fEnv a_fPart a_fValue) : ∀ m d, d + m = nc → ∀ g a, cl_Q vc (cl_x nc (fun c => kd (cn c)) pv) (cl_C nc (fun c => kd (cn c)) sb (fun c => tm_l pp (cn c)) E) b s g a → (g = false → PR ∧ ∀ d', d' < d → cl_r1 (fun c => kd (cn c)) sb (fun c => tm_l pp (cn c)) (cl_S (cl_x nc (fun c => kd (cn c)) pv) b s) c d') →
    wX_saturate_32 post J4 J20 (nI b) x3 (nI c) (m + 1) (nu_b g) (nI d) f_maxNodes f_maxWeight f_maxVisits f_nodeCount f_sealed f_verdictNow (nI nc) (nI vc) f_atSet f_atNeg f_visitCount f_done f_stuck f_curNode f_curEnv f_resultValue f_valueCount f_envCount f_depth a_nKind a_nPart a_nParent a_cNode a_cUp a_cChild a_cInst a_cParam a_queue a a_vKind a_vWord a_vEnv a_vField a_eName a_eValue a_eNext a_fNode a_fEnv a_fPart a_fValue := by
  have hnc := T.1
  intro m
  induction m with
  | zero =>
    intro d hd g a Q D
    have : d = nc := by omega
    subst this
    refine br_t ?_ (nm_r (nI_1 c) (h g a Q D))
    rw [nI_leI (by omega) (by omega)]; omega
  | succ m ih =>
    intro d hd g a Q D
    refine br_f ?_ (xw_grow W A X T P hb hc (by omega) Q.1 fun g' a' i1 i2 i3 i4 i5 => ?_)
    · show ¬ nI nc ≤ nI d
      rw [nI_leI (by omega) (by omega)]; omega
    · have le : cl_le s a' := fun i j w => i2 i j (Q.2.1 i j w)
      have rest : ∀ i, (i < b ∨ b + vc ≤ i) → a' i = s i := fun i hi => (i3 i hi).trans (Q.2.2.1 i hi)
      rw [nu_b0]
      refine br_c (fun y => ?_) (fun y => ?_)
      · have e := i4 y
        have e1 := e.1
        subst e1
        refine nm_r (nI_1 d) (ih (d + 1) (by omega) g a' Q fun eg => ⟨(D eg).1, fun d' hd' => ?_⟩)
        rcases Nat.lt_or_ge d' d with z | z
        · exact (D eg).2 d' z
        · have : d' = d := by omega
          subst this
          have es := Q.2.2.2.1 eg
          rw [← es]
          exact e.2
      · have y' := ts_nf y
        refine nm_r (nI_1 d) (ih (d + 1) (by omega) true a' ⟨i1, le, rest, fun z => (by cases z), fun _ => Nat.lt_of_le_of_lt (cl_nm Q.2.1) (i5 y')⟩ fun z => by cases z)
theorem xw_st20 {J4 : Int32 → Int32 → Int32 → Int32 → Int32 → Int32 → Int32 → Int32 → Int32 → Int32 → Int64 → Int32 → Int32 → Int32 → Int32 → Int32 → Int32 → Int32 → Int32 → Int32 → Int32 → (Nat → Int32) → (Nat → Int32) → (Nat → Int32) → (Nat → Int32) → (Nat → Int32) → (Nat → Int32) → (Nat → Int32) → (Nat → Int32) → (Nat → Int32) → (Nat → Int64) → (Nat → Int32) → (Nat → Int32) → (Nat → Int32) → (Nat → Int32) → (Nat → Int32) → (Nat → Int32) → (Nat → Int32) → (Nat → Int32) → (Nat → Int32) → (Nat → Int32) → (Nat → Int32) → Prop} {k : Nat} (W : tm_WF n kd cd pp par) (A : tm_Ag n kd pp a_nKind a_nPart) (X : cp_X n nc kd cn cu sb pv a_cNode a_cUp a_cChild a_cInst a_cParam) (T : cp_T nc cu sb) (P : cl_pv nc vc (fun c => kd (cn c)) pv) (hb : b ≤ 64) {s : Nat → Int64}
    (h : ∀ g a, cl_Q vc (cl_x nc (fun c => kd (cn c)) pv) (cl_C nc (fun c => kd (cn c)) sb (fun c => tm_l pp (cn c)) E) b s g a → (g = false → ∀ c d, c < nc → d < nc → cl_r1 (fun c => kd (cn c)) sb (fun c => tm_l pp (cn c)) (cl_S (cl_x nc (fun c => kd (cn c)) pv) b s) c d) → J4 (nu_b g) (nI (k + 1)) f_maxNodes f_maxWeight f_maxVisits f_nodeCount f_sealed f_verdictNow (nI nc) (nI vc) f_atSet f_atNeg f_visitCount f_done f_stuck f_curNode f_curEnv f_resultValue f_valueCount f_envCount f_depth a_nKind a_nPart a_nParent a_cNode a_cUp a_cChild a_cInst a_cParam a_queue a a_vKind a_vWord a_vEnv a_vField a_eName a_eValue a_eNext a_fNode a_fEnv a_fPart a_fValue) : ∀ m c, c + m = nc → ∀ g a, cl_Q vc (cl_x nc (fun c => kd (cn c)) pv) (cl_C nc (fun c => kd (cn c)) sb (fun c => tm_l pp (cn c)) E) b s g a → (g = false → ∀ c' d, c' < c → d < nc → cl_r1 (fun c => kd (cn c)) sb (fun c => tm_l pp (cn c)) (cl_S (cl_x nc (fun c => kd (cn c)) pv) b s) c' d) →
    wX_saturate_20 post J4 (nI b) (nI k) (m + 1) (nu_b g) (nI c) f_maxNodes f_maxWeight f_maxVisits f_nodeCount f_sealed f_verdictNow (nI nc) (nI vc) f_atSet f_atNeg f_visitCount f_done f_stuck f_curNode f_curEnv f_resultValue f_valueCount f_envCount f_depth a_nKind a_nPart a_nParent a_cNode a_cUp a_cChild a_cInst a_cParam a_queue a a_vKind a_vWord a_vEnv a_vField a_eName a_eValue a_eNext a_fNode a_fEnv a_fPart a_fValue := by
  have hnc := T.1
  intro m
  induction m with
  | zero =>
    intro c hc g a Q D
    have : c = nc := by omega
    subst this
    refine br_t ?_ (nm_r (nI_1 k) (h g a Q D))
    rw [nI_leI (by omega) (by omega)]; omega
  | succ m ih =>
    intro c hc g a Q D
    refine br_f ?_ ⟨nc + 1, xw_st32 (PR := ∀ c' d, c' < c → d < nc → cl_r1 (fun c => kd (cn c)) sb (fun c => tm_l pp (cn c)) (cl_S (cl_x nc (fun c => kd (cn c)) pv) b s) c' d) W A X T P hb (by omega) (fun g' a' Q' D' => ih (c + 1) (by omega) g' a' Q' fun eg c' d hc' hd => ?_) nc 0 (by omega) g a Q (fun eg => ⟨D eg, fun d' hd' => by omega⟩)⟩
    · show ¬ nI nc ≤ nI c
      rw [nI_leI (by omega) (by omega)]; omega
    · rcases Nat.lt_or_ge c' c with z | z
      · exact (D' eg).1 c' d z hd
      · have : c' = c := by omega
        subst this
        exact (D' eg).2 d hd
theorem xw_sat (W : tm_WF n kd cd pp par) (A : tm_Ag n kd pp a_nKind a_nPart) (X : cp_X n nc kd cn cu sb pv a_cNode a_cUp a_cChild a_cInst a_cParam) (T : cp_T nc cu sb) (P : cl_pv nc vc (fun c => kd (cn c)) pv) (hb : b ≤ 64) (I : cl_I vc (cl_x nc (fun c => kd (cn c)) pv) (cl_C nc (fun c => kd (cn c)) sb (fun c => tm_l pp (cn c)) E) b a_rel)
    (h : ∀ a, cl_I vc (cl_x nc (fun c => kd (cn c)) pv) (cl_C nc (fun c => kd (cn c)) sb (fun c => tm_l pp (cn c)) E) b a → cl_le a_rel a → (∀ i, (i < b ∨ b + vc ≤ i) → a i = a_rel i) → cl_R nc (fun c => kd (cn c)) sb (fun c => tm_l pp (cn c)) (cl_S (cl_x nc (fun c => kd (cn c)) pv) b a) → post (f_maxNodes, f_maxWeight, f_maxVisits, f_nodeCount, f_sealed, f_verdictNow, nI nc, nI vc, f_atSet, f_atNeg, f_visitCount, f_done, f_stuck, f_curNode, f_curEnv, f_resultValue, f_valueCount, f_envCount, f_depth, a_nKind, a_nPart, a_nParent, a_cNode, a_cUp, a_cChild, a_cInst, a_cParam, a_queue, a, a_vKind, a_vWord, a_vEnv, a_vField, a_eName, a_eValue, a_eNext, a_fNode, a_fEnv, a_fPart, a_fValue)) : wpX_saturate post (f_maxNodes, f_maxWeight, f_maxVisits, f_nodeCount, f_sealed, f_verdictNow, nI nc, nI vc, f_atSet, f_atNeg, f_visitCount, f_done, f_stuck, f_curNode, f_curEnv, f_resultValue, f_valueCount, f_envCount, f_depth, a_nKind, a_nPart, a_nParent, a_cNode, a_cUp, a_cChild, a_cInst, a_cParam, a_queue, a_rel, a_vKind, a_vWord, a_vEnv, a_vField, a_eName, a_eValue, a_eNext, a_fNode, a_fEnv, a_fPart, a_fValue) (nI b) := by
  have hnc := T.1
  have key : ∀ m k, k + m = 4097 → ∀ g a, cl_I vc (cl_x nc (fun c => kd (cn c)) pv) (cl_C nc (fun c => kd (cn c)) sb (fun c => tm_l pp (cn c)) E) b a → cl_le a_rel a → (∀ i, (i < b ∨ b + vc ≤ i) → a i = a_rel i) → (g = false → cl_R nc (fun c => kd (cn c)) sb (fun c => tm_l pp (cn c)) (cl_S (cl_x nc (fun c => kd (cn c)) pv) b a)) → (g = true → k ≤ cl_n b a) → wX_saturate_4 post (nI b) (m + 1) (nu_b g) (nI k) f_maxNodes f_maxWeight f_maxVisits f_nodeCount f_sealed f_verdictNow (nI nc) (nI vc) f_atSet f_atNeg f_visitCount f_done f_stuck f_curNode f_curEnv f_resultValue f_valueCount f_envCount f_depth a_nKind a_nPart a_nParent a_cNode a_cUp a_cChild a_cInst a_cParam a_queue a a_vKind a_vWord a_vEnv a_vField a_eName a_eValue a_eNext a_fNode a_fEnv a_fPart a_fValue := by
    intro m
    induction m with
    | zero =>
      intro k hk g a i1 i2 i3 i4 i5
      have hg : g = false := by
        cases e : g with
        | false => rfl
        | true => have := i5 e; have := cl_nle b a; omega
      refine br_t ?_ (h a i1 i2 i3 (i4 hg))
      show (4096 : Int32) < nI k
      rw [nu_q4096 (by omega)]; omega
    | succ m ih =>
      intro k hk g a i1 i2 i3 i4 i5
      refine br_f ?_ ?_
      · show ¬ (4096 : Int32) < nI k
        rw [nu_q4096 (by omega)]; omega
      rw [nu_b0]
      refine br_c (fun y => h a i1 i2 i3 (i4 y)) (fun y => ⟨nc + 1, ?_⟩)
      refine xw_st20 W A X T P hb (fun g' a' Q D => ih (k + 1) (by omega) g' a' Q.1 (fun i j w => Q.2.1 i j (i2 i j w)) (fun i hi => (Q.2.2.1 i hi).trans (i3 i hi)) (fun eg c d w hc hd ew es => ?_) (fun eg => ?_)) nc 0 (by omega) false a ⟨i1, fun _ _ z => z, fun _ _ => rfl, fun _ => rfl, fun z => by cases z⟩ (fun _ c' d hc' => by omega)
      · have e := Q.2.2.2.1 eg
        subst e
        exact D eg c d hc hd w ew es
      · have := Q.2.2.2.2 eg
        have := i5 (ts_nf y)
        omega
  exact ⟨4098, key 4097 0 rfl true a_rel I (fun _ _ z => z) (fun _ _ => rfl) (fun z => by cases z) (fun _ => Nat.zero_le _)⟩
end
end
section
/-! Y: copies, edges, the base -/
def cp_Y (n nc : Nat) (cn : Nat → Nat) (cu : Nat → Option Nat) (cs : Nat → Nat) (sb : Nat → Nat → Option Nat) (bN bP bS : Nat → Int32) : Prop :=
  (∀ k, k < nc → bN k = nI (cn k) ∧ bP k = nu_o (cu k) ∧ bS k = nI (cs k) ∧ cn k < n ∧ cs k < 5) ∧ (∀ c s k, c < nc → s < 5 → (sb c s = some k ↔ k < nc ∧ cu k = some c ∧ cs k = s))
def yl_a (b : Nat → Int32) (v w : Nat) : Prop := b (v * 128 + w) ≠ 0
def yl_I (C : Nat → Nat → Prop) (b : Nat → Int32) : Prop := (∀ i, i < 16384 → b i = 0 ∨ b i = 1) ∧ (∀ v w, v < 128 → w < 128 → yl_a b v w → C v w)
def yl_le (b b' : Nat → Int32) : Prop := ∀ i, i < 16384 → b i ≠ 0 → b' i ≠ 0
noncomputable def yl_n (b : Nat → Int32) : Nat := kc_n (fun i => b i ≠ 0) 16384
theorem yl_nm {b b' : Nat → Int32} (h : yl_le b b') : yl_n b ≤ yl_n b' := kc_m h
theorem yl_nle (b : Nat → Int32) : yl_n b ≤ 16384 := kc_le _ _
theorem yl_aa {b b' : Nat → Int32} (h : yl_le b b') {v w : Nat} (hv : v < 128) (hw : w < 128) (a : yl_a b v w) : yl_a b' v w := h _ (by omega) a
section
variable {g_maxNodes g_maxWeight g_maxVisits g_count g_root g_nc g_weight g_grown g_neg g_made g_next g_nextPar g_nextSlot g_nextLex g_stuck : Int32} {b_kinds b_parts b_cNode b_cPar b_cSlot b_le b_saved b_cur b_nxt b_first b_vNode b_vPar b_vSlot b_vLex b_val b_num : Nat → Int32} {n nc : Nat} {cn : Nat → Nat} {cu : Nat → Option Nat} {cs : Nat → Nat} {sb : Nat → Nat → Option Nat} {C : Nat → Nat → Prop}
theorem yw_sub {post : Int32 → Prop} (Y : cp_Y n nc cn cu cs sb b_cNode b_cPar b_cSlot) (T : cp_T nc cu sb) {c s : Nat} (hc : c < nc) (hs : s < 5) (h : post (nu_o (sb c s))) : wpY_sub post (g_maxNodes, g_maxWeight, g_maxVisits, g_count, g_root, nI nc, g_weight, g_grown, g_neg, g_made, g_next, g_nextPar, g_nextSlot, g_nextLex, g_stuck, b_kinds, b_parts, b_cNode, b_cPar, b_cSlot, b_le, b_saved, b_cur, b_nxt, b_first, b_vNode, b_vPar, b_vSlot, b_vLex, b_val, b_num) (nI c) (nI s) := by
  have hnc := T.1
  have key : ∀ d k, k + d = nc → (∀ k', k' < nc → cu k' = some c → cs k' = s → post (nI k')) → ((∀ k', k ≤ k' → k' < nc → ¬ (cu k' = some c ∧ cs k' = s)) → post (-1)) → wY_sub_2 post (nI c) (nI s) g_maxNodes g_maxWeight g_maxVisits g_count g_root (nI nc) g_weight g_grown g_neg g_made g_next g_nextPar g_nextSlot g_nextLex g_stuck b_kinds b_parts b_cNode b_cPar b_cSlot b_le b_saved b_cur b_nxt b_first b_vNode b_vPar b_vSlot b_vLex b_val b_num (d + 1) (nI k) := by
    intro d
    induction d with
    | zero =>
      intro k hk h1 h0
      refine br_t ?_ (h0 fun k' a b => by omega)
      show nI nc ≤ nI k
      rw [nI_leI (by omega) (by omega)]; omega
    | succ d ih =>
      intro k hk h1 h0
      have q := Y.1 k (by omega)
      have N : ¬ (cu k = some c ∧ cs k = s) → wY_sub_2 post (nI c) (nI s) g_maxNodes g_maxWeight g_maxVisits g_count g_root (nI nc) g_weight g_grown g_neg g_made g_next g_nextPar g_nextSlot g_nextLex g_stuck b_kinds b_parts b_cNode b_cPar b_cSlot b_le b_saved b_cur b_nxt b_first b_vNode b_vPar b_vSlot b_vLex b_val b_num (d + 1) (nI (k + 1)) := fun z => by
        refine ih (k + 1) (by omega) h1 (fun g => h0 fun k' a b => ?_)
        rcases Nat.eq_or_lt_of_le a with e | e
        · subst e; exact z
        · exact g k' e b
      refine br_f ?_ ⟨vp_in_nI (by omega) (by omega), ?_⟩
      · show ¬ nI nc ≤ nI k
        rw [nI_leI (by omega) (by omega)]; omega
      rw [nI_clamp (by omega), q.2.1, q.2.2.1, nu_oeq (nu_ltm (T.2.1 k (by omega)) (by omega)) (by omega), nI_eq (by omega) (by omega)]
      exact br_c (fun e1 => ⟨vp_in_nI (by omega) (by omega), br_c (fun e2 => h1 k (by omega) e1 e2) (fun e2 => nm_r (nI_1 k) (N fun w => e2 w.2))⟩) (fun e1 => nm_r (nI_1 k) (N fun w => e1 w.1))
  refine ⟨nc + 1, key nc 0 (by omega) (fun k' a b e => ?_) (fun g => ?_)⟩
  · rw [(Y.2 c s k' hc hs).mpr ⟨a, b, e⟩] at h; exact h
  · cases e : sb c s with
    | none => rw [e] at h; exact h
    | some k =>
      have := (Y.2 c s k hc hs).mp e
      exact absurd this.2 (g k (Nat.zero_le _) this.1)
theorem yw_put {post : SY → Prop} {v w : Nat} (hv : v < 128) (hw : w < 128) (hyz : C v w) (I : yl_I C b_le)
    (h : ∀ g' b', yl_I C b' → yl_le b_le b' → yl_a b' v w → ((g' = g_grown ∧ b' = b_le) ∨ (g' = 1 ∧ yl_n b_le < yl_n b')) → post (g_maxNodes, g_maxWeight, g_maxVisits, g_count, g_root, g_nc, g_weight, g', g_neg, g_made, g_next, g_nextPar, g_nextSlot, g_nextLex, g_stuck, b_kinds, b_parts, b_cNode, b_cPar, b_cSlot, b', b_saved, b_cur, b_nxt, b_first, b_vNode, b_vPar, b_vSlot, b_vLex, b_val, b_num)) : wpY_put post (g_maxNodes, g_maxWeight, g_maxVisits, g_count, g_root, g_nc, g_weight, g_grown, g_neg, g_made, g_next, g_nextPar, g_nextSlot, g_nextLex, g_stuck, b_kinds, b_parts, b_cNode, b_cPar, b_cSlot, b_le, b_saved, b_cur, b_nxt, b_first, b_vNode, b_vPar, b_vSlot, b_vLex, b_val, b_num) (nI v) (nI w) := by
  unfold wpY_put
  dsimp only
  rw [nu_r128, nI_add, nI_clamp (show v * 128 + w < 2 ^ 31 by omega)]
  refine br_f (nI_pos (by omega)) (br_f (nI_pos (by omega)) ⟨vp_in_nI (by omega) (by omega), br_c (fun y => ⟨vp_in_nI (by omega) (by omega), nm_r (e' := upd b_le (v * 128 + w) 1) (by rw [nu_v1]; rfl) ?_⟩) (fun y => h _ _ I (fun _ _ z => z) y (Or.inl ⟨rfl, rfl⟩))⟩)
  have n1 : ¬ (1 : Int32) = 0 := by decide
  have l : yl_le b_le (upd b_le (v * 128 + w) 1) := fun i hi z => by
    by_cases e : i = v * 128 + w
    · subst e; rw [pk_us]; exact n1
    · rw [pk_un e]; exact z
  have a : yl_a (upd b_le (v * 128 + w) 1) v w := by
    unfold yl_a; rw [pk_us]; exact n1
  refine h 1 _ ⟨fun i hi => ?_, fun v' w' hv' hw' z => ?_⟩ l a (Or.inr ⟨rfl, kc_lt (a := v * 128 + w) (fun z => z y) a l (by omega)⟩)
  · by_cases e : i = v * 128 + w
    · subst e; rw [pk_us]; exact Or.inr rfl
    · rw [pk_un e]; exact I.1 i hi
  · unfold yl_a at z
    by_cases e : v' * 128 + w' = v * 128 + w
    · have e1 : v' = v := by omega
      have e2 : w' = w := by omega
      rw [e1, e2]; exact hyz
    · rw [pk_un e] at z; exact I.2 v' w' hv' hw' z
theorem yw_puto {post : SY → Prop} {o : Option Nat} {w : Nat} (hv : nu_lt o 128) (hw : w < 128) (hyz : ∀ v, o = some v → C v w) (I : yl_I C b_le)
    (h : ∀ g' b', yl_I C b' → yl_le b_le b' → (∀ v, o = some v → yl_a b' v w) → ((g' = g_grown ∧ b' = b_le) ∨ (g' = 1 ∧ yl_n b_le < yl_n b')) → post (g_maxNodes, g_maxWeight, g_maxVisits, g_count, g_root, g_nc, g_weight, g', g_neg, g_made, g_next, g_nextPar, g_nextSlot, g_nextLex, g_stuck, b_kinds, b_parts, b_cNode, b_cPar, b_cSlot, b', b_saved, b_cur, b_nxt, b_first, b_vNode, b_vPar, b_vSlot, b_vLex, b_val, b_num)) : wpY_put post (g_maxNodes, g_maxWeight, g_maxVisits, g_count, g_root, g_nc, g_weight, g_grown, g_neg, g_made, g_next, g_nextPar, g_nextSlot, g_nextLex, g_stuck, b_kinds, b_parts, b_cNode, b_cPar, b_cSlot, b_le, b_saved, b_cur, b_nxt, b_first, b_vNode, b_vPar, b_vSlot, b_vLex, b_val, b_num) (nu_o o) (nI w) := by
  cases e : o with
  | none => exact br_t (by decide) (h _ _ I (fun _ _ z => z) (fun v z => by rw [e] at z; cases z) (Or.inl ⟨rfl, rfl⟩))
  | some v => exact yw_put (hv v e) hw (hyz v e) I fun g' b' i1 i2 i3 i4 => h g' b' i1 i2 (fun v' z => by rw [e] at z; cases z; exact i3) i4
end
section
variable {g_maxNodes g_maxWeight g_maxVisits g_count g_root g_nc g_weight g_grown g_neg g_made g_next g_nextPar g_nextSlot g_nextLex g_stuck : Int32} {b_kinds b_parts b_cNode b_cPar b_cSlot b_le b_saved b_cur b_nxt b_first b_vNode b_vPar b_vSlot b_vLex b_val b_num : Nat → Int32} {n : Nat} {kd : Nat → Nat} {cd : Nat → Nat → Option Nat} {pp : Nat → Int32} {par : Nat → Option Nat} {r nc : Nat} {cn : Nat → Nat} {cu : Nat → Option Nat} {cs : Nat → Nat} {sb : Nat → Nat → Option Nat} {C : Nat → Nat → Prop} {post : SY → Prop}
theorem yw_ba181 {J : Int32 → Int32 → Int32 → Int32 → Int32 → Int32 → Int32 → Int32 → Int32 → Int32 → Int32 → Int32 → Int32 → Int32 → Int32 → Int32 → (Nat → Int32) → (Nat → Int32) → (Nat → Int32) → (Nat → Int32) → (Nat → Int32) → (Nat → Int32) → (Nat → Int32) → (Nat → Int32) → (Nat → Int32) → (Nat → Int32) → (Nat → Int32) → (Nat → Int32) → (Nat → Int32) → (Nat → Int32) → (Nat → Int32) → (Nat → Int32) → Prop} (hn : n ≤ 48) (Y : cp_Y n nc cn cu cs sb b_cNode b_cPar b_cSlot) (T : cp_T nc cu sb) {d l : Nat} (hd : d < nc) (hl : l < n) (I : yl_I C b_le) (hE : ∀ c, un_bc cn cu l 64 d = some c → C (64 + c) d)
    (h : ∀ g b, yl_I C b → yl_le b_le b → (∀ c, un_bc cn cu l 64 d = some c → yl_a b (64 + c) d) → J (nI (d + 1)) g_maxNodes g_maxWeight g_maxVisits g_count g_root (nI nc) g_weight g g_neg g_made g_next g_nextPar g_nextSlot g_nextLex g_stuck b_kinds b_parts b_cNode b_cPar b_cSlot b b_saved b_cur b_nxt b_first b_vNode b_vPar b_vSlot b_vLex b_val b_num) : ∀ f a s, a < nc → a < f → s + a < 64 → un_bc cn cu l f a = un_bc cn cu l 64 d → wY_base_181 post J (nI d) (nI l) g_maxNodes g_maxWeight g_maxVisits g_count g_root (nI nc) g_weight g_grown g_neg g_made g_next g_nextPar g_nextSlot g_nextLex g_stuck b_kinds b_parts b_cNode b_cPar b_cSlot b_le b_saved b_cur b_nxt b_first b_vNode b_vPar b_vSlot b_vLex b_val b_num (f + 1) (nI a) (nI s) := by
  have hnc := T.1
  have Z : un_bc cn cu l 64 d = none → wY_base_220 post J (nI d) (-1) g_maxNodes g_maxWeight g_maxVisits g_count g_root (nI nc) g_weight g_grown g_neg g_made g_next g_nextPar g_nextSlot g_nextLex g_stuck b_kinds b_parts b_cNode b_cPar b_cSlot b_le b_saved b_cur b_nxt b_first b_vNode b_vPar b_vSlot b_vLex b_val b_num := fun e => br_t (by decide) (nm_r (nI_1 d) (h _ _ I (fun _ _ z => z) (fun c z => by rw [e] at z; cases z)))
  intro f
  induction f with
  | zero => intro a s _ h; omega
  | succ f ih =>
    intro a s ha hf hs e
    have q := Y.1 a ha
    refine br_f ?_ (br_f (nI_pos (by omega)) ⟨vp_in_nI (by omega) (by omega), ?_⟩)
    · show ¬ (64 : Int32) ≤ nI s
      rw [nu_g64 (by omega)]; omega
    rw [nI_clamp (by omega), q.1, nI_eq (by omega) (by omega)]
    rw [un_bc] at e
    refine br_c (fun y => br_f (nI_pos (by omega)) ?_) (fun y => ⟨vp_in_nI (by omega) (by omega), nm_r (e' := nu_o (cu a)) q.2.1 (nm_r (nI_1 s) ?_)⟩)
    · rw [if_pos y] at e
      rw [nu_64]
      refine yw_put (by omega) (by omega) (hE a e.symm) I fun g b i1 i2 i3 _ => nm_r (nI_1 d) (h g b i1 i2 fun c z => ?_)
      rw [← e] at z; cases z; exact i3
    · rw [if_neg y] at e
      cases ea : cu a with
      | none =>
        rw [ea] at e
        exact br_c (fun _ => Z e.symm) (fun _ => br_t (by decide) (Z e.symm))
      | some b =>
        rw [ea] at e
        have := T.2.1 a ha b ea
        exact ih b (s + 1) (by omega) (by omega) (by omega) e
/-- after the slots: the variable's binder -/
theorem yw_ba157 {J : Int32 → Int32 → Int32 → Int32 → Int32 → Int32 → Int32 → Int32 → Int32 → Int32 → Int32 → Int32 → Int32 → Int32 → Int32 → Int32 → (Nat → Int32) → (Nat → Int32) → (Nat → Int32) → (Nat → Int32) → (Nat → Int32) → (Nat → Int32) → (Nat → Int32) → (Nat → Int32) → (Nat → Int32) → (Nat → Int32) → (Nat → Int32) → (Nat → Int32) → (Nat → Int32) → (Nat → Int32) → (Nat → Int32) → (Nat → Int32) → Prop} (W : tm_WF n kd cd pp par) (A : tm_Ag n kd pp b_kinds b_parts) (Y : cp_Y n nc cn cu cs sb b_cNode b_cPar b_cSlot) (T : cp_T nc cu sb) {d : Nat} (hd : d < nc) (I : yl_I C b_le) (hE : ∀ c, cl_bp kd (bd_b kd cd pp par r) cu cn d = some c → C (64 + c) d)
    (h : ∀ g b, yl_I C b → yl_le b_le b → (∀ c, cl_bp kd (bd_b kd cd pp par r) cu cn d = some c → yl_a b (64 + c) d) → J (nI (d + 1)) g_maxNodes g_maxWeight g_maxVisits (nI n) (nI r) (nI nc) g_weight g g_neg g_made g_next g_nextPar g_nextSlot g_nextLex g_stuck b_kinds b_parts b_cNode b_cPar b_cSlot b b_saved b_cur b_nxt b_first b_vNode b_vPar b_vSlot b_vLex b_val b_num) : wY_base_157 post J (nI d) (nu_o (bd_b kd cd pp par r (cn d))) g_maxNodes g_maxWeight g_maxVisits (nI n) (nI r) (nI nc) g_weight g_grown g_neg g_made g_next g_nextPar g_nextSlot g_nextLex g_stuck b_kinds b_parts b_cNode b_cPar b_cSlot b_le b_saved b_cur b_nxt b_first b_vNode b_vPar b_vSlot b_vLex b_val b_num := by
  have hn := tm_n W
  have hnc := T.1
  cases e : bd_b kd cd pp par r (cn d) with
  | none =>
    have eb : cl_bp kd (bd_b kd cd pp par r) cu cn d = none := by unfold cl_bp; rw [e]
    exact br_t (by decide) (nm_r (nI_1 d) (h _ _ I (fun _ _ z => z) (fun c z => by rw [eb] at z; cases z)))
  | some l =>
    have hl := bd_blt W l e
    have hk := tm_k W hl
    have eb : cl_bp kd (bd_b kd cd pp par r) cu cn d = if kd l = 3 then un_bc cn cu l 64 d else none := by unfold cl_bp; rw [e]
    refine br_f (nI_pos (by omega)) ⟨vp_in_nI (by omega) (by omega), ?_⟩
    rw [show nu_o (some l) = nI l from rfl, nI_clamp (by omega), A.1 l hl, nu_e3 (by omega)]
    refine br_c (fun y => ⟨65, ?_⟩) (fun y => nm_r (nI_1 d) (h _ _ I (fun _ _ z => z) (fun c z => by rw [eb, if_neg y] at z; cases z)))
    rw [if_pos y] at eb
    exact yw_ba181 hn Y T hd hl I (fun c z => hE c (by rw [eb]; exact z)) (fun g b i1 i2 i3 => h g b i1 i2 fun c z => i3 c (by rw [← eb]; exact z)) 64 d 0 hd (by omega) (by omega) rfl
/-- which slots make an edge -/
def yl_s (k s : Nat) : Prop := (k = 9 ∧ s < 3) ∨ (k = 5 ∧ s = 2) ∨ (k = 2 ∧ s = 4)
theorem yw_ba77 {J : Int32 → Int32 → Int32 → Int32 → Int32 → Int32 → Int32 → Int32 → Int32 → Int32 → Int32 → Int32 → Int32 → Int32 → Int32 → Int32 → (Nat → Int32) → (Nat → Int32) → (Nat → Int32) → (Nat → Int32) → (Nat → Int32) → (Nat → Int32) → (Nat → Int32) → (Nat → Int32) → (Nat → Int32) → (Nat → Int32) → (Nat → Int32) → (Nat → Int32) → (Nat → Int32) → (Nat → Int32) → (Nat → Int32) → (Nat → Int32) → Prop} (W : tm_WF n kd cd pp par) (A : tm_Ag n kd pp b_kinds b_parts) (Y : cp_Y n nc cn cu cs sb b_cNode b_cPar b_cSlot) (T : cp_T nc cu sb) (hr : r < n) {d : Nat} (hd : d < nc) (hE : ∀ x, cl_B nc kd cn sb (cl_bp kd (bd_b kd cd pp par r) cu cn) x d → C x d) (b0 : Nat → Int32)
    (h : ∀ g b, yl_I C b → yl_le b0 b → (∀ x, cl_B nc kd cn sb (cl_bp kd (bd_b kd cd pp par r) cu cn) x d → yl_a b x d) → J (nI (d + 1)) g_maxNodes g_maxWeight g_maxVisits (nI n) (nI r) (nI nc) g_weight g g_neg g_made g_next g_nextPar g_nextSlot g_nextLex g_stuck b_kinds b_parts b_cNode b_cPar b_cSlot b b_saved b_cur b_nxt b_first b_vNode b_vPar b_vSlot b_vLex b_val b_num) : ∀ m s, s + m = 5 → 1 ≤ s → ∀ g b, yl_I C b → yl_le b0 b → (∀ s' x, 1 ≤ s' → s' < s → yl_s (kd (cn d)) s' → sb d s' = some x → yl_a b x d) →
    wY_base_77 post J (nI d) (nI (cn d)) (nI (kd (cn d))) (m + 1) (nI s) g_maxNodes g_maxWeight g_maxVisits (nI n) (nI r) (nI nc) g_weight g g_neg g_made g_next g_nextPar g_nextSlot g_nextLex g_stuck b_kinds b_parts b_cNode b_cPar b_cSlot b b_saved b_cur b_nxt b_first b_vNode b_vPar b_vSlot b_vLex b_val b_num := by
  have hn := tm_n W
  have hnc := T.1
  have q := Y.1 d hd
  have hk := tm_k W q.2.2.2.1
  intro m
  induction m with
  | zero =>
    intro s hs h1 g b I l D
    have : s = 5 := by omega
    subst this
    have D' : ∀ b', yl_le b b' → ∀ x, kd (cn d) ≠ 2 ∨ (∀ c, cl_bp kd (bd_b kd cd pp par r) cu cn d = some c → yl_a b' (64 + c) d) → cl_B nc kd cn sb (cl_bp kd (bd_b kd cd pp par r) cu cn) x d → yl_a b' x d := fun b' l' x hb ex => by
      have k128 : ∀ s, s < 5 → sb d s = some x → x < 128 := fun s hs e => by
        have := T.2.2 d s x hd hs e; omega
      obtain ⟨_, z⟩ := ex
      rcases z with ⟨z1, z | z⟩ | ⟨z1, z⟩ | ⟨z1, z | ⟨c, z, zx⟩⟩
      · exact yl_aa l' (k128 1 (by omega) z) (by omega) (D 1 x (by omega) (by omega) (Or.inl ⟨z1, by omega⟩) z)
      · exact yl_aa l' (k128 2 (by omega) z) (by omega) (D 2 x (by omega) (by omega) (Or.inl ⟨z1, by omega⟩) z)
      · exact yl_aa l' (k128 2 (by omega) z) (by omega) (D 2 x (by omega) (by omega) (Or.inr (Or.inl ⟨z1, rfl⟩)) z)
      · exact yl_aa l' (k128 4 (by omega) z) (by omega) (D 4 x (by omega) (by omega) (Or.inr (Or.inr ⟨z1, rfl⟩)) z)
      · rcases hb with hb | hb
        · exact absurd z1 hb
        · rw [zx]; exact hb c z
    refine br_t (by decide) ?_
    rw [nu_e2 (by omega)]
    refine br_c (fun y => yw_bd W A hr q.2.2.2.1 (yw_ba157 W A Y T hd I (fun c z => hE _ ⟨hd, Or.inr (Or.inr ⟨y, Or.inr ⟨c, z, rfl⟩⟩)⟩) fun g' b' i1 i2 i3 => h g' b' i1 (fun i hi w => i2 i hi (l i hi w)) fun x ex => D' b' i2 x (Or.inr i3) ex)) (fun y => br_t (by decide) (nm_r (nI_1 d) (h g b I l fun x ex => D' b (fun _ _ z => z) x (Or.inl y) ex)))
  | succ m ih =>
    intro s hs h1 g b I l D
    have NX : ∀ g' b', yl_I C b' → yl_le b b' → (yl_s (kd (cn d)) s → ∀ x, sb d s = some x → yl_a b' x d) → wY_base_77 post J (nI d) (nI (cn d)) (nI (kd (cn d))) (m + 1) (nI (s + 1)) g_maxNodes g_maxWeight g_maxVisits (nI n) (nI r) (nI nc) g_weight g' g_neg g_made g_next g_nextPar g_nextSlot g_nextLex g_stuck b_kinds b_parts b_cNode b_cPar b_cSlot b' b_saved b_cur b_nxt b_first b_vNode b_vPar b_vSlot b_vLex b_val b_num := fun g' b' i1 i2 i3 => by
      refine ih (s + 1) (by omega) (by omega) g' b' i1 (fun i hi w => i2 i hi (l i hi w)) fun s' x h1' h2 h3 h4 => ?_
      rcases Nat.lt_or_ge s' s with z | z
      · have := T.2.2 d s' x hd (by omega) h4
        exact yl_aa i2 (by omega) (by omega) (D s' x h1' z h3 h4)
      · have : s' = s := by omega
        subst this
        exact i3 h3 x h4
    have PU : yl_s (kd (cn d)) s → wY_base_126 post J (wY_base_77 post J (nI d) (nI (cn d)) (nI (kd (cn d))) (m + 1)) (nI d) (nI (cn d)) (nI (kd (cn d))) (nI s) (nu_o (sb d s)) g_maxNodes g_maxWeight g_maxVisits (nI n) (nI r) (nI nc) g_weight g g_neg g_made g_next g_nextPar g_nextSlot g_nextLex g_stuck b_kinds b_parts b_cNode b_cPar b_cSlot b b_saved b_cur b_nxt b_first b_vNode b_vPar b_vSlot b_vLex b_val b_num := fun y => by
      refine yw_puto (fun k e => by have := T.2.2 d s k hd (by omega) e; omega) (by omega) (fun v e => hE v ⟨hd, ?_⟩) I fun g' b' i1 i2 i3 _ => nm_r (nI_1 s) (NX g' b' i1 i2 fun _ => i3)
      rcases y with y | y | y
      · have : s = 1 ∨ s = 2 := by omega
        rcases this with z | z
        · subst z; exact Or.inl ⟨y.1, Or.inl e⟩
        · subst z; exact Or.inl ⟨y.1, Or.inr e⟩
      · have z := y.2
        subst z
        exact Or.inr (Or.inl ⟨y.1, e⟩)
      · have z := y.2
        subst z
        exact Or.inr (Or.inr ⟨y.1, Or.inl e⟩)
    have M115 : ¬ (kd (cn d) = 9 ∧ s < 3) → ¬ (kd (cn d) = 5 ∧ s = 2) → wY_base_115 post J (wY_base_77 post J (nI d) (nI (cn d)) (nI (kd (cn d))) (m + 1)) (nI d) (nI (cn d)) (nI (kd (cn d))) (nI s) (nu_o (sb d s)) g_maxNodes g_maxWeight g_maxVisits (nI n) (nI r) (nI nc) g_weight g g_neg g_made g_next g_nextPar g_nextSlot g_nextLex g_stuck b_kinds b_parts b_cNode b_cPar b_cSlot b b_saved b_cur b_nxt b_first b_vNode b_vPar b_vSlot b_vLex b_val b_num := fun y1 y2 => by
      unfold wY_base_115
      rw [nu_e2 (by omega), nu_e4 (by omega)]
      refine br_c (fun a => br_c (fun b' => PU (Or.inr (Or.inr ⟨a, b'⟩))) (fun b' => nm_r (nI_1 s) (NX g b I (fun _ _ z => z) fun z => ?_))) (fun a => nm_r (nI_1 s) (NX g b I (fun _ _ z => z) fun z => ?_))
      · rcases z with z | z | z
        · exact absurd z y1
        · exact absurd z y2
        · exact absurd z.2 b'
      · rcases z with z | z | z
        · exact absurd z y1
        · exact absurd z y2
        · exact absurd z.1 a
    have M104 : ¬ (kd (cn d) = 9 ∧ s < 3) → wY_base_104 post J (wY_base_77 post J (nI d) (nI (cn d)) (nI (kd (cn d))) (m + 1)) (nI d) (nI (cn d)) (nI (kd (cn d))) (nI s) (nu_o (sb d s)) g_maxNodes g_maxWeight g_maxVisits (nI n) (nI r) (nI nc) g_weight g g_neg g_made g_next g_nextPar g_nextSlot g_nextLex g_stuck b_kinds b_parts b_cNode b_cPar b_cSlot b b_saved b_cur b_nxt b_first b_vNode b_vPar b_vSlot b_vLex b_val b_num := fun y1 => by
      unfold wY_base_104
      rw [nu_e5 (by omega), nu_e2 (by omega)]
      exact br_c (fun a => br_c (fun b' => PU (Or.inr (Or.inl ⟨a, b'⟩))) (fun b' => M115 y1 fun z => b' z.2)) (fun a => M115 y1 fun z => a z.1)
    refine br_f ?_ (yw_sub Y T hd (by omega) ?_)
    · show ¬ (4 : Int32) < nI s
      rw [nu_q4 (by omega)]; omega
    rw [nu_e9 (by omega), nu_p3 (by omega)]
    exact br_c (fun a => br_c (fun b' => PU (Or.inl ⟨a, b'⟩)) (fun b' => M104 fun z => b' z.2)) (fun a => M104 fun z => a z.1)
theorem yw_ba52 (W : tm_WF n kd cd pp par) (A : tm_Ag n kd pp b_kinds b_parts) (Y : cp_Y n nc cn cu cs sb b_cNode b_cPar b_cSlot) (T : cp_T nc cu sb) (hr : r < n) (hE : ∀ x d, cl_B nc kd cn sb (cl_bp kd (bd_b kd cd pp par r) cu cn) x d → C x d)
    (h : ∀ g b, yl_I C b → (∀ x, x < 128 → yl_a b x x) → (∀ x y, cl_B nc kd cn sb (cl_bp kd (bd_b kd cd pp par r) cu cn) x y → yl_a b x y) → post (g_maxNodes, g_maxWeight, g_maxVisits, nI n, nI r, nI nc, g_weight, g, g_neg, g_made, g_next, g_nextPar, g_nextSlot, g_nextLex, g_stuck, b_kinds, b_parts, b_cNode, b_cPar, b_cSlot, b, b_saved, b_cur, b_nxt, b_first, b_vNode, b_vPar, b_vSlot, b_vLex, b_val, b_num)) : ∀ m d, d + m = nc → ∀ g b, yl_I C b → (∀ x, x < 128 → yl_a b x x) → (∀ x y, y < d → cl_B nc kd cn sb (cl_bp kd (bd_b kd cd pp par r) cu cn) x y → x < 128 ∧ yl_a b x y) →
    wY_base_52 post (m + 1) (nI d) g_maxNodes g_maxWeight g_maxVisits (nI n) (nI r) (nI nc) g_weight g g_neg g_made g_next g_nextPar g_nextSlot g_nextLex g_stuck b_kinds b_parts b_cNode b_cPar b_cSlot b b_saved b_cur b_nxt b_first b_vNode b_vPar b_vSlot b_vLex b_val b_num := by
  have hn := tm_n W
  have hnc := T.1
  have B128 : ∀ x y, cl_B nc kd cn sb (cl_bp kd (bd_b kd cd pp par r) cu cn) x y → x < 128 := fun x y e => by
    obtain ⟨hy, z⟩ := e
    have k128 : ∀ s, s < 5 → sb y s = some x → x < 128 := fun s hs e => by
      have := T.2.2 y s x hy hs e; omega
    rcases z with ⟨z1, z | z⟩ | ⟨z1, z⟩ | ⟨z1, z | ⟨c, z, zx⟩⟩
    · exact k128 _ (by omega) z
    · exact k128 _ (by omega) z
    · exact k128 _ (by omega) z
    · exact k128 _ (by omega) z
    · unfold cl_bp at z
      split at z
      · cases z
      · split at z
        · have := (un_bcs T.2.1 64 y c hy z).1; omega
        · cases z
  intro m
  induction m with
  | zero =>
    intro d hd g b I R D
    refine br_t ?_ (h g b I R fun x y e => (D x y (by have := e.1; omega) e).2)
    show nI nc ≤ nI d
    rw [nI_leI (by omega) (by omega)]; omega
  | succ m ih =>
    intro d hd g b I R D
    have q := Y.1 d (by omega)
    refine br_f ?_ ⟨vp_in_nI (by omega) (by omega), nm_r (e' := nI (cn d)) (by rw [nI_clamp (by omega), q.1]) ⟨vp_in_nI (by omega) (by omega), nm_r (e' := nI (kd (cn d))) (by rw [nI_clamp (by omega), A.1 _ q.2.2.2.1]) ⟨5, ?_⟩⟩⟩
    · show ¬ nI nc ≤ nI d
      rw [nI_leI (by omega) (by omega)]; omega
    refine yw_ba77 W A Y T hr (by omega) (fun x e => hE x d e) b (fun g' b' i1 i2 i3 => ih (d + 1) (by omega) g' b' i1 (fun x hx => yl_aa i2 hx hx (R x hx)) fun x y hy e => ?_) 4 1 rfl (by omega) g b I (fun _ _ z => z) (fun s' x a b => by omega)
    have hx := B128 x y e
    refine ⟨hx, ?_⟩
    rcases Nat.lt_or_ge y d with z | z
    · exact yl_aa i2 hx (by omega) (D x y z e).2
    · have : y = d := by omega
      subst this
      exact i3 x e
theorem yw_base (W : tm_WF n kd cd pp par) (A : tm_Ag n kd pp b_kinds b_parts) (Y : cp_Y n nc cn cu cs sb b_cNode b_cPar b_cSlot) (T : cp_T nc cu sb) (hr : r < n) (hC1 : ∀ p, p < 128 → C p p) (hE : ∀ x d, cl_B nc kd cn sb (cl_bp kd (bd_b kd cd pp par r) cu cn) x d → C x d)
    (h : ∀ g b, yl_I C b → (∀ x, x < 128 → yl_a b x x) → (∀ x y, cl_B nc kd cn sb (cl_bp kd (bd_b kd cd pp par r) cu cn) x y → yl_a b x y) → post (g_maxNodes, g_maxWeight, g_maxVisits, nI n, nI r, nI nc, g_weight, g, g_neg, g_made, g_next, g_nextPar, g_nextSlot, g_nextLex, g_stuck, b_kinds, b_parts, b_cNode, b_cPar, b_cSlot, b, b_saved, b_cur, b_nxt, b_first, b_vNode, b_vPar, b_vSlot, b_vLex, b_val, b_num)) : wpY_base post (g_maxNodes, g_maxWeight, g_maxVisits, nI n, nI r, nI nc, g_weight, g_grown, g_neg, g_made, g_next, g_nextPar, g_nextSlot, g_nextLex, g_stuck, b_kinds, b_parts, b_cNode, b_cPar, b_cSlot, b_le, b_saved, b_cur, b_nxt, b_first, b_vNode, b_vPar, b_vSlot, b_vLex, b_val, b_num) := by
  have hnc := T.1
  have k24 : ∀ m x, x + m = 128 → ∀ b, (∀ i, i < 16384 → b i = if i / 128 = i % 128 ∧ i / 128 < x then 1 else 0) → wY_base_24 post g_maxNodes g_maxWeight g_maxVisits (nI n) (nI r) (nI nc) g_weight g_grown g_neg g_made g_next g_nextPar g_nextSlot g_nextLex g_stuck (m + 1) (nI x) b_kinds b_parts b_cNode b_cPar b_cSlot b b_saved b_cur b_nxt b_first b_vNode b_vPar b_vSlot b_vLex b_val b_num := by
    intro m
    induction m with
    | zero =>
      intro x hx b D
      have : x = 128 := by omega
      subst this
      have n1 : ¬ (1 : Int32) = 0 := by decide
      refine br_t (by decide) ⟨nc + 1, yw_ba52 W A Y T hr hE h nc 0 (by omega) g_grown b ⟨fun i hi => ?_, fun v w hv hw z => ?_⟩ (fun x hx => ?_) (fun x y hy => by omega)⟩
      · rw [D i hi]; split
        · exact Or.inr rfl
        · exact Or.inl rfl
      · unfold yl_a at z
        rw [D _ (by omega)] at z
        split at z
        · next q =>
          have : v = w := by omega
          subst this
          exact hC1 v hv
        · exact absurd rfl z
      · unfold yl_a
        rw [D _ (by omega), if_pos (by omega)]; exact n1
    | succ m ih =>
      intro x hx b D
      refine br_f ?_ ⟨by rw [nu_r128, nI_add]; exact vp_in_nI (by omega) (by omega), nm_r (e' := upd b (x * 128 + x) 1) (by rw [nu_r128, nI_add, nI_clamp (by omega), nu_v1]; rfl) (nm_r (nI_1 x) (ih (x + 1) (by omega) _ fun i hi => ?_))⟩
      · show ¬ (128 : Int32) ≤ nI x
        rw [nu_g128 (by omega)]; omega
      · by_cases e : i = x * 128 + x
        · subst e; rw [pk_us, if_pos (by omega)]
        · rw [pk_un e, D i hi]
          by_cases q : i / 128 = i % 128 ∧ i / 128 < x
          · rw [if_pos q, if_pos (by omega)]
          · rw [if_neg q, if_neg (by omega)]
  have k2 : ∀ m x, x + m = 16384 → ∀ b, (∀ i, i < x → b i = 0) → wY_base_2 post g_maxNodes g_maxWeight g_maxVisits (nI n) (nI r) (nI nc) g_weight g_grown g_neg g_made g_next g_nextPar g_nextSlot g_nextLex g_stuck (m + 1) (nI x) b_kinds b_parts b_cNode b_cPar b_cSlot b b_saved b_cur b_nxt b_first b_vNode b_vPar b_vSlot b_vLex b_val b_num := by
    intro m
    induction m with
    | zero =>
      intro x hx b D
      have : x = 16384 := by omega
      subst this
      exact br_t (by decide) ⟨129, k24 128 0 rfl b fun i hi => by rw [D i hi, if_neg (by omega)]⟩
    | succ m ih =>
      intro x hx b D
      refine br_f ?_ ⟨vp_in_nI (by omega) (by omega), nm_r (e' := upd b x 0) (by rw [nI_clamp (by omega), nu_v0]; rfl) (nm_r (nI_1 x) (ih (x + 1) (by omega) _ fun i hi => ?_))⟩
      · show ¬ (16384 : Int32) ≤ nI x
        rw [nu_g16384 (by omega)]; omega
      · by_cases e : i = x
        · subst e; exact pk_us
        · rw [pk_un e]; exact D i (by omega)
  exact ⟨16385, k2 16384 0 rfl b_le fun i hi => by omega⟩
end
end
section
/-! Y: uses, growth, clashes -/
def cl_iu (k s : Nat) : Bool := ((k == 4 || k == 7 || k == 9) && s == 0) || (k == 8 && decide (s < 2))
theorem cl_iuu : ∀ k, k < 10 → ∀ s, s < 2 → (cl_iu k s = true ↔ s < cl_u k) := by decide +kernel
def cl_uv (kc : Nat → Nat) (sb : Nat → Nat → Option Nat) (d s : Nat) : Option Nat := if cl_iu (kc d) s = true then sb d s else none
section
variable {g_maxNodes g_maxWeight g_maxVisits g_count g_root g_nc g_weight g_grown g_neg g_made g_next g_nextPar g_nextSlot g_nextLex g_stuck : Int32} {b_kinds b_parts b_cNode b_cPar b_cSlot b_le b_saved b_cur b_nxt b_first b_vNode b_vPar b_vSlot b_vLex b_val b_num : Nat → Int32} {n : Nat} {kd : Nat → Nat} {cd : Nat → Nat → Option Nat} {pp : Nat → Int32} {par : Nat → Option Nat} {r nc : Nat} {cn : Nat → Nat} {cu : Nat → Option Nat} {cs : Nat → Nat} {sb : Nat → Nat → Option Nat} {post : Int32 → Prop}
theorem yw_iu {k s : Nat} (hk : k < 10) (hs : s < 2) (h : post (nu_b (cl_iu k s))) : wpY_isUse post (g_maxNodes, g_maxWeight, g_maxVisits, g_count, g_root, g_nc, g_weight, g_grown, g_neg, g_made, g_next, g_nextPar, g_nextSlot, g_nextLex, g_stuck, b_kinds, b_parts, b_cNode, b_cPar, b_cSlot, b_le, b_saved, b_cur, b_nxt, b_first, b_vNode, b_vPar, b_vSlot, b_vLex, b_val, b_num) (nI k) (nI s) := by
  simp only [wpY_isUse, wY_isUse_17, wY_isUse_21, nu_br (P := post)]
  refine nu_tr h ?_
  clear h
  revert hs; revert s; revert hk; revert k
  decide +kernel
theorem yw_src {k : Nat} (hk : k < 10) (h : post (nu_b (cl_src k))) : wpY_isSource post (g_maxNodes, g_maxWeight, g_maxVisits, g_count, g_root, g_nc, g_weight, g_grown, g_neg, g_made, g_next, g_nextPar, g_nextSlot, g_nextLex, g_stuck, b_kinds, b_parts, b_cNode, b_cPar, b_cSlot, b_le, b_saved, b_cur, b_nxt, b_first, b_vNode, b_vPar, b_vSlot, b_vLex, b_val, b_num) (nI k) := by
  simp only [wpY_isSource, nu_br (P := post)]
  refine nu_tr h ?_
  clear h
  revert hk; revert k
  decide +kernel
theorem yw_uv (W : tm_WF n kd cd pp par) (A : tm_Ag n kd pp b_kinds b_parts) (Y : cp_Y n nc cn cu cs sb b_cNode b_cPar b_cSlot) (T : cp_T nc cu sb) {d s : Nat} (hd : d < nc) (hs : s < 2) (h : post (nu_o (cl_uv (fun c => kd (cn c)) sb d s))) : wpY_useVar post (g_maxNodes, g_maxWeight, g_maxVisits, g_count, g_root, nI nc, g_weight, g_grown, g_neg, g_made, g_next, g_nextPar, g_nextSlot, g_nextLex, g_stuck, b_kinds, b_parts, b_cNode, b_cPar, b_cSlot, b_le, b_saved, b_cur, b_nxt, b_first, b_vNode, b_vPar, b_vSlot, b_vLex, b_val, b_num) (nI d) (nI s) := by
  have hn := tm_n W
  have hnc := T.1
  have q := Y.1 d hd
  have hk := tm_k W q.2.2.2.1
  unfold wpY_useVar
  dsimp only
  refine ⟨vp_in_nI (by omega) (by omega), ?_⟩
  rw [nI_clamp (by omega), q.1]
  refine ⟨vp_in_nI (by omega) (by omega), ?_⟩
  rw [nI_clamp (by omega), A.1 _ q.2.2.2.1]
  refine yw_iu (by omega) hs ?_
  rw [nu_b0]
  unfold cl_uv at h
  dsimp only at h
  refine br_c (fun z => ?_) (fun z => yw_sub Y T hd (by omega) ?_)
  · rw [z] at h; exact h
  · rw [if_pos (ts_nf z)] at h; exact h
theorem yw_met (W : tm_WF n kd cd pp par) (A : tm_Ag n kd pp b_kinds b_parts) (Y : cp_Y n nc cn cu cs sb b_cNode b_cPar b_cSlot) (T : cp_T nc cu sb) {c : Nat} {o : Option Nat} (hc : c < nc) (ho : nu_lt o 128) (h1 : ∀ w, o = some w → cl_src (kd (cn c)) = true → yl_a b_le c w → post 1) (h0 : (∀ w, o = some w → cl_src (kd (cn c)) = true → ¬ yl_a b_le c w) → post 0) : wpY_met post (g_maxNodes, g_maxWeight, g_maxVisits, g_count, g_root, g_nc, g_weight, g_grown, g_neg, g_made, g_next, g_nextPar, g_nextSlot, g_nextLex, g_stuck, b_kinds, b_parts, b_cNode, b_cPar, b_cSlot, b_le, b_saved, b_cur, b_nxt, b_first, b_vNode, b_vPar, b_vSlot, b_vLex, b_val, b_num) (nI c) (nu_o o) := by
  have hn := tm_n W
  have hnc := T.1
  have q := Y.1 c hc
  have hk := tm_k W q.2.2.2.1
  unfold wpY_met
  dsimp only
  cases e : o with
  | none => exact br_t (by decide) (h0 fun w z => by rw [e] at z; cases z)
  | some w =>
    have hw := ho w e
    refine br_f (nI_pos (by omega)) ⟨vp_in_nI (by omega) (by omega), ?_⟩
    rw [show nu_o (some w) = nI w from rfl, nu_r128, nI_add, nI_clamp (show c * 128 + w < 2 ^ 31 by omega), nI_clamp (show c < 2 ^ 31 by omega), q.1]
    refine ⟨vp_in_nI (by omega) (by omega), ?_⟩
    rw [nI_clamp (show cn c < 2 ^ 31 by omega), A.1 _ q.2.2.2.1]
    refine yw_src (by omega) ?_
    rw [nu_b0]
    refine br_c (fun z => h0 fun w' _ z' => by rw [z] at z'; cases z') (fun z => ⟨vp_in_nI (by omega) (by omega), br_c (fun y => h0 fun w' e' _ a => ?_) (fun y => h1 w e (ts_nf z) y)⟩)
    rw [e] at e'; cases e'; exact a y
theorem yw_clash (W : tm_WF n kd cd pp par) (A : tm_Ag n kd pp b_kinds b_parts) {m m' : Nat} (hm : m < n) (hm' : m' < n) (h : post (nu_b (cl_k kd cd pp m m'))) : wpY_clash post (g_maxNodes, g_maxWeight, g_maxVisits, g_count, g_root, g_nc, g_weight, g_grown, g_neg, g_made, g_next, g_nextPar, g_nextSlot, g_nextLex, g_stuck, b_kinds, b_parts, b_cNode, b_cPar, b_cSlot, b_le, b_saved, b_cur, b_nxt, b_first, b_vNode, b_vPar, b_vSlot, b_vLex, b_val, b_num) (nI m) (nI m') := by
  have hn := tm_n W
  have hk := tm_k W hm
  have hk' := tm_k W hm'
  unfold cl_k at h
  have im : vp_in (nI m) 48 := vp_in_nI (by omega) (by omega)
  have im' : vp_in (nI m') 48 := vp_in_nI (by omega) (by omega)
  unfold wpY_clash
  dsimp only
  rw [nI_clamp (show m < 2 ^ 31 by omega), nI_clamp (show m' < 2 ^ 31 by omega), A.1 m hm, A.1 m' hm', nu_e4 (by omega), nu_e7 (by omega), nu_e3 (by omega), nu_e6 (by omega), nu_e1 (by omega), nu_e8 (by omega)]
  refine ⟨im', br_c (fun y4 => ⟨im, ?_⟩) (fun y4 => ⟨im', br_c (fun y7 => ⟨im, ?_⟩) (fun y7 => ⟨im, ?_⟩)⟩)⟩
  · rw [if_pos y4] at h
    exact br_c (fun z => by rw [decide_eq_false (fun w => w z)] at h; exact h) (fun z => by rw [decide_eq_true z] at h; exact h)
  · rw [if_neg y4, if_pos y7] at h
    refine br_c (fun z => ?_) (fun z => by rw [decide_eq_true (Or.inl z)] at h; exact h)
    have L := tm_l7 W hm' y7
    have hs : tm_slot (kd m) (tm_l pp m') = true := by rw [z]; rfl
    rw [show (nI m' * 4 + 1).toNatClampNeg = 4 * m' + 1 from nu_c4' (i := 1) (by omega), A.2 _ (by omega), L.1, nu_c4' (by omega), A.2 _ (by omega), tm_s W hm (by omega) hs, nu_ole (tm_cl' W hm)]
    refine ⟨nu_i4' (i := 1) (by omega) (by omega), nu_i4' (by omega) (by omega), br_c (fun w => ?_) (fun w => ?_)⟩
    · rw [decide_eq_false (fun q => q.elim (fun q => q z) w)] at h; exact h
    · rw [decide_eq_true (Or.inr (Classical.not_not.mp w))] at h; exact h
  · rw [if_neg y4, if_neg y7] at h
    refine br_c (fun z => ?_) (fun z => ⟨im, br_c (fun w => ?_) (fun w => ?_)⟩)
    · rw [decide_eq_false (fun q => q.1 z)] at h; exact h
    · rw [decide_eq_false (fun q => q.2 w)] at h; exact h
    · rw [decide_eq_true ⟨z, w⟩] at h; exact h
theorem cl_uvs {kc : Nat → Nat} (hk : ∀ d, d < nc → kc d < 10) {Q : Nat → Prop} {d : Nat} (hd : d < nc) : cl_ur kc sb Q d ↔ ∃ s w, s < 2 ∧ cl_uv kc sb d s = some w ∧ Q w := by
  constructor
  · rintro ⟨i, w, a, b, c⟩
    have h2 := cl_u2 (kc d)
    refine ⟨i, w, by omega, ?_, c⟩
    unfold cl_uv
    rw [if_pos ((cl_iuu _ (hk d hd) i (by omega)).mpr a)]
    exact b
  · rintro ⟨s, w, a, b, c⟩
    unfold cl_uv at b
    split at b
    · next z => exact ⟨s, w, (cl_iuu _ (hk d hd) s a).mp z, b, c⟩
    · cases b
theorem cl_uvlt (T : cp_T nc cu sb) {kc : Nat → Nat} {d s : Nat} (hd : d < nc) (hs : s < 2) : nu_lt (cl_uv kc sb d s) nc := by
  intro k e
  unfold cl_uv at e
  split at e
  · exact T.2.2 d s k hd (by omega) e
  · cases e
theorem yw_ac (W : tm_WF n kd cd pp par) (A : tm_Ag n kd pp b_kinds b_parts) (Y : cp_Y n nc cn cu cs sb b_cNode b_cPar b_cSlot) (T : cp_T nc cu sb) (h1 : (∃ c d, cl_ac nc kd cn cd pp sb (yl_a b_le) c d) → post 1) (h0 : (¬ ∃ c d, cl_ac nc kd cn cd pp sb (yl_a b_le) c d) → post 0) : wpY_anyClash post (g_maxNodes, g_maxWeight, g_maxVisits, g_count, g_root, nI nc, g_weight, g_grown, g_neg, g_made, g_next, g_nextPar, g_nextSlot, g_nextLex, g_stuck, b_kinds, b_parts, b_cNode, b_cPar, b_cSlot, b_le, b_saved, b_cur, b_nxt, b_first, b_vNode, b_vPar, b_vSlot, b_vLex, b_val, b_num) := by
  have hn := tm_n W
  have hnc := T.1
  have HK : ∀ d, d < nc → (fun c => kd (cn c)) d < 10 := fun d hd => by
    have := tm_k W (Y.1 d hd).2.2.2.1
    show kd (cn d) < 10
    omega
  -- one use
  have k27 : ∀ (J J12 : Int32 → Prop) (d s : Nat), d < nc → s < 2 → (∀ c, (∃ w, c < nc ∧ cl_src (kd (cn c)) = true ∧ cl_uv (fun c => kd (cn c)) sb d s = some w ∧ yl_a b_le c w ∧ cl_k kd cd pp (cn c) (cn d) = true) → post 1) → ∀ m c, c + m = nc → ((∀ c', c ≤ c' → ¬ ∃ w, c' < nc ∧ cl_src (kd (cn c')) = true ∧ cl_uv (fun c => kd (cn c)) sb d s = some w ∧ yl_a b_le c' w ∧ cl_k kd cd pp (cn c') (cn d) = true) → J12 (nI (s + 1))) → wY_anyClash_27 post J J12 (nI d) (nI s) (nu_o (cl_uv (fun c => kd (cn c)) sb d s)) g_maxNodes g_maxWeight g_maxVisits g_count g_root (nI nc) g_weight g_grown g_neg g_made g_next g_nextPar g_nextSlot g_nextLex g_stuck b_kinds b_parts b_cNode b_cPar b_cSlot b_le b_saved b_cur b_nxt b_first b_vNode b_vPar b_vSlot b_vLex b_val b_num (m + 1) (nI c) := by
    intro J J12 d s hd hs hit m
    induction m with
    | zero =>
      intro c hc h0
      refine br_t ?_ (nm_r (nI_1 s) (h0 ?_))
      · show nI nc ≤ nI c
        rw [nI_leI (by omega) (by omega)]; omega
      · rintro c' a ⟨w, q, _⟩; omega
    | succ m ih =>
      intro c hc h0
      have N : (¬ ∃ w, c < nc ∧ cl_src (kd (cn c)) = true ∧ cl_uv (fun c => kd (cn c)) sb d s = some w ∧ yl_a b_le c w ∧ cl_k kd cd pp (cn c) (cn d) = true) → wY_anyClash_27 post J J12 (nI d) (nI s) (nu_o (cl_uv (fun c => kd (cn c)) sb d s)) g_maxNodes g_maxWeight g_maxVisits g_count g_root (nI nc) g_weight g_grown g_neg g_made g_next g_nextPar g_nextSlot g_nextLex g_stuck b_kinds b_parts b_cNode b_cPar b_cSlot b_le b_saved b_cur b_nxt b_first b_vNode b_vPar b_vSlot b_vLex b_val b_num (m + 1) (nI (c + 1)) := fun z => by
        refine ih (c + 1) (by omega) (fun q => h0 fun c' a => ?_)
        rcases Nat.eq_or_lt_of_le a with e | e
        · subst e; exact z
        · exact q c' e
      refine br_f ?_ (yw_met W A Y T (by omega) (nu_ltm (cl_uvlt T hd hs) (by omega)) (fun w e es a => br_f (by decide) ⟨vp_in_nI (by omega) (by omega), vp_in_nI (by omega) (by omega), ?_⟩) (fun z => br_t rfl (nm_r (nI_1 c) (N ?_))))
      · show ¬ nI nc ≤ nI c
        rw [nI_leI (by omega) (by omega)]; omega
      · have qc := Y.1 c (by omega)
        have qd := Y.1 d hd
        rw [nI_clamp (show c < 2 ^ 31 by omega), nI_clamp (show d < 2 ^ 31 by omega), qc.1, qd.1]
        refine yw_clash W A qc.2.2.2.1 qd.2.2.2.1 ?_
        rw [nu_b0]
        refine br_c (fun z => nm_r (nI_1 c) (N ?_)) (fun z => hit c ⟨w, by omega, es, e, a, ts_nf z⟩)
        rintro ⟨w', _, _, _, _, y⟩
        rw [y] at z; cases z
      · rintro ⟨w, _, b, e, a, _⟩
        exact z w e b a
  have k12 : ∀ (J : Int32 → Prop) (d : Nat), d < nc → ∀ m s, s + m = 2 → ((∀ c s' w, s ≤ s' → s' < 2 → ¬ (c < nc ∧ cl_src (kd (cn c)) = true ∧ cl_uv (fun c => kd (cn c)) sb d s' = some w ∧ yl_a b_le c w ∧ cl_k kd cd pp (cn c) (cn d) = true)) → J (nI (d + 1))) → wY_anyClash_12 post J (nI d) g_maxNodes g_maxWeight g_maxVisits g_count g_root (nI nc) g_weight g_grown g_neg g_made g_next g_nextPar g_nextSlot g_nextLex g_stuck b_kinds b_parts b_cNode b_cPar b_cSlot b_le b_saved b_cur b_nxt b_first b_vNode b_vPar b_vSlot b_vLex b_val b_num (m + 1) (nI s) := by
    intro J d hd m
    induction m with
    | zero =>
      intro s hs h0
      have : s = 2 := by omega
      subst this
      exact br_t (by decide) (nm_r (nI_1 d) (h0 fun c s' w a b => by omega))
    | succ m ih =>
      intro s hs h0
      refine br_f ?_ (yw_uv W A Y T hd (by omega) ⟨nc + 1, k27 J _ d s hd (by omega) (fun c q => h1 ?_) nc 0 (by omega) (fun q => ih (s + 1) (by omega) fun z => h0 fun c s' w a b => ?_)⟩)
      · show ¬ (2 : Int32) ≤ nI s
        rw [nu_g2 (by omega)]; omega
      · obtain ⟨w, q1, q2, q3, q4, q5⟩ := q
        exact ⟨c, d, q1, hd, q2, (cl_uvs HK hd).mpr ⟨s, w, by omega, q3, q4⟩, q5⟩
      · rcases Nat.eq_or_lt_of_le a with e | e
        · subst e
          intro y
          exact q c (Nat.zero_le _) ⟨w, y⟩
        · exact z c s' w e b
  have k2 : ∀ m d, d + m = nc → ((∀ c d', d ≤ d' → ¬ cl_ac nc kd cn cd pp sb (yl_a b_le) c d') → post 0) → wY_anyClash_2 post g_maxNodes g_maxWeight g_maxVisits g_count g_root (nI nc) g_weight g_grown g_neg g_made g_next g_nextPar g_nextSlot g_nextLex g_stuck b_kinds b_parts b_cNode b_cPar b_cSlot b_le b_saved b_cur b_nxt b_first b_vNode b_vPar b_vSlot b_vLex b_val b_num (m + 1) (nI d) := by
    intro m
    induction m with
    | zero =>
      intro d hd h0
      refine br_t ?_ (h0 fun c d' a q => by have := q.2.1; omega)
      show nI nc ≤ nI d
      rw [nI_leI (by omega) (by omega)]; omega
    | succ m ih =>
      intro d hd h0
      refine br_f ?_ ⟨3, k12 _ d (by omega) 2 0 rfl fun q => ih (d + 1) (by omega) fun z => h0 fun c d' a => ?_⟩
      · show ¬ nI nc ≤ nI d
        rw [nI_leI (by omega) (by omega)]; omega
      · rcases Nat.eq_or_lt_of_le a with e | e
        · subst e
          rintro ⟨y1, y2, y3, y4, y5⟩
          obtain ⟨s, w, b1, b2, b3⟩ := (cl_uvs HK y2).mp y4
          exact q c s w (Nat.zero_le _) b1 ⟨y1, y3, b2, b3, y5⟩
        · exact z c d' e
  exact ⟨nc + 1, k2 nc 0 (by omega) fun z => h0 fun ⟨c, d, w⟩ => z c d (Nat.zero_le _) w⟩
end
end
section
/-! Y: growth -/
/-- a round's state -/
def yl_Q (C : Nat → Nat → Prop) (s : Nat → Int32) (g : Bool) (b : Nat → Int32) : Prop := yl_I C b ∧ yl_le s b ∧ (g = false → b = s) ∧ (g = true → yl_n s < yl_n b)
theorem yl_Qs {C : Nat → Nat → Prop} {s b b' : Nat → Int32} {g : Bool} {g' : Int32} (Q : yl_Q C s g b) (i1 : yl_I C b') (i2 : yl_le b b') (i3 : (g' = nu_b g ∧ b' = b) ∨ (g' = 1 ∧ yl_n b < yl_n b')) : ∃ g2, g' = nu_b g2 ∧ yl_Q C s g2 b' ∧ (g2 = false → g = false ∧ b' = b) := by
  rcases i3 with ⟨e1, e2⟩ | ⟨e1, e2⟩
  · subst e2
    exact ⟨g, e1, Q, fun z => ⟨z, rfl⟩⟩
  · exact ⟨true, e1, ⟨i1, fun i hi w => i2 i hi (Q.2.1 i hi w), fun z => (by cases z), fun _ => Nat.lt_of_le_of_lt (yl_nm Q.2.1) e2⟩, fun z => (by cases z)⟩
section
variable {g_maxNodes g_maxWeight g_maxVisits g_count g_root g_nc g_weight g_grown g_neg g_made g_next g_nextPar g_nextSlot g_nextLex g_stuck : Int32} {b_kinds b_parts b_cNode b_cPar b_cSlot b_le b_saved b_cur b_nxt b_first b_vNode b_vPar b_vSlot b_vLex b_val b_num : Nat → Int32} {n : Nat} {kd : Nat → Nat} {cd : Nat → Nat → Option Nat} {pp : Nat → Int32} {par : Nat → Option Nat} {nc : Nat} {cn : Nat → Nat} {cu : Nat → Option Nat} {cs : Nat → Nat} {sb : Nat → Nat → Option Nat} {E : Nat → Nat → Prop} {post : SY → Prop}
theorem yw_react (W : tm_WF n kd cd pp par) (A : tm_Ag n kd pp b_kinds b_parts) (Y : cp_Y n nc cn cu cs sb b_cNode b_cPar b_cSlot) (T : cp_T nc cu sb) {c d w : Nat} (hc : c < nc) (hd : d < nc) (ew : sb d 0 = some w) (hcw : yl_a b_le c w) {s : Nat → Int32} {g : Bool} (Q : yl_Q (cl_C nc (fun c => kd (cn c)) sb (fun c => tm_l pp (cn c)) E) s g b_le)
    (h : ∀ g' b', yl_Q (cl_C nc (fun c => kd (cn c)) sb (fun c => tm_l pp (cn c)) E) s g' b' → (g' = false → g = false ∧ b' = b_le ∧ cl_r1 (fun c => kd (cn c)) sb (fun c => tm_l pp (cn c)) (yl_a b_le) c d) → post (g_maxNodes, g_maxWeight, g_maxVisits, g_count, g_root, nI nc, g_weight, nu_b g', g_neg, g_made, g_next, g_nextPar, g_nextSlot, g_nextLex, g_stuck, b_kinds, b_parts, b_cNode, b_cPar, b_cSlot, b', b_saved, b_cur, b_nxt, b_first, b_vNode, b_vPar, b_vSlot, b_vLex, b_val, b_num)) : wpY_react post (g_maxNodes, g_maxWeight, g_maxVisits, g_count, g_root, nI nc, g_weight, nu_b g, g_neg, g_made, g_next, g_nextPar, g_nextSlot, g_nextLex, g_stuck, b_kinds, b_parts, b_cNode, b_cPar, b_cSlot, b_le, b_saved, b_cur, b_nxt, b_first, b_vNode, b_vPar, b_vSlot, b_vLex, b_val, b_num) (nI c) (nI d) := by
  have hn := tm_n W
  have hnc := T.1
  have qc := Y.1 c hc
  have qd := Y.1 d hd
  have hkc := tm_k W qc.2.2.2.1
  have hkd := tm_k W qd.2.2.2.1
  have hw := T.2.2 d 0 w hd (by omega) ew
  have hC : (cl_C nc (fun c => kd (cn c)) sb (fun c => tm_l pp (cn c)) E) c w := Q.1.2 c w (by omega) (by omega) hcw
  -- the second part
  have S : ¬ (kd (cn c) = 3 ∧ kd (cn d) = 4) → wY_react_65 post (nI c) (nI d) (nI (kd (cn d))) g_maxNodes g_maxWeight g_maxVisits g_count g_root (nI nc) g_weight (nu_b g) g_neg g_made g_next g_nextPar g_nextSlot g_nextLex g_stuck b_kinds b_parts b_cNode b_cPar b_cSlot b_le b_saved b_cur b_nxt b_first b_vNode b_vPar b_vSlot b_vLex b_val b_num := fun k34 => by
    unfold wY_react_65
    rw [nu_e7 (by omega)]
    refine br_c (fun k7 => ⟨vp_in_nI (by omega) (by omega), ?_⟩) (fun k7 => h g b_le Q fun z => ⟨z, rfl, fun w' _ _ => ⟨fun a b => absurd ⟨a, b⟩ k34, fun a b => absurd b k7⟩⟩)
    rw [nI_clamp (show c < 2 ^ 31 by omega), qc.1]
    refine ⟨vp_in_nI (by omega) (by omega), ?_⟩
    rw [nI_clamp (show cn c < 2 ^ 31 by omega), A.1 _ qc.2.2.2.1, nu_e6 (by omega)]
    refine br_c (fun k6 => ⟨vp_in_nI (by omega) (by omega), ?_⟩) (fun k6 => h g b_le Q fun z => ⟨z, rfl, fun w' _ _ => ⟨fun a b => absurd ⟨a, b⟩ k34, fun a b => absurd a k6⟩⟩)
    have L := tm_l7 W qd.2.2.2.1 k7
    rw [nI_clamp (show d < 2 ^ 31 by omega), qd.1]
    refine ⟨nu_i4' (i := 1) (by omega) (by omega), ?_⟩
    rw [show (nI (cn d) * 4 + 1).toNatClampNeg = 4 * cn d + 1 from nu_c4' (i := 1) (by omega), A.2 _ (by omega), L.1]
    refine yw_sub Y T hc (by omega) ?_
    refine yw_puto (C := (cl_C nc (fun c => kd (cn c)) sb (fun c => tm_l pp (cn c)) E)) (fun k e => by have := T.2.2 c _ k hc (by omega) e; omega) (by omega) (fun f e => cl_sel hc hd ew hC k6 k7 e) Q.1 fun g' b' i1 i2 i3 i4 => ?_
    obtain ⟨g2, e2, Q2, F2⟩ := yl_Qs Q i1 i2 i4
    rw [e2]
    refine h g2 b' Q2 fun z => ?_
    obtain ⟨z1, z2⟩ := F2 z
    subst z2
    exact ⟨z1, rfl, fun w' _ _ => ⟨fun a b => absurd ⟨a, b⟩ k34, fun _ _ f e => i3 f e⟩⟩
  unfold wpY_react
  dsimp only
  refine ⟨vp_in_nI (by omega) (by omega), ?_⟩
  rw [nI_clamp (show d < 2 ^ 31 by omega), qd.1]
  refine ⟨vp_in_nI (by omega) (by omega), nm_r (e' := nI (kd (cn d))) (by rw [nI_clamp (by omega), A.1 _ qd.2.2.2.1]) ?_⟩
  rw [nu_e4 (by omega)]
  refine br_c (fun k4 => ⟨vp_in_nI (by omega) (by omega), ?_⟩) (fun k4 => S fun z => k4 z.2)
  rw [nI_clamp (show c < 2 ^ 31 by omega), qc.1]
  refine ⟨vp_in_nI (by omega) (by omega), ?_⟩
  rw [nI_clamp (show cn c < 2 ^ 31 by omega), A.1 _ qc.2.2.2.1, nu_e3 (by omega)]
  refine br_c (fun k3 => ?_) (fun k3 => S fun z => k3 z.1)
  refine yw_sub (s := 1) Y T hd (by omega) (yw_sub (s := 1) Y T hc (by omega) ?_)
  rw [nu_64]
  refine yw_puto (C := (cl_C nc (fun c => kd (cn c)) sb (fun c => tm_l pp (cn c)) E)) (fun k e => by have := T.2.2 d 1 k hd (by omega) e; omega) (by omega) (fun a e => cl_app hc hd ew hC k3 k4 e) Q.1 fun g1 b1 i1 i2 i3 i4 => ?_
  obtain ⟨g1', e1, Q1, F1⟩ := yl_Qs Q i1 i2 i4
  rw [e1]
  refine yw_puto (C := (cl_C nc (fun c => kd (cn c)) sb (fun c => tm_l pp (cn c)) E)) (fun k e => by have := T.2.2 c 1 k hc (by omega) e; omega) (by omega) (fun a e => cl_res hc hd ew hC k3 k4 e) Q1.1 fun g2 b2 j1 j2 j3 j4 => ?_
  obtain ⟨g2', e2, Q2, F2⟩ := yl_Qs Q1 j1 j2 j4
  rw [e2]
  unfold wY_react_65
  rw [nu_e7 (by omega)]
  refine br_f (by omega) (h g2' b2 Q2 fun z => ?_)
  obtain ⟨z1, z2⟩ := F2 z
  obtain ⟨z3, z4⟩ := F1 z1
  subst z2
  subst z4
  exact ⟨z3, rfl, fun w' _ _ => ⟨fun _ _ => ⟨fun a e => i3 a e, fun a e => j3 a e⟩, fun a _ => absurd (k3.symm.trans a : (3 : Nat) = 6) (by decide)⟩⟩
theorem yw_gr131 {J7 J113 : Int32 → Int32 → Int32 → Int32 → Int32 → Int32 → Int32 → Int32 → Int32 → Int32 → Int32 → Int32 → Int32 → Int32 → Int32 → Int32 → (Nat → Int32) → (Nat → Int32) → (Nat → Int32) → (Nat → Int32) → (Nat → Int32) → (Nat → Int32) → (Nat → Int32) → (Nat → Int32) → (Nat → Int32) → (Nat → Int32) → (Nat → Int32) → (Nat → Int32) → (Nat → Int32) → (Nat → Int32) → (Nat → Int32) → (Nat → Int32) → Prop} {x1 : Int32} {PR : Prop} (W : tm_WF n kd cd pp par) (A : tm_Ag n kd pp b_kinds b_parts) (Y : cp_Y n nc cn cu cs sb b_cNode b_cPar b_cSlot) (T : cp_T nc cu sb) {d : Nat} (hd : d < nc) {s : Nat → Int32}
    (h : ∀ g b, yl_Q (cl_C nc (fun c => kd (cn c)) sb (fun c => tm_l pp (cn c)) E) s g b → (g = false → PR ∧ ∀ c, c < nc → cl_r1 (fun c => kd (cn c)) sb (fun c => tm_l pp (cn c)) (yl_a s) c d) → J113 (nI (d + 1)) g_maxNodes g_maxWeight g_maxVisits g_count g_root (nI nc) g_weight (nu_b g) g_neg g_made g_next g_nextPar g_nextSlot g_nextLex g_stuck b_kinds b_parts b_cNode b_cPar b_cSlot b b_saved b_cur b_nxt b_first b_vNode b_vPar b_vSlot b_vLex b_val b_num) : ∀ m c, c + m = nc → ∀ g b, yl_Q (cl_C nc (fun c => kd (cn c)) sb (fun c => tm_l pp (cn c)) E) s g b → (g = false → PR ∧ ∀ c', c' < c → cl_r1 (fun c => kd (cn c)) sb (fun c => tm_l pp (cn c)) (yl_a s) c' d) →
    wY_grow_131 post J7 J113 x1 (nI d) (nu_o (cl_uv (fun c => kd (cn c)) sb d 0)) (m + 1) (nI c) g_maxNodes g_maxWeight g_maxVisits g_count g_root (nI nc) g_weight (nu_b g) g_neg g_made g_next g_nextPar g_nextSlot g_nextLex g_stuck b_kinds b_parts b_cNode b_cPar b_cSlot b b_saved b_cur b_nxt b_first b_vNode b_vPar b_vSlot b_vLex b_val b_num := by
  have hn := tm_n W
  have hnc := T.1
  intro m
  induction m with
  | zero =>
    intro c hc g b Q D
    have : c = nc := by omega
    subst this
    refine br_t ?_ (nm_r (nI_1 d) (h g b Q D))
    rw [nI_leI (by omega) (by omega)]; omega
  | succ m ih =>
    intro c hc g b Q D
    have hkc := tm_k W (Y.1 c (by omega)).2.2.2.1
    have hkd := tm_k W (Y.1 d hd).2.2.2.1
    have D' : (cl_r1 (fun c => kd (cn c)) sb (fun c => tm_l pp (cn c)) (yl_a b) c d) → g = false → PR ∧ ∀ c', c' < c + 1 → cl_r1 (fun c => kd (cn c)) sb (fun c => tm_l pp (cn c)) (yl_a s) c' d := fun hr eg => by
      refine ⟨(D eg).1, fun c' hc' => ?_⟩
      rcases Nat.lt_or_ge c' c with z | z
      · exact (D eg).2 c' z
      · have : c' = c := by omega
        subst this
        rw [← Q.2.2.1 eg]; exact hr
    refine br_f ?_ (yw_met W A Y T (by omega) (nu_ltm (cl_uvlt T hd (by omega)) (by omega)) (fun w e es a => br_f (by decide) ?_) (fun z => br_t rfl (nm_r (nI_1 c) (ih (c + 1) (by omega) g b Q (D' ?_)))))
    · show ¬ nI nc ≤ nI c
      rw [nI_leI (by omega) (by omega)]; omega
    · have ew : sb d 0 = some w := by
        unfold cl_uv at e
        split at e
        · exact e
        · cases e
      refine yw_react W A Y T (by omega) hd ew a Q fun g' b' Q' F => nm_r (nI_1 c) (ih (c + 1) (by omega) g' b' Q' fun eg => ?_)
      obtain ⟨z1, z2, z3⟩ := F eg
      exact D' z3 z1
    · intro w ew a
      have hiu : ∀ k, k = 4 ∨ k = 7 → cl_iu k 0 = true := fun k hk => by rcases hk with rfl | rfl <;> rfl
      have key : kd (cn d) = 4 ∨ kd (cn d) = 7 → cl_src (kd (cn c)) = true → False := fun k1 k2 => by
        refine z w ?_ k2 a
        unfold cl_uv
        rw [if_pos (hiu _ k1)]
        exact ew
      exact ⟨fun k3 k4 => absurd (by rw [show kd (cn c) = 3 from k3]; rfl) (key (Or.inl k4)), fun k6 k7 => absurd (by rw [show kd (cn c) = 6 from k6]; rfl) (key (Or.inr k7))⟩
theorem yw_gr113 {J7 : Int32 → Int32 → Int32 → Int32 → Int32 → Int32 → Int32 → Int32 → Int32 → Int32 → Int32 → Int32 → Int32 → Int32 → Int32 → Int32 → (Nat → Int32) → (Nat → Int32) → (Nat → Int32) → (Nat → Int32) → (Nat → Int32) → (Nat → Int32) → (Nat → Int32) → (Nat → Int32) → (Nat → Int32) → (Nat → Int32) → (Nat → Int32) → (Nat → Int32) → (Nat → Int32) → (Nat → Int32) → (Nat → Int32) → (Nat → Int32) → Prop} {x1 : Nat} {PR : Prop} (W : tm_WF n kd cd pp par) (A : tm_Ag n kd pp b_kinds b_parts) (Y : cp_Y n nc cn cu cs sb b_cNode b_cPar b_cSlot) (T : cp_T nc cu sb) {s : Nat → Int32}
    (h : ∀ g b, yl_Q (cl_C nc (fun c => kd (cn c)) sb (fun c => tm_l pp (cn c)) E) s g b → (g = false → PR ∧ ∀ c d, c < nc → d < nc → cl_r1 (fun c => kd (cn c)) sb (fun c => tm_l pp (cn c)) (yl_a s) c d) → J7 (nI (x1 + 1)) g_maxNodes g_maxWeight g_maxVisits g_count g_root (nI nc) g_weight (nu_b g) g_neg g_made g_next g_nextPar g_nextSlot g_nextLex g_stuck b_kinds b_parts b_cNode b_cPar b_cSlot b b_saved b_cur b_nxt b_first b_vNode b_vPar b_vSlot b_vLex b_val b_num) : ∀ m d, d + m = nc → ∀ g b, yl_Q (cl_C nc (fun c => kd (cn c)) sb (fun c => tm_l pp (cn c)) E) s g b → (g = false → PR ∧ ∀ c d', c < nc → d' < d → cl_r1 (fun c => kd (cn c)) sb (fun c => tm_l pp (cn c)) (yl_a s) c d') →
    wY_grow_113 post J7 (nI x1) (m + 1) (nI d) g_maxNodes g_maxWeight g_maxVisits g_count g_root (nI nc) g_weight (nu_b g) g_neg g_made g_next g_nextPar g_nextSlot g_nextLex g_stuck b_kinds b_parts b_cNode b_cPar b_cSlot b b_saved b_cur b_nxt b_first b_vNode b_vPar b_vSlot b_vLex b_val b_num := by
  have hnc := T.1
  intro m
  induction m with
  | zero =>
    intro d hd g b Q D
    have : d = nc := by omega
    subst this
    refine br_t ?_ (nm_r (nI_1 x1) (h g b Q D))
    rw [nI_leI (by omega) (by omega)]; omega
  | succ m ih =>
    intro d hd g b Q D
    refine br_f ?_ (yw_uv (s := 0) W A Y T (by omega) (by omega) ⟨nc + 1, yw_gr131 (PR := PR ∧ ∀ c d', c < nc → d' < d → cl_r1 (fun c => kd (cn c)) sb (fun c => tm_l pp (cn c)) (yl_a s) c d') W A Y T (by omega) (fun g' b' Q' D' => ih (d + 1) (by omega) g' b' Q' fun eg => ⟨(D' eg).1.1, fun c d' hc hd' => ?_⟩) nc 0 (by omega) g b Q (fun eg => ⟨D eg, fun c' hc' => by omega⟩)⟩)
    · show ¬ nI nc ≤ nI d
      rw [nI_leI (by omega) (by omega)]; omega
    · rcases Nat.lt_or_ge d' d with z | z
      · exact (D' eg).1.2 c d' hc z
      · have : d' = d := by omega
        subst this
        exact (D' eg).2 c hc
theorem yw_gr62 {J7 J28 J37 : Int32 → Int32 → Int32 → Int32 → Int32 → Int32 → Int32 → Int32 → Int32 → Int32 → Int32 → Int32 → Int32 → Int32 → Int32 → Int32 → (Nat → Int32) → (Nat → Int32) → (Nat → Int32) → (Nat → Int32) → (Nat → Int32) → (Nat → Int32) → (Nat → Int32) → (Nat → Int32) → (Nat → Int32) → (Nat → Int32) → (Nat → Int32) → (Nat → Int32) → (Nat → Int32) → (Nat → Int32) → (Nat → Int32) → (Nat → Int32) → Prop} {x1 : Int32} {PR : Prop} {k i : Nat} (hk : k < 128) (hi : i < 128) {s : Nat → Int32} (hik : (cl_C nc (fun c => kd (cn c)) sb (fun c => tm_l pp (cn c)) E) i k)
    (h : ∀ g b, yl_Q (cl_C nc (fun c => kd (cn c)) sb (fun c => tm_l pp (cn c)) E) s g b → (g = false → PR ∧ ∀ j, j < 128 → yl_a s k j → yl_a s i j) → J37 (nI (i + 1)) g_maxNodes g_maxWeight g_maxVisits g_count g_root g_nc g_weight (nu_b g) g_neg g_made g_next g_nextPar g_nextSlot g_nextLex g_stuck b_kinds b_parts b_cNode b_cPar b_cSlot b b_saved b_cur b_nxt b_first b_vNode b_vPar b_vSlot b_vLex b_val b_num) : ∀ m j, j + m = 128 → ∀ g b, yl_Q (cl_C nc (fun c => kd (cn c)) sb (fun c => tm_l pp (cn c)) E) s g b → (g = false → PR ∧ ∀ j', j' < j → yl_a s k j' → yl_a s i j') →
    wY_grow_62 post J7 J28 J37 x1 (nI k) (nI i) (m + 1) (nI j) g_maxNodes g_maxWeight g_maxVisits g_count g_root g_nc g_weight (nu_b g) g_neg g_made g_next g_nextPar g_nextSlot g_nextLex g_stuck b_kinds b_parts b_cNode b_cPar b_cSlot b b_saved b_cur b_nxt b_first b_vNode b_vPar b_vSlot b_vLex b_val b_num := by
  intro m
  induction m with
  | zero =>
    intro j hj g b Q D
    have : j = 128 := by omega
    subst this
    exact br_t (by decide) (nm_r (nI_1 i) (h g b Q D))
  | succ m ih =>
    intro j hj g b Q D
    refine br_f ?_ ⟨by rw [nu_r128, nI_add]; exact vp_in_nI (by omega) (by omega), ?_⟩
    · show ¬ (128 : Int32) ≤ nI j
      rw [nu_g128 (by omega)]; omega
    rw [nu_r128, nI_add, nI_clamp (show k * 128 + j < 2 ^ 31 by omega)]
    refine br_c (fun y => nm_r (nI_1 j) (ih (j + 1) (by omega) g b Q fun eg => ⟨(D eg).1, fun j' hj' a => ?_⟩)) (fun y => ?_)
    · rcases Nat.lt_or_ge j' j with z | z
      · exact (D eg).2 j' z a
      · have : j' = j := by omega
        subst this
        rw [Q.2.2.1 eg] at y
        exact absurd y a
    · refine yw_put (C := (cl_C nc (fun c => kd (cn c)) sb (fun c => tm_l pp (cn c)) E)) hi (by omega) (cl_t hik (Q.1.2 k j hk (by omega) y)) Q.1 fun g1 b1 i1 i2 i3 i4 => ?_
      obtain ⟨g1', e1, Q1, F1⟩ := yl_Qs Q i1 i2 i4
      rw [e1]
      refine nm_r (nI_1 j) (ih (j + 1) (by omega) g1' b1 Q1 fun eg => ?_)
      obtain ⟨z1, z2⟩ := F1 eg
      refine ⟨(D z1).1, fun j' hj' a => ?_⟩
      rcases Nat.lt_or_ge j' j with z | z
      · exact (D z1).2 j' z a
      · have : j' = j := by omega
        subst this
        rw [← Q1.2.2.1 eg]; exact i3
theorem yw_gr37 {J7 J28 : Int32 → Int32 → Int32 → Int32 → Int32 → Int32 → Int32 → Int32 → Int32 → Int32 → Int32 → Int32 → Int32 → Int32 → Int32 → Int32 → (Nat → Int32) → (Nat → Int32) → (Nat → Int32) → (Nat → Int32) → (Nat → Int32) → (Nat → Int32) → (Nat → Int32) → (Nat → Int32) → (Nat → Int32) → (Nat → Int32) → (Nat → Int32) → (Nat → Int32) → (Nat → Int32) → (Nat → Int32) → (Nat → Int32) → (Nat → Int32) → Prop} {x1 : Int32} {PR : Prop} {k : Nat} (hk : k < 128) {s : Nat → Int32}
    (h : ∀ g b, yl_Q (cl_C nc (fun c => kd (cn c)) sb (fun c => tm_l pp (cn c)) E) s g b → (g = false → PR ∧ ∀ i j, i < 128 → j < 128 → yl_a s i k → yl_a s k j → yl_a s i j) → J28 (nI (k + 1)) g_maxNodes g_maxWeight g_maxVisits g_count g_root g_nc g_weight (nu_b g) g_neg g_made g_next g_nextPar g_nextSlot g_nextLex g_stuck b_kinds b_parts b_cNode b_cPar b_cSlot b b_saved b_cur b_nxt b_first b_vNode b_vPar b_vSlot b_vLex b_val b_num) : ∀ m i, i + m = 128 → ∀ g b, yl_Q (cl_C nc (fun c => kd (cn c)) sb (fun c => tm_l pp (cn c)) E) s g b → (g = false → PR ∧ ∀ i' j, i' < i → j < 128 → yl_a s i' k → yl_a s k j → yl_a s i' j) →
    wY_grow_37 post J7 J28 x1 (nI k) (m + 1) (nI i) g_maxNodes g_maxWeight g_maxVisits g_count g_root g_nc g_weight (nu_b g) g_neg g_made g_next g_nextPar g_nextSlot g_nextLex g_stuck b_kinds b_parts b_cNode b_cPar b_cSlot b b_saved b_cur b_nxt b_first b_vNode b_vPar b_vSlot b_vLex b_val b_num := by
  intro m
  induction m with
  | zero =>
    intro i hi g b Q D
    have : i = 128 := by omega
    subst this
    exact br_t (by decide) (nm_r (nI_1 k) (h g b Q D))
  | succ m ih =>
    intro i hi g b Q D
    refine br_f ?_ ⟨by rw [nu_r128, nI_add]; exact vp_in_nI (by omega) (by omega), ?_⟩
    · show ¬ (128 : Int32) ≤ nI i
      rw [nu_g128 (by omega)]; omega
    rw [nu_r128, nI_add, nI_clamp (show i * 128 + k < 2 ^ 31 by omega)]
    refine br_c (fun y => nm_r (nI_1 i) (ih (i + 1) (by omega) g b Q fun eg => ⟨(D eg).1, fun i' j hi' hj a a' => ?_⟩)) (fun y => ⟨129, ?_⟩)
    · rcases Nat.lt_or_ge i' i with z | z
      · exact (D eg).2 i' j z hj a a'
      · have : i' = i := by omega
        subst this
        rw [Q.2.2.1 eg] at y
        exact absurd y a
    · refine yw_gr62 (PR := PR ∧ ∀ i' j, i' < i → j < 128 → yl_a s i' k → yl_a s k j → yl_a s i' j) hk (by omega) (Q.1.2 i k (by omega) hk y) (fun g' b' Q' D' => ih (i + 1) (by omega) g' b' Q' fun eg => ⟨(D' eg).1.1, fun i' j hi' hj a a' => ?_⟩) 128 0 rfl g b Q (fun eg => ⟨D eg, fun j' hj' => by omega⟩)
      rcases Nat.lt_or_ge i' i with z | z
      · exact (D' eg).1.2 i' j z hj a a'
      · have : i' = i := by omega
        subst this
        exact (D' eg).2 j hj a'
theorem yw_grow (W : tm_WF n kd cd pp par) (A : tm_Ag n kd pp b_kinds b_parts) (Y : cp_Y n nc cn cu cs sb b_cNode b_cPar b_cSlot) (T : cp_T nc cu sb) (I : yl_I (cl_C nc (fun c => kd (cn c)) sb (fun c => tm_l pp (cn c)) E) b_le)
    (h : ∀ g b, yl_I (cl_C nc (fun c => kd (cn c)) sb (fun c => tm_l pp (cn c)) E) b → yl_le b_le b → (∀ i j k, i < 128 → j < 128 → k < 128 → yl_a b i k → yl_a b k j → yl_a b i j) → (∀ c d, c < nc → d < nc → cl_r1 (fun c => kd (cn c)) sb (fun c => tm_l pp (cn c)) (yl_a b) c d) → post (g_maxNodes, g_maxWeight, g_maxVisits, g_count, g_root, nI nc, g_weight, g, g_neg, g_made, g_next, g_nextPar, g_nextSlot, g_nextLex, g_stuck, b_kinds, b_parts, b_cNode, b_cPar, b_cSlot, b, b_saved, b_cur, b_nxt, b_first, b_vNode, b_vPar, b_vSlot, b_vLex, b_val, b_num)) : wpY_grow post (g_maxNodes, g_maxWeight, g_maxVisits, g_count, g_root, nI nc, g_weight, g_grown, g_neg, g_made, g_next, g_nextPar, g_nextSlot, g_nextLex, g_stuck, b_kinds, b_parts, b_cNode, b_cPar, b_cSlot, b_le, b_saved, b_cur, b_nxt, b_first, b_vNode, b_vPar, b_vSlot, b_vLex, b_val, b_num) := by
  have hnc := T.1
  have k28 : ∀ (J7 : Int32 → Int32 → Int32 → Int32 → Int32 → Int32 → Int32 → Int32 → Int32 → Int32 → Int32 → Int32 → Int32 → Int32 → Int32 → Int32 → (Nat → Int32) → (Nat → Int32) → (Nat → Int32) → (Nat → Int32) → (Nat → Int32) → (Nat → Int32) → (Nat → Int32) → (Nat → Int32) → (Nat → Int32) → (Nat → Int32) → (Nat → Int32) → (Nat → Int32) → (Nat → Int32) → (Nat → Int32) → (Nat → Int32) → (Nat → Int32) → Prop) (x1 : Nat) (s : Nat → Int32), (∀ g b, yl_Q (cl_C nc (fun c => kd (cn c)) sb (fun c => tm_l pp (cn c)) E) s g b → (g = false → (∀ i j k, i < 128 → j < 128 → k < 128 → yl_a s i k → yl_a s k j → yl_a s i j) ∧ (∀ c d, c < nc → d < nc → cl_r1 (fun c => kd (cn c)) sb (fun c => tm_l pp (cn c)) (yl_a s) c d)) → J7 (nI (x1 + 1)) g_maxNodes g_maxWeight g_maxVisits g_count g_root (nI nc) g_weight (nu_b g) g_neg g_made g_next g_nextPar g_nextSlot g_nextLex g_stuck b_kinds b_parts b_cNode b_cPar b_cSlot b b_saved b_cur b_nxt b_first b_vNode b_vPar b_vSlot b_vLex b_val b_num) → ∀ m k, k + m = 128 → ∀ g b, yl_Q (cl_C nc (fun c => kd (cn c)) sb (fun c => tm_l pp (cn c)) E) s g b → (g = false → ∀ i j k', i < 128 → j < 128 → k' < k → yl_a s i k' → yl_a s k' j → yl_a s i j) → wY_grow_28 post J7 (nI x1) (m + 1) (nI k) g_maxNodes g_maxWeight g_maxVisits g_count g_root (nI nc) g_weight (nu_b g) g_neg g_made g_next g_nextPar g_nextSlot g_nextLex g_stuck b_kinds b_parts b_cNode b_cPar b_cSlot b b_saved b_cur b_nxt b_first b_vNode b_vPar b_vSlot b_vLex b_val b_num := by
    intro J7 x1 s hJ m
    induction m with
    | zero =>
      intro k hk g b Q D
      have : k = 128 := by omega
      subst this
      exact br_t (by decide) ⟨nc + 1, yw_gr113 W A Y T hJ nc 0 (by omega) g b Q fun eg => ⟨D eg, fun c d' _ hd' => by omega⟩⟩
    | succ m ih =>
      intro k hk g b Q D
      refine br_f ?_ ⟨129, yw_gr37 (PR := ∀ i j k', i < 128 → j < 128 → k' < k → yl_a s i k' → yl_a s k' j → yl_a s i j) (by omega) (fun g' b' Q' D' => ih (k + 1) (by omega) g' b' Q' fun eg i j k' hi hj hk' a a' => ?_) 128 0 rfl g b Q (fun eg => ⟨D eg, fun i' j hi' => by omega⟩)⟩
      · show ¬ (128 : Int32) ≤ nI k
        rw [nu_g128 (by omega)]; omega
      · rcases Nat.lt_or_ge k' k with z | z
        · exact (D' eg).1 i j k' hi hj z a a'
        · have : k' = k := by omega
          subst this
          exact (D' eg).2 i j hi hj a a'
  have key : ∀ m k, k + m = 16385 → ∀ g b, yl_I (cl_C nc (fun c => kd (cn c)) sb (fun c => tm_l pp (cn c)) E) b → yl_le b_le b → (g = false → (∀ i j k, i < 128 → j < 128 → k < 128 → yl_a b i k → yl_a b k j → yl_a b i j) ∧ (∀ c d, c < nc → d < nc → cl_r1 (fun c => kd (cn c)) sb (fun c => tm_l pp (cn c)) (yl_a b) c d)) → (g = true → k ≤ yl_n b) → wY_grow_7 post (m + 1) (nI k) g_maxNodes g_maxWeight g_maxVisits g_count g_root (nI nc) g_weight (nu_b g) g_neg g_made g_next g_nextPar g_nextSlot g_nextLex g_stuck b_kinds b_parts b_cNode b_cPar b_cSlot b b_saved b_cur b_nxt b_first b_vNode b_vPar b_vSlot b_vLex b_val b_num := by
    intro m
    induction m with
    | zero =>
      intro k hk g b i1 i2 i3 i4
      have hg : g = false := by
        cases e : g with
        | false => rfl
        | true => have := i4 e; have := yl_nle b; omega
      refine br_t ?_ (h _ b i1 i2 (i3 hg).1 (i3 hg).2)
      show (16385 : Int32) ≤ nI k
      rw [nu_g16385 (by omega)]; omega
    | succ m ih =>
      intro k hk g b i1 i2 i3 i4
      refine br_f ?_ ?_
      · show ¬ (16385 : Int32) ≤ nI k
        rw [nu_g16385 (by omega)]; omega
      rw [nu_b0]
      refine br_c (fun y => h _ b i1 i2 (i3 y).1 (i3 y).2) (fun y => ⟨129, ?_⟩)
      refine k28 _ k b (fun g' b' Q D => ih (k + 1) (by omega) g' b' Q.1 (fun i hi w => Q.2.1 i hi (i2 i hi w)) (fun eg => ?_) (fun eg => ?_)) 128 0 rfl false b ⟨i1, fun _ _ z => z, fun _ => rfl, fun z => (by cases z)⟩ (fun _ i j k' _ _ hk' => by omega)
      · have e := Q.2.2.1 eg
        subst e
        exact D eg
      · have := Q.2.2.2 eg
        have := i4 (ts_nf y)
        omega
  exact ⟨16386, key 16385 0 rfl true b_le I (fun _ _ z => z) (fun z => by cases z) (fun _ => Nat.zero_le _)⟩
end
/-- Y's table, once closed, is the closure -/
theorem cl_Y {nc : Nat} {kc : Nat → Nat} {sb : Nat → Nat → Option Nat} {lb : Nat → Nat} {E : Nat → Nat → Prop} {b : Nat → Int32} (hnc : nc ≤ 64) (hsb : ∀ c s k, c < nc → s < 5 → sb c s = some k → k < nc) (hlb : ∀ d, d < nc → kc d = 7 → lb d < 4) (hE : ∀ y z, E y z → y < 128 ∧ z < 128 ∧ yl_a b y z) (hr : ∀ x, x < 128 → yl_a b x x) (ht : ∀ i j k, i < 128 → j < 128 → k < 128 → yl_a b i k → yl_a b k j → yl_a b i j) (h1 : ∀ c d, c < nc → d < nc → cl_r1 kc sb lb (yl_a b) c d) {y z : Nat} (h : cl_C nc kc sb lb E y z) : y < 128 ∧ z < 128 ∧ yl_a b y z := by
  refine h (fun y z => y < 128 ∧ z < 128 ∧ yl_a b y z) hE (fun x hx => ⟨hx, hx, hr x hx⟩) (fun p q r a a' => ⟨a.1, a'.2.1, ht p r q a.1 a'.2.1 a.2.1 a.2.2 a'.2.2⟩) ?_
  intro c d w hc hd ew a
  have q := h1 c d hc hd w ew a.2.2
  refine ⟨fun k3 k4 => ⟨fun p e => ?_, fun p e => ?_⟩, fun k6 k7 f e => ?_⟩
  · have := hsb d 1 p hd (by omega) e
    exact ⟨by omega, by omega, (q.1 k3 k4).1 p e⟩
  · have := hsb c 1 p hc (by omega) e
    exact ⟨by omega, by omega, (q.1 k3 k4).2 p e⟩
  · have := hsb c _ f hc (by have := hlb d hd k7; omega) e
    exact ⟨by omega, by omega, q.2 k6 k7 f e⟩
end
section
/-! positions: X and Y, the heads -/
section
variable {f_maxNodes f_maxWeight f_maxVisits f_nodeCount f_sealed f_verdictNow f_copyCount f_varCount : Int32} {f_atSet : Int64} {f_atNeg f_visitCount f_done f_stuck f_curNode f_curEnv f_resultValue f_valueCount f_envCount f_depth : Int32} {a_nKind a_nPart a_nParent a_cNode a_cUp a_cChild a_cInst a_cParam a_queue : Nat → Int32} {a_rel : Nat → Int64} {a_vKind a_vWord a_vEnv a_vField a_eName a_eValue a_eNext a_fNode a_fEnv a_fPart a_fValue : Nat → Int32} {n : Nat} {kd : Nat → Nat} {cd : Nat → Nat → Option Nat} {pp : Nat → Int32} {par : Nat → Option Nat} {nc vc : Nat} {cn : Nat → Nat} {cu : Nat → Option Nat} {sb : Nat → Nat → Option Nat} {pv : Nat → Nat}
theorem xw_above {post : Int64 → Prop} (hv : vc ≤ 64) {s : Int64} (h : ∀ t, (∀ w, cl_tb t w = true ↔ ∃ v, v < vc ∧ cl_tb s v = true ∧ cl_a a_rel 0 v w) → post t) : wpX_above post (f_maxNodes, f_maxWeight, f_maxVisits, f_nodeCount, f_sealed, f_verdictNow, f_copyCount, nI vc, f_atSet, f_atNeg, f_visitCount, f_done, f_stuck, f_curNode, f_curEnv, f_resultValue, f_valueCount, f_envCount, f_depth, a_nKind, a_nPart, a_nParent, a_cNode, a_cUp, a_cChild, a_cInst, a_cParam, a_queue, a_rel, a_vKind, a_vWord, a_vEnv, a_vField, a_eName, a_eValue, a_eNext, a_fNode, a_fEnv, a_fPart, a_fValue) s := by
  have key : ∀ m v, v + m = vc → ∀ t, (∀ w, cl_tb t w = true ↔ ∃ v', v' < v ∧ cl_tb s v' = true ∧ cl_a a_rel 0 v' w) → wX_above_5 post s f_maxNodes f_maxWeight f_maxVisits f_nodeCount f_sealed f_verdictNow f_copyCount (nI vc) f_atSet f_atNeg f_visitCount f_done f_stuck f_curNode f_curEnv f_resultValue f_valueCount f_envCount f_depth a_nKind a_nPart a_nParent a_cNode a_cUp a_cChild a_cInst a_cParam a_queue a_rel a_vKind a_vWord a_vEnv a_vField a_eName a_eValue a_eNext a_fNode a_fEnv a_fPart a_fValue (m + 1) t (nI v) := by
    intro m
    induction m with
    | zero =>
      intro v hvm t D
      have : v = vc := by omega
      subst this
      refine br_t ?_ (h t D)
      rw [nI_leI (by omega) (by omega)]; omega
    | succ m ih =>
      intro v hvm t D
      refine br_f ?_ ?_
      · show ¬ nI vc ≤ nI v
        rw [nI_leI (by omega) (by omega)]; omega
      rw [bi_t (by omega), nI_clamp (show v < 2 ^ 31 by omega)]
      refine br_c (fun y => nm_r (nI_1 v) (ih (v + 1) (by omega) t fun w => ?_)) (fun y => ⟨vp_in_nI (by omega) (by omega), nm_e (nm_r (nI_1 v) (ih (v + 1) (by omega) _ fun w => ?_))⟩)
      · rw [D w]
        constructor
        · rintro ⟨v', a, b⟩; exact ⟨v', by omega, b⟩
        · rintro ⟨v', a, b, c⟩
          rcases Nat.lt_or_ge v' v with z | z
          · exact ⟨v', z, b, c⟩
          · have : v' = v := by omega
            subst this
            exact absurd b y
      · rw [bi_or, D w]
        constructor
        · rintro (⟨v', a, b⟩ | a)
          · exact ⟨v', by omega, b⟩
          · exact ⟨v, by omega, Classical.not_not.mp y, by unfold cl_a; rw [Nat.zero_add]; exact a⟩
        · rintro ⟨v', a, b, c⟩
          rcases Nat.lt_or_ge v' v with z | z
          · exact Or.inl ⟨v', z, b, c⟩
          · have : v' = v := by omega
            subst this
            unfold cl_a at c
            rw [Nat.zero_add] at c
            exact Or.inr c
  exact ⟨vc + 1, key vc 0 (by omega) 0 fun w => ⟨fun z => absurd z (bi_0 w), fun ⟨v', a, _⟩ => by omega⟩⟩
/-- the label bits of a record -/
def ps_b (b : Bool) (l : Nat) (x : Int32) : Int32 := if b = true then x ||| ((8 : Int32) <<< (nI l &&& 31)) else x
def ps_y (b : Bool) (l : Nat) (x : Int32) : Int32 := if b = true then x else x &&& (((8 : Int32) <<< (nI l &&& 31)) ^^^ (-1))
def ps_r (cd : Nat → Nat → Option Nat) (m l : Nat) : Bool := decide (cd m l ≠ none)
def ps_rb (f : Nat → Bool) (x : Int32) : Int32 := ps_b (f 3) 3 (ps_b (f 2) 2 (ps_b (f 1) 1 (ps_b (f 0) 0 x)))
def ps_ry (f : Nat → Bool) (x : Int32) : Int32 := ps_y (f 3) 3 (ps_y (f 2) 2 (ps_y (f 1) 1 (ps_y (f 0) 0 x)))
theorem ps_tab : ∀ q, q < 16 → ∀ b0 b1 b2 b3 : Bool, (nI (8 * q) &&& ps_b b3 3 (ps_b b2 2 (ps_b b1 1 (ps_b b0 0 0)))) = ps_y b3 3 (ps_y b2 2 (ps_y b1 1 (ps_y b0 0 (nI (8 * q))))) ∧ ∃ q', q' < 16 ∧ ps_y b3 3 (ps_y b2 2 (ps_y b1 1 (ps_y b0 0 (nI (8 * q))))) = nI (8 * q') := by decide +kernel
theorem ps_eq (f : Nat → Bool) {q : Nat} (hq : q < 16) : (nI (8 * q) &&& ps_rb f 0) = ps_ry f (nI (8 * q)) ∧ ∃ q', q' < 16 ∧ ps_ry f (nI (8 * q)) = nI (8 * q') := ps_tab q hq (f 0) (f 1) (f 2) (f 3)
theorem xw_rb {post : Int32 → Prop} (W : tm_WF n kd cd pp par) (A : tm_Ag n kd pp a_nKind a_nPart) {m : Nat} (hm : m < n) (h6 : kd m = 6) (h : post (ps_rb (ps_r cd m) 0)) : wpX_recordBits post (f_maxNodes, f_maxWeight, f_maxVisits, f_nodeCount, f_sealed, f_verdictNow, f_copyCount, f_varCount, f_atSet, f_atNeg, f_visitCount, f_done, f_stuck, f_curNode, f_curEnv, f_resultValue, f_valueCount, f_envCount, f_depth, a_nKind, a_nPart, a_nParent, a_cNode, a_cUp, a_cChild, a_cInst, a_cParam, a_queue, a_rel, a_vKind, a_vWord, a_vEnv, a_vField, a_eName, a_eValue, a_eNext, a_fNode, a_fEnv, a_fPart, a_fValue) (nI m) := by
  have hn := tm_n W
  have st : ∀ f l x, l < 4 → wX_recordBits_4 post (nI m) f_maxNodes f_maxWeight f_maxVisits f_nodeCount f_sealed f_verdictNow f_copyCount f_varCount f_atSet f_atNeg f_visitCount f_done f_stuck f_curNode f_curEnv f_resultValue f_valueCount f_envCount f_depth a_nKind a_nPart a_nParent a_cNode a_cUp a_cChild a_cInst a_cParam a_queue a_rel a_vKind a_vWord a_vEnv a_vField a_eName a_eValue a_eNext a_fNode a_fEnv a_fPart a_fValue f (ps_b (ps_r cd m l) l x) (nI (l + 1)) → wX_recordBits_4 post (nI m) f_maxNodes f_maxWeight f_maxVisits f_nodeCount f_sealed f_verdictNow f_copyCount f_varCount f_atSet f_atNeg f_visitCount f_done f_stuck f_curNode f_curEnv f_resultValue f_valueCount f_envCount f_depth a_nKind a_nPart a_nParent a_cNode a_cUp a_cChild a_cInst a_cParam a_queue a_rel a_vKind a_vWord a_vEnv a_vField a_eName a_eValue a_eNext a_fNode a_fEnv a_fPart a_fValue (f + 1) x (nI l) := fun f l x hl H => by
    refine br_f ?_ ⟨nu_i4 (by omega) (by omega), ?_⟩
    · show ¬ (4 : Int32) ≤ nI l
      rw [nu_g4 (by omega)]; omega
    rw [nu_c4 (by omega), A.2 _ (by omega), tm_s W hm hl (by rw [h6]; rfl), nu_olt (tm_cl' W hm)]
    unfold ps_b ps_r at H
    refine br_c (fun y => nm_r (nI_1 l) ?_) (fun y => nm_e (nm_r (nI_1 l) ?_))
    · rw [if_neg (by rw [decide_eq_false (fun z => z y)]; intro z; cases z)] at H; exact H
    · rw [if_pos (decide_eq_true y)] at H; exact H
  exact ⟨5, st 4 0 0 (by omega) (st 3 1 _ (by omega) (st 2 2 _ (by omega) (st 1 3 _ (by omega) (br_t (by decide) h))))⟩
end
section
variable {g_maxNodes g_maxWeight g_maxVisits g_count g_root g_nc g_weight g_grown g_neg g_made g_next g_nextPar g_nextSlot g_nextLex g_stuck : Int32} {b_kinds b_parts b_cNode b_cPar b_cSlot b_le b_saved b_cur b_nxt b_first b_vNode b_vPar b_vSlot b_vLex b_val b_num : Nat → Int32} {n : Nat} {kd : Nat → Nat} {cd : Nat → Nat → Option Nat} {pp : Nat → Int32} {par : Nat → Option Nat} {nc : Nat} {cn : Nat → Nat} {cu : Nat → Option Nat} {cs : Nat → Nat} {sb : Nat → Nat → Option Nat} {post : Int32 → Prop}
theorem yw_above {c : Nat} (hc : c < 128) (h1 : (∃ u, u < 128 ∧ b_cur u ≠ 0 ∧ yl_a b_le c u) → post 1) (h0 : (¬ ∃ u, u < 128 ∧ b_cur u ≠ 0 ∧ yl_a b_le c u) → post 0) : wpY_above post (g_maxNodes, g_maxWeight, g_maxVisits, g_count, g_root, g_nc, g_weight, g_grown, g_neg, g_made, g_next, g_nextPar, g_nextSlot, g_nextLex, g_stuck, b_kinds, b_parts, b_cNode, b_cPar, b_cSlot, b_le, b_saved, b_cur, b_nxt, b_first, b_vNode, b_vPar, b_vSlot, b_vLex, b_val, b_num) (nI c) := by
  have key : ∀ m u, u + m = 128 → ((∃ u', u ≤ u' ∧ u' < 128 ∧ b_cur u' ≠ 0 ∧ yl_a b_le c u') → post 1) → ((¬ ∃ u', u ≤ u' ∧ u' < 128 ∧ b_cur u' ≠ 0 ∧ yl_a b_le c u') → post 0) → wY_above_2 post (nI c) g_maxNodes g_maxWeight g_maxVisits g_count g_root g_nc g_weight g_grown g_neg g_made g_next g_nextPar g_nextSlot g_nextLex g_stuck b_kinds b_parts b_cNode b_cPar b_cSlot b_le b_saved b_cur b_nxt b_first b_vNode b_vPar b_vSlot b_vLex b_val b_num (m + 1) (nI u) := by
    intro m
    induction m with
    | zero =>
      intro u hu h1 h0
      have : u = 128 := by omega
      subst this
      exact br_t (by decide) (h0 fun ⟨u', a, b, _⟩ => by omega)
    | succ m ih =>
      intro u hu h1 h0
      have N : ¬ (b_cur u ≠ 0 ∧ yl_a b_le c u) → wY_above_2 post (nI c) g_maxNodes g_maxWeight g_maxVisits g_count g_root g_nc g_weight g_grown g_neg g_made g_next g_nextPar g_nextSlot g_nextLex g_stuck b_kinds b_parts b_cNode b_cPar b_cSlot b_le b_saved b_cur b_nxt b_first b_vNode b_vPar b_vSlot b_vLex b_val b_num (m + 1) (nI (u + 1)) := fun z => by
        refine ih (u + 1) (by omega) (fun ⟨u', a, b⟩ => h1 ⟨u', by omega, b⟩) (fun q => h0 fun ⟨u', a, b, d⟩ => ?_)
        rcases Nat.eq_or_lt_of_le a with e | e
        · subst e; exact z d
        · exact q ⟨u', e, b, d⟩
      refine br_f ?_ ⟨vp_in_nI (by omega) (by omega), ?_⟩
      · show ¬ (128 : Int32) ≤ nI u
        rw [nu_g128 (by omega)]; omega
      rw [nu_r128, nI_add, nI_clamp (show c * 128 + u < 2 ^ 31 by omega), nI_clamp (show u < 2 ^ 31 by omega)]
      exact br_c (fun y => nm_r (nI_1 u) (N fun z => z.1 y)) (fun y => ⟨vp_in_nI (by omega) (by omega), br_c (fun y' => nm_r (nI_1 u) (N fun z => z.2 y')) (fun y' => h1 ⟨u, Nat.le_refl _, by omega, y, y'⟩)⟩)
  exact ⟨129, key 128 0 rfl (fun ⟨u', _, b⟩ => h1 ⟨u', b⟩) (fun q => h0 fun ⟨u', b⟩ => q ⟨u', Nat.zero_le _, b⟩)⟩
theorem yw_below {o : Option Nat} (ho : nu_lt o 128) (h1 : ∀ w, o = some w → (∃ u, u < 128 ∧ b_cur u ≠ 0 ∧ yl_a b_le u w) → post 1) (h0 : (∀ w, o = some w → ¬ ∃ u, u < 128 ∧ b_cur u ≠ 0 ∧ yl_a b_le u w) → post 0) : wpY_below post (g_maxNodes, g_maxWeight, g_maxVisits, g_count, g_root, g_nc, g_weight, g_grown, g_neg, g_made, g_next, g_nextPar, g_nextSlot, g_nextLex, g_stuck, b_kinds, b_parts, b_cNode, b_cPar, b_cSlot, b_le, b_saved, b_cur, b_nxt, b_first, b_vNode, b_vPar, b_vSlot, b_vLex, b_val, b_num) (nu_o o) := by
  cases e : o with
  | none => exact ⟨1, br_t (by decide) (h0 fun w z => by rw [e] at z; cases z)⟩
  | some w =>
    have hw := ho w e
    have key : ∀ m u, u + m = 128 → ((∃ u', u ≤ u' ∧ u' < 128 ∧ b_cur u' ≠ 0 ∧ yl_a b_le u' w) → post 1) → ((¬ ∃ u', u ≤ u' ∧ u' < 128 ∧ b_cur u' ≠ 0 ∧ yl_a b_le u' w) → post 0) → wY_below_2 post (nI w) g_maxNodes g_maxWeight g_maxVisits g_count g_root g_nc g_weight g_grown g_neg g_made g_next g_nextPar g_nextSlot g_nextLex g_stuck b_kinds b_parts b_cNode b_cPar b_cSlot b_le b_saved b_cur b_nxt b_first b_vNode b_vPar b_vSlot b_vLex b_val b_num (m + 1) (nI u) := by
      intro m
      induction m with
      | zero =>
        intro u hu h1 h0
        have : u = 128 := by omega
        subst this
        exact br_f (nI_pos (by omega)) (br_t (by decide) (h0 fun ⟨u', a, b, _⟩ => by omega))
      | succ m ih =>
        intro u hu h1 h0
        have N : ¬ (b_cur u ≠ 0 ∧ yl_a b_le u w) → wY_below_2 post (nI w) g_maxNodes g_maxWeight g_maxVisits g_count g_root g_nc g_weight g_grown g_neg g_made g_next g_nextPar g_nextSlot g_nextLex g_stuck b_kinds b_parts b_cNode b_cPar b_cSlot b_le b_saved b_cur b_nxt b_first b_vNode b_vPar b_vSlot b_vLex b_val b_num (m + 1) (nI (u + 1)) := fun z => by
          refine ih (u + 1) (by omega) (fun ⟨u', a, b⟩ => h1 ⟨u', by omega, b⟩) (fun q => h0 fun ⟨u', a, b, d⟩ => ?_)
          rcases Nat.eq_or_lt_of_le a with e | e
          · subst e; exact z d
          · exact q ⟨u', e, b, d⟩
        refine br_f (nI_pos (by omega)) (br_f ?_ ⟨vp_in_nI (by omega) (by omega), ?_⟩)
        · show ¬ (128 : Int32) ≤ nI u
          rw [nu_g128 (by omega)]; omega
        rw [nu_r128, nI_add, nI_clamp (show u * 128 + w < 2 ^ 31 by omega), nI_clamp (show u < 2 ^ 31 by omega)]
        exact br_c (fun y => nm_r (nI_1 u) (N fun z => z.1 y)) (fun y => ⟨vp_in_nI (by omega) (by omega), br_c (fun y' => nm_r (nI_1 u) (N fun z => z.2 y')) (fun y' => h1 ⟨u, Nat.le_refl _, by omega, y, y'⟩)⟩)
    exact ⟨129, key 128 0 rfl (fun ⟨u', _, b⟩ => h1 w e ⟨u', b⟩) (fun q => h0 fun w' e' ⟨u', b⟩ => by rw [e] at e'; cases e'; exact q ⟨u', Nat.zero_le _, b⟩)⟩
end
/-- the head's bit of a use -/
def ps_v (kd : Nat → Nat) (pp : Nat → Int32) (m : Nat) : Int32 := if kd m = 4 then 2 else if kd m = 7 then 4 ||| ((8 : Int32) <<< (nI (tm_l pp m) &&& 31)) else 1
theorem ps_oo (a b : Int32) : (a ||| b) ||| b = a ||| b := by rw [Int32.or_assoc, Int32.or_self]
theorem ps_or0 {a b : Int32} (ha : 0 ≤ a) (hb : 0 ≤ b) : 0 ≤ a ||| b := by
  rw [Int32.le_iff_toInt_le] at ha hb ⊢
  have e : (0 : Int32).toInt = 0 := by decide
  rw [e] at ha hb ⊢
  have ha' : a.toBitVec.msb = false := by
    cases h : a.toBitVec.msb with
    | false => rfl
    | true => have := BitVec.toInt_neg_iff (x := a.toBitVec); rw [BitVec.msb_eq_decide] at h; have h' := of_decide_eq_true h; have : a.toInt = a.toBitVec.toInt := rfl; omega
  have hb' : b.toBitVec.msb = false := by
    cases h : b.toBitVec.msb with
    | false => rfl
    | true => have := BitVec.toInt_neg_iff (x := b.toBitVec); rw [BitVec.msb_eq_decide] at h; have h' := of_decide_eq_true h; have : b.toInt = b.toBitVec.toInt := rfl; omega
  have hc : (a ||| b).toBitVec.msb = false := by rw [Int32.toBitVec_or, BitVec.msb_or, ha', hb']; rfl
  show 0 ≤ (a ||| b).toBitVec.toInt
  rw [BitVec.toInt_eq_msb_cond, hc]
  simp
theorem ps_v0 {kd : Nat → Nat} {pp : Nat → Int32} {m : Nat} (h : kd m = 7 → tm_l pp m ≤ 3) : 0 ≤ ps_v kd pp m := by
  have tab : ∀ l, l < 4 → (0 : Int32) ≤ 4 ||| ((8 : Int32) <<< (nI l &&& 31)) := by decide +kernel
  unfold ps_v
  split
  · decide
  · split
    · next h7 => exact tab _ (by have := h h7; omega)
    · decide
section
variable {f_maxNodes f_maxWeight f_maxVisits f_nodeCount f_sealed f_verdictNow f_copyCount f_varCount : Int32} {f_atSet : Int64} {f_atNeg f_visitCount f_done f_stuck f_curNode f_curEnv f_resultValue f_valueCount f_envCount f_depth : Int32} {a_nKind a_nPart a_nParent a_cNode a_cUp a_cChild a_cInst a_cParam a_queue : Nat → Int32} {a_rel : Nat → Int64} {a_vKind a_vWord a_vEnv a_vField a_eName a_eValue a_eNext a_fNode a_fEnv a_fPart a_fValue : Nat → Int32} {g_maxNodes g_maxWeight g_maxVisits g_count g_root g_nc g_weight g_grown g_neg g_made g_next g_nextPar g_nextSlot g_nextLex g_stuck : Int32} {b_kinds b_parts b_cNode b_cPar b_cSlot b_le b_saved b_cur b_nxt b_first b_vNode b_vPar b_vSlot b_vLex b_val b_num : Nat → Int32} {n : Nat} {kd : Nat → Nat} {cd : Nat → Nat → Option Nat} {pp : Nat → Int32} {par : Nat → Option Nat} {nc vc : Nat} {cn : Nat → Nat} {cu : Nat → Option Nat} {cs : Nat → Nat} {sb : Nat → Nat → Option Nat} {pv : Nat → Nat}
/-- a positive head: one answer for both -/
theorem ps_hp9 (W : tm_WF n kd cd pp par) (A : tm_Ag n kd pp a_nKind a_nPart) (X : cp_X n nc kd cn cu sb pv a_cNode a_cUp a_cChild a_cInst a_cParam) (A' : tm_Ag n kd pp b_kinds b_parts) (Y : cp_Y n nc cn cu cs sb b_cNode b_cPar b_cSlot) (T : cp_T nc cu sb) {Pc : Nat → Prop} :
    ∀ m c, c + m = nc → ∀ (x : Int32) (q : Nat), q < 16 → ∃ h, (0 ≤ x → 0 ≤ h) ∧ (∀ (s f1 : Int64) (f2 : Int32) (post : Int32 → Prop), (∀ c, c < nc → ((a_rel c &&& s) = 0 ↔ ¬ Pc c)) → post h → wX_headPositive_9 post s f_maxNodes f_maxWeight f_maxVisits f_nodeCount f_sealed f_verdictNow (nI nc) f_varCount f1 f2 f_visitCount f_done f_stuck f_curNode f_curEnv f_resultValue f_valueCount f_envCount f_depth a_nKind a_nPart a_nParent a_cNode a_cUp a_cChild a_cInst a_cParam a_queue a_rel a_vKind a_vWord a_vEnv a_vField a_eName a_eValue a_eNext a_fNode a_fEnv a_fPart a_fValue (m + 1) x (nI (8 * q)) (nI c)) ∧ (∀ (bc bx bf : Nat → Int32) (post : Int32 → Prop), (∀ c, c < nc → (Pc c ↔ ∃ u, u < 128 ∧ bc u ≠ 0 ∧ yl_a b_le c u)) → post h → wY_headNow_20 post g_maxNodes g_maxWeight g_maxVisits g_count g_root (nI nc) g_weight g_grown 0 g_made g_next g_nextPar g_nextSlot g_nextLex g_stuck b_kinds b_parts b_cNode b_cPar b_cSlot b_le b_saved bc bx bf b_vNode b_vPar b_vSlot b_vLex b_val b_num (m + 1) x (nI (8 * q)) (nI c)) := by
  have hn := tm_n W
  have hnc := T.1
  intro m
  induction m with
  | zero =>
    intro c hc x q hq
    have e : nI nc ≤ nI c := by rw [nI_leI (by omega) (by omega)]; omega
    by_cases h4 : (x &&& 4) = 0
    · exact ⟨x, id, fun s f1 f2 post hX hp => br_t e (br_t h4 hp), fun bc bx bf post hY hp => br_t e (br_t rfl (br_t h4 hp))⟩
    · exact ⟨x ||| nI (8 * q), fun z => ps_or0 z (nI_pos' (by omega)), fun s f1 f2 post hX hp => br_t e (br_f h4 (nm_e hp)), fun bc bx bf post hY hp => br_t e (br_t rfl (br_f h4 hp))⟩
  | succ m ih =>
    intro c hc x q hq
    have hcn : c < nc := by omega
    have e : ¬ nI nc ≤ nI c := by rw [nI_leI (by omega) (by omega)]; omega
    have qX := X.1 c hcn
    have qY := Y.1 c hcn
    have hk := tm_k W qX.2.2
    -- the entry on both sides, up to the kind
    have EX : ∀ (s f1 : Int64) (f2 : Int32) (post : Int32 → Prop), (∀ c, c < nc → ((a_rel c &&& s) = 0 ↔ ¬ Pc c)) → Pc c → (((nI (kd (cn c)) = 1 → wX_headPositive_9 post s f_maxNodes f_maxWeight f_maxVisits f_nodeCount f_sealed f_verdictNow (nI nc) f_varCount f1 f2 f_visitCount f_done f_stuck f_curNode f_curEnv f_resultValue f_valueCount f_envCount f_depth a_nKind a_nPart a_nParent a_cNode a_cUp a_cChild a_cInst a_cParam a_queue a_rel a_vKind a_vWord a_vEnv a_vField a_eName a_eValue a_eNext a_fNode a_fEnv a_fPart a_fValue (m + 1) (x ||| 1) (nI (8 * q)) (nI (c + 1))) ∧ (¬ nI (kd (cn c)) = 1 → ((nI (kd (cn c)) = 8 → wX_headPositive_9 post s f_maxNodes f_maxWeight f_maxVisits f_nodeCount f_sealed f_verdictNow (nI nc) f_varCount f1 f2 f_visitCount f_done f_stuck f_curNode f_curEnv f_resultValue f_valueCount f_envCount f_depth a_nKind a_nPart a_nParent a_cNode a_cUp a_cChild a_cInst a_cParam a_queue a_rel a_vKind a_vWord a_vEnv a_vField a_eName a_eValue a_eNext a_fNode a_fEnv a_fPart a_fValue (m + 1) (x ||| 1) (nI (8 * q)) (nI (c + 1))) ∧ (¬ nI (kd (cn c)) = 8 → ((nI (kd (cn c)) = 3 → wX_headPositive_9 post s f_maxNodes f_maxWeight f_maxVisits f_nodeCount f_sealed f_verdictNow (nI nc) f_varCount f1 f2 f_visitCount f_done f_stuck f_curNode f_curEnv f_resultValue f_valueCount f_envCount f_depth a_nKind a_nPart a_nParent a_cNode a_cUp a_cChild a_cInst a_cParam a_queue a_rel a_vKind a_vWord a_vEnv a_vField a_eName a_eValue a_eNext a_fNode a_fEnv a_fPart a_fValue (m + 1) (x ||| 2) (nI (8 * q)) (nI (c + 1))) ∧ (¬ nI (kd (cn c)) = 3 → ((nI (kd (cn c)) = 6 → wX_headPositive_9 post s f_maxNodes f_maxWeight f_maxVisits f_nodeCount f_sealed f_verdictNow (nI nc) f_varCount f1 f2 f_visitCount f_done f_stuck f_curNode f_curEnv f_resultValue f_valueCount f_envCount f_depth a_nKind a_nPart a_nParent a_cNode a_cUp a_cChild a_cInst a_cParam a_queue a_rel a_vKind a_vWord a_vEnv a_vField a_eName a_eValue a_eNext a_fNode a_fEnv a_fPart a_fValue (m + 1) (x ||| 4) (ps_ry (ps_r cd (cn c)) (nI (8 * q))) (nI (c + 1))) ∧ (¬ nI (kd (cn c)) = 6 → wX_headPositive_9 post s f_maxNodes f_maxWeight f_maxVisits f_nodeCount f_sealed f_verdictNow (nI nc) f_varCount f1 f2 f_visitCount f_done f_stuck f_curNode f_curEnv f_resultValue f_valueCount f_envCount f_depth a_nKind a_nPart a_nParent a_cNode a_cUp a_cChild a_cInst a_cParam a_queue a_rel a_vKind a_vWord a_vEnv a_vField a_eName a_eValue a_eNext a_fNode a_fEnv a_fPart a_fValue (m + 1) x (nI (8 * q)) (nI (c + 1))))))))))) → wX_headPositive_9 post s f_maxNodes f_maxWeight f_maxVisits f_nodeCount f_sealed f_verdictNow (nI nc) f_varCount f1 f2 f_visitCount f_done f_stuck f_curNode f_curEnv f_resultValue f_valueCount f_envCount f_depth a_nKind a_nPart a_nParent a_cNode a_cUp a_cChild a_cInst a_cParam a_queue a_rel a_vKind a_vWord a_vEnv a_vField a_eName a_eValue a_eNext a_fNode a_fEnv a_fPart a_fValue (m + 1 + 1) x (nI (8 * q)) (nI c) := fun s f1 f2 post hX hp H => by
      refine br_f e ⟨vp_in_nI (by omega) (by omega), ?_⟩
      rw [nI_clamp (show c < 2 ^ 31 by omega), hX c hcn, qX.1]
      refine br_f (fun z => z hp) ⟨vp_in_nI (by omega) (by omega), vp_in_nI (by omega) (by omega), nm_r (e' := nI (kd (cn c))) (by rw [nI_clamp (by omega), A.1 _ qX.2.2]) ?_⟩
      refine br_c (fun y => nm_e (nm_r (nI_1 c) (H.1 y))) (fun y => br_c (fun y1 => nm_e (nm_r (nI_1 c) ((H.2 y).1 y1))) (fun y1 => br_c (fun y2 => nm_e (nm_r (nI_1 c) (((H.2 y).2 y1).1 y2))) (fun y2 => br_c (fun y3 => nm_e ⟨vp_in_nI (by omega) (by omega), ?_⟩) (fun y3 => nm_r (nI_1 c) ((((H.2 y).2 y1).2 y2).2 y3)))))
      have k6 : kd (cn c) = 6 := by rwa [nu_e6 (by omega)] at y3
      refine xw_rb W A qX.2.2 k6 (nm_r (ps_eq _ hq).1 (nm_r (nI_1 c) ((((H.2 y).2 y1).2 y2).1 y3)))
    have EX0 : ∀ (s f1 : Int64) (f2 : Int32) (post : Int32 → Prop), (∀ c, c < nc → ((a_rel c &&& s) = 0 ↔ ¬ Pc c)) → ¬ Pc c → wX_headPositive_9 post s f_maxNodes f_maxWeight f_maxVisits f_nodeCount f_sealed f_verdictNow (nI nc) f_varCount f1 f2 f_visitCount f_done f_stuck f_curNode f_curEnv f_resultValue f_valueCount f_envCount f_depth a_nKind a_nPart a_nParent a_cNode a_cUp a_cChild a_cInst a_cParam a_queue a_rel a_vKind a_vWord a_vEnv a_vField a_eName a_eValue a_eNext a_fNode a_fEnv a_fPart a_fValue (m + 1) x (nI (8 * q)) (nI (c + 1)) → wX_headPositive_9 post s f_maxNodes f_maxWeight f_maxVisits f_nodeCount f_sealed f_verdictNow (nI nc) f_varCount f1 f2 f_visitCount f_done f_stuck f_curNode f_curEnv f_resultValue f_valueCount f_envCount f_depth a_nKind a_nPart a_nParent a_cNode a_cUp a_cChild a_cInst a_cParam a_queue a_rel a_vKind a_vWord a_vEnv a_vField a_eName a_eValue a_eNext a_fNode a_fEnv a_fPart a_fValue (m + 1 + 1) x (nI (8 * q)) (nI c) := fun s f1 f2 post hX hp H => by
      refine br_f e ⟨vp_in_nI (by omega) (by omega), ?_⟩
      rw [nI_clamp (show c < 2 ^ 31 by omega), hX c hcn]
      exact br_t hp (nm_r (nI_1 c) H)
    have EY : ∀ (bc bx bf : Nat → Int32) (post : Int32 → Prop), (∀ c, c < nc → (Pc c ↔ ∃ u, u < 128 ∧ bc u ≠ 0 ∧ yl_a b_le c u)) → (¬ (cl_src (kd (cn c)) = true ∧ Pc c) → wY_headNow_20 post g_maxNodes g_maxWeight g_maxVisits g_count g_root (nI nc) g_weight g_grown 0 g_made g_next g_nextPar g_nextSlot g_nextLex g_stuck b_kinds b_parts b_cNode b_cPar b_cSlot b_le b_saved bc bx bf b_vNode b_vPar b_vSlot b_vLex b_val b_num (m + 1) x (nI (8 * q)) (nI (c + 1))) → (cl_src (kd (cn c)) = true → Pc c → (kd (cn c) = 3 → wY_headNow_20 post g_maxNodes g_maxWeight g_maxVisits g_count g_root (nI nc) g_weight g_grown 0 g_made g_next g_nextPar g_nextSlot g_nextLex g_stuck b_kinds b_parts b_cNode b_cPar b_cSlot b_le b_saved bc bx bf b_vNode b_vPar b_vSlot b_vLex b_val b_num (m + 1) (x ||| 2) (nI (8 * q)) (nI (c + 1))) ∧ (kd (cn c) = 6 → wY_headNow_20 post g_maxNodes g_maxWeight g_maxVisits g_count g_root (nI nc) g_weight g_grown 0 g_made g_next g_nextPar g_nextSlot g_nextLex g_stuck b_kinds b_parts b_cNode b_cPar b_cSlot b_le b_saved bc bx bf b_vNode b_vPar b_vSlot b_vLex b_val b_num (m + 1) (x ||| 4) (ps_ry (ps_r cd (cn c)) (nI (8 * q))) (nI (c + 1))) ∧ (kd (cn c) ≠ 3 → kd (cn c) ≠ 6 → wY_headNow_20 post g_maxNodes g_maxWeight g_maxVisits g_count g_root (nI nc) g_weight g_grown 0 g_made g_next g_nextPar g_nextSlot g_nextLex g_stuck b_kinds b_parts b_cNode b_cPar b_cSlot b_le b_saved bc bx bf b_vNode b_vPar b_vSlot b_vLex b_val b_num (m + 1) (x ||| 1) (nI (8 * q)) (nI (c + 1)))) → wY_headNow_20 post g_maxNodes g_maxWeight g_maxVisits g_count g_root (nI nc) g_weight g_grown 0 g_made g_next g_nextPar g_nextSlot g_nextLex g_stuck b_kinds b_parts b_cNode b_cPar b_cSlot b_le b_saved bc bx bf b_vNode b_vPar b_vSlot b_vLex b_val b_num (m + 1 + 1) x (nI (8 * q)) (nI c) := fun bc bx bf post hY H0 H1 => by
      have Z : ∀ x l, wY_headNow_20 post g_maxNodes g_maxWeight g_maxVisits g_count g_root (nI nc) g_weight g_grown 0 g_made g_next g_nextPar g_nextSlot g_nextLex g_stuck b_kinds b_parts b_cNode b_cPar b_cSlot b_le b_saved bc bx bf b_vNode b_vPar b_vSlot b_vLex b_val b_num (m + 1) x l (nI (c + 1)) → wY_headNow_144 post (wY_headNow_20 post g_maxNodes g_maxWeight g_maxVisits g_count g_root (nI nc) g_weight g_grown 0 g_made g_next g_nextPar g_nextSlot g_nextLex g_stuck b_kinds b_parts b_cNode b_cPar b_cSlot b_le b_saved bc bx bf b_vNode b_vPar b_vSlot b_vLex b_val b_num (m + 1)) l (nI c) (nI (cn c)) (nI (kd (cn c))) g_maxNodes g_maxWeight g_maxVisits g_count g_root (nI nc) g_weight g_grown 0 g_made g_next g_nextPar g_nextSlot g_nextLex g_stuck b_kinds b_parts b_cNode b_cPar b_cSlot b_le b_saved bc bx bf b_vNode b_vPar b_vSlot b_vLex b_val b_num 1 x 0 := fun x l H => br_t rfl (nm_r (nI_1 c) H)
      have L0 : kd (cn c) ≠ 6 → ∀ x l, wY_headNow_20 post g_maxNodes g_maxWeight g_maxVisits g_count g_root (nI nc) g_weight g_grown 0 g_made g_next g_nextPar g_nextSlot g_nextLex g_stuck b_kinds b_parts b_cNode b_cPar b_cSlot b_le b_saved bc bx bf b_vNode b_vPar b_vSlot b_vLex b_val b_num (m + 1) x l (nI (c + 1)) → wY_headNow_97 post (wY_headNow_20 post g_maxNodes g_maxWeight g_maxVisits g_count g_root (nI nc) g_weight g_grown 0 g_made g_next g_nextPar g_nextSlot g_nextLex g_stuck b_kinds b_parts b_cNode b_cPar b_cSlot b_le b_saved bc bx bf b_vNode b_vPar b_vSlot b_vLex b_val b_num (m + 1)) x (nI c) (nI (cn c)) (nI (kd (cn c))) g_maxNodes g_maxWeight g_maxVisits g_count g_root (nI nc) g_weight g_grown 0 g_made g_next g_nextPar g_nextSlot g_nextLex g_stuck b_kinds b_parts b_cNode b_cPar b_cSlot b_le b_saved bc bx bf b_vNode b_vPar b_vSlot b_vLex b_val b_num 5 l 0 := fun k6 x l H => by
        have k6' : ¬ nI (kd (cn c)) = 6 := by rw [nu_e6 (by omega)]; exact k6
        exact br_f (by decide) (br_f k6' (nm_r (e' := nI 1) (by decide) (br_f (by decide) (br_f k6' (nm_r (e' := nI 2) (by decide) (br_f (by decide) (br_f k6' (nm_r (e' := nI 3) (by decide) (br_f (by decide) (br_f k6' (nm_r (e' := nI 4) (by decide) (br_t (by decide) ⟨1, Z x l H⟩))))))))))))
      have L6 : kd (cn c) = 6 → ∀ x l, wY_headNow_20 post g_maxNodes g_maxWeight g_maxVisits g_count g_root (nI nc) g_weight g_grown 0 g_made g_next g_nextPar g_nextSlot g_nextLex g_stuck b_kinds b_parts b_cNode b_cPar b_cSlot b_le b_saved bc bx bf b_vNode b_vPar b_vSlot b_vLex b_val b_num (m + 1) x (ps_ry (ps_r cd (cn c)) l) (nI (c + 1)) → wY_headNow_97 post (wY_headNow_20 post g_maxNodes g_maxWeight g_maxVisits g_count g_root (nI nc) g_weight g_grown 0 g_made g_next g_nextPar g_nextSlot g_nextLex g_stuck b_kinds b_parts b_cNode b_cPar b_cSlot b_le b_saved bc bx bf b_vNode b_vPar b_vSlot b_vLex b_val b_num (m + 1)) x (nI c) (nI (cn c)) (nI (kd (cn c))) g_maxNodes g_maxWeight g_maxVisits g_count g_root (nI nc) g_weight g_grown 0 g_made g_next g_nextPar g_nextSlot g_nextLex g_stuck b_kinds b_parts b_cNode b_cPar b_cSlot b_le b_saved bc bx bf b_vNode b_vPar b_vSlot b_vLex b_val b_num 5 l 0 := fun k6 x l H => by
        have st : ∀ f i y, i < 4 → wY_headNow_97 post (wY_headNow_20 post g_maxNodes g_maxWeight g_maxVisits g_count g_root (nI nc) g_weight g_grown 0 g_made g_next g_nextPar g_nextSlot g_nextLex g_stuck b_kinds b_parts b_cNode b_cPar b_cSlot b_le b_saved bc bx bf b_vNode b_vPar b_vSlot b_vLex b_val b_num (m + 1)) x (nI c) (nI (cn c)) (nI (kd (cn c))) g_maxNodes g_maxWeight g_maxVisits g_count g_root (nI nc) g_weight g_grown 0 g_made g_next g_nextPar g_nextSlot g_nextLex g_stuck b_kinds b_parts b_cNode b_cPar b_cSlot b_le b_saved bc bx bf b_vNode b_vPar b_vSlot b_vLex b_val b_num f (ps_y (ps_r cd (cn c) i) i y) (nI (i + 1)) → wY_headNow_97 post (wY_headNow_20 post g_maxNodes g_maxWeight g_maxVisits g_count g_root (nI nc) g_weight g_grown 0 g_made g_next g_nextPar g_nextSlot g_nextLex g_stuck b_kinds b_parts b_cNode b_cPar b_cSlot b_le b_saved bc bx bf b_vNode b_vPar b_vSlot b_vLex b_val b_num (m + 1)) x (nI c) (nI (cn c)) (nI (kd (cn c))) g_maxNodes g_maxWeight g_maxVisits g_count g_root (nI nc) g_weight g_grown 0 g_made g_next g_nextPar g_nextSlot g_nextLex g_stuck b_kinds b_parts b_cNode b_cPar b_cSlot b_le b_saved bc bx bf b_vNode b_vPar b_vSlot b_vLex b_val b_num (f + 1) y (nI i) := fun f i y hi H => by
          refine br_f ?_ (br_t (by rw [k6]; rfl) ⟨nu_i4' (by omega) (by omega), ?_⟩)
          · show ¬ (4 : Int32) ≤ nI i
            rw [nu_g4 (by omega)]; omega
          rw [nu_c4' (by omega), A'.2 _ (by omega), tm_s W qX.2.2 hi (by rw [k6]; rfl), nu_ole (tm_cl' W qX.2.2)]
          unfold ps_y ps_r at H
          refine br_c (fun y => nm_r (nI_1 i) ?_) (fun y => nm_e (nm_r (nI_1 i) ?_))
          · rw [if_pos (decide_eq_true y)] at H; exact H
          · rw [if_neg (by rw [decide_eq_false y]; intro z; cases z)] at H; exact H
        exact st 4 0 l (by omega) (st 3 1 _ (by omega) (st 2 2 _ (by omega) (st 1 3 _ (by omega) (br_t (by decide) ⟨1, Z x _ H⟩))))
      refine br_f e ⟨vp_in_nI (by omega) (by omega), nm_r (e' := nI (cn c)) (by rw [nI_clamp (by omega), qY.1]) ⟨vp_in_nI (by omega) (by omega), nm_r (e' := nI (kd (cn c))) (by rw [nI_clamp (by omega), A'.1 _ qX.2.2]) (br_t rfl (yw_src (by omega) ?_))⟩⟩
      rw [nu_b0]
      refine br_c (fun z => ⟨1, Z _ _ (H0 fun w => by rw [w.1] at z; cases z)⟩) (fun z => yw_above (by omega) (fun a => br_f (by decide) ?_) (fun a => br_t rfl ⟨1, Z _ _ (H0 fun w => a ((hY c hcn).mp w.2))⟩))
      have H := H1 (ts_nf z) ((hY c hcn).mpr a)
      rw [nu_e3 (by omega), nu_e6 (by omega)]
      exact br_c (fun y => nm_e ⟨5, L0 (by omega) _ _ (H.1 y)⟩) (fun y => br_c (fun y' => nm_e ⟨5, L6 y' _ _ (H.2.1 y')⟩) (fun y' => nm_e ⟨5, L0 y' _ _ (H.2.2 y y')⟩))
    by_cases hp : Pc c
    · have kk : kd (cn c) = 1 ∨ kd (cn c) = 8 ∨ kd (cn c) = 3 ∨ kd (cn c) = 6 ∨ (kd (cn c) ≠ 1 ∧ kd (cn c) ≠ 8 ∧ kd (cn c) ≠ 3 ∧ kd (cn c) ≠ 6) := by omega
      rcases kk with k | k | k | k | k
      · obtain ⟨h, hz, h1, h2⟩ := ih (c + 1) (by omega) (x ||| 1) q hq
        exact ⟨h, fun z => hz (ps_or0 z (by decide)), fun s f1 f2 post hX hh => EX s f1 f2 post hX hp (br_t (by rw [k]; rfl) (h1 s f1 f2 post hX hh)), fun bc bx bf post hY hh => EY bc bx bf post hY (fun z => absurd ⟨by rw [k]; rfl, hp⟩ z) (fun _ _ => ⟨fun z => by omega, fun z => by omega, fun _ _ => h2 bc bx bf post hY hh⟩)⟩
      · obtain ⟨h, hz, h1, h2⟩ := ih (c + 1) (by omega) (x ||| 1) q hq
        exact ⟨h, fun z => hz (ps_or0 z (by decide)), fun s f1 f2 post hX hh => EX s f1 f2 post hX hp (br_f (by rw [k]; decide) (br_t (by rw [k]; rfl) (h1 s f1 f2 post hX hh))), fun bc bx bf post hY hh => EY bc bx bf post hY (fun z => absurd ⟨by rw [k]; rfl, hp⟩ z) (fun _ _ => ⟨fun z => by omega, fun z => by omega, fun _ _ => h2 bc bx bf post hY hh⟩)⟩
      · obtain ⟨h, hz, h1, h2⟩ := ih (c + 1) (by omega) (x ||| 2) q hq
        exact ⟨h, fun z => hz (ps_or0 z (by decide)), fun s f1 f2 post hX hh => EX s f1 f2 post hX hp (br_f (by rw [k]; decide) (br_f (by rw [k]; decide) (br_t (by rw [k]; rfl) (h1 s f1 f2 post hX hh)))), fun bc bx bf post hY hh => EY bc bx bf post hY (fun z => absurd ⟨by rw [k]; rfl, hp⟩ z) (fun _ _ => ⟨fun _ => h2 bc bx bf post hY hh, fun z => by omega, fun z => by omega⟩)⟩
      · obtain ⟨_, q', hq', eq'⟩ := ps_eq (ps_r cd (cn c)) hq
        obtain ⟨h, hz, h1, h2⟩ := ih (c + 1) (by omega) (x ||| 4) q' hq'
        rw [← eq'] at h1 h2
        exact ⟨h, fun z => hz (ps_or0 z (by decide)), fun s f1 f2 post hX hh => EX s f1 f2 post hX hp (br_f (by rw [k]; decide) (br_f (by rw [k]; decide) (br_f (by rw [k]; decide) (br_t (by rw [k]; rfl) (h1 s f1 f2 post hX hh))))), fun bc bx bf post hY hh => EY bc bx bf post hY (fun z => absurd ⟨by rw [k]; rfl, hp⟩ z) (fun _ _ => ⟨fun z => by omega, fun _ => h2 bc bx bf post hY hh, fun _ z => absurd k z⟩)⟩
      · obtain ⟨h, hz, h1, h2⟩ := ih (c + 1) (by omega) x q hq
        have ns : ∀ k, k < 10 → k ≠ 1 ∧ k ≠ 8 ∧ k ≠ 3 ∧ k ≠ 6 → cl_src k = false := by decide
        have ns' := ns _ (by omega) k
        refine ⟨h, hz, fun s f1 f2 post hX hh => EX s f1 f2 post hX hp ?_, fun bc bx bf post hY hh => EY bc bx bf post hY (fun _ => h2 bc bx bf post hY hh) (fun z => by rw [ns'] at z; cases z)⟩
        rw [nu_e1 (by omega), nu_e8 (by omega), nu_e3 (by omega), nu_e6 (by omega)]
        exact br_f k.1 (br_f k.2.1 (br_f k.2.2.1 (br_f k.2.2.2 (h1 s f1 f2 post hX hh))))
    · obtain ⟨h, hz, h1, h2⟩ := ih (c + 1) (by omega) x q hq
      exact ⟨h, hz, fun s f1 f2 post hX hh => EX0 s f1 f2 post hX hp (h1 s f1 f2 post hX hh), fun bc bx bf post hY hh => EY bc bx bf post hY (fun _ => h2 bc bx bf post hY hh) (fun _ z => absurd z hp)⟩
end
end
section
/-! positions: negative heads, steps -/
theorem cl_urc {nc : Nat} {cu : Nat → Option Nat} {sb : Nat → Nat → Option Nat} {kc : Nat → Nat} {Q Q' : Nat → Prop} (T : cp_T nc cu sb) (h : ∀ w, w < nc → (Q w ↔ Q' w)) {d : Nat} (hd : d < nc) : cl_ur kc sb Q d ↔ cl_ur kc sb Q' d := by
  have h2 := cl_u2 (kc d)
  constructor
  · rintro ⟨i, w, a, b, c⟩
    exact ⟨i, w, a, b, (h w (T.2.2 d i w hd (by omega) b)).mp c⟩
  · rintro ⟨i, w, a, b, c⟩
    exact ⟨i, w, a, b, (h w (T.2.2 d i w hd (by omega) b)).mpr c⟩
section
variable {f_maxNodes f_maxWeight f_maxVisits f_nodeCount f_sealed f_verdictNow f_copyCount f_varCount : Int32} {f_atSet : Int64} {f_atNeg f_visitCount f_done f_stuck f_curNode f_curEnv f_resultValue f_valueCount f_envCount f_depth : Int32} {a_nKind a_nPart a_nParent a_cNode a_cUp a_cChild a_cInst a_cParam a_queue : Nat → Int32} {a_rel : Nat → Int64} {a_vKind a_vWord a_vEnv a_vField a_eName a_eValue a_eNext a_fNode a_fEnv a_fPart a_fValue : Nat → Int32} {g_maxNodes g_maxWeight g_maxVisits g_count g_root g_nc g_weight g_grown g_neg g_made g_next g_nextPar g_nextSlot g_nextLex g_stuck : Int32} {b_kinds b_parts b_cNode b_cPar b_cSlot b_le b_saved b_cur b_nxt b_first b_vNode b_vPar b_vSlot b_vLex b_val b_num : Nat → Int32} {n : Nat} {kd : Nat → Nat} {cd : Nat → Nat → Option Nat} {pp : Nat → Int32} {par : Nat → Option Nat} {nc vc : Nat} {cn : Nat → Nat} {cu : Nat → Option Nat} {cs : Nat → Nat} {sb : Nat → Nat → Option Nat} {pv : Nat → Nat} {Nw : Nat → Prop}
theorem yw_hn144 {post : Int32 → Prop} {J : Int32 → Int32 → Int32 → Prop} (W : tm_WF n kd cd pp par) (A' : tm_Ag n kd pp b_kinds b_parts) (Y : cp_Y n nc cn cu cs sb b_cNode b_cPar b_cSlot) (T : cp_T nc cu sb) (hY : ∀ w, w < nc → (Nw w ↔ ∃ u, u < 128 ∧ b_cur u ≠ 0 ∧ yl_a b_le u w)) {c : Nat} (hc : c < nc) {x l : Int32} (h1 : cl_ur (fun c => kd (cn c)) sb Nw c → J (x ||| ps_v kd pp (cn c)) l (nI (c + 1))) (h0 : ¬ cl_ur (fun c => kd (cn c)) sb Nw c → J x l (nI (c + 1))) : wY_headNow_144 post J l (nI c) (nI (cn c)) (nI (kd (cn c))) g_maxNodes g_maxWeight g_maxVisits g_count g_root (nI nc) g_weight g_grown 1 g_made g_next g_nextPar g_nextSlot g_nextLex g_stuck b_kinds b_parts b_cNode b_cPar b_cSlot b_le b_saved b_cur b_nxt b_first b_vNode b_vPar b_vSlot b_vLex b_val b_num 3 x 0 := by
  have hn := tm_n W
  have hnc := T.1
  have q := Y.1 c hc
  have hk := tm_k W q.2.2.2.1
  have HK : ∀ d, d < nc → (fun c => kd (cn c)) d < 10 := fun d hd => by
    have := tm_k W (Y.1 d hd).2.2.2.1
    show kd (cn d) < 10
    omega
  have st : ∀ f s x, s < 2 → ((∃ w, cl_uv (fun c => kd (cn c)) sb c s = some w ∧ Nw w) → wY_headNow_144 post J l (nI c) (nI (cn c)) (nI (kd (cn c))) g_maxNodes g_maxWeight g_maxVisits g_count g_root (nI nc) g_weight g_grown 1 g_made g_next g_nextPar g_nextSlot g_nextLex g_stuck b_kinds b_parts b_cNode b_cPar b_cSlot b_le b_saved b_cur b_nxt b_first b_vNode b_vPar b_vSlot b_vLex b_val b_num f (x ||| ps_v kd pp (cn c)) (nI (s + 1))) → ((¬ ∃ w, cl_uv (fun c => kd (cn c)) sb c s = some w ∧ Nw w) → wY_headNow_144 post J l (nI c) (nI (cn c)) (nI (kd (cn c))) g_maxNodes g_maxWeight g_maxVisits g_count g_root (nI nc) g_weight g_grown 1 g_made g_next g_nextPar g_nextSlot g_nextLex g_stuck b_kinds b_parts b_cNode b_cPar b_cSlot b_le b_saved b_cur b_nxt b_first b_vNode b_vPar b_vSlot b_vLex b_val b_num f x (nI (s + 1))) → wY_headNow_144 post J l (nI c) (nI (cn c)) (nI (kd (cn c))) g_maxNodes g_maxWeight g_maxVisits g_count g_root (nI nc) g_weight g_grown 1 g_made g_next g_nextPar g_nextSlot g_nextLex g_stuck b_kinds b_parts b_cNode b_cPar b_cSlot b_le b_saved b_cur b_nxt b_first b_vNode b_vPar b_vSlot b_vLex b_val b_num (f + 1) x (nI s) := fun f s x hs H1 H0 => by
    have lt := cl_uvlt (kc := (fun c => kd (cn c))) T hc hs
    refine br_f (by decide) (br_f ?_ (yw_uv W A' Y T hc hs (yw_below (nu_ltm lt (by omega)) (fun w e a => br_f (by decide) ?_) (fun a => br_t rfl (nm_r (nI_1 s) (H0 ?_))))))
    · show ¬ (2 : Int32) ≤ nI s
      rw [nu_g2 (by omega)]; omega
    · have H := H1 ⟨w, e, (hY w (lt w e)).mpr a⟩
      unfold ps_v at H
      rw [nu_e4 (by omega), nu_e7 (by omega)]
      refine br_c (fun y => nm_e (nm_r (nI_1 s) ?_)) (fun y => br_c (fun y' => ⟨nu_i4' (i := 1) (by omega) (by omega), ?_⟩) (fun y' => nm_e (nm_r (nI_1 s) ?_)))
      · rw [if_pos y] at H; exact H
      · rw [if_neg y, if_pos y'] at H
        rw [show (nI (cn c) * 4 + 1).toNatClampNeg = 4 * cn c + 1 from nu_c4' (i := 1) (by omega), A'.2 _ (by omega), (tm_l7 W q.2.2.2.1 y').1]
        exact nm_e (nm_r (nI_1 s) H)
      · rw [if_neg y, if_neg y'] at H; exact H
    · rintro ⟨w, e, b⟩
      exact a w e ((hY w (lt w e)).mp b)
  have fin : ∀ x', J x' l (nI (c + 1)) → wY_headNow_144 post J l (nI c) (nI (cn c)) (nI (kd (cn c))) g_maxNodes g_maxWeight g_maxVisits g_count g_root (nI nc) g_weight g_grown 1 g_made g_next g_nextPar g_nextSlot g_nextLex g_stuck b_kinds b_parts b_cNode b_cPar b_cSlot b_le b_saved b_cur b_nxt b_first b_vNode b_vPar b_vSlot b_vLex b_val b_num 1 x' (nI 2) := fun x' H => br_f (by decide) (br_t (by decide) (nm_r (nI_1 c) H))
  have U := cl_uvs (sb := sb) (Q := Nw) HK hc
  refine st 2 0 x (by omega) (fun a0 => ?_) (fun a0 => ?_)
  · have h := h1 (U.mpr ⟨0, by obtain ⟨w, a⟩ := a0; exact ⟨w, by omega, a⟩⟩)
    refine st 1 1 _ (by omega) (fun _ => fin _ ?_) (fun _ => fin _ h)
    rw [ps_oo]; exact h
  · refine st 1 1 _ (by omega) (fun a1 => fin _ (h1 (U.mpr ⟨1, by obtain ⟨w, a⟩ := a1; exact ⟨w, by omega, a⟩⟩))) (fun a1 => fin _ (h0 fun z => ?_))
    obtain ⟨s, w, hs, b⟩ := U.mp z
    have : s = 0 ∨ s = 1 := by omega
    rcases this with e | e
    · subst e; exact a0 ⟨w, b⟩
    · subst e; exact a1 ⟨w, b⟩
theorem ps_hn14 (W : tm_WF n kd cd pp par) (A : tm_Ag n kd pp a_nKind a_nPart) (X : cp_X n nc kd cn cu sb pv a_cNode a_cUp a_cChild a_cInst a_cParam) (A' : tm_Ag n kd pp b_kinds b_parts) (Y : cp_Y n nc cn cu cs sb b_cNode b_cPar b_cSlot) (T : cp_T nc cu sb) :
    ∀ m c, c + m = nc → ∀ (x l : Int32), ∃ h, (0 ≤ x → 0 ≤ h) ∧ (∀ (t f1 : Int64) (f2 : Int32) (post : Int32 → Prop), (∀ w, w < nc → (cl_tb t w = true ↔ Nw w)) → post h → wX_headNegative_14 post t f_maxNodes f_maxWeight f_maxVisits f_nodeCount f_sealed f_verdictNow (nI nc) f_varCount f1 f2 f_visitCount f_done f_stuck f_curNode f_curEnv f_resultValue f_valueCount f_envCount f_depth a_nKind a_nPart a_nParent a_cNode a_cUp a_cChild a_cInst a_cParam a_queue a_rel a_vKind a_vWord a_vEnv a_vField a_eName a_eValue a_eNext a_fNode a_fEnv a_fPart a_fValue (m + 1) x (nI c)) ∧ (∀ (bc bx bf : Nat → Int32) (post : Int32 → Prop), (∀ w, w < nc → (Nw w ↔ ∃ u, u < 128 ∧ bc u ≠ 0 ∧ yl_a b_le u w)) → post h → wY_headNow_20 post g_maxNodes g_maxWeight g_maxVisits g_count g_root (nI nc) g_weight g_grown 1 g_made g_next g_nextPar g_nextSlot g_nextLex g_stuck b_kinds b_parts b_cNode b_cPar b_cSlot b_le b_saved bc bx bf b_vNode b_vPar b_vSlot b_vLex b_val b_num (m + 1) x l (nI c)) := by
  have hn := tm_n W
  have hnc := T.1
  intro m
  induction m with
  | zero =>
    intro c hc x l
    have e : nI nc ≤ nI c := by rw [nI_leI (by omega) (by omega)]; omega
    exact ⟨x, id, fun t f1 f2 post ht hp => br_t e hp, fun bc bx bf post hY hp => br_t e (br_f (by decide) hp)⟩
  | succ m ih =>
    intro c hc x l
    have hcn : c < nc := by omega
    have e : ¬ nI nc ≤ nI c := by rw [nI_leI (by omega) (by omega)]; omega
    have qX := X.1 c hcn
    have qY := Y.1 c hcn
    have hk := tm_k W qX.2.2
    have EY : ∀ (bc bx bf : Nat → Int32) (post : Int32 → Prop), (∀ w, w < nc → (Nw w ↔ ∃ u, u < 128 ∧ bc u ≠ 0 ∧ yl_a b_le u w)) → (cl_ur (fun c => kd (cn c)) sb Nw c → wY_headNow_20 post g_maxNodes g_maxWeight g_maxVisits g_count g_root (nI nc) g_weight g_grown 1 g_made g_next g_nextPar g_nextSlot g_nextLex g_stuck b_kinds b_parts b_cNode b_cPar b_cSlot b_le b_saved bc bx bf b_vNode b_vPar b_vSlot b_vLex b_val b_num (m + 1) (x ||| ps_v kd pp (cn c)) l (nI (c + 1))) → (¬ cl_ur (fun c => kd (cn c)) sb Nw c → wY_headNow_20 post g_maxNodes g_maxWeight g_maxVisits g_count g_root (nI nc) g_weight g_grown 1 g_made g_next g_nextPar g_nextSlot g_nextLex g_stuck b_kinds b_parts b_cNode b_cPar b_cSlot b_le b_saved bc bx bf b_vNode b_vPar b_vSlot b_vLex b_val b_num (m + 1) x l (nI (c + 1))) → wY_headNow_20 post g_maxNodes g_maxWeight g_maxVisits g_count g_root (nI nc) g_weight g_grown 1 g_made g_next g_nextPar g_nextSlot g_nextLex g_stuck b_kinds b_parts b_cNode b_cPar b_cSlot b_le b_saved bc bx bf b_vNode b_vPar b_vSlot b_vLex b_val b_num (m + 1 + 1) x l (nI c) := fun bc bx bf post hY H1 H0 =>
      br_f e ⟨vp_in_nI (by omega) (by omega), nm_r (e' := nI (cn c)) (by rw [nI_clamp (by omega), qY.1]) ⟨vp_in_nI (by omega) (by omega), nm_r (e' := nI (kd (cn c))) (by rw [nI_clamp (by omega), A'.1 _ qX.2.2]) (br_f (by decide) ⟨3, yw_hn144 W A' Y T hY hcn H1 H0⟩)⟩⟩
    by_cases hu : cl_ur (fun c => kd (cn c)) sb Nw c
    · obtain ⟨h, hz, h1, h2⟩ := ih (c + 1) (by omega) (x ||| ps_v kd pp (cn c)) l
      refine ⟨h, fun z => hz (ps_or0 z (ps_v0 fun h7 => (tm_l7 W qX.2.2 h7).2)), fun t f1 f2 post ht hp => ?_, fun bc bx bf post hY hp => EY bc bx bf post hY (fun _ => h2 bc bx bf post hY hp) (fun z => absurd hu z)⟩
      have H := h1 t f1 f2 post ht hp
      have k0 : kd (cn c) = 8 ∨ kd (cn c) = 9 ∨ kd (cn c) = 4 ∨ kd (cn c) = 7 := by
        obtain ⟨i, w, a, _⟩ := hu
        have a' : i < cl_u (kd (cn c)) := a
        unfold cl_u at a'
        split at a'
        · omega
        · split at a' <;> omega
      refine br_f e (xw_ur W A X T hcn (fun _ => br_f (by decide) ⟨vp_in_nI (by omega) (by omega), ?_⟩) (fun z => absurd ((cl_urc T ht hcn).mpr hu) z))
      rw [nI_clamp (show c < 2 ^ 31 by omega), qX.1]
      refine ⟨vp_in_nI (by omega) (by omega), nm_r (e' := nI (kd (cn c))) (by rw [nI_clamp (by omega), A.1 _ qX.2.2]) ?_⟩
      rw [nu_e8 (by omega), nu_e9 (by omega), nu_e4 (by omega), nu_e7 (by omega)]
      unfold ps_v at H
      refine br_c (fun y => nm_e (nm_r (nI_1 c) ?_)) (fun y8 => br_c (fun y => nm_e (nm_r (nI_1 c) ?_)) (fun y9 => br_c (fun y => nm_e (nm_r (nI_1 c) ?_)) (fun y4 => br_c (fun y => ⟨vp_in_nI (by omega) (by omega), nu_i4 (i := 1) (by omega) (by omega), ?_⟩) (fun y7 => by omega))))
      · rw [if_neg (by omega), if_neg (by omega)] at H; exact H
      · rw [if_neg (by omega), if_neg (by omega)] at H; exact H
      · rw [if_pos y] at H; exact H
      · rw [if_neg y4, if_pos y] at H
        rw [show (4 * nI (cn c) + 1).toNatClampNeg = 4 * cn c + 1 from nu_c4 (i := 1) (by omega), A.2 _ (by omega), (tm_l7 W qX.2.2 y).1]
        exact nm_e (nm_r (nI_1 c) H)
    · obtain ⟨h, hz, h1, h2⟩ := ih (c + 1) (by omega) x l
      exact ⟨h, hz, fun t f1 f2 post ht hp => br_f e (xw_ur W A X T hcn (fun z => absurd ((cl_urc T ht hcn).mp z) hu) (fun _ => br_t rfl (nm_r (nI_1 c) (h1 t f1 f2 post ht hp)))), fun bc bx bf post hY hp => EY bc bx bf post hY (fun z => absurd z hu) (fun _ => h2 bc bx bf post hY hp)⟩
end
/-- the next set: from a positive, from a negative position -/
def ps_sp (nc : Nat) (kd cn : Nat → Nat) (sb : Nat → Nat → Option Nat) (Pc : Nat → Prop) (g c y : Nat) : Prop := c < nc ∧ Pc c ∧ ((kd (cn c) = 3 ∧ g = 1 ∧ y = 64 + c) ∨ (kd (cn c) = 3 ∧ g = 2 ∧ sb c 1 = some y) ∨ (kd (cn c) = 6 ∧ 3 ≤ g ∧ sb c (g - 3) = some y))
def ps_sn (nc : Nat) (kd cn : Nat → Nat) (sb : Nat → Nat → Option Nat) (pp : Nat → Int32) (Nw : Nat → Prop) (g d y : Nat) : Prop := d < nc ∧ (∃ w, sb d 0 = some w ∧ Nw w) ∧ ((kd (cn d) = 4 ∧ g = 1 ∧ sb d 1 = some y) ∨ (kd (cn d) = 4 ∧ g = 2 ∧ y = d) ∨ (kd (cn d) = 7 ∧ tm_l pp (cn d) + 3 = g ∧ y = d))
section
variable {f_maxNodes f_maxWeight f_maxVisits f_nodeCount f_sealed f_verdictNow f_copyCount f_varCount : Int32} {f_atSet : Int64} {f_atNeg f_visitCount f_done f_stuck f_curNode f_curEnv f_resultValue f_valueCount f_envCount f_depth : Int32} {a_nKind a_nPart a_nParent a_cNode a_cUp a_cChild a_cInst a_cParam a_queue : Nat → Int32} {a_rel : Nat → Int64} {a_vKind a_vWord a_vEnv a_vField a_eName a_eValue a_eNext a_fNode a_fEnv a_fPart a_fValue : Nat → Int32} {n : Nat} {kd : Nat → Nat} {cd : Nat → Nat → Option Nat} {pp : Nat → Int32} {par : Nat → Option Nat} {nc vc : Nat} {cn : Nat → Nat} {cu : Nat → Option Nat} {sb : Nat → Nat → Option Nat} {pv : Nat → Nat} {Pc Nw : Nat → Prop} {post : Int64 → Prop}
theorem ps_bit {x : Int64} {o : Option Nat} {v : Nat} (ho : nu_lt o 64) : cl_tb (match o with
  | none => x
  | some w => x ||| ((1 : Int64) <<< ((nI w).toInt64 &&& 63))) v = true ↔ cl_tb x v = true ∨ o = some v := by
  cases o with
  | none => exact ⟨Or.inl, fun z => z.elim id (fun z => by cases z)⟩
  | some w =>
    show cl_tb (x ||| _) v = true ↔ _
    rw [bi_or, bi_1 (ho w rfl)]
    exact ⟨fun z => z.elim Or.inl (fun z => Or.inr (by rw [z])), fun z => z.elim Or.inl (fun z => Or.inr (by cases z; rfl))⟩
/-- the end of both steps: the variable is put into the set -/
theorem xw_spe {J : Int64 → Int32 → Prop} {x1 x : Int64} {x3 : Int32} {c : Nat} (o : Option Nat) (ho : nu_lt o 64) (h : J (match o with
  | none => x
  | some w => x ||| ((1 : Int64) <<< ((nI w).toInt64 &&& 63))) (nI (c + 1))) : wX_stepPositive_123 post J x1 x3 x (nI c) (nu_o o) f_maxNodes f_maxWeight f_maxVisits f_nodeCount f_sealed f_verdictNow f_copyCount f_varCount f_atSet f_atNeg f_visitCount f_done f_stuck f_curNode f_curEnv f_resultValue f_valueCount f_envCount f_depth a_nKind a_nPart a_nParent a_cNode a_cUp a_cChild a_cInst a_cParam a_queue a_rel a_vKind a_vWord a_vEnv a_vField a_eName a_eValue a_eNext a_fNode a_fEnv a_fPart a_fValue := by
  cases o with
  | none => exact br_t (by decide) (nm_r (nI_1 c) h)
  | some w =>
    have := ho w rfl
    exact br_f (nI_pos (by omega)) (nm_e (nm_r (nI_1 c) h))
theorem xw_sne {J : Int64 → Int32 → Prop} {x4 x : Int64} {x3 : Int32} {c : Nat} (o : Option Nat) (ho : nu_lt o 64) (h : J (match o with
  | none => x
  | some w => x ||| ((1 : Int64) <<< ((nI w).toInt64 &&& 63))) (nI (c + 1))) : wX_stepNegative_127 post J x3 x4 x (nI c) (nu_o o) f_maxNodes f_maxWeight f_maxVisits f_nodeCount f_sealed f_verdictNow f_copyCount f_varCount f_atSet f_atNeg f_visitCount f_done f_stuck f_curNode f_curEnv f_resultValue f_valueCount f_envCount f_depth a_nKind a_nPart a_nParent a_cNode a_cUp a_cChild a_cInst a_cParam a_queue a_rel a_vKind a_vWord a_vEnv a_vField a_eName a_eValue a_eNext a_fNode a_fEnv a_fPart a_fValue := by
  cases o with
  | none => exact br_t (by decide) (nm_r (nI_1 c) h)
  | some w =>
    have := ho w rfl
    exact br_f (nI_pos (by omega)) (nm_e (nm_r (nI_1 c) h))
theorem xw_sp (W : tm_WF n kd cd pp par) (A : tm_Ag n kd pp a_nKind a_nPart) (X : cp_X n nc kd cn cu sb pv a_cNode a_cUp a_cChild a_cInst a_cParam) (T : cp_T nc cu sb) (P : cl_pv nc vc (fun c => kd (cn c)) pv) {s : Int64} (hX : ∀ c, c < nc → ((a_rel c &&& s) = 0 ↔ ¬ Pc c)) {g : Nat} (hg : 1 ≤ g ∧ g ≤ 6)
    (h : ∀ t, (∀ v, cl_tb t v = true ↔ ∃ y, (cl_x nc (fun c => kd (cn c)) pv) y = some v ∧ ∃ c, ps_sp nc kd cn sb Pc g c y) → post t) : wpX_stepPositive post (f_maxNodes, f_maxWeight, f_maxVisits, f_nodeCount, f_sealed, f_verdictNow, nI nc, f_varCount, f_atSet, f_atNeg, f_visitCount, f_done, f_stuck, f_curNode, f_curEnv, f_resultValue, f_valueCount, f_envCount, f_depth, a_nKind, a_nPart, a_nParent, a_cNode, a_cUp, a_cChild, a_cInst, a_cParam, a_queue, a_rel, a_vKind, a_vWord, a_vEnv, a_vField, a_eName, a_eValue, a_eNext, a_fNode, a_fEnv, a_fPart, a_fValue) s (nI g) := by
  have hn := tm_n W
  have hnc := T.1
  have hpv := P.2.2.1
  have key : ∀ m c, c + m = nc → ∀ t, (∀ v, cl_tb t v = true ↔ ∃ y, (cl_x nc (fun c => kd (cn c)) pv) y = some v ∧ ∃ c', c' < c ∧ ps_sp nc kd cn sb Pc g c' y) → wX_stepPositive_6 post s (nI g) f_maxNodes f_maxWeight f_maxVisits f_nodeCount f_sealed f_verdictNow (nI nc) f_varCount f_atSet f_atNeg f_visitCount f_done f_stuck f_curNode f_curEnv f_resultValue f_valueCount f_envCount f_depth a_nKind a_nPart a_nParent a_cNode a_cUp a_cChild a_cInst a_cParam a_queue a_rel a_vKind a_vWord a_vEnv a_vField a_eName a_eValue a_eNext a_fNode a_fEnv a_fPart a_fValue (m + 1) t (nI c) := by
    intro m
    induction m with
    | zero =>
      intro c hc t D
      refine br_t ?_ (h t fun v => ?_)
      · rw [nI_leI (by omega) (by omega)]; omega
      · rw [D v]
        constructor
        · rintro ⟨y, a, c', _, b⟩; exact ⟨y, a, c', b⟩
        · rintro ⟨y, a, c', b⟩; exact ⟨y, a, c', by have := b.1; omega, b⟩
    | succ m ih =>
      intro c hc t D
      have hcn : c < nc := by omega
      have q := X.1 c hcn
      have hk := tm_k W q.2.2
      -- one more: option o holds the variable that c gives
      have N : ∀ t', (∀ v, cl_tb t' v = true ↔ cl_tb t v = true ∨ ∃ y, (cl_x nc (fun c => kd (cn c)) pv) y = some v ∧ ps_sp nc kd cn sb Pc g c y) → wX_stepPositive_6 post s (nI g) f_maxNodes f_maxWeight f_maxVisits f_nodeCount f_sealed f_verdictNow (nI nc) f_varCount f_atSet f_atNeg f_visitCount f_done f_stuck f_curNode f_curEnv f_resultValue f_valueCount f_envCount f_depth a_nKind a_nPart a_nParent a_cNode a_cUp a_cChild a_cInst a_cParam a_queue a_rel a_vKind a_vWord a_vEnv a_vField a_eName a_eValue a_eNext a_fNode a_fEnv a_fPart a_fValue (m + 1) t' (nI (c + 1)) := fun t' D' => by
        refine ih (c + 1) (by omega) t' fun v => ?_
        rw [D' v, D v]
        constructor
        · rintro (⟨y, a, c', b, d⟩ | ⟨y, a, b⟩)
          · exact ⟨y, a, c', by omega, d⟩
          · exact ⟨y, a, c, by omega, b⟩
        · rintro ⟨y, a, c', b, d⟩
          rcases Nat.lt_or_ge c' c with z | z
          · exact Or.inl ⟨y, a, c', z, d⟩
          · have : c' = c := by omega
            subst this
            exact Or.inr ⟨y, a, d⟩
      have N0 : (∀ y, ¬ ps_sp nc kd cn sb Pc g c y) → wX_stepPositive_6 post s (nI g) f_maxNodes f_maxWeight f_maxVisits f_nodeCount f_sealed f_verdictNow (nI nc) f_varCount f_atSet f_atNeg f_visitCount f_done f_stuck f_curNode f_curEnv f_resultValue f_valueCount f_envCount f_depth a_nKind a_nPart a_nParent a_cNode a_cUp a_cChild a_cInst a_cParam a_queue a_rel a_vKind a_vWord a_vEnv a_vField a_eName a_eValue a_eNext a_fNode a_fEnv a_fPart a_fValue (m + 1) t (nI (c + 1)) := fun z => N t fun v => ⟨Or.inl, fun w => w.elim id fun ⟨y, _, b⟩ => absurd b (z y)⟩
      have NO : ∀ o : Option Nat, nu_lt o 64 → (∀ v, o = some v ↔ ∃ y, (cl_x nc (fun c => kd (cn c)) pv) y = some v ∧ ps_sp nc kd cn sb Pc g c y) → wX_stepPositive_123 post (wX_stepPositive_6 post s (nI g) f_maxNodes f_maxWeight f_maxVisits f_nodeCount f_sealed f_verdictNow (nI nc) f_varCount f_atSet f_atNeg f_visitCount f_done f_stuck f_curNode f_curEnv f_resultValue f_valueCount f_envCount f_depth a_nKind a_nPart a_nParent a_cNode a_cUp a_cChild a_cInst a_cParam a_queue a_rel a_vKind a_vWord a_vEnv a_vField a_eName a_eValue a_eNext a_fNode a_fEnv a_fPart a_fValue (m + 1)) s (nI g) t (nI c) (nu_o o) f_maxNodes f_maxWeight f_maxVisits f_nodeCount f_sealed f_verdictNow (nI nc) f_varCount f_atSet f_atNeg f_visitCount f_done f_stuck f_curNode f_curEnv f_resultValue f_valueCount f_envCount f_depth a_nKind a_nPart a_nParent a_cNode a_cUp a_cChild a_cInst a_cParam a_queue a_rel a_vKind a_vWord a_vEnv a_vField a_eName a_eValue a_eNext a_fNode a_fEnv a_fPart a_fValue := fun o ho D' => xw_spe o ho (N _ fun v => by rw [ps_bit ho, D' v])
      refine br_f ?_ ⟨vp_in_nI (by omega) (by omega), ?_⟩
      · show ¬ nI nc ≤ nI c
        rw [nI_leI (by omega) (by omega)]; omega
      rw [nI_clamp (show c < 2 ^ 31 by omega), hX c hcn, q.1]
      refine br_c (fun y => nm_r (nI_1 c) (N0 fun _ z => y z.2.1)) (fun y => ⟨vp_in_nI (by omega) (by omega), vp_in_nI (by omega) (by omega), nm_r (e' := nI (kd (cn c))) (by rw [nI_clamp (by omega), A.1 _ q.2.2]) ?_⟩)
      have hp : Pc c := Classical.not_not.mp y
      have M96 : ¬ (kd (cn c) = 3 ∧ (g = 1 ∨ g = 2)) → wX_stepPositive_96 post (wX_stepPositive_6 post s (nI g) f_maxNodes f_maxWeight f_maxVisits f_nodeCount f_sealed f_verdictNow (nI nc) f_varCount f_atSet f_atNeg f_visitCount f_done f_stuck f_curNode f_curEnv f_resultValue f_valueCount f_envCount f_depth a_nKind a_nPart a_nParent a_cNode a_cUp a_cChild a_cInst a_cParam a_queue a_rel a_vKind a_vWord a_vEnv a_vField a_eName a_eValue a_eNext a_fNode a_fEnv a_fPart a_fValue (m + 1)) s (nI g) t (nI c) (nI (kd (cn c))) (-1) f_maxNodes f_maxWeight f_maxVisits f_nodeCount f_sealed f_verdictNow (nI nc) f_varCount f_atSet f_atNeg f_visitCount f_done f_stuck f_curNode f_curEnv f_resultValue f_valueCount f_envCount f_depth a_nKind a_nPart a_nParent a_cNode a_cUp a_cChild a_cInst a_cParam a_queue a_rel a_vKind a_vWord a_vEnv a_vField a_eName a_eValue a_eNext a_fNode a_fEnv a_fPart a_fValue := fun k3 => by
        unfold wX_stepPositive_96
        rw [nu_e6 (by omega), nu_p3 (by omega)]
        refine br_c (fun k6 => br_c (fun g3 => NO none (fun k z => by cases z) fun v => ⟨fun z => (by cases z), fun ⟨y, _, _, _, z⟩ => by rcases z with z | z | z <;> omega⟩) (fun g3 => ?_)) (fun k6 => NO none (fun k z => by cases z) fun v => ⟨fun z => (by cases z), fun ⟨y, _, _, _, z⟩ => by rcases z with z | z | z <;> omega⟩)
        rw [show 4 * nI c + nI g - 3 = nI (4 * c + g - 3) by rw [nu_4, nI_add, nu_s3 (by omega)]]
        refine ⟨vp_in_nI (by omega) (by omega), nm_r (e' := nu_o (sb c (g - 3))) (by rw [nI_clamp (by omega), show 4 * c + g - 3 = 4 * c + (g - 3) by omega, X.2.1 c _ hcn (by omega)]) (NO _ (fun k e => by have := T.2.2 c _ k hcn (by omega) e; omega) fun v => ?_)⟩
        constructor
        · intro e
          exact ⟨v, cl_xc (T.2.2 c _ v hcn (by omega) e), hcn, hp, Or.inr (Or.inr ⟨k6, by omega, e⟩)⟩
        · rintro ⟨y, ey, _, _, z⟩
          rcases z with z | z | z
          · omega
          · omega
          · rw [cl_xc (T.2.2 c _ y hcn (by omega) z.2.2)] at ey
            cases ey; exact z.2.2
      have M69 : ¬ (kd (cn c) = 3 ∧ g = 1) → wX_stepPositive_69 post (wX_stepPositive_6 post s (nI g) f_maxNodes f_maxWeight f_maxVisits f_nodeCount f_sealed f_verdictNow (nI nc) f_varCount f_atSet f_atNeg f_visitCount f_done f_stuck f_curNode f_curEnv f_resultValue f_valueCount f_envCount f_depth a_nKind a_nPart a_nParent a_cNode a_cUp a_cChild a_cInst a_cParam a_queue a_rel a_vKind a_vWord a_vEnv a_vField a_eName a_eValue a_eNext a_fNode a_fEnv a_fPart a_fValue (m + 1)) s (nI g) t (nI c) (nI (kd (cn c))) (-1) f_maxNodes f_maxWeight f_maxVisits f_nodeCount f_sealed f_verdictNow (nI nc) f_varCount f_atSet f_atNeg f_visitCount f_done f_stuck f_curNode f_curEnv f_resultValue f_valueCount f_envCount f_depth a_nKind a_nPart a_nParent a_cNode a_cUp a_cChild a_cInst a_cParam a_queue a_rel a_vKind a_vWord a_vEnv a_vField a_eName a_eValue a_eNext a_fNode a_fEnv a_fPart a_fValue := fun k31 => by
        unfold wX_stepPositive_69
        rw [nu_e3 (by omega), nu_e2 (by omega)]
        refine br_c (fun k3 => br_c (fun g2 => ⟨nu_i4 (i := 1) (by omega) (by omega), nm_r (e' := nu_o (sb c 1)) (by rw [show (4 * nI c + 1).toNatClampNeg = 4 * c + 1 from nu_c4 (i := 1) (by omega), X.2.1 c 1 hcn (by omega)]) (NO _ (fun k e => by have := T.2.2 c _ k hcn (by omega) e; omega) fun v => ?_)⟩) (fun g2 => M96 fun z => by omega)) (fun k3 => M96 fun z => k3 z.1)
        constructor
        · intro e
          exact ⟨v, cl_xc (T.2.2 c _ v hcn (by omega) e), hcn, hp, Or.inr (Or.inl ⟨k3, g2, e⟩)⟩
        · rintro ⟨y, ey, _, _, z⟩
          rcases z with z | z | z
          · omega
          · rw [cl_xc (T.2.2 c _ y hcn (by omega) z.2.2)] at ey
            cases ey; exact z.2.2
          · omega
      rw [nu_e3 (by omega), nu_e1 (by omega)]
      refine br_c (fun k3 => br_c (fun g1 => ⟨vp_in_nI (by omega) (by omega), nm_r (e' := nu_o (some (pv c))) (by rw [X.2.2.2 c hcn, if_pos k3]) (NO _ (fun k e => by have := P.2.2.2.1 c hcn k3; cases e; omega) fun v => ?_)⟩) (fun g1 => M69 fun z => g1 z.2)) (fun k3 => M69 fun z => k3 z.1)
      have xp := cl_xp P hcn k3
      constructor
      · intro e
        cases e
        exact ⟨64 + c, xp, hcn, hp, Or.inl ⟨k3, g1, rfl⟩⟩
      · rintro ⟨y, ey, _, _, z⟩
        rcases z with z | z | z
        · rw [z.2.2, xp] at ey; exact ey
        · omega
        · omega
  exact ⟨nc + 1, key nc 0 (by omega) 0 fun v => ⟨fun z => absurd z (bi_0 v), fun ⟨y, _, c', a, _⟩ => by omega⟩⟩
theorem xw_sn (W : tm_WF n kd cd pp par) (A : tm_Ag n kd pp a_nKind a_nPart) (X : cp_X n nc kd cn cu sb pv a_cNode a_cUp a_cChild a_cInst a_cParam) (T : cp_T nc cu sb) {g : Nat} (hg : 1 ≤ g ∧ g ≤ 6) {s : Int64} (ht : ∀ w, w < nc → (cl_tb s w = true ↔ Nw w))
    (h : ∀ t, (∀ v, cl_tb t v = true ↔ ∃ y, (cl_x nc (fun c => kd (cn c)) pv) y = some v ∧ ∃ c, ps_sn nc kd cn sb pp Nw g c y) → post t) : ∃ f, wX_stepNegative_13 post (nI g) s f_maxNodes f_maxWeight f_maxVisits f_nodeCount f_sealed f_verdictNow (nI nc) f_varCount f_atSet f_atNeg f_visitCount f_done f_stuck f_curNode f_curEnv f_resultValue f_valueCount f_envCount f_depth a_nKind a_nPart a_nParent a_cNode a_cUp a_cChild a_cInst a_cParam a_queue a_rel a_vKind a_vWord a_vEnv a_vField a_eName a_eValue a_eNext a_fNode a_fEnv a_fPart a_fValue f 0 0 := by
  have hn := tm_n W
  have hnc := T.1
  have key : ∀ m c, c + m = nc → ∀ t, (∀ v, cl_tb t v = true ↔ ∃ y, (cl_x nc (fun c => kd (cn c)) pv) y = some v ∧ ∃ c', c' < c ∧ ps_sn nc kd cn sb pp Nw g c' y) → wX_stepNegative_13 post (nI g) s f_maxNodes f_maxWeight f_maxVisits f_nodeCount f_sealed f_verdictNow (nI nc) f_varCount f_atSet f_atNeg f_visitCount f_done f_stuck f_curNode f_curEnv f_resultValue f_valueCount f_envCount f_depth a_nKind a_nPart a_nParent a_cNode a_cUp a_cChild a_cInst a_cParam a_queue a_rel a_vKind a_vWord a_vEnv a_vField a_eName a_eValue a_eNext a_fNode a_fEnv a_fPart a_fValue (m + 1) t (nI c) := by
    intro m
    induction m with
    | zero =>
      intro c hc t D
      refine br_t ?_ (h t fun v => ?_)
      · rw [nI_leI (by omega) (by omega)]; omega
      · rw [D v]
        constructor
        · rintro ⟨y, a, c', _, b⟩; exact ⟨y, a, c', b⟩
        · rintro ⟨y, a, c', b⟩; exact ⟨y, a, c', by have := b.1; omega, b⟩
    | succ m ih =>
      intro c hc t D
      have hcn : c < nc := by omega
      have q := X.1 c hcn
      have hk := tm_k W q.2.2
      have N : ∀ t', (∀ v, cl_tb t' v = true ↔ cl_tb t v = true ∨ ∃ y, (cl_x nc (fun c => kd (cn c)) pv) y = some v ∧ ps_sn nc kd cn sb pp Nw g c y) → wX_stepNegative_13 post (nI g) s f_maxNodes f_maxWeight f_maxVisits f_nodeCount f_sealed f_verdictNow (nI nc) f_varCount f_atSet f_atNeg f_visitCount f_done f_stuck f_curNode f_curEnv f_resultValue f_valueCount f_envCount f_depth a_nKind a_nPart a_nParent a_cNode a_cUp a_cChild a_cInst a_cParam a_queue a_rel a_vKind a_vWord a_vEnv a_vField a_eName a_eValue a_eNext a_fNode a_fEnv a_fPart a_fValue (m + 1) t' (nI (c + 1)) := fun t' D' => by
        refine ih (c + 1) (by omega) t' fun v => ?_
        rw [D' v, D v]
        constructor
        · rintro (⟨y, a, c', b, d⟩ | ⟨y, a, b⟩)
          · exact ⟨y, a, c', by omega, d⟩
          · exact ⟨y, a, c, by omega, b⟩
        · rintro ⟨y, a, c', b, d⟩
          rcases Nat.lt_or_ge c' c with z | z
          · exact Or.inl ⟨y, a, c', z, d⟩
          · have : c' = c := by omega
            subst this
            exact Or.inr ⟨y, a, d⟩
      have N0 : (∀ y, ¬ ps_sn nc kd cn sb pp Nw g c y) → wX_stepNegative_13 post (nI g) s f_maxNodes f_maxWeight f_maxVisits f_nodeCount f_sealed f_verdictNow (nI nc) f_varCount f_atSet f_atNeg f_visitCount f_done f_stuck f_curNode f_curEnv f_resultValue f_valueCount f_envCount f_depth a_nKind a_nPart a_nParent a_cNode a_cUp a_cChild a_cInst a_cParam a_queue a_rel a_vKind a_vWord a_vEnv a_vField a_eName a_eValue a_eNext a_fNode a_fEnv a_fPart a_fValue (m + 1) t (nI (c + 1)) := fun z => N t fun v => ⟨Or.inl, fun w => w.elim id fun ⟨y, _, b⟩ => absurd b (z y)⟩
      have NO : ∀ o : Option Nat, nu_lt o 64 → (∀ v, o = some v ↔ ∃ y, (cl_x nc (fun c => kd (cn c)) pv) y = some v ∧ ps_sn nc kd cn sb pp Nw g c y) → wX_stepNegative_127 post (wX_stepNegative_13 post (nI g) s f_maxNodes f_maxWeight f_maxVisits f_nodeCount f_sealed f_verdictNow (nI nc) f_varCount f_atSet f_atNeg f_visitCount f_done f_stuck f_curNode f_curEnv f_resultValue f_valueCount f_envCount f_depth a_nKind a_nPart a_nParent a_cNode a_cUp a_cChild a_cInst a_cParam a_queue a_rel a_vKind a_vWord a_vEnv a_vField a_eName a_eValue a_eNext a_fNode a_fEnv a_fPart a_fValue (m + 1)) (nI g) s t (nI c) (nu_o o) f_maxNodes f_maxWeight f_maxVisits f_nodeCount f_sealed f_verdictNow (nI nc) f_varCount f_atSet f_atNeg f_visitCount f_done f_stuck f_curNode f_curEnv f_resultValue f_valueCount f_envCount f_depth a_nKind a_nPart a_nParent a_cNode a_cUp a_cChild a_cInst a_cParam a_queue a_rel a_vKind a_vWord a_vEnv a_vField a_eName a_eValue a_eNext a_fNode a_fEnv a_fPart a_fValue := fun o ho D' => xw_sne o ho (N _ fun v => by rw [ps_bit ho, D' v])
      have U : ∀ k, k = 4 ∨ k = 7 → cl_u k = 1 := fun k hk => by rcases hk with rfl | rfl <;> rfl
      refine br_f ?_ (xw_ur W A X T hcn (fun y => br_f (by decide) ⟨vp_in_nI (by omega) (by omega), nm_r (e' := nI (cn c)) (by rw [nI_clamp (by omega), q.1]) ⟨vp_in_nI (by omega) (by omega), nm_r (e' := nI (kd (cn c))) (by rw [nI_clamp (by omega), A.1 _ q.2.2]) ?_⟩⟩) (fun y => br_t rfl (nm_r (nI_1 c) (N0 fun y' z => y ?_))))
      · show ¬ nI nc ≤ nI c
        rw [nI_leI (by omega) (by omega)]; omega
      · have y' := (cl_urc T ht hcn).mp y
        have h0 : kd (cn c) = 4 ∨ kd (cn c) = 7 → ∃ w, sb c 0 = some w ∧ Nw w := fun hk => by
          obtain ⟨i, w, a, b, d⟩ := y'
          have a' : i < cl_u (kd (cn c)) := a
          rw [U _ hk] at a'
          have : i = 0 := by omega
          subst this
          exact ⟨w, b, d⟩
        have NN : (∀ y, ¬ ps_sn nc kd cn sb pp Nw g c y) → wX_stepNegative_127 post (wX_stepNegative_13 post (nI g) s f_maxNodes f_maxWeight f_maxVisits f_nodeCount f_sealed f_verdictNow (nI nc) f_varCount f_atSet f_atNeg f_visitCount f_done f_stuck f_curNode f_curEnv f_resultValue f_valueCount f_envCount f_depth a_nKind a_nPart a_nParent a_cNode a_cUp a_cChild a_cInst a_cParam a_queue a_rel a_vKind a_vWord a_vEnv a_vField a_eName a_eValue a_eNext a_fNode a_fEnv a_fPart a_fValue (m + 1)) (nI g) s t (nI c) (-1) f_maxNodes f_maxWeight f_maxVisits f_nodeCount f_sealed f_verdictNow (nI nc) f_varCount f_atSet f_atNeg f_visitCount f_done f_stuck f_curNode f_curEnv f_resultValue f_valueCount f_envCount f_depth a_nKind a_nPart a_nParent a_cNode a_cUp a_cChild a_cInst a_cParam a_queue a_rel a_vKind a_vWord a_vEnv a_vField a_eName a_eValue a_eNext a_fNode a_fEnv a_fPart a_fValue := fun z => NO none (fun k z => by cases z) fun v => ⟨fun z => (by cases z), fun ⟨y, _, w⟩ => absurd w (z y)⟩
        have ND : ps_sn nc kd cn sb pp Nw g c c → (∀ y, ps_sn nc kd cn sb pp Nw g c y → y = c) → wX_stepNegative_127 post (wX_stepNegative_13 post (nI g) s f_maxNodes f_maxWeight f_maxVisits f_nodeCount f_sealed f_verdictNow (nI nc) f_varCount f_atSet f_atNeg f_visitCount f_done f_stuck f_curNode f_curEnv f_resultValue f_valueCount f_envCount f_depth a_nKind a_nPart a_nParent a_cNode a_cUp a_cChild a_cInst a_cParam a_queue a_rel a_vKind a_vWord a_vEnv a_vField a_eName a_eValue a_eNext a_fNode a_fEnv a_fPart a_fValue (m + 1)) (nI g) s t (nI c) (nI c) f_maxNodes f_maxWeight f_maxVisits f_nodeCount f_sealed f_verdictNow (nI nc) f_varCount f_atSet f_atNeg f_visitCount f_done f_stuck f_curNode f_curEnv f_resultValue f_valueCount f_envCount f_depth a_nKind a_nPart a_nParent a_cNode a_cUp a_cChild a_cInst a_cParam a_queue a_rel a_vKind a_vWord a_vEnv a_vField a_eName a_eValue a_eNext a_fNode a_fEnv a_fPart a_fValue := fun z1 z2 => NO (some c) (fun k z => by cases z; omega) fun v => ⟨fun z => by cases z; exact ⟨c, cl_xc hcn, z1⟩, fun ⟨y, a, w⟩ => by rw [z2 y w, cl_xc hcn] at a; exact a⟩
        have M99 : ¬ (kd (cn c) = 4 ∧ (g = 1 ∨ g = 2)) → wX_stepNegative_99 post (wX_stepNegative_13 post (nI g) s f_maxNodes f_maxWeight f_maxVisits f_nodeCount f_sealed f_verdictNow (nI nc) f_varCount f_atSet f_atNeg f_visitCount f_done f_stuck f_curNode f_curEnv f_resultValue f_valueCount f_envCount f_depth a_nKind a_nPart a_nParent a_cNode a_cUp a_cChild a_cInst a_cParam a_queue a_rel a_vKind a_vWord a_vEnv a_vField a_eName a_eValue a_eNext a_fNode a_fEnv a_fPart a_fValue (m + 1)) (nI g) s t (nI c) (nI (cn c)) (nI (kd (cn c))) (-1) f_maxNodes f_maxWeight f_maxVisits f_nodeCount f_sealed f_verdictNow (nI nc) f_varCount f_atSet f_atNeg f_visitCount f_done f_stuck f_curNode f_curEnv f_resultValue f_valueCount f_envCount f_depth a_nKind a_nPart a_nParent a_cNode a_cUp a_cChild a_cInst a_cParam a_queue a_rel a_vKind a_vWord a_vEnv a_vField a_eName a_eValue a_eNext a_fNode a_fEnv a_fPart a_fValue := fun k4 => by
          unfold wX_stepNegative_99
          rw [nu_e7 (by omega)]
          refine br_c (fun k7 => ⟨nu_i4 (i := 1) (by omega) (by omega), ?_⟩) (fun k7 => NN fun y z => by rcases z.2.2 with z | z | z <;> omega)
          have L := tm_l7 W q.2.2 k7
          rw [show (4 * nI (cn c) + 1).toNatClampNeg = 4 * cn c + 1 from nu_c4 (i := 1) (by omega), A.2 _ (by omega), L.1]
          have eg : nI (tm_l pp (cn c)) = nI g - 3 ↔ tm_l pp (cn c) + 3 = g := by
            by_cases g3 : 3 ≤ g
            · rw [nu_s3 g3, nI_eq (by omega) (by omega)]; omega
            · have tab : ∀ l, l < 4 → ∀ g, g < 3 → ¬ nI l = nI g - 3 := by decide +kernel
              exact ⟨fun z => absurd z (tab _ (by omega) g (by omega)), fun z => by omega⟩
          rw [eg]
          exact br_c (fun e => ND ⟨hcn, h0 (Or.inr k7), Or.inr (Or.inr ⟨k7, e, rfl⟩)⟩ fun y z => by rcases z.2.2 with z | z | z <;> omega) (fun e => NN fun y z => by rcases z.2.2 with z | z | z <;> omega)
        have M81 : ¬ (kd (cn c) = 4 ∧ g = 1) → wX_stepNegative_81 post (wX_stepNegative_13 post (nI g) s f_maxNodes f_maxWeight f_maxVisits f_nodeCount f_sealed f_verdictNow (nI nc) f_varCount f_atSet f_atNeg f_visitCount f_done f_stuck f_curNode f_curEnv f_resultValue f_valueCount f_envCount f_depth a_nKind a_nPart a_nParent a_cNode a_cUp a_cChild a_cInst a_cParam a_queue a_rel a_vKind a_vWord a_vEnv a_vField a_eName a_eValue a_eNext a_fNode a_fEnv a_fPart a_fValue (m + 1)) (nI g) s t (nI c) (nI (cn c)) (nI (kd (cn c))) (-1) f_maxNodes f_maxWeight f_maxVisits f_nodeCount f_sealed f_verdictNow (nI nc) f_varCount f_atSet f_atNeg f_visitCount f_done f_stuck f_curNode f_curEnv f_resultValue f_valueCount f_envCount f_depth a_nKind a_nPart a_nParent a_cNode a_cUp a_cChild a_cInst a_cParam a_queue a_rel a_vKind a_vWord a_vEnv a_vField a_eName a_eValue a_eNext a_fNode a_fEnv a_fPart a_fValue := fun k4 => by
          unfold wX_stepNegative_81
          rw [nu_e4 (by omega), nu_e2 (by omega)]
          exact br_c (fun k => br_c (fun g2 => ND ⟨hcn, h0 (Or.inl k), Or.inr (Or.inl ⟨k, g2, rfl⟩)⟩ fun y z => by rcases z.2.2 with z | z | z <;> omega) (fun g2 => M99 fun z => by omega)) (fun k => M99 fun z => k z.1)
        rw [nu_e4 (by omega), nu_e1 (by omega)]
        refine br_c (fun k => br_c (fun g1 => ⟨nu_i4 (i := 1) (by omega) (by omega), nm_r (e' := nu_o (sb c 1)) (by rw [show (4 * nI c + 1).toNatClampNeg = 4 * c + 1 from nu_c4 (i := 1) (by omega), X.2.1 c 1 hcn (by omega)]) (NO _ (fun k e => by have := T.2.2 c _ k hcn (by omega) e; omega) fun v => ?_)⟩) (fun g1 => M81 fun z => g1 z.2)) (fun k => M81 fun z => k z.1)
        constructor
        · intro e
          exact ⟨v, cl_xc (T.2.2 c _ v hcn (by omega) e), hcn, h0 (Or.inl k), Or.inl ⟨k, g1, e⟩⟩
        · rintro ⟨y, ey, _, _, z⟩
          rcases z with z | z | z
          · rw [cl_xc (T.2.2 c _ y hcn (by omega) z.2.2)] at ey
            cases ey; exact z.2.2
          · omega
          · omega
      · obtain ⟨_, ⟨w, a, b⟩, z⟩ := z
        have hk' : kd (cn c) = 4 ∨ kd (cn c) = 7 := by rcases z with z | z | z <;> omega
        refine (cl_urc T ht hcn).mpr ⟨0, w, ?_, a, b⟩
        show 0 < cl_u (kd (cn c))
        rw [U _ hk']; omega
  exact ⟨nc + 1, key nc 0 (by omega) 0 fun v => ⟨fun z => absurd z (bi_0 v), fun ⟨y, _, c', a, _⟩ => by omega⟩⟩
end
end
section
/-! positions: Y's step -/
def ps_Y (Q : Nat → Prop) (b : Nat → Int32) : Prop := ∀ y, y < 128 → (b y = 0 ∨ b y = 1) ∧ (b y ≠ 0 ↔ Q y)
theorem ps_Yn {b : Nat → Int32} {y : Nat} {Q : Nat → Prop} (D : ps_Y Q b) (hy : y < 128) : vp_nar .boolean (b y) = b y := by
  rcases (D y hy).1 with e | e <;> rw [e] <;> decide
def ps_up (b : Nat → Int32) : Option Nat → Nat → Int32
  | none => b
  | some y => upd b y 1
section
variable {g_maxNodes g_maxWeight g_maxVisits g_count g_root g_nc g_weight g_grown g_neg g_made g_next g_nextPar g_nextSlot g_nextLex g_stuck : Int32} {b_kinds b_parts b_cNode b_cPar b_cSlot b_le b_saved b_cur b_nxt b_first b_vNode b_vPar b_vSlot b_vLex b_val b_num : Nat → Int32} {n : Nat} {kd : Nat → Nat} {cd : Nat → Nat → Option Nat} {pp : Nat → Int32} {par : Nat → Option Nat} {nc : Nat} {cn : Nat → Nat} {cu : Nat → Option Nat} {cs : Nat → Nat} {sb : Nat → Nat → Option Nat} {Pc Nw : Nat → Prop} {post : SY → Prop}
theorem ps_upY {Q Q' : Nat → Prop} {b : Nat → Int32} {o : Option Nat} (D : ps_Y Q b) (h : ∀ y, Q' y ↔ Q y ∨ o = some y) : ps_Y Q' (ps_up b o) := by
  have n1 : ¬ (1 : Int32) = 0 := by decide
  intro y hy
  rw [h y]
  cases o with
  | none => exact ⟨(D y hy).1, ⟨fun z => Or.inl ((D y hy).2.mp z), fun z => (D y hy).2.mpr (z.elim id fun z => by cases z)⟩⟩
  | some w =>
    show (upd b w 1 y = 0 ∨ upd b w 1 y = 1) ∧ (upd b w 1 y ≠ 0 ↔ _)
    by_cases e : y = w
    · subst e
      rw [pk_us]
      exact ⟨Or.inr rfl, fun _ => Or.inr rfl, fun _ => n1⟩
    · rw [pk_un e]
      exact ⟨(D y hy).1, ⟨fun z => Or.inl ((D y hy).2.mp z), fun z => (D y hy).2.mpr (z.elim id fun z => by cases z; exact absurd rfl e)⟩⟩
theorem yw_s203 {J : Int32 → (Nat → Int32) → (Nat → Int32) → (Nat → Int32) → (Nat → Int32) → (Nat → Int32) → (Nat → Int32) → (Nat → Int32) → (Nat → Int32) → (Nat → Int32) → (Nat → Int32) → (Nat → Int32) → (Nat → Int32) → (Nat → Int32) → (Nat → Int32) → (Nat → Int32) → (Nat → Int32) → Prop} {x1 : Int32} {c : Nat} (o : Option Nat) (ho : nu_lt o 128) (h : J (nI (c + 1)) b_kinds b_parts b_cNode b_cPar b_cSlot b_le b_saved b_cur (ps_up b_nxt o) b_first b_vNode b_vPar b_vSlot b_vLex b_val b_num) : wY_step_203 post J x1 (nI c) (nu_o o) g_maxNodes g_maxWeight g_maxVisits g_count g_root g_nc g_weight g_grown g_neg g_made g_next g_nextPar g_nextSlot g_nextLex g_stuck b_kinds b_parts b_cNode b_cPar b_cSlot b_le b_saved b_cur b_nxt b_first b_vNode b_vPar b_vSlot b_vLex b_val b_num := by
  cases o with
  | none => exact br_t (by decide) (nm_r (nI_1 c) h)
  | some y =>
    have := ho y rfl
    exact br_f (nI_pos (by omega)) ⟨vp_in_nI (by omega) (by omega), nm_r (e' := upd b_nxt y 1) (by rw [show nu_o (some y) = nI y from rfl, nI_clamp (by omega), nu_v1]; rfl) (nm_r (nI_1 c) h)⟩
theorem yw_s224 {g : Nat} (hg : g < 10) {ng : Bool} {Q : Nat → Prop} (D : ps_Y Q b_nxt) (h : ∀ cu', ps_Y Q cu' → post (g_maxNodes, g_maxWeight, g_maxVisits, g_count, g_root, g_nc, g_weight, g_grown, nu_b (if g = 1 then !ng else ng), g_made, g_next, g_nextPar, g_nextSlot, g_nextLex, g_stuck, b_kinds, b_parts, b_cNode, b_cPar, b_cSlot, b_le, b_saved, cu', b_nxt, b_first, b_vNode, b_vPar, b_vSlot, b_vLex, b_val, b_num)) : ∀ m i, i + m = 128 → ∀ cu', (∀ y, y < i → cu' y = b_nxt y) → wY_step_224 post (nI g) g_maxNodes g_maxWeight g_maxVisits g_count g_root g_nc g_weight g_grown (nu_b ng) g_made g_next g_nextPar g_nextSlot g_nextLex g_stuck (m + 1) (nI i) b_kinds b_parts b_cNode b_cPar b_cSlot b_le b_saved cu' b_nxt b_first b_vNode b_vPar b_vSlot b_vLex b_val b_num := by
  intro m
  induction m with
  | zero =>
    intro i hi cu' E
    have : i = 128 := by omega
    subst this
    have H := h cu' fun y hy => by rw [E y hy]; exact D y hy
    refine br_t (by decide) ?_
    rw [nu_e1 (by omega), nu_b0]
    refine br_c (fun e => br_c (fun z => ?_) (fun z => ?_)) (fun e => ?_)
    · rw [if_pos e, z] at H; exact H
    · rw [if_pos e, ts_nf z] at H; exact H
    · rw [if_neg e] at H; exact H
  | succ m ih =>
    intro i hi cu' E
    refine br_f ?_ ⟨vp_in_nI (by omega) (by omega), vp_in_nI (by omega) (by omega), nm_r (e' := upd cu' i (b_nxt i)) (by rw [nI_clamp (by omega), ps_Yn D (by omega)]) (nm_r (nI_1 i) (ih (i + 1) (by omega) _ fun y hy => ?_))⟩
    · show ¬ (128 : Int32) ≤ nI i
      rw [nu_g128 (by omega)]; omega
    · by_cases e : y = i
      · subst e; exact pk_us
      · rw [pk_un e]; exact E y (by omega)
/-- the next set -/
def ps_q (nc : Nat) (kd cn : Nat → Nat) (sb : Nat → Nat → Option Nat) (pp : Nat → Int32) (Pc Nw : Nat → Prop) (ng : Bool) (g c y : Nat) : Prop := if ng = true then ps_sn nc kd cn sb pp Nw g c y else ps_sp nc kd cn sb Pc g c y
theorem yw_s24 (W : tm_WF n kd cd pp par) (A' : tm_Ag n kd pp b_kinds b_parts) (Y : cp_Y n nc cn cu cs sb b_cNode b_cPar b_cSlot) (T : cp_T nc cu sb) {g : Nat} (hg : 1 ≤ g ∧ g ≤ 6) {ng : Bool}
    (hP : ∀ c, c < nc → (Pc c ↔ ∃ u, u < 128 ∧ b_cur u ≠ 0 ∧ yl_a b_le c u)) (hN : ∀ w, w < nc → (Nw w ↔ ∃ u, u < 128 ∧ b_cur u ≠ 0 ∧ yl_a b_le u w))
    (h : ∀ cu' nx, ps_Y (fun y => ∃ c, ps_q nc kd cn sb pp Pc Nw ng g c y) cu' → post (g_maxNodes, g_maxWeight, g_maxVisits, g_count, g_root, nI nc, g_weight, g_grown, nu_b (if g = 1 then !ng else ng), g_made, g_next, g_nextPar, g_nextSlot, g_nextLex, g_stuck, b_kinds, b_parts, b_cNode, b_cPar, b_cSlot, b_le, b_saved, cu', nx, b_first, b_vNode, b_vPar, b_vSlot, b_vLex, b_val, b_num)) : ∀ m c, c + m = nc → ∀ nx, ps_Y (fun y => ∃ c', c' < c ∧ ps_q nc kd cn sb pp Pc Nw ng g c' y) nx → wY_step_24 post (nI g) g_maxNodes g_maxWeight g_maxVisits g_count g_root (nI nc) g_weight g_grown (nu_b ng) g_made g_next g_nextPar g_nextSlot g_nextLex g_stuck (m + 1) (nI c) b_kinds b_parts b_cNode b_cPar b_cSlot b_le b_saved b_cur nx b_first b_vNode b_vPar b_vSlot b_vLex b_val b_num := by
  have hn := tm_n W
  have hnc := T.1
  have hcq : ∀ c y, ps_q nc kd cn sb pp Pc Nw ng g c y → c < nc := fun c y z => by
    unfold ps_q at z
    split at z
    · exact z.1
    · exact z.1
  intro m
  induction m with
  | zero =>
    intro c hc nx D
    refine br_t ?_ ⟨129, yw_s224 (g := g) (by omega) (Q := fun y => ∃ c, ps_q nc kd cn sb pp Pc Nw ng g c y) ?_ (fun cu' D' => h cu' _ D') 128 0 rfl _ fun y hy => by omega⟩
    · rw [nI_leI (by omega) (by omega)]; omega
    · intro y hy
      refine ⟨(D y hy).1, (D y hy).2.trans ⟨fun ⟨c', _, b⟩ => ⟨c', b⟩, fun ⟨c', b⟩ => ⟨c', by have := hcq c' y b; omega, b⟩⟩⟩
  | succ m ih =>
    intro c hc nx D
    have hcn : c < nc := by omega
    have q := Y.1 c hcn
    have hk := tm_k W q.2.2.2.1
    have NO : ∀ o : Option Nat, nu_lt o 128 → (∀ y, ps_q nc kd cn sb pp Pc Nw ng g c y ↔ o = some y) → wY_step_203 post (wY_step_24 post (nI g) g_maxNodes g_maxWeight g_maxVisits g_count g_root (nI nc) g_weight g_grown (nu_b ng) g_made g_next g_nextPar g_nextSlot g_nextLex g_stuck (m + 1)) (nI g) (nI c) (nu_o o) g_maxNodes g_maxWeight g_maxVisits g_count g_root (nI nc) g_weight g_grown (nu_b ng) g_made g_next g_nextPar g_nextSlot g_nextLex g_stuck b_kinds b_parts b_cNode b_cPar b_cSlot b_le b_saved b_cur nx b_first b_vNode b_vPar b_vSlot b_vLex b_val b_num := fun o ho E => by
      refine yw_s203 o ho (ih (c + 1) (by omega) _ (ps_upY D fun y => ?_))
      rw [← E y]
      constructor
      · rintro ⟨c', a, b⟩
        rcases Nat.lt_or_ge c' c with z | z
        · exact Or.inl ⟨c', z, b⟩
        · have : c' = c := by omega
          subst this
          exact Or.inr b
      · rintro (⟨c', a, b⟩ | b)
        · exact ⟨c', by omega, b⟩
        · exact ⟨c, by omega, b⟩
    refine br_f ?_ ⟨vp_in_nI (by omega) (by omega), ?_⟩
    · show ¬ nI nc ≤ nI c
      rw [nI_leI (by omega) (by omega)]; omega
    rw [nI_clamp (show c < 2 ^ 31 by omega), q.1]
    refine ⟨vp_in_nI (by omega) (by omega), nm_r (e' := nI (kd (cn c))) (by rw [nI_clamp (by omega), A'.1 _ q.2.2.2.1]) ?_⟩
    cases eng : ng with
    | false =>
      rw [eng] at NO
      have SP : ∀ y, ps_q nc kd cn sb pp Pc Nw false g c y ↔ ps_sp nc kd cn sb Pc g c y := fun y => by
        unfold ps_q; rw [if_neg (by intro z; cases z)]
      have E117 : ∀ o : Option Nat, nu_lt o 128 → (∀ y, ps_sp nc kd cn sb Pc g c y ↔ o = some y) → wY_step_117 post (wY_step_24 post (nI g) g_maxNodes g_maxWeight g_maxVisits g_count g_root (nI nc) g_weight g_grown (nu_b false) g_made g_next g_nextPar g_nextSlot g_nextLex g_stuck (m + 1)) (nI g) (nI c) (nI (kd (cn c))) (nu_o o) g_maxNodes g_maxWeight g_maxVisits g_count g_root (nI nc) g_weight g_grown (nu_b false) g_made g_next g_nextPar g_nextSlot g_nextLex g_stuck b_kinds b_parts b_cNode b_cPar b_cSlot b_le b_saved b_cur nx b_first b_vNode b_vPar b_vSlot b_vLex b_val b_num := fun o ho E => by
        refine br_t rfl (yw_below (o := none) (fun k z => by cases z) (fun w z => by cases z) (fun _ => br_t rfl (NO o ho fun y => (SP y).trans (E y))))
      refine br_t rfl (yw_above (by omega) (fun a => br_f (by decide) ?_) (fun a => br_t rfl (E117 none (fun k z => by cases z) fun y => ⟨fun z => absurd ((hP c hcn).mp z.2.1) a, fun z => by cases z⟩)))
      have hp := (hP c hcn).mpr a
      have E96 : ¬ (kd (cn c) = 3 ∧ g = 2) → ∀ o : Option Nat, nu_lt o 128 → ((kd (cn c) = 6 ∧ 3 ≤ g) → o = none) → (∀ y, (kd (cn c) = 3 ∧ g = 1 ∧ y = 64 + c) ↔ o = some y) → wY_step_96 post (wY_step_24 post (nI g) g_maxNodes g_maxWeight g_maxVisits g_count g_root (nI nc) g_weight g_grown (nu_b false) g_made g_next g_nextPar g_nextSlot g_nextLex g_stuck (m + 1)) (nI g) (nI c) (nI (kd (cn c))) (nu_o o) g_maxNodes g_maxWeight g_maxVisits g_count g_root (nI nc) g_weight g_grown (nu_b false) g_made g_next g_nextPar g_nextSlot g_nextLex g_stuck b_kinds b_parts b_cNode b_cPar b_cSlot b_le b_saved b_cur nx b_first b_vNode b_vPar b_vSlot b_vLex b_val b_num := fun k32 o ho h6 E => by
        unfold wY_step_96
        rw [nu_e6 (by omega), nu_p3 (by omega)]
        refine br_c (fun k6 => br_c (fun g3 => E117 o ho fun y => ?_) (fun g3 => ?_)) (fun k6 => E117 o ho fun y => ?_)
        · rw [← E y]
          exact ⟨fun z => by rcases z.2.2 with z | z | z <;> omega, fun z => by omega⟩
        · rw [nu_s3 (by omega)]
          refine yw_sub Y T hcn (by omega) (E117 _ (fun k e => by have := T.2.2 c _ k hcn (by omega) e; omega) fun y => ?_)
          exact ⟨fun z => by rcases z.2.2 with z | z | z <;> first | omega | exact z.2.2, fun z => ⟨hcn, hp, Or.inr (Or.inr ⟨k6, by omega, z⟩)⟩⟩
        · rw [← E y]
          exact ⟨fun z => by rcases z.2.2 with z | z | z <;> first | exact z | omega, fun z => ⟨hcn, hp, Or.inl z⟩⟩
      have E78 : ∀ o : Option Nat, nu_lt o 128 → (∀ y, (kd (cn c) = 3 ∧ g = 1 ∧ y = 64 + c) ↔ o = some y) → wY_step_78 post (wY_step_24 post (nI g) g_maxNodes g_maxWeight g_maxVisits g_count g_root (nI nc) g_weight g_grown (nu_b false) g_made g_next g_nextPar g_nextSlot g_nextLex g_stuck (m + 1)) (nI g) (nI c) (nI (kd (cn c))) (nu_o o) g_maxNodes g_maxWeight g_maxVisits g_count g_root (nI nc) g_weight g_grown (nu_b false) g_made g_next g_nextPar g_nextSlot g_nextLex g_stuck b_kinds b_parts b_cNode b_cPar b_cSlot b_le b_saved b_cur nx b_first b_vNode b_vPar b_vSlot b_vLex b_val b_num := fun o ho E => by
        have on : ¬ (kd (cn c) = 3 ∧ g = 1) → o = none := fun z => by
          cases eo : o with
          | none => rfl
          | some y => have := (E y).mpr eo; exact absurd ⟨this.1, this.2.1⟩ z
        unfold wY_step_78
        rw [nu_e3 (by omega), nu_e2 (by omega)]
        refine br_c (fun k3 => br_c (fun g2 => yw_sub (s := 1) Y T hcn (by omega) ?_) (fun g2 => E96 (fun z => g2 z.2) o ho (fun z => by omega) E)) (fun k3 => E96 (fun z => k3 z.1) o ho (fun z => on fun w => k3 w.1) E)
        unfold wY_step_96
        rw [nu_e6 (by omega)]
        refine br_f (by omega) (E117 _ (fun k e => by have := T.2.2 c _ k hcn (by omega) e; omega) fun y => ?_)
        exact ⟨fun z => by rcases z.2.2 with z | z | z <;> first | omega | exact z.2.2, fun z => ⟨hcn, hp, Or.inr (Or.inl ⟨k3, g2, z⟩)⟩⟩
      rw [nu_e3 (by omega), nu_e1 (by omega), nu_64]
      refine br_c (fun k3 => br_c (fun g1 => nm_e (E78 (some (64 + c)) (fun k z => by cases z; omega) fun y => ⟨fun z => by rw [z.2.2], fun z => ⟨k3, g1, by cases z; rfl⟩⟩)) (fun g1 => E78 none (fun k z => by cases z) fun y => ⟨fun z => absurd z.2.1 g1, fun z => by cases z⟩)) (fun k3 => E78 none (fun k z => by cases z) fun y => ⟨fun z => absurd z.1 k3, fun z => by cases z⟩)
    | true =>
      rw [eng] at NO
      have SN : ∀ y, ps_q nc kd cn sb pp Pc Nw true g c y ↔ ps_sn nc kd cn sb pp Nw g c y := fun y => by
        unfold ps_q; rw [if_pos rfl]
      have lt := cl_uvlt (kc := (fun c => kd (cn c))) (s := 0) T hcn (by omega)
      have iu : ∀ k, k = 4 ∨ k = 7 → cl_iu k 0 = true := fun k hk => by rcases hk with rfl | rfl <;> rfl
      have uv0 : kd (cn c) = 4 ∨ kd (cn c) = 7 → cl_uv (fun c => kd (cn c)) sb c 0 = sb c 0 := fun hk => by
        unfold cl_uv; rw [if_pos (iu _ hk)]
      refine br_f (by decide) (br_f (by decide) (yw_uv (s := 0) W A' Y T hcn (by omega) (yw_below (nu_ltm lt (by omega)) (fun w e a => br_f (by decide) ?_) (fun a => br_t rfl (NO none (fun k z => by cases z) fun y => (SN y).trans ⟨fun z => ?_, fun z => by cases z⟩)))))
      · have nw := (hN w (lt w e)).mpr a
        have h0 : kd (cn c) = 4 ∨ kd (cn c) = 7 → ∃ w, sb c 0 = some w ∧ Nw w := fun hk => ⟨w, by rw [← uv0 hk]; exact e, nw⟩
        have NN : (∀ y, ¬ ps_sn nc kd cn sb pp Nw g c y) → wY_step_203 post (wY_step_24 post (nI g) g_maxNodes g_maxWeight g_maxVisits g_count g_root (nI nc) g_weight g_grown (nu_b true) g_made g_next g_nextPar g_nextSlot g_nextLex g_stuck (m + 1)) (nI g) (nI c) (-1) g_maxNodes g_maxWeight g_maxVisits g_count g_root (nI nc) g_weight g_grown (nu_b true) g_made g_next g_nextPar g_nextSlot g_nextLex g_stuck b_kinds b_parts b_cNode b_cPar b_cSlot b_le b_saved b_cur nx b_first b_vNode b_vPar b_vSlot b_vLex b_val b_num := fun z => NO none (fun k z => by cases z) fun y => (SN y).trans ⟨fun w => absurd w (z y), fun w => by cases w⟩
        have ND : ps_sn nc kd cn sb pp Nw g c c → (∀ y, ps_sn nc kd cn sb pp Nw g c y → y = c) → wY_step_203 post (wY_step_24 post (nI g) g_maxNodes g_maxWeight g_maxVisits g_count g_root (nI nc) g_weight g_grown (nu_b true) g_made g_next g_nextPar g_nextSlot g_nextLex g_stuck (m + 1)) (nI g) (nI c) (nI c) g_maxNodes g_maxWeight g_maxVisits g_count g_root (nI nc) g_weight g_grown (nu_b true) g_made g_next g_nextPar g_nextSlot g_nextLex g_stuck b_kinds b_parts b_cNode b_cPar b_cSlot b_le b_saved b_cur nx b_first b_vNode b_vPar b_vSlot b_vLex b_val b_num := fun z1 z2 => NO (some c) (fun k z => by cases z; omega) fun y => (SN y).trans ⟨fun w => by rw [z2 y w], fun w => by cases w; exact z1⟩
        have M173 : ¬ (kd (cn c) = 4 ∧ (g = 1 ∨ g = 2)) → wY_step_173 post (wY_step_24 post (nI g) g_maxNodes g_maxWeight g_maxVisits g_count g_root (nI nc) g_weight g_grown (nu_b true) g_made g_next g_nextPar g_nextSlot g_nextLex g_stuck (m + 1)) (nI g) (nI c) (nI (kd (cn c))) (-1) g_maxNodes g_maxWeight g_maxVisits g_count g_root (nI nc) g_weight g_grown (nu_b true) g_made g_next g_nextPar g_nextSlot g_nextLex g_stuck b_kinds b_parts b_cNode b_cPar b_cSlot b_le b_saved b_cur nx b_first b_vNode b_vPar b_vSlot b_vLex b_val b_num := fun k4 => by
          unfold wY_step_173
          rw [nu_e7 (by omega)]
          refine br_c (fun k7 => ⟨vp_in_nI (by omega) (by omega), ?_⟩) (fun k7 => NN fun y z => by rcases z.2.2 with z | z | z <;> omega)
          have L := tm_l7 W q.2.2.2.1 k7
          rw [nI_clamp (show c < 2 ^ 31 by omega), q.1]
          refine ⟨nu_i4' (i := 1) (by omega) (by omega), ?_⟩
          rw [show (nI (cn c) * 4 + 1).toNatClampNeg = 4 * cn c + 1 from nu_c4' (i := 1) (by omega), A'.2 _ (by omega), L.1]
          have eg : nI (tm_l pp (cn c)) = nI g - 3 ↔ tm_l pp (cn c) + 3 = g := by
            by_cases g3 : 3 ≤ g
            · rw [nu_s3 g3, nI_eq (by omega) (by omega)]; omega
            · have tab : ∀ l, l < 4 → ∀ g, g < 3 → ¬ nI l = nI g - 3 := by decide +kernel
              exact ⟨fun z => absurd z (tab _ (by omega) g (by omega)), fun z => by omega⟩
          rw [eg]
          exact br_c (fun e => ND ⟨hcn, h0 (Or.inr k7), Or.inr (Or.inr ⟨k7, e, rfl⟩)⟩ fun y z => by rcases z.2.2 with z | z | z <;> omega) (fun e => NN fun y z => by rcases z.2.2 with z | z | z <;> omega)
        have M163 : ¬ (kd (cn c) = 4 ∧ g = 1) → wY_step_163 post (wY_step_24 post (nI g) g_maxNodes g_maxWeight g_maxVisits g_count g_root (nI nc) g_weight g_grown (nu_b true) g_made g_next g_nextPar g_nextSlot g_nextLex g_stuck (m + 1)) (nI g) (nI c) (nI (kd (cn c))) (-1) g_maxNodes g_maxWeight g_maxVisits g_count g_root (nI nc) g_weight g_grown (nu_b true) g_made g_next g_nextPar g_nextSlot g_nextLex g_stuck b_kinds b_parts b_cNode b_cPar b_cSlot b_le b_saved b_cur nx b_first b_vNode b_vPar b_vSlot b_vLex b_val b_num := fun k4 => by
          unfold wY_step_163
          rw [nu_e4 (by omega), nu_e2 (by omega)]
          exact br_c (fun k => br_c (fun g2 => ND ⟨hcn, h0 (Or.inl k), Or.inr (Or.inl ⟨k, g2, rfl⟩)⟩ fun y z => by rcases z.2.2 with z | z | z <;> omega) (fun g2 => M173 fun z => by omega)) (fun k => M173 fun z => k z.1)
        rw [nu_e4 (by omega), nu_e1 (by omega)]
        refine br_c (fun k => br_c (fun g1 => yw_sub (s := 1) Y T hcn (by omega) ?_) (fun g1 => M163 fun z => g1 z.2)) (fun k => M163 fun z => k z.1)
        unfold wY_step_163
        rw [nu_e4 (by omega), nu_e2 (by omega)]
        refine br_t k (br_f (by omega) ?_)
        unfold wY_step_173
        rw [nu_e7 (by omega)]
        refine br_f (by omega) (NO _ (fun k e => by have := T.2.2 c _ k hcn (by omega) e; omega) fun y => (SN y).trans ?_)
        exact ⟨fun z => by rcases z.2.2 with z | z | z <;> first | omega | exact z.2.2, fun z => ⟨hcn, h0 (Or.inl k), Or.inl ⟨k, g1, z⟩⟩⟩
      · obtain ⟨_, ⟨w, b, d⟩, z⟩ := z
        have hk' : kd (cn c) = 4 ∨ kd (cn c) = 7 := by rcases z with z | z | z <;> omega
        rw [← uv0 hk'] at b
        exact absurd ((hN w (lt w b)).mp d) (a w b)
theorem yw_step (W : tm_WF n kd cd pp par) (A' : tm_Ag n kd pp b_kinds b_parts) (Y : cp_Y n nc cn cu cs sb b_cNode b_cPar b_cSlot) (T : cp_T nc cu sb) {g : Nat} (hg : 1 ≤ g ∧ g ≤ 6) {ng : Bool}
    (hP : ∀ c, c < nc → (Pc c ↔ ∃ u, u < 128 ∧ b_cur u ≠ 0 ∧ yl_a b_le c u)) (hN : ∀ w, w < nc → (Nw w ↔ ∃ u, u < 128 ∧ b_cur u ≠ 0 ∧ yl_a b_le u w))
    (h : ∀ cu' nx, ps_Y (fun y => ∃ c, ps_q nc kd cn sb pp Pc Nw ng g c y) cu' → post (g_maxNodes, g_maxWeight, g_maxVisits, g_count, g_root, nI nc, g_weight, g_grown, nu_b (if g = 1 then !ng else ng), g_made, g_next, g_nextPar, g_nextSlot, g_nextLex, g_stuck, b_kinds, b_parts, b_cNode, b_cPar, b_cSlot, b_le, b_saved, cu', nx, b_first, b_vNode, b_vPar, b_vSlot, b_vLex, b_val, b_num)) : wpY_step post (g_maxNodes, g_maxWeight, g_maxVisits, g_count, g_root, nI nc, g_weight, g_grown, nu_b ng, g_made, g_next, g_nextPar, g_nextSlot, g_nextLex, g_stuck, b_kinds, b_parts, b_cNode, b_cPar, b_cSlot, b_le, b_saved, b_cur, b_nxt, b_first, b_vNode, b_vPar, b_vSlot, b_vLex, b_val, b_num) (nI g) := by
  have key : ∀ m i, i + m = 128 → ∀ nx, (∀ y, y < i → nx y = 0) → wY_step_2 post (nI g) g_maxNodes g_maxWeight g_maxVisits g_count g_root (nI nc) g_weight g_grown (nu_b ng) g_made g_next g_nextPar g_nextSlot g_nextLex g_stuck (m + 1) (nI i) b_kinds b_parts b_cNode b_cPar b_cSlot b_le b_saved b_cur nx b_first b_vNode b_vPar b_vSlot b_vLex b_val b_num := by
    intro m
    induction m with
    | zero =>
      intro i hi nx E
      have : i = 128 := by omega
      subst this
      exact br_t (by decide) ⟨nc + 1, yw_s24 W A' Y T hg hP hN h nc 0 (by omega) nx fun y hy => ⟨Or.inl (E y hy), fun z => absurd (E y hy) z, fun ⟨c', a, _⟩ => by omega⟩⟩
    | succ m ih =>
      intro i hi nx E
      refine br_f ?_ ⟨vp_in_nI (by omega) (by omega), nm_r (e' := upd nx i 0) (by rw [nI_clamp (by omega), nu_v0]; rfl) (nm_r (nI_1 i) (ih (i + 1) (by omega) _ fun y hy => ?_))⟩
      · show ¬ (128 : Int32) ≤ nI i
        rw [nu_g128 (by omega)]; omega
      · by_cases e : y = i
        · subst e; exact pk_us
        · rw [pk_un e]; exact E y (by omega)
  exact ⟨129, key 128 0 rfl b_nxt fun y hy => by omega⟩
end
end
section
/-! positions: both sides together -/
def ps_m : Nat → Nat → Bool
  | 0, _ => false
  | f + 1, P => if P = 0 then false else if P % 8 = 0 ∨ P % 8 = 7 then true else ps_m f (P / 8)
def ps_mf (p : Int32) : Bool := if p < 0 then true else ps_m 11 p.toNatClampNeg
theorem ps_and7 {P : Nat} (h : P < 2 ^ 31) : nI P &&& 7 = nI (P % 8) := pk_andN (by omega) 3 (by decide)
theorem ps_us3 {P : Nat} (h : P < 2 ^ 31) : ((nI P).toUInt32 >>> ((3 : Int32).toUInt32 &&& Int32.toUInt32 31)).toInt32 = nI (P / 8) := pk_ushrN (by omega) 3 3 (by decide)
theorem ps_s3 {P : Nat} (h : P < 2 ^ 31) : nI P >>> ((3 : Int32) &&& 31) = nI (P / 8) := pk_shrN h _ 3 (by decide)
section
variable {f_maxNodes f_maxWeight f_maxVisits f_nodeCount f_sealed f_verdictNow f_copyCount f_varCount : Int32} {f_atSet : Int64} {f_atNeg f_visitCount f_done f_stuck f_curNode f_curEnv f_resultValue f_valueCount f_envCount f_depth : Int32} {a_nKind a_nPart a_nParent a_cNode a_cUp a_cChild a_cInst a_cParam a_queue : Nat → Int32} {a_rel : Nat → Int64} {a_vKind a_vWord a_vEnv a_vField a_eName a_eValue a_eNext a_fNode a_fEnv a_fPart a_fValue : Nat → Int32} {post : Int32 → Prop}
theorem xw_mf {p : Int32} (h : post (nu_b (ps_mf p))) : wpX_malformed post (f_maxNodes, f_maxWeight, f_maxVisits, f_nodeCount, f_sealed, f_verdictNow, f_copyCount, f_varCount, f_atSet, f_atNeg, f_visitCount, f_done, f_stuck, f_curNode, f_curEnv, f_resultValue, f_valueCount, f_envCount, f_depth, a_nKind, a_nPart, a_nParent, a_cNode, a_cUp, a_cChild, a_cInst, a_cParam, a_queue, a_rel, a_vKind, a_vWord, a_vEnv, a_vField, a_eName, a_eValue, a_eNext, a_fNode, a_fEnv, a_fPart, a_fValue) p := by
  have key : ∀ f i P, i + f = 11 → P < 2 ^ 31 → post (nu_b (ps_m f P)) → wX_malformed_10 post f_maxNodes f_maxWeight f_maxVisits f_nodeCount f_sealed f_verdictNow f_copyCount f_varCount f_atSet f_atNeg f_visitCount f_done f_stuck f_curNode f_curEnv f_resultValue f_valueCount f_envCount f_depth a_nKind a_nPart a_nParent a_cNode a_cUp a_cChild a_cInst a_cParam a_queue a_rel a_vKind a_vWord a_vEnv a_vField a_eName a_eValue a_eNext a_fNode a_fEnv a_fPart a_fValue (f + 1) (nI P) (nI i) := by
    intro f
    induction f with
    | zero =>
      intro i P hi hP h
      have : i = 11 := by omega
      subst this
      exact br_t (by decide) h
    | succ f ih =>
      intro i P hi hP h
      rw [ps_m] at h
      refine br_f ?_ ?_
      · show ¬ (11 : Int32) ≤ nI i
        rw [nu_g11 (by omega)]; omega
      rw [nu_e0 hP, ps_and7 hP, ps_us3 hP]
      refine br_c (fun e => by rw [if_pos e] at h; exact h) (fun e => nm_e ?_)
      rw [if_neg e] at h
      rw [nu_e0 (by omega), nu_e7 (by omega)]
      refine br_c (fun z => by rw [if_pos (Or.inl z)] at h; exact h) (fun z => br_c (fun w => by rw [if_pos (Or.inr w)] at h; exact h) (fun w => nm_e (nm_r (nI_1 i) (ih (i + 1) (P / 8) (by omega) (by omega) ?_))))
      rw [if_neg (fun q => q.elim z w)] at h; exact h
  unfold ps_mf at h
  by_cases hp : p < 0
  · rw [if_pos hp] at h
    exact br_f (fun z => Int32.not_lt.mpr z hp) h
  · rw [if_neg hp] at h
    obtain ⟨P, hP, rfl⟩ := nI_of hp
    rw [nI_clamp hP] at h
    exact br_t (nI_pos' hP) ⟨12, key 11 0 P rfl hP h⟩
end
section
variable {g_maxNodes g_maxWeight g_maxVisits g_count g_root g_nc g_weight g_grown g_neg g_made g_next g_nextPar g_nextSlot g_nextLex g_stuck : Int32} {b_kinds b_parts b_cNode b_cPar b_cSlot b_le b_saved b_cur b_nxt b_first b_vNode b_vPar b_vSlot b_vLex b_val b_num : Nat → Int32} {post : Int32 → Prop}
theorem yw_mf {p : Int32} (h : post (nu_b (ps_mf p))) : wpY_malformed post (g_maxNodes, g_maxWeight, g_maxVisits, g_count, g_root, g_nc, g_weight, g_grown, g_neg, g_made, g_next, g_nextPar, g_nextSlot, g_nextLex, g_stuck, b_kinds, b_parts, b_cNode, b_cPar, b_cSlot, b_le, b_saved, b_cur, b_nxt, b_first, b_vNode, b_vPar, b_vSlot, b_vLex, b_val, b_num) p := by
  unfold ps_mf at h
  by_cases hp : p < 0
  · rw [if_pos hp] at h
    have e : ¬ (0 : Int32) ≤ p := fun z => Int32.not_lt.mpr z hp
    exact ⟨1, br_f (by decide) (br_t (Int32.le_of_lt hp) (br_f e h))⟩
  · rw [if_neg hp] at h
    obtain ⟨P0, hP0, rfl⟩ := nI_of hp
    rw [nI_clamp hP0] at h
    have key : ∀ f i P, i + f = 11 → P < 2 ^ 31 → post (nu_b (ps_m f P)) → wY_malformed_4 post (nI P0) g_maxNodes g_maxWeight g_maxVisits g_count g_root g_nc g_weight g_grown g_neg g_made g_next g_nextPar g_nextSlot g_nextLex g_stuck b_kinds b_parts b_cNode b_cPar b_cSlot b_le b_saved b_cur b_nxt b_first b_vNode b_vPar b_vSlot b_vLex b_val b_num (f + 1) (nI P) (nI i) := by
      intro f
      induction f with
      | zero =>
        intro i P hi hP h
        have : i = 11 := by omega
        subst this
        exact br_t (by decide) (br_t (nI_pos' hP0) h)
      | succ f ih =>
        intro i P hi hP h
        rw [ps_m] at h
        refine br_f ?_ ?_
        · show ¬ (11 : Int32) ≤ nI i
          rw [nu_g11 (by omega)]; omega
        rw [nu_le0 hP, ps_and7 hP, ps_s3 hP]
        refine br_c (fun e => by rw [if_pos e] at h; exact br_t (nI_pos' hP0) h) (fun e => ?_)
        rw [if_neg e] at h
        rw [nu_e0 (by omega), nu_e7 (by omega)]
        refine br_c (fun z => by rw [if_pos (Or.inl z)] at h; exact h) (fun z => br_c (fun w => by rw [if_pos (Or.inr w)] at h; exact h) (fun w => nm_e (nm_r (nI_1 i) (ih (i + 1) (P / 8) (by omega) (by omega) ?_))))
        rw [if_neg (fun q => q.elim z w)] at h; exact h
    exact ⟨12, key 11 0 P0 rfl hP0 h⟩
end
def ps_X (x : Nat → Option Nat) (Q : Nat → Prop) (s : Int64) : Prop := ∀ v, cl_tb s v = true ↔ ∃ y, x y = some v ∧ Q y
def ps_I (x : Nat → Option Nat) (Q : Nat → Prop) : Prop := ∀ y, Q y → x y ≠ none
/-- the two tables agree -/
def ps_R (x : Nat → Option Nat) (a : Nat → Int64) (b : Nat → Int32) : Prop := ∀ y z v w, x y = some v → x z = some w → (cl_a a 0 v w ↔ yl_a b y z)
def ps_P (b : Nat → Int32) (Q : Nat → Prop) (c : Nat) : Prop := ∃ z, Q z ∧ yl_a b c z
def ps_N (b : Nat → Int32) (Q : Nat → Prop) (w : Nat) : Prop := ∃ z, Q z ∧ yl_a b z w
section
variable {f_maxNodes f_maxWeight f_maxVisits f_nodeCount f_sealed f_verdictNow f_copyCount f_varCount : Int32} {f_atSet : Int64} {f_atNeg f_visitCount f_done f_stuck f_curNode f_curEnv f_resultValue f_valueCount f_envCount f_depth : Int32} {a_nKind a_nPart a_nParent a_cNode a_cUp a_cChild a_cInst a_cParam a_queue : Nat → Int32} {a_rel : Nat → Int64} {a_vKind a_vWord a_vEnv a_vField a_eName a_eValue a_eNext a_fNode a_fEnv a_fPart a_fValue : Nat → Int32} {g_maxNodes g_maxWeight g_maxVisits g_count g_root g_nc g_weight g_grown g_neg g_made g_next g_nextPar g_nextSlot g_nextLex g_stuck : Int32} {b_kinds b_parts b_cNode b_cPar b_cSlot b_le b_saved b_cur b_nxt b_first b_vNode b_vPar b_vSlot b_vLex b_val b_num : Nat → Int32} {n : Nat} {kd : Nat → Nat} {cd : Nat → Nat → Option Nat} {pp : Nat → Int32} {par : Nat → Option Nat} {nc vc : Nat} {cn : Nat → Nat} {cu : Nat → Option Nat} {cs : Nat → Nat} {sb : Nat → Nat → Option Nat} {pv : Nat → Nat}
theorem ps_h1 (R : ps_R (cl_x nc (fun c => kd (cn c)) pv) a_rel b_le) {Q : Nat → Prop} (I : ps_I (cl_x nc (fun c => kd (cn c)) pv) Q) {s : Int64} (S : ps_X (cl_x nc (fun c => kd (cn c)) pv) Q s) : ∀ c, c < nc → ((a_rel c &&& s) = 0 ↔ ¬ ps_P b_le Q c) := by
  intro c hc
  rw [bi_an]
  refine not_congr ⟨fun ⟨j, h1, h2⟩ => ?_, fun ⟨z, h1, h2⟩ => ?_⟩
  · obtain ⟨y, ey, hq⟩ := (S j).mp h2
    exact ⟨y, hq, (R c y c j (cl_xc hc) ey).mp (by unfold cl_a; rw [Nat.zero_add]; exact h1)⟩
  · cases ez : (cl_x nc (fun c => kd (cn c)) pv) z with
    | none => exact absurd ez (I z h1)
    | some v =>
      have := (R c z c v (cl_xc hc) ez).mpr h2
      unfold cl_a at this
      rw [Nat.zero_add] at this
      exact ⟨v, this, (S v).mpr ⟨z, ez, h1⟩⟩
theorem ps_h2 (P : cl_pv nc vc (fun c => kd (cn c)) pv) {Q : Nat → Prop} (I : ps_I (cl_x nc (fun c => kd (cn c)) pv) Q) {bc : Nat → Int32} (D : ps_Y Q bc) (c : Nat) : ps_P b_le Q c ↔ ∃ u, u < 128 ∧ bc u ≠ 0 ∧ yl_a b_le c u := by
  constructor
  · rintro ⟨z, h1, h2⟩
    cases ez : (cl_x nc (fun c => kd (cn c)) pv) z with
    | none => exact absurd ez (I z h1)
    | some v =>
      have := (cl_xlt P ez).2
      exact ⟨z, this, (D z this).2.mpr h1, h2⟩
  · rintro ⟨u, h1, h2, h3⟩
    exact ⟨u, (D u h1).2.mp h2, h3⟩
theorem ps_h3 (P : cl_pv nc vc (fun c => kd (cn c)) pv) {Q : Nat → Prop} (I : ps_I (cl_x nc (fun c => kd (cn c)) pv) Q) {bc : Nat → Int32} (D : ps_Y Q bc) (w : Nat) : ps_N b_le Q w ↔ ∃ u, u < 128 ∧ bc u ≠ 0 ∧ yl_a b_le u w := by
  constructor
  · rintro ⟨z, h1, h2⟩
    cases ez : (cl_x nc (fun c => kd (cn c)) pv) z with
    | none => exact absurd ez (I z h1)
    | some v =>
      have := (cl_xlt P ez).2
      exact ⟨z, this, (D z this).2.mpr h1, h2⟩
  · rintro ⟨u, h1, h2, h3⟩
    exact ⟨u, (D u h1).2.mp h2, h3⟩
theorem ps_h4 (P : cl_pv nc vc (fun c => kd (cn c)) pv) (R : ps_R (cl_x nc (fun c => kd (cn c)) pv) a_rel b_le) {Q : Nat → Prop} (I : ps_I (cl_x nc (fun c => kd (cn c)) pv) Q) {s t : Int64} (S : ps_X (cl_x nc (fun c => kd (cn c)) pv) Q s) (ht : ∀ w, cl_tb t w = true ↔ ∃ v, v < vc ∧ cl_tb s v = true ∧ cl_a a_rel 0 v w) : ∀ y w, (cl_x nc (fun c => kd (cn c)) pv) y = some w → (cl_tb t w = true ↔ ps_N b_le Q y) := by
  intro y w ey
  rw [ht w]
  constructor
  · rintro ⟨v, _, h1, h2⟩
    obtain ⟨z, ez, hq⟩ := (S v).mp h1
    exact ⟨z, hq, (R z y v w ez ey).mp h2⟩
  · rintro ⟨z, h1, h2⟩
    cases ez : (cl_x nc (fun c => kd (cn c)) pv) z with
    | none => exact absurd ez (I z h1)
    | some v => exact ⟨v, (cl_xlt P ez).1, (S v).mpr ⟨z, ez, h1⟩, (R z y v w ez ey).mpr h2⟩
/-- the head at a position: one answer -/
theorem ps_head (W : tm_WF n kd cd pp par) (A : tm_Ag n kd pp a_nKind a_nPart) (X : cp_X n nc kd cn cu sb pv a_cNode a_cUp a_cChild a_cInst a_cParam) (A' : tm_Ag n kd pp b_kinds b_parts) (Y : cp_Y n nc cn cu cs sb b_cNode b_cPar b_cSlot) (T : cp_T nc cu sb) (P : cl_pv nc vc (fun c => kd (cn c)) pv) (R : ps_R (cl_x nc (fun c => kd (cn c)) pv) a_rel b_le) (Q : Nat → Prop) (I : ps_I (cl_x nc (fun c => kd (cn c)) pv) Q) (ng : Bool) :
    ∃ h, 0 ≤ h ∧ (∀ (s f1 : Int64) (f2 : Int32) (post : Int32 → Prop), ps_X (cl_x nc (fun c => kd (cn c)) pv) Q s → post h → wpX_headOf post (f_maxNodes, f_maxWeight, f_maxVisits, f_nodeCount, f_sealed, f_verdictNow, nI nc, nI vc, f1, f2, f_visitCount, f_done, f_stuck, f_curNode, f_curEnv, f_resultValue, f_valueCount, f_envCount, f_depth, a_nKind, a_nPart, a_nParent, a_cNode, a_cUp, a_cChild, a_cInst, a_cParam, a_queue, a_rel, a_vKind, a_vWord, a_vEnv, a_vField, a_eName, a_eValue, a_eNext, a_fNode, a_fEnv, a_fPart, a_fValue) s (nu_b ng)) ∧ (∀ (bc bx bf : Nat → Int32) (post : Int32 → Prop), ps_Y Q bc → post h → wpY_headNow post (g_maxNodes, g_maxWeight, g_maxVisits, g_count, g_root, nI nc, g_weight, g_grown, nu_b ng, g_made, g_next, g_nextPar, g_nextSlot, g_nextLex, g_stuck, b_kinds, b_parts, b_cNode, b_cPar, b_cSlot, b_le, b_saved, bc, bx, bf, b_vNode, b_vPar, b_vSlot, b_vLex, b_val, b_num)) := by
  cases ng with
  | false =>
    obtain ⟨h, h0, h1, h2⟩ := @ps_hp9 f_maxNodes f_maxWeight f_maxVisits f_nodeCount f_sealed f_verdictNow (nI vc) f_visitCount f_done f_stuck f_curNode f_curEnv f_resultValue f_valueCount f_envCount f_depth a_nKind a_nPart a_nParent a_cNode a_cUp a_cChild a_cInst a_cParam a_queue a_rel a_vKind a_vWord a_vEnv a_vField a_eName a_eValue a_eNext a_fNode a_fEnv a_fPart a_fValue g_maxNodes g_maxWeight g_maxVisits g_count g_root g_weight g_grown g_made g_next g_nextPar g_nextSlot g_nextLex g_stuck b_kinds b_parts b_cNode b_cPar b_cSlot b_le b_saved b_vNode b_vPar b_vSlot b_vLex b_val b_num n kd cd pp par nc cn cu cs sb pv W A X A' Y T (ps_P b_le Q) nc 0 (by omega) 0 15 (by omega)
    refine ⟨h, h0 (by decide), fun s f1 f2 post S hp => ?_, fun bc bx bf post D hp => ?_⟩
    · exact br_t rfl ⟨nc + 1, h1 s f1 f2 post (ps_h1 R I S) hp⟩
    · exact br_t rfl ⟨nc + 1, h2 bc bx bf post (fun c _ => ps_h2 P I D c) hp⟩
  | true =>
    obtain ⟨h, h0, h1, h2⟩ := @ps_hn14 f_maxNodes f_maxWeight f_maxVisits f_nodeCount f_sealed f_verdictNow (nI vc) f_visitCount f_done f_stuck f_curNode f_curEnv f_resultValue f_valueCount f_envCount f_depth a_nKind a_nPart a_nParent a_cNode a_cUp a_cChild a_cInst a_cParam a_queue a_rel a_vKind a_vWord a_vEnv a_vField a_eName a_eValue a_eNext a_fNode a_fEnv a_fPart a_fValue g_maxNodes g_maxWeight g_maxVisits g_count g_root g_weight g_grown g_made g_next g_nextPar g_nextSlot g_nextLex g_stuck b_kinds b_parts b_cNode b_cPar b_cSlot b_le b_saved b_vNode b_vPar b_vSlot b_vLex b_val b_num n kd cd pp par nc cn cu cs sb pv (ps_N b_le Q) W A X A' Y T nc 0 (by omega) 128 120
    refine ⟨h, h0 (by decide), fun s f1 f2 post S hp => ?_, fun bc bx bf post D hp => ?_⟩
    · exact br_f (by decide) (xw_above P.2.2.1 fun t ht => ⟨nc + 1, h1 t f1 f2 post (fun w hw => ps_h4 P R I S ht w w (cl_xc hw)) hp⟩)
    · exact br_f (by decide) ⟨nc + 1, h2 bc bx bf post (fun w _ => ps_h3 P I D w) hp⟩
/-- one step from a position -/
theorem ps_step (W : tm_WF n kd cd pp par) (A : tm_Ag n kd pp a_nKind a_nPart) (X : cp_X n nc kd cn cu sb pv a_cNode a_cUp a_cChild a_cInst a_cParam) (T : cp_T nc cu sb) (P : cl_pv nc vc (fun c => kd (cn c)) pv) (R : ps_R (cl_x nc (fun c => kd (cn c)) pv) a_rel b_le) {Q : Nat → Prop} (I : ps_I (cl_x nc (fun c => kd (cn c)) pv) Q) {ng : Bool} {g : Nat} (hg : 1 ≤ g ∧ g ≤ 6) : ps_I (cl_x nc (fun c => kd (cn c)) pv) (fun y => ∃ c, ps_q nc kd cn sb pp (ps_P b_le Q) (ps_N b_le Q) ng g c y) := by
  rintro y ⟨c, h⟩
  unfold ps_q at h
  split at h
  · obtain ⟨hc, _, z⟩ := h
    rcases z with z | z | z
    · rw [cl_xc (T.2.2 c 1 y hc (by omega) z.2.2)]; intro w; cases w
    · rw [z.2.2, cl_xc hc]; intro w; cases w
    · rw [z.2.2, cl_xc hc]; intro w; cases w
  · obtain ⟨hc, _, z⟩ := h
    rcases z with z | z | z
    · rw [z.2.2, cl_xp P hc z.1]; intro w; cases w
    · rw [cl_xc (T.2.2 c 1 y hc (by omega) z.2.2)]; intro w; cases w
    · rw [cl_xc (T.2.2 c _ y hc (by omega) z.2.2)]; intro w; cases w
/-- the way along a path: one outcome -/
theorem ps_loc (W : tm_WF n kd cd pp par) (A : tm_Ag n kd pp a_nKind a_nPart) (X : cp_X n nc kd cn cu sb pv a_cNode a_cUp a_cChild a_cInst a_cParam) (A' : tm_Ag n kd pp b_kinds b_parts) (Y : cp_Y n nc cn cu cs sb b_cNode b_cPar b_cSlot) (T : cp_T nc cu sb) (P : cl_pv nc vc (fun c => kd (cn c)) pv) (R : ps_R (cl_x nc (fun c => kd (cn c)) pv) a_rel b_le) :
    ∀ f i P' (Q : Nat → Prop) ng, i + f = 11 → P' < 2 ^ 31 → ps_m f P' = false → ps_I (cl_x nc (fun c => kd (cn c)) pv) Q → ∃ (ok : Bool) (Q' : Nat → Prop) (ng' : Bool) (h : Int32), ps_I (cl_x nc (fun c => kd (cn c)) pv) Q' ∧ 0 ≤ h ∧ (∀ (s f1 : Int64) (f2 : Int32) (post : Int32 → Prop), ps_X (cl_x nc (fun c => kd (cn c)) pv) Q' s → post h → wpX_headOf post (f_maxNodes, f_maxWeight, f_maxVisits, f_nodeCount, f_sealed, f_verdictNow, nI nc, nI vc, f1, f2, f_visitCount, f_done, f_stuck, f_curNode, f_curEnv, f_resultValue, f_valueCount, f_envCount, f_depth, a_nKind, a_nPart, a_nParent, a_cNode, a_cUp, a_cChild, a_cInst, a_cParam, a_queue, a_rel, a_vKind, a_vWord, a_vEnv, a_vField, a_eName, a_eValue, a_eNext, a_fNode, a_fEnv, a_fPart, a_fValue) s (nu_b ng')) ∧
      (∀ (s : Int64) (post : Int32 → SX → Prop), ps_X (cl_x nc (fun c => kd (cn c)) pv) Q s → (∀ s', ps_X (cl_x nc (fun c => kd (cn c)) pv) Q' s' → post (nu_b ok) (f_maxNodes, f_maxWeight, f_maxVisits, f_nodeCount, f_sealed, f_verdictNow, nI nc, nI vc, s', nu_b ng', f_visitCount, f_done, f_stuck, f_curNode, f_curEnv, f_resultValue, f_valueCount, f_envCount, f_depth, a_nKind, a_nPart, a_nParent, a_cNode, a_cUp, a_cChild, a_cInst, a_cParam, a_queue, a_rel, a_vKind, a_vWord, a_vEnv, a_vField, a_eName, a_eValue, a_eNext, a_fNode, a_fEnv, a_fPart, a_fValue)) → wX_locate_14 post f_maxNodes f_maxWeight f_maxVisits f_nodeCount f_sealed f_verdictNow (nI nc) (nI vc) f_visitCount f_done f_stuck f_curNode f_curEnv f_resultValue f_valueCount f_envCount f_depth a_nKind a_nPart a_nParent a_cNode a_cUp a_cChild a_cInst a_cParam a_queue a_rel a_vKind a_vWord a_vEnv a_vField a_eName a_eValue a_eNext a_fNode a_fEnv a_fPart a_fValue (f + 1) (nI P') (nI i) s (nu_b ng)) ∧
      (∀ (bc bx bf : Nat → Int32) (post : Int32 → SY → Prop), ps_Y Q bc → (∀ bc' bx', ps_Y Q' bc' → post (if ok = true then h else -2) (g_maxNodes, g_maxWeight, g_maxVisits, g_count, g_root, nI nc, g_weight, g_grown, nu_b ng', g_made, g_next, g_nextPar, g_nextSlot, g_nextLex, g_stuck, b_kinds, b_parts, b_cNode, b_cPar, b_cSlot, b_le, b_saved, bc', bx', bf, b_vNode, b_vPar, b_vSlot, b_vLex, b_val, b_num)) → wY_walk_39 post (f + 1) (nI P') (nI i) g_maxNodes g_maxWeight g_maxVisits g_count g_root (nI nc) g_weight g_grown (nu_b ng) g_made g_next g_nextPar g_nextSlot g_nextLex g_stuck b_kinds b_parts b_cNode b_cPar b_cSlot b_le b_saved bc bx bf b_vNode b_vPar b_vSlot b_vLex b_val b_num) := by
  have hnc := T.1
  have stop : ∀ (Q : Nat → Prop) ng, ps_I (cl_x nc (fun c => kd (cn c)) pv) Q → ∃ h, 0 ≤ h ∧ (∀ (s f1 : Int64) (f2 : Int32) (post : Int32 → Prop), ps_X (cl_x nc (fun c => kd (cn c)) pv) Q s → post h → wpX_headOf post (f_maxNodes, f_maxWeight, f_maxVisits, f_nodeCount, f_sealed, f_verdictNow, nI nc, nI vc, f1, f2, f_visitCount, f_done, f_stuck, f_curNode, f_curEnv, f_resultValue, f_valueCount, f_envCount, f_depth, a_nKind, a_nPart, a_nParent, a_cNode, a_cUp, a_cChild, a_cInst, a_cParam, a_queue, a_rel, a_vKind, a_vWord, a_vEnv, a_vField, a_eName, a_eValue, a_eNext, a_fNode, a_fEnv, a_fPart, a_fValue) s (nu_b ng)) ∧ (∀ (bc bx bf : Nat → Int32) (post : Int32 → SY → Prop), ps_Y Q bc → post h (g_maxNodes, g_maxWeight, g_maxVisits, g_count, g_root, nI nc, g_weight, g_grown, nu_b ng, g_made, g_next, g_nextPar, g_nextSlot, g_nextLex, g_stuck, b_kinds, b_parts, b_cNode, b_cPar, b_cSlot, b_le, b_saved, bc, bx, bf, b_vNode, b_vPar, b_vSlot, b_vLex, b_val, b_num) → wY_walk_103 post g_maxNodes g_maxWeight g_maxVisits g_count g_root (nI nc) g_weight g_grown (nu_b ng) g_made g_next g_nextPar g_nextSlot g_nextLex g_stuck b_kinds b_parts b_cNode b_cPar b_cSlot b_le b_saved bc bx bf b_vNode b_vPar b_vSlot b_vLex b_val b_num) ∧ (∀ (bc bx bf : Nat → Int32) (post : Int32 → Prop), ps_Y Q bc → post h → wpY_headNow post (g_maxNodes, g_maxWeight, g_maxVisits, g_count, g_root, nI nc, g_weight, g_grown, nu_b ng, g_made, g_next, g_nextPar, g_nextSlot, g_nextLex, g_stuck, b_kinds, b_parts, b_cNode, b_cPar, b_cSlot, b_le, b_saved, bc, bx, bf, b_vNode, b_vPar, b_vSlot, b_vLex, b_val, b_num)) := fun Q ng I => by
    obtain ⟨h, h0, h1, h2⟩ := @ps_head f_maxNodes f_maxWeight f_maxVisits f_nodeCount f_sealed f_verdictNow f_visitCount f_done f_stuck f_curNode f_curEnv f_resultValue f_valueCount f_envCount f_depth a_nKind a_nPart a_nParent a_cNode a_cUp a_cChild a_cInst a_cParam a_queue a_rel a_vKind a_vWord a_vEnv a_vField a_eName a_eValue a_eNext a_fNode a_fEnv a_fPart a_fValue g_maxNodes g_maxWeight g_maxVisits g_count g_root g_weight g_grown g_made g_next g_nextPar g_nextSlot g_nextLex g_stuck b_kinds b_parts b_cNode b_cPar b_cSlot b_le b_saved b_vNode b_vPar b_vSlot b_vLex b_val b_num n kd cd pp par nc vc cn cu cs sb pv W A X A' Y T P R Q I ng
    exact ⟨h, h0, h1, fun bc bx bf post D hp => h2 bc bx bf _ D hp, h2⟩
  intro f
  induction f with
  | zero =>
    intro i P' Q ng hi hP hm I
    have : i = 11 := by omega
    subst this
    obtain ⟨h, h0, h1, h2, _⟩ := stop Q ng I
    exact ⟨true, Q, ng, h, I, h0, h1, fun s post S hp => br_t (by decide) (hp s S), fun bc bx bf post D hp => br_t (by decide) (h2 bc bx bf post D (hp bc bx D))⟩
  | succ f ih =>
    intro i P' Q ng hi hP hm I
    have e11 : ¬ (11 : Int32) ≤ nI i := by rw [nu_g11 (by omega)]; omega
    obtain ⟨h, h0, h1, h2, h3⟩ := stop Q ng I
    by_cases e0 : P' = 0
    · subst e0
      exact ⟨true, Q, ng, h, I, h0, h1, fun s post S hp => br_f e11 (br_t rfl (hp s S)), fun bc bx bf post D hp => br_f e11 (br_t (by decide) (h2 bc bx bf post D (hp bc bx D)))⟩
    · rw [ps_m, if_neg e0] at hm
      have hg : 1 ≤ P' % 8 ∧ P' % 8 ≤ 6 := by
        apply Classical.byContradiction
        intro z
        rw [if_pos (by omega)] at hm
        cases hm
      rw [if_neg (by omega)] at hm
      generalize eg : P' % 8 = g at hg
      -- the bit that the head must have
      have bitE : ∀ g, g < 7 → 3 ≤ g → ((1 : Int32) <<< (nI g &&& 31)) = ((8 : Int32) <<< ((nI g - 3) &&& 31)) := by decide +kernel
      have need : ∃ b : Int32, (∀ (s : Int64) (post : Int32 → SX → Prop) (J : Int32 → Int32 → Int64 → Int32 → Prop), wX_locate_44 post J (nI P') (nI i) (nI g) b f_maxNodes f_maxWeight f_maxVisits f_nodeCount f_sealed f_verdictNow (nI nc) (nI vc) s (nu_b ng) f_visitCount f_done f_stuck f_curNode f_curEnv f_resultValue f_valueCount f_envCount f_depth a_nKind a_nPart a_nParent a_cNode a_cUp a_cChild a_cInst a_cParam a_queue a_rel a_vKind a_vWord a_vEnv a_vField a_eName a_eValue a_eNext a_fNode a_fEnv a_fPart a_fValue → ((2 < nI g → (wX_locate_44 post J (nI P') (nI i) (nI g) ((1 : Int32) <<< (nI g &&& 31)) f_maxNodes f_maxWeight f_maxVisits f_nodeCount f_sealed f_verdictNow (nI nc) (nI vc) s (nu_b ng) f_visitCount f_done f_stuck f_curNode f_curEnv f_resultValue f_valueCount f_envCount f_depth a_nKind a_nPart a_nParent a_cNode a_cUp a_cChild a_cInst a_cParam a_queue a_rel a_vKind a_vWord a_vEnv a_vField a_eName a_eValue a_eNext a_fNode a_fEnv a_fPart a_fValue)) ∧ (¬ 2 < nI g → (wX_locate_44 post J (nI P') (nI i) (nI g) 2 f_maxNodes f_maxWeight f_maxVisits f_nodeCount f_sealed f_verdictNow (nI nc) (nI vc) s (nu_b ng) f_visitCount f_done f_stuck f_curNode f_curEnv f_resultValue f_valueCount f_envCount f_depth a_nKind a_nPart a_nParent a_cNode a_cUp a_cChild a_cInst a_cParam a_queue a_rel a_vKind a_vWord a_vEnv a_vField a_eName a_eValue a_eNext a_fNode a_fEnv a_fPart a_fValue)))) ∧ (∀ (bc bx bf : Nat → Int32) (post : Int32 → SY → Prop) (J : Int32 → Int32 → Int32 → Int32 → Int32 → Int32 → Int32 → Int32 → Int32 → Int32 → Int32 → Int32 → Int32 → Int32 → Int32 → Int32 → Int32 → (Nat → Int32) → (Nat → Int32) → (Nat → Int32) → (Nat → Int32) → (Nat → Int32) → (Nat → Int32) → (Nat → Int32) → (Nat → Int32) → (Nat → Int32) → (Nat → Int32) → (Nat → Int32) → (Nat → Int32) → (Nat → Int32) → (Nat → Int32) → (Nat → Int32) → (Nat → Int32) → Prop), wY_walk_76 post J (nI (P' / 8)) (nI i) (nI g) b g_maxNodes g_maxWeight g_maxVisits g_count g_root (nI nc) g_weight g_grown (nu_b ng) g_made g_next g_nextPar g_nextSlot g_nextLex g_stuck b_kinds b_parts b_cNode b_cPar b_cSlot b_le b_saved bc bx bf b_vNode b_vPar b_vSlot b_vLex b_val b_num → ((3 ≤ nI g → (wY_walk_76 post J (nI (P' / 8)) (nI i) (nI g) ((8 : Int32) <<< ((nI g - 3) &&& 31)) g_maxNodes g_maxWeight g_maxVisits g_count g_root (nI nc) g_weight g_grown (nu_b ng) g_made g_next g_nextPar g_nextSlot g_nextLex g_stuck b_kinds b_parts b_cNode b_cPar b_cSlot b_le b_saved bc bx bf b_vNode b_vPar b_vSlot b_vLex b_val b_num)) ∧ (¬ 3 ≤ nI g → (wY_walk_76 post J (nI (P' / 8)) (nI i) (nI g) 2 g_maxNodes g_maxWeight g_maxVisits g_count g_root (nI nc) g_weight g_grown (nu_b ng) g_made g_next g_nextPar g_nextSlot g_nextLex g_stuck b_kinds b_parts b_cNode b_cPar b_cSlot b_le b_saved bc bx bf b_vNode b_vPar b_vSlot b_vLex b_val b_num)))) := by
        by_cases g3 : 3 ≤ g
        · refine ⟨(1 : Int32) <<< (nI g &&& 31), fun s post J H => br_t (by rw [nu_q2 (by omega)]; omega) H, fun bc bx bf post J H => br_t (by rw [nu_g3 (by omega)]; exact g3) ?_⟩
          rw [← bitE g (by omega) g3]; exact H
        · exact ⟨2, fun s post J H => br_f (by rw [nu_q2 (by omega)]; omega) H, fun bc bx bf post J H => br_f (by rw [nu_g3 (by omega)]; exact g3) H⟩
      obtain ⟨b, bX, bY⟩ := need
      -- the entries
      have EX : ∀ (s : Int64) (post : Int32 → SX → Prop), wX_locate_44 post (wX_locate_14 post f_maxNodes f_maxWeight f_maxVisits f_nodeCount f_sealed f_verdictNow (nI nc) (nI vc) f_visitCount f_done f_stuck f_curNode f_curEnv f_resultValue f_valueCount f_envCount f_depth a_nKind a_nPart a_nParent a_cNode a_cUp a_cChild a_cInst a_cParam a_queue a_rel a_vKind a_vWord a_vEnv a_vField a_eName a_eValue a_eNext a_fNode a_fEnv a_fPart a_fValue (f + 1)) (nI P') (nI i) (nI g) b f_maxNodes f_maxWeight f_maxVisits f_nodeCount f_sealed f_verdictNow (nI nc) (nI vc) s (nu_b ng) f_visitCount f_done f_stuck f_curNode f_curEnv f_resultValue f_valueCount f_envCount f_depth a_nKind a_nPart a_nParent a_cNode a_cUp a_cChild a_cInst a_cParam a_queue a_rel a_vKind a_vWord a_vEnv a_vField a_eName a_eValue a_eNext a_fNode a_fEnv a_fPart a_fValue → wX_locate_14 post f_maxNodes f_maxWeight f_maxVisits f_nodeCount f_sealed f_verdictNow (nI nc) (nI vc) f_visitCount f_done f_stuck f_curNode f_curEnv f_resultValue f_valueCount f_envCount f_depth a_nKind a_nPart a_nParent a_cNode a_cUp a_cChild a_cInst a_cParam a_queue a_rel a_vKind a_vWord a_vEnv a_vField a_eName a_eValue a_eNext a_fNode a_fEnv a_fPart a_fValue (f + 1 + 1) (nI P') (nI i) s (nu_b ng) := fun s post H =>
        br_f e11 (br_f (by rw [nu_e0 hP]; exact e0) (nm_r (by rw [ps_and7 hP, eg]) (bX s post _ H)))
      have EY : ∀ (bc bx bf : Nat → Int32) (post : Int32 → SY → Prop), wY_walk_76 post (wY_walk_39 post (f + 1)) (nI (P' / 8)) (nI i) (nI g) b g_maxNodes g_maxWeight g_maxVisits g_count g_root (nI nc) g_weight g_grown (nu_b ng) g_made g_next g_nextPar g_nextSlot g_nextLex g_stuck b_kinds b_parts b_cNode b_cPar b_cSlot b_le b_saved bc bx bf b_vNode b_vPar b_vSlot b_vLex b_val b_num → wY_walk_39 post (f + 1 + 1) (nI P') (nI i) g_maxNodes g_maxWeight g_maxVisits g_count g_root (nI nc) g_weight g_grown (nu_b ng) g_made g_next g_nextPar g_nextSlot g_nextLex g_stuck b_kinds b_parts b_cNode b_cPar b_cSlot b_le b_saved bc bx bf b_vNode b_vPar b_vSlot b_vLex b_val b_num := fun bc bx bf post H =>
        br_f e11 (br_f (by rw [nu_le0 hP]; exact e0) (nm_r (by rw [ps_and7 hP, eg]) (nm_r (ps_s3 hP) (bY bc bx bf post _ H))))
      by_cases hb : (h &&& b) = 0
      · exact ⟨false, Q, ng, h, I, h0, h1, fun s post S hp => EX s post (h1 s s (nu_b ng) _ S (br_t hb (hp s S))), fun bc bx bf post D hp => EY bc bx bf post (h3 bc bx bf _ D (br_t hb (hp bc bx D)))⟩
      · have I' := @ps_step a_nKind a_nPart a_cNode a_cUp a_cChild a_cInst a_cParam a_rel b_le n kd cd pp par nc vc cn cu sb pv W A X T P R Q I ng g hg
        obtain ⟨ok, Q', ng', h', j1, j2, j3, j4, j5⟩ := ih (i + 1) (P' / 8) _ (if g = 1 then !ng else ng) (by omega) (by omega) hm I'
        refine ⟨ok, Q', ng', h', j1, j2, j3, fun s post S hp => EX s post (h1 s s (nu_b ng) _ S (br_f hb ?_)), fun bc bx bf post D hp => EY bc bx bf post (h3 bc bx bf _ D (br_f hb (yw_step W A' Y T hg (fun c _ => ps_h2 P I D c) (fun w _ => ps_h3 P I D w) fun bc' bx' D' => nm_r (nI_1 i) (j5 bc' bx' bf post D' hp))))⟩
        have L101 : ∀ s', ps_X (cl_x nc (fun c => kd (cn c)) pv) (fun y => ∃ c, ps_q nc kd cn sb pp (ps_P b_le Q) (ps_N b_le Q) ng g c y) s' → wX_locate_101 post (wX_locate_14 post f_maxNodes f_maxWeight f_maxVisits f_nodeCount f_sealed f_verdictNow (nI nc) (nI vc) f_visitCount f_done f_stuck f_curNode f_curEnv f_resultValue f_valueCount f_envCount f_depth a_nKind a_nPart a_nParent a_cNode a_cUp a_cChild a_cInst a_cParam a_queue a_rel a_vKind a_vWord a_vEnv a_vField a_eName a_eValue a_eNext a_fNode a_fEnv a_fPart a_fValue (f + 1)) (nI P') (nI i) (nI g) s' f_maxNodes f_maxWeight f_maxVisits f_nodeCount f_sealed f_verdictNow (nI nc) (nI vc) s (nu_b ng) f_visitCount f_done f_stuck f_curNode f_curEnv f_resultValue f_valueCount f_envCount f_depth a_nKind a_nPart a_nParent a_cNode a_cUp a_cChild a_cInst a_cParam a_queue a_rel a_vKind a_vWord a_vEnv a_vField a_eName a_eValue a_eNext a_fNode a_fEnv a_fPart a_fValue := fun s' S' => by
          have H := j4 s' post S' hp
          unfold wX_locate_101
          rw [nu_e1 (by omega), nu_b0, ps_us3 hP]
          refine br_c (fun g1 => br_c (fun z => nm_e (nm_r (nI_1 i) ?_)) (fun z => nm_e (nm_r (nI_1 i) ?_))) (fun g1 => nm_e (nm_r (nI_1 i) ?_))
          · rw [if_pos g1, z] at H; exact H
          · rw [if_pos g1, ts_nf z] at H; exact H
          · rw [if_neg g1] at H; exact H
        cases eng : ng with
        | false =>
          rw [eng] at L101
          refine br_t rfl (xw_sp W A X T P (ps_h1 R I S) hg fun t ht => L101 t fun v => ?_)
          exact ht v
        | true =>
          rw [eng] at L101
          refine br_f (by decide) (xw_above P.2.2.1 fun t ht => xw_sn (pv := pv) W A X T hg (fun w hw => ps_h4 P R I S ht w w (cl_xc hw)) fun t' ht' => L101 t' fun v => ?_)
          exact ht' v
end
end
section
/-! evaluation: the visits, pure -/
def es_u {α : Type} (f : Nat → α) (p : Nat) (x : α) : Nat → α := fun j => if j = p then x else f j
theorem es_us {α : Type} {f : Nat → α} {p : Nat} {x : α} : es_u f p x p = x := if_pos rfl
theorem es_un {α : Type} {f : Nat → α} {p j : Nat} {x : α} (h : j ≠ p) : es_u f p x j = f j := if_neg h
/-- the value given on in slot s of the visit p -/
def es_g (gt : Nat → Nat → Option Nat) (vp : Nat → Option Nat) (vs : Nat → Nat) (p : Nat) (x : Option Nat) : Nat → Nat → Option Nat := fun i s => if vp p = some i ∧ vs p = s then x else gt i s
/-- a child whose value is the node's value -/
def es_tl (k s : Nat) : Bool := (k == 4 && s == 4) || (k == 5 && s == 2) || (k == 9 && (s == 1 || s == 2))
/-- visit j is made for its slot of visit i -/
def es_L (kd : Nat → Nat) (cd : Nat → Nat → Option Nat) (num : Nat → Int32) (vn vs : Nat → Nat) (vl : Nat → Option Nat) (gt : Nat → Nat → Option Nat) (i j : Nat) : Prop :=
  kd (vn i) ≠ 3 ∧
  ((vs j < 4 ∧ cd (vn i) (vs j) = some (vn j) ∧ vl j = some i) ∨ (vs j = 4 ∧ kd (vn i) = 4 ∧ gt i 1 ≠ none ∧ ∃ f, gt i 0 = some f ∧ f < j ∧ kd (vn f) = 3 ∧ cd (vn f) 1 = some (vn j) ∧ vl j = some f)) ∧
  (vs j = 1 → (kd (vn i) = 4 ∨ kd (vn i) = 8) → gt i 0 ≠ none) ∧
  (vs j = 2 → kd (vn i) = 5 → gt i 1 ≠ none) ∧
  ((vs j = 1 ∨ vs j = 2) → kd (vn i) = 9 → ∃ a, gt i 0 = some a ∧ a < j ∧ (kd (vn a) = 1 ∨ kd (vn a) = 8) ∧ (num a = 0 ↔ vs j = 1)) ∧
  (kd (vn i) = 6 → ∀ l, l < vs j → cd (vn i) l ≠ none → gt i l ≠ none)
def es_own (kd vn : Nat → Nat) (va : Nat → Option Nat) (o : Nat) : Prop := va o = some o ∨ kd (vn o) = 6
def es_S (N r : Nat) (kd : Nat → Nat) (cd : Nat → Nat → Option Nat) (TT : Nat → Prop) (num : Nat → Int32) (vn : Nat → Nat) (vp : Nat → Option Nat) (vs : Nat → Nat) (vl va : Nat → Option Nat) (gt : Nat → Nat → Option Nat) (dp : Nat → Nat) : Prop :=
  (0 < N ∧ vn 0 = r ∧ vp 0 = none ∧ vl 0 = none ∧ dp 0 = 0) ∧
  (∀ j, 0 < j → j < N → ∃ i, i < j ∧ vp j = some i ∧ es_L kd cd num vn vs vl gt i j ∧ dp j = if es_tl (kd (vn i)) (vs j) = true then dp i else dp i + 1) ∧
  (∀ j j' i, j < N → j' < N → vp j = some i → vp j' = some i → j < j' → vs j < vs j') ∧
  (∀ j o, j < N → va j = some o → o < N ∧ va o = some o ∧ (kd (vn o) = 1 ∨ kd (vn o) = 3 ∨ kd (vn o) = 6 ∨ kd (vn o) = 8)) ∧
  (∀ j i, j < N → vp j = some i → gt i (vs j) = va j) ∧
  (∀ i s, gt i s ≠ none → ∃ j, j < N ∧ vp j = some i ∧ vs j = s) ∧
  (∀ o, o < N → va o = some o → kd (vn o) = 6 → ∀ l, cd (vn o) l ≠ none → gt o l ≠ none) ∧
  (∀ p, p < N → va p = none → (∀ q, q < p → va q = none → ∃ i, vp p = some i ∧ q ≤ i ∧ dp q ≤ dp p) ∧ (∀ i, vp p = some i → va i = none) ∧ (∀ j i, j < N → vp p = some i → vp j = some i → j ≤ p)) ∧
  (∀ j, j < N → TT (vn j))
section
variable {N r : Nat} {kd : Nat → Nat} {cd : Nat → Nat → Option Nat} {TT : Nat → Prop} {num : Nat → Int32} {vn : Nat → Nat} {vp : Nat → Option Nat} {vs : Nat → Nat} {vl va : Nat → Option Nat} {gt : Nat → Nat → Option Nat} {dp : Nat → Nat}
theorem es_0 (S : es_S N r kd cd TT num vn vp vs vl va gt dp) : 0 < N ∧ vn 0 = r ∧ vp 0 = none ∧ vl 0 = none ∧ dp 0 = 0 := S.1
theorem es_lk (S : es_S N r kd cd TT num vn vp vs vl va gt dp) {j : Nat} (h0 : 0 < j) (h : j < N) : ∃ i, i < j ∧ vp j = some i ∧ es_L kd cd num vn vs vl gt i j ∧ dp j = if es_tl (kd (vn i)) (vs j) = true then dp i else dp i + 1 := S.2.1 j h0 h
theorem es_so (S : es_S N r kd cd TT num vn vp vs vl va gt dp) {j j' i : Nat} (h : j < N) (h' : j' < N) (e : vp j = some i) (e' : vp j' = some i) (es : j < j') : vs j < vs j' := S.2.2.1 j j' i h h' e e' es
theorem es_uq (S : es_S N r kd cd TT num vn vp vs vl va gt dp) {j j' i : Nat} (h : j < N) (h' : j' < N) (e : vp j = some i) (e' : vp j' = some i) (es : vs j = vs j') : j = j' := by
  rcases Nat.lt_trichotomy j j' with z | z | z
  · have := es_so S h h' e e' z; omega
  · exact z
  · have := es_so S h' h e' e z; omega
theorem es_va (S : es_S N r kd cd TT num vn vp vs vl va gt dp) {j o : Nat} (h : j < N) (e : va j = some o) : o < N ∧ va o = some o ∧ (kd (vn o) = 1 ∨ kd (vn o) = 3 ∨ kd (vn o) = 6 ∨ kd (vn o) = 8) := S.2.2.2.1 j o h e
theorem es_gv (S : es_S N r kd cd TT num vn vp vs vl va gt dp) {j i : Nat} (h : j < N) (e : vp j = some i) : gt i (vs j) = va j := S.2.2.2.2.1 j i h e
theorem es_gx (S : es_S N r kd cd TT num vn vp vs vl va gt dp) {i s : Nat} (h : gt i s ≠ none) : ∃ j, j < N ∧ vp j = some i ∧ vs j = s := S.2.2.2.2.2.1 i s h
theorem es_rc (S : es_S N r kd cd TT num vn vp vs vl va gt dp) {o : Nat} (h : o < N) (e : va o = some o) (k : kd (vn o) = 6) {l : Nat} (hl : cd (vn o) l ≠ none) : gt o l ≠ none := S.2.2.2.2.2.2.1 o h e k l hl
theorem es_pd (S : es_S N r kd cd TT num vn vp vs vl va gt dp) {p : Nat} (h : p < N) (e : va p = none) : (∀ q, q < p → va q = none → ∃ i, vp p = some i ∧ q ≤ i ∧ dp q ≤ dp p) ∧ (∀ i, vp p = some i → va i = none) ∧ (∀ j i, j < N → vp p = some i → vp j = some i → j ≤ p) := S.2.2.2.2.2.2.2.1 p h e
theorem es_tt (S : es_S N r kd cd TT num vn vp vs vl va gt dp) {j : Nat} (h : j < N) : TT (vn j) := S.2.2.2.2.2.2.2.2 j h
theorem es_lk' (S : es_S N r kd cd TT num vn vp vs vl va gt dp) {j i : Nat} (h : j < N) (e : vp j = some i) : 0 < j ∧ i < j ∧ es_L kd cd num vn vs vl gt i j ∧ dp j = if es_tl (kd (vn i)) (vs j) = true then dp i else dp i + 1 := by
  have h0 : 0 < j := by
    rcases Nat.eq_zero_or_pos j with z | z
    · subst z; rw [(es_0 S).2.2.1] at e; cases e
    · exact z
  obtain ⟨i', a, b, c⟩ := es_lk S h0 h
  rw [e] at b
  cases b
  exact ⟨h0, a, c⟩
/-- a value got is a value -/
theorem es_gg (S : es_S N r kd cd TT num vn vp vs vl va gt dp) {i s o : Nat} (h : gt i s = some o) : o < N ∧ va o = some o ∧ (kd (vn o) = 1 ∨ kd (vn o) = 3 ∨ kd (vn o) = 6 ∨ kd (vn o) = 8) ∧ i < N := by
  obtain ⟨j, a, b, c⟩ := es_gx S (i := i) (s := s) (by rw [h]; intro z; cases z)
  have e := es_gv S a b
  rw [c, h] at e
  have q := es_va S a e.symm
  have := (es_lk' S a b).2.1
  exact ⟨q.1, q.2.1, q.2.2, by omega⟩
/-- the depth is at most the index -/
theorem es_dp (S : es_S N r kd cd TT num vn vp vs vl va gt dp) : ∀ k j, j < k → j < N → dp j ≤ j := by
  intro k
  induction k with
  | zero => intro j h; omega
  | succ k ih =>
    intro j h hN
    rcases Nat.eq_zero_or_pos j with z | z
    · subst z; rw [(es_0 S).2.2.2.2]; omega
    · obtain ⟨i, a, _, _, e⟩ := es_lk S z hN
      have := ih i (by omega) (by omega)
      split at e <;> omega
theorem es_dpj (S : es_S N r kd cd TT num vn vp vs vl va gt dp) {j : Nat} (h : j < N) : dp j ≤ j := es_dp S (j + 1) j (by omega) h
end
section
variable {N r : Nat} {kd : Nat → Nat} {cd : Nat → Nat → Option Nat} {TT : Nat → Prop} {num : Nat → Int32} {vn : Nat → Nat} {vp : Nat → Option Nat} {vs : Nat → Nat} {vl va : Nat → Option Nat} {gt : Nat → Nat → Option Nat} {dp : Nat → Nat}
theorem es_gm (S : es_S N r kd cd TT num vn vp vs vl va gt dp) {p : Nat} (hp : p < N) (hv : va p = none) {x : Option Nat} {i s o : Nat} (h : gt i s = some o) : es_g gt vp vs p x i s = some o := by
  unfold es_g
  rw [if_neg]
  · exact h
  · rintro ⟨a, b⟩
    have := es_gv S hp a
    rw [b, h, hv] at this
    cases this
theorem es_gm' (S : es_S N r kd cd TT num vn vp vs vl va gt dp) {p : Nat} (hp : p < N) (hv : va p = none) {x : Option Nat} {i s : Nat} (h : gt i s ≠ none) : es_g gt vp vs p x i s ≠ none := by
  cases e : gt i s with
  | none => exact absurd e h
  | some o => rw [es_gm S hp hv e]; intro z; cases z
/-- a link lasts when a value comes -/
theorem es_Ls (S : es_S N r kd cd TT num vn vp vs vl va gt dp) {p : Nat} (hp : p < N) (hv : va p = none) {x : Option Nat} {num' : Nat → Int32} (hn : ∀ a, a ≠ p → num' a = num a) {i j : Nat} (h : es_L kd cd num vn vs vl gt i j) : es_L kd cd num' vn vs vl (es_g gt vp vs p x) i j := by
  obtain ⟨h1, h2, h3, h4, h5, h6⟩ := h
  refine ⟨h1, ?_, fun a b => es_gm' S hp hv (h3 a b), fun a b => es_gm' S hp hv (h4 a b), fun a b => ?_, fun a l b c => es_gm' S hp hv (h6 a l b c)⟩
  · rcases h2 with h2 | ⟨a, b, c, f, d, e⟩
    · exact Or.inl h2
    · exact Or.inr ⟨a, b, es_gm' S hp hv c, f, es_gm S hp hv d, e⟩
  · obtain ⟨v, c, d, e, f⟩ := h5 a b
    have hvp : v ≠ p := fun z => by
      have := (es_gg S c).2.1
      rw [z, hv] at this
      cases this
    exact ⟨v, es_gm S hp hv c, d, e, by rw [hn v hvp]; exact f⟩
/-- the top pending visit p gets the value o -/
theorem es_set (S : es_S N r kd cd TT num vn vp vs vl va gt dp) {p o : Nat} (hp : p < N) (hv : va p = none) (ht : ∀ q, q < N → va q = none → q ≤ p) {num' : Nat → Int32} (hn : ∀ a, a ≠ p → num' a = num a) (ho : (o = p ∧ (kd (vn p) = 1 ∨ kd (vn p) = 3 ∨ kd (vn p) = 6 ∨ kd (vn p) = 8) ∧ (kd (vn p) = 6 → ∀ l, cd (vn p) l ≠ none → gt p l ≠ none)) ∨ (o < N ∧ va o = some o)) : es_S N r kd cd TT num' vn vp vs vl (es_u va p (some o)) (es_g gt vp vs p (some o)) dp := by
  have hop : ∀ j, va j = some j → j ≠ p := fun j e z => by rw [z, hv] at e; cases e
  refine ⟨es_0 S, fun j h0 hj => ?_, S.2.2.1, fun j w hj e => ?_, fun j i hj e => ?_, fun i s h => ?_, fun w hw e k l hl => ?_, fun q hq e => ?_, S.2.2.2.2.2.2.2.2⟩
  · obtain ⟨i, a, b, c, d⟩ := es_lk S h0 hj
    exact ⟨i, a, b, es_Ls S hp hv hn c, d⟩
  · by_cases z : j = p
    · rw [z, es_us] at e
      cases e
      rcases ho with ⟨e1, e2, _⟩ | ⟨e1, e2⟩
      · subst e1; exact ⟨hp, es_us, e2⟩
      · exact ⟨e1, by rw [es_un (hop _ e2)]; exact e2, (es_va S e1 e2).2.2⟩
    · rw [es_un z] at e
      have q := es_va S hj e
      exact ⟨q.1, by rw [es_un (hop w q.2.1)]; exact q.2.1, q.2.2⟩
  · unfold es_g
    by_cases z : j = p
    · subst z; rw [es_us, if_pos ⟨e, rfl⟩]
    · rw [es_un z, if_neg]
      · exact es_gv S hj e
      · rintro ⟨a, b⟩
        exact z (es_uq S hj hp e a b.symm)
  · unfold es_g at h
    split at h
    · next z => exact ⟨p, hp, z.1, z.2⟩
    · exact es_gx S h
  · by_cases z : w = p
    · rw [z, es_us] at e
      cases e
      subst z
      rcases ho with ⟨_, _, e3⟩ | ⟨e1, e2⟩
      · exact es_gm' S hp hv (e3 k l hl)
      · rw [hv] at e2; cases e2
    · rw [es_un z] at e
      exact es_gm' S hp hv (es_rc S hw e k hl)
  · have z : q ≠ p := fun z => by rw [z, es_us] at e; cases e
    rw [es_un z] at e
    have w := es_pd S hq e
    refine ⟨fun q' hq' e' => w.1 q' hq' ?_, fun i ei => ?_, w.2.2⟩
    · have z' : q' ≠ p := fun z => by rw [z, es_us] at e'; cases e'
      rwa [es_un z'] at e'
    · have := ht q hq e
      have := (es_lk' S hq ei).2.1
      rw [es_un (by omega)]
      exact w.2.1 i ei
/-- a further visit below the top pending visit p -/
theorem es_new (S : es_S N r kd cd TT num vn vp vs vl va gt dp) {p m s d : Nat} {u : Option Nat} (hp : p < N) (hv : va p = none) (ht : ∀ q, q < N → va q = none → q ≤ p ∧ dp q ≤ dp p) (hs : ∀ j, j < N → vp j = some p → vs j < s) (hT : TT m) (hd : d = if es_tl (kd (vn p)) s = true then dp p else dp p + 1) (hg : gt p s = none)
    (hL : es_L kd cd num (es_u vn N m) (es_u vs N s) (es_u vl N u) gt p N) : es_S (N + 1) r kd cd TT num (es_u vn N m) (es_u vp N (some p)) (es_u vs N s) (es_u vl N u) (es_u va N none) gt (es_u dp N d) := by
  have h0 := es_0 S
  have C : ∀ j, j < N + 1 → j ≠ N → j < N := fun j a b => by omega
  have LL : ∀ i j, i < j → j < N → es_L kd cd num vn vs vl gt i j → es_L kd cd num (es_u vn N m) (es_u vs N s) (es_u vl N u) gt i j := fun i j hi hj h => by
    unfold es_L at h ⊢
    rw [es_un (show i ≠ N by omega), es_un (show j ≠ N by omega), es_un (show j ≠ N by omega), es_un (show j ≠ N by omega)]
    obtain ⟨h1, h2, h3, h4, h5, h6⟩ := h
    refine ⟨h1, ?_, h3, h4, fun a b => ?_, h6⟩
    · rcases h2 with h2 | ⟨a, b, c, f, d, e, k⟩
      · exact Or.inl h2
      · exact Or.inr ⟨a, b, c, f, d, e, by rw [es_un (show f ≠ N by omega)]; exact k⟩
    · obtain ⟨v, c, d, e⟩ := h5 a b
      exact ⟨v, c, d, by rw [es_un (show v ≠ N by omega)]; exact e⟩
  refine ⟨⟨by omega, by rw [es_un (by omega)]; exact h0.2.1, by rw [es_un (by omega)]; exact h0.2.2.1, by rw [es_un (by omega)]; exact h0.2.2.2.1, by rw [es_un (by omega)]; exact h0.2.2.2.2⟩, fun j hj0 hj => ?_, fun j j' i hj hj' e e' ee => ?_, fun j o hj e => ?_, fun j i hj e => ?_, fun i s' h => ?_, fun o ho e k l hl => ?_, fun q hq e => ?_, fun j hj => ?_⟩
  · by_cases z : j = N
    · subst z
      exact ⟨p, hp, es_us, hL, by rw [es_us, es_us, es_un (show p ≠ j by omega), es_un (show p ≠ j by omega)]; exact hd⟩
    · obtain ⟨i, a, b, c, e⟩ := es_lk S hj0 (C j hj z)
      exact ⟨i, a, by rw [es_un z]; exact b, LL i j a (C j hj z) c, by rw [es_un z, es_un z, es_un (show i ≠ N by omega), es_un (show i ≠ N by omega)]; exact e⟩
  · by_cases z : j = N
    · omega
    · by_cases z' : j' = N
      · rw [z', es_us] at e'
        cases e'
        rw [es_un z] at e
        rw [z', es_us, es_un z]
        exact hs j (C j hj z) e
      · rw [es_un z] at e
        rw [es_un z'] at e'
        rw [es_un z, es_un z']
        exact es_so S (C j hj z) (C j' hj' z') e e' ee
  · by_cases z : j = N
    · rw [z, es_us] at e; cases e
    · rw [es_un z] at e
      have q := es_va S (C j hj z) e
      rw [es_un (show o ≠ N by omega), es_un (show o ≠ N by omega)]
      exact ⟨by omega, q.2⟩
  · by_cases z : j = N
    · rw [z, es_us] at e
      cases e
      rw [z, es_us, es_us]; exact hg
    · rw [es_un z] at e
      rw [es_un z, es_un z]; exact es_gv S (C j hj z) e
  · obtain ⟨j, a, b, c⟩ := es_gx S h
    exact ⟨j, by omega, by rw [es_un (show j ≠ N by omega)]; exact b, by rw [es_un (show j ≠ N by omega)]; exact c⟩
  · by_cases z : o = N
    · rw [z, es_us] at e; cases e
    · rw [es_un z] at e k hl
      exact es_rc S (C o ho z) e k hl
  · by_cases z : q = N
    · subst z
      refine ⟨fun q' hq' e' => ⟨p, es_us, ?_⟩, fun i ei => ?_, fun j i hj _ _ => by omega⟩
      · rw [es_un (show q' ≠ q by omega)] at e'
        have := ht q' hq' e'
        rw [es_us, es_un (show q' ≠ q by omega)]
        split at hd <;> omega
      · rw [es_us] at ei
        cases ei
        rw [es_un (show p ≠ q by omega)]; exact hv
    · rw [es_un z] at e
      have w := es_pd S (C q hq z) e
      have hqN := C q hq z
      refine ⟨fun q' hq' e' => ?_, fun i ei => ?_, fun j i hj ei ej => ?_⟩
      · rw [es_un (show q' ≠ N by omega)] at e'
        rw [es_un z, es_un z, es_un (show q' ≠ N by omega)]
        exact w.1 q' hq' e'
      · rw [es_un z] at ei
        have := (es_lk' S hqN ei).2.1
        rw [es_un (show i ≠ N by omega)]
        exact w.2.1 i ei
      · rw [es_un z] at ei
        by_cases zj : j = N
        · rw [zj, es_us] at ej
          cases ej
          have := (es_lk' S hqN ei).2.1
          have := (ht q hqN e).1
          omega
        · rw [es_un zj] at ej
          exact w.2.2 j i (C j hj zj) ei ej
  · by_cases z : j = N
    · rw [z, es_us]; exact hT
    · rw [es_un z]; exact es_tt S (C j hj z)
end
end
section
/-! evaluation: X's cells, values, frames against the visits -/
def es_E (N : Nat) (kd : Nat → Nat) (pp : Nat → Int32) (vn : Nat → Nat) (vp : Nat → Option Nat) (vs : Nat → Nat) (vl : Nat → Option Nat) (gt : Nat → Nat → Option Nat) (ev : Nat → Option Nat) (xv : Nat → Nat) (ec : Nat) (eN eV eX : Nat → Int32) : Prop :=
  (∀ j, j < N → nu_lt (ev j) ec) ∧ (∀ j, j < N → vl j = none → ev j = none) ∧ ∀ j u, j < N → vl j = some u →
    (kd (vn u) = 3 → ∃ e i o, ev j = some e ∧ nu_lt (ev u) e ∧ eN e = pp (4 * vn u) ∧ eX e = nu_o (ev u) ∧ vp j = some i ∧ gt i 1 = some o ∧ eV e = nI (xv o)) ∧
    (kd (vn u) = 5 → vs j = 2 → ∃ e o, ev j = some e ∧ nu_lt (ev u) e ∧ eN e = pp (4 * vn u) ∧ eX e = nu_o (ev u) ∧ gt u 1 = some o ∧ eV e = nI (xv o)) ∧
    (kd (vn u) ≠ 3 → ¬ (kd (vn u) = 5 ∧ vs j = 2) → ev j = ev u)
def es_V (M : Nat) (kd vn : Nat → Nat) (va : Nat → Option Nat) (gt : Nat → Nat → Option Nat) (ev : Nat → Option Nat) (xv : Nat → Nat) (vc : Nat) (vK vW vE vF num : Nat → Int32) : Prop :=
  vc ≤ kc_n (es_own kd vn va) M ∧
  (∀ o, o < M → es_own kd vn va o → xv o < vc) ∧
  (∀ o o', o < M → o' < M → es_own kd vn va o → es_own kd vn va o' → xv o = xv o' → o = o') ∧
  (∀ o, o < M → va o = some o → ((kd (vn o) = 1 ∨ kd (vn o) = 8) → vK (xv o) = 1 ∧ vW (xv o) = num o) ∧ (kd (vn o) = 3 → vK (xv o) = 3 ∧ vW (xv o) = nI (vn o) ∧ vE (xv o) = nu_o (ev o))) ∧
  (∀ o, o < M → kd (vn o) = 6 → vK (xv o) = 6 ∧ vW (xv o) = nI (vn o) ∧ ∀ l, l < 4 → vF (4 * xv o + l) = nu_o ((gt o l).map xv))
/-- X's frame of visit i while its slot s is under way -/
def es_f (kd vn : Nat → Nat) (gt : Nat → Nat → Option Nat) (ev : Nat → Option Nat) (xv dp : Nat → Nat) (fN fE fP fV : Nat → Int32) (i s : Nat) : Prop :=
  fN (dp i) = nI (vn i) ∧ fE (dp i) = nu_o (ev i) ∧ ((kd (vn i) = 4 ∨ kd (vn i) = 8) → fP (dp i) = nI s ∧ (s = 1 → ∃ o, gt i 0 = some o ∧ fV (dp i) = nI (xv o))) ∧ (kd (vn i) = 6 → fP (dp i) = nI s ∧ fV (dp i) = nI (xv i))
def es_F (N : Nat) (kd vn : Nat → Nat) (vp : Nat → Option Nat) (vs : Nat → Nat) (va : Nat → Option Nat) (gt : Nat → Nat → Option Nat) (ev : Nat → Option Nat) (xv dp : Nat → Nat) (fN fE fP fV : Nat → Int32) : Prop :=
  ∀ j i, j < N → va j = none → vp j = some i → es_tl (kd (vn i)) (vs j) = false → es_f kd vn gt ev xv dp fN fE fP fV i (vs j)
section
variable {N M r : Nat} {kd : Nat → Nat} {cd : Nat → Nat → Option Nat} {pp : Nat → Int32} {TT : Nat → Prop} {num : Nat → Int32} {vn : Nat → Nat} {vp : Nat → Option Nat} {vs : Nat → Nat} {vl va : Nat → Option Nat} {gt : Nat → Nat → Option Nat} {dp : Nat → Nat} {ev : Nat → Option Nat} {xv : Nat → Nat} {ec vc : Nat} {eN eV eX vK vW vE vF fN fE fP fV : Nat → Int32}
theorem es_lx (S : es_S N r kd cd TT num vn vp vs vl va gt dp) {j u : Nat} (hj : j < N) (h : vl j = some u) : u < j := by
  rcases Nat.eq_zero_or_pos j with z | z
  · subst z; rw [(es_0 S).2.2.2.1] at h; cases h
  · obtain ⟨i, a, _, c, _⟩ := es_lk S z hj
    rcases c.2.1 with ⟨_, _, d⟩ | ⟨_, _, _, f, _, e, _, _, d⟩
    · rw [h] at d; cases d; exact a
    · rw [h] at d; cases d; exact e
/-- environments last: more values, other numbers of values -/
theorem es_Eg {gt' : Nat → Nat → Option Nat} {xv' : Nat → Nat} (E : es_E N kd pp vn vp vs vl gt ev xv ec eN eV eX) (hg : ∀ i s o, gt i s = some o → gt' i s = some o) (hx : ∀ i s o, gt i s = some o → xv' o = xv o) : es_E N kd pp vn vp vs vl gt' ev xv' ec eN eV eX := by
  refine ⟨E.1, E.2.1, fun j u hj e => ⟨fun k => ?_, fun k s => ?_, (E.2.2 j u hj e).2.2⟩⟩
  · obtain ⟨c, i, o, h1, h2, h3, h4, h5, h6, h7⟩ := (E.2.2 j u hj e).1 k
    exact ⟨c, i, o, h1, h2, h3, h4, h5, hg _ _ _ h6, by rw [hx _ _ _ h6]; exact h7⟩
  · obtain ⟨c, o, h1, h2, h3, h4, h5, h6⟩ := (E.2.2 j u hj e).2.1 k s
    exact ⟨c, o, h1, h2, h3, h4, hg _ _ _ h5, by rw [hx _ _ _ h5]; exact h6⟩
/-- a further visit's environment -/
theorem es_En (S : es_S N r kd cd TT num vn vp vs vl va gt dp) (E : es_E N kd pp vn vp vs vl gt ev xv ec eN eV eX) {m s p ec' u : Nat} {e' : Option Nat} {eN' eV' eX' : Nat → Int32} (hu : u < N) (hec : ec ≤ ec') (he' : nu_lt e' ec') (h1 : ∀ c, c < ec → eN' c = eN c ∧ eV' c = eV c ∧ eX' c = eX c)
    (k3 : kd (vn u) = 3 → ∃ e o, e' = some e ∧ nu_lt (ev u) e ∧ eN' e = pp (4 * vn u) ∧ eX' e = nu_o (ev u) ∧ gt p 1 = some o ∧ eV' e = nI (xv o))
    (k5 : kd (vn u) = 5 → s = 2 → ∃ e o, e' = some e ∧ nu_lt (ev u) e ∧ eN' e = pp (4 * vn u) ∧ eX' e = nu_o (ev u) ∧ gt u 1 = some o ∧ eV' e = nI (xv o))
    (k0 : kd (vn u) ≠ 3 → ¬ (kd (vn u) = 5 ∧ s = 2) → e' = ev u) :
    es_E (N + 1) kd pp (es_u vn N m) (es_u vp N (some p)) (es_u vs N s) (es_u vl N (some u)) gt (es_u ev N e') xv ec' eN' eV' eX' := by
  refine ⟨fun j hj => ?_, fun j hj z => ?_, fun j v hj e => ?_⟩
  · by_cases z : j = N
    · rw [z, es_us]; exact he'
    · rw [es_un z]; exact nu_ltm (E.1 j (by omega)) hec
  · by_cases w : j = N
    · rw [w, es_us] at z; cases z
    · rw [es_un w] at z
      rw [es_un w]; exact E.2.1 j (by omega) z
  · by_cases z : j = N
    · subst z
      rw [es_us] at e
      cases e
      rw [es_us, es_us, es_us, es_un (show u ≠ j by omega), es_un (show u ≠ j by omega)]
      refine ⟨fun k => ?_, k5, k0⟩
      obtain ⟨e, o, q⟩ := k3 k
      exact ⟨e, p, o, q.1, q.2.1, q.2.2.1, q.2.2.2.1, rfl, q.2.2.2.2⟩
    · rw [es_un z] at e
      have hv := es_lx S (show j < N by omega) e
      rw [es_un z, es_un z, es_un z, es_un (show v ≠ N by omega), es_un (show v ≠ N by omega)]
      have q := E.2.2 j v (by omega) e
      refine ⟨fun k => ?_, fun k w => ?_, q.2.2⟩
      · obtain ⟨c, i, o, a1, a2, a3, a4, a5⟩ := q.1 k
        have hc := h1 c (E.1 j (by omega) c a1)
        exact ⟨c, i, o, a1, a2, by rw [hc.1]; exact a3, by rw [hc.2.2]; exact a4, by rw [hc.2.1]; exact a5⟩
      · obtain ⟨c, o, a1, a2, a3, a4, a5⟩ := q.2.1 k w
        have hc := h1 c (E.1 j (by omega) c a1)
        exact ⟨c, o, a1, a2, by rw [hc.1]; exact a3, by rw [hc.2.2]; exact a4, by rw [hc.2.1]; exact a5⟩
/-- values: the records' fields alone look at gt -/
theorem es_Vg {gt' : Nat → Nat → Option Nat} (V : es_V M kd vn va gt ev xv vc vK vW vE vF num) (h : ∀ o l, o < M → kd (vn o) = 6 → l < 4 → gt' o l = gt o l) : es_V M kd vn va gt' ev xv vc vK vW vE vF num :=
  ⟨V.1, V.2.1, V.2.2.1, V.2.2.2.1, fun o ho k => ⟨(V.2.2.2.2 o ho k).1, (V.2.2.2.2 o ho k).2.1, fun l hl => by rw [h o l ho k hl]; exact (V.2.2.2.2 o ho k).2.2 l hl⟩⟩
theorem es_Vn {num' : Nat → Int32} (V : es_V M kd vn va gt ev xv vc vK vW vE vF num) (h : ∀ o, o < M → va o = some o → num' o = num o) : es_V M kd vn va gt ev xv vc vK vW vE vF num' :=
  ⟨V.1, V.2.1, V.2.2.1, fun o ho e => ⟨fun k => by rw [h o ho e]; exact (V.2.2.2.1 o ho e).1 k, (V.2.2.2.1 o ho e).2⟩, V.2.2.2.2⟩
/-- a field of a record is written -/
theorem es_Vf {gt' : Nat → Nat → Option Nat} {p s w : Nat} (V : es_V M kd vn va gt ev xv vc vK vW vE vF num) (hp : p < M) (k6 : kd (vn p) = 6) (hs : s < 4) (hw : gt' p s = some w) (h : ∀ o l, o < M → kd (vn o) = 6 → l < 4 → ¬ (o = p ∧ l = s) → gt' o l = gt o l) : es_V M kd vn va gt' ev xv vc vK vW vE (upd vF (4 * xv p + s) (nI (xv w))) num := by
  refine ⟨V.1, V.2.1, V.2.2.1, V.2.2.2.1, fun o ho k => ⟨(V.2.2.2.2 o ho k).1, (V.2.2.2.2 o ho k).2.1, fun l hl => ?_⟩⟩
  by_cases z : o = p ∧ l = s
  · rw [z.1, z.2, pk_us, hw]; rfl
  · rw [h o l ho k hl z, pk_un]
    · exact (V.2.2.2.2 o ho k).2.2 l hl
    · intro e
      have e1 : xv o = xv p := by omega
      have := V.2.2.1 o p ho hp (Or.inr k) (Or.inr k6) e1
      exact z ⟨this, by omega⟩
/-- the value of another visit -/
theorem es_V0 {p o : Nat} (V : es_V M kd vn va gt ev xv vc vK vW vE vF num) (hp : va p = none) (hop : o ≠ p) : es_V M kd vn (es_u va p (some o)) gt ev xv vc vK vW vE vF num := by
  have O : ∀ w, es_own kd vn (es_u va p (some o)) w ↔ es_own kd vn va w := fun w => by
    unfold es_own
    by_cases z : w = p
    · rw [z, es_us, hp]
      exact ⟨fun q => q.elim (fun q => by cases q; exact absurd rfl hop) Or.inr, fun q => q.elim (fun q => by cases q) Or.inr⟩
    · rw [es_un z]
  have e : es_own kd vn (es_u va p (some o)) = es_own kd vn va := funext fun w => propext (O w)
  unfold es_V
  rw [e]
  refine ⟨V.1, V.2.1, V.2.2.1, fun w hw ew => ?_, V.2.2.2.2⟩
  by_cases z : w = p
  · rw [z, es_us] at ew; cases ew; exact absurd rfl hop
  · rw [es_un z] at ew; exact V.2.2.2.1 w hw ew
/-- a record is complete -/
theorem es_V6 {p : Nat} (V : es_V M kd vn va gt ev xv vc vK vW vE vF num) (hp : va p = none) (k6 : kd (vn p) = 6) : es_V M kd vn (es_u va p (some p)) gt ev xv vc vK vW vE vF num := by
  have O : ∀ w, es_own kd vn (es_u va p (some p)) w ↔ es_own kd vn va w := fun w => by
    unfold es_own
    by_cases z : w = p
    · rw [z]; exact ⟨fun _ => Or.inr k6, fun _ => Or.inr k6⟩
    · rw [es_un z]
  have e : es_own kd vn (es_u va p (some p)) = es_own kd vn va := funext fun w => propext (O w)
  unfold es_V
  rw [e]
  refine ⟨V.1, V.2.1, V.2.2.1, fun w hw ew => ?_, V.2.2.2.2⟩
  by_cases z : w = p
  · rw [z, k6]; exact ⟨fun q => by omega, fun q => by omega⟩
  · rw [es_un z] at ew; exact V.2.2.2.1 w hw ew
/-- a visit that makes nothing yet -/
theorem es_Vm (V : es_V M kd vn va gt ev xv vc vK vW vE vF num) (h1 : va M = none) (h6 : kd (vn M) ≠ 6) : es_V (M + 1) kd vn va gt ev xv vc vK vW vE vF num := by
  have no : ¬ es_own kd vn va M := fun z => z.elim (fun z => by rw [h1] at z; cases z) h6
  have C : ∀ o, o < M + 1 → es_own kd vn va o → o < M := fun o ho z => by
    rcases Nat.lt_or_ge o M with w | w
    · exact w
    · have : o = M := by omega
      subst this; exact absurd z no
  refine ⟨?_, fun o ho w => V.2.1 o (C o ho w) w, fun o o' ho ho' w w' => V.2.2.1 o o' (C o ho w) (C o' ho' w') w w', fun o ho e => V.2.2.2.1 o (C o ho (Or.inl e)) e, fun o ho k => V.2.2.2.2 o (C o ho (Or.inr k)) k⟩
  have := V.1
  simp only [kc_n]
  omega
/-- a new value, of the visit p -/
theorem es_Va {p : Nat} {va' : Nat → Option Nat} {vK' vW' vE' vF' num' : Nat → Int32} {M' : Nat} (V : es_V M kd vn va gt ev xv vc vK vW vE vF num) (hM : M ≤ M') (hp : p < M') (hno : p < M → ¬ es_own kd vn va p) (hO : ∀ o, o < M' → (es_own kd vn va' o ↔ (o < M ∧ es_own kd vn va o) ∨ o = p)) (hva : ∀ o, o ≠ p → va' o = va o) (hnum : ∀ o, o ≠ p → num' o = num o)
    (hg : ∀ o l w, gt o l = some w → w ≠ p) (hA : ∀ c, c < vc → vK' c = vK c ∧ vW' c = vW c ∧ vE' c = vE c ∧ ∀ l, l < 4 → vF' (4 * c + l) = vF (4 * c + l))
    (h4 : va' p = some p → ((kd (vn p) = 1 ∨ kd (vn p) = 8) → vK' vc = 1 ∧ vW' vc = num' p) ∧ (kd (vn p) = 3 → vK' vc = 3 ∧ vW' vc = nI (vn p) ∧ vE' vc = nu_o (ev p)))
    (h5 : kd (vn p) = 6 → vK' vc = 6 ∧ vW' vc = nI (vn p) ∧ ∀ l, l < 4 → vF' (4 * vc + l) = -1 ∧ gt p l = none) :
    es_V M' kd vn va' gt ev (es_u xv p vc) (vc + 1) vK' vW' vE' vF' num' ∧ vc < M' := by
  have own_p : es_own kd vn va' p := (hO p hp).mpr (Or.inr rfl)
  have hold : ∀ o, o < M' → o ≠ p → es_own kd vn va' o → o < M ∧ es_own kd vn va o := fun o ho z w => ((hO o ho).mp w).elim id (fun e => absurd e z)
  have mpx : ∀ o l, (gt o l).map (es_u xv p vc) = (gt o l).map xv := fun o l => by
    cases e : gt o l with
    | none => rfl
    | some w => exact congrArg some (es_un (hg o l w e))
  have cnt : kc_n (es_own kd vn va) M < kc_n (es_own kd vn va') M' := by
    have a : kc_n (es_own kd vn va) M ≤ kc_n (fun o => o < M ∧ es_own kd vn va o) M' := by
      obtain ⟨d, rfl⟩ : ∃ d, M' = M + d := ⟨M' - M, by omega⟩
      have e1 : kc_n (es_own kd vn va) M ≤ kc_n (fun o => o < M ∧ es_own kd vn va o) M := kc_m fun o ho w => ⟨ho, w⟩
      have e2 : ∀ d, kc_n (fun o => o < M ∧ es_own kd vn va o) M ≤ kc_n (fun o => o < M ∧ es_own kd vn va o) (M + d) := fun d => by
        induction d with
        | zero => exact Nat.le_refl _
        | succ d ih => exact Nat.le_trans ih (Nat.le_add_right _ _)
      exact Nat.le_trans e1 (e2 d)
    have b : kc_n (fun o => o < M ∧ es_own kd vn va o) M' < kc_n (es_own kd vn va') M' := kc_lt (a := p) (fun z => hno z.1 z.2) own_p (fun o ho w => (hO o ho).mpr (Or.inl w)) hp
    omega
  have h1 := V.1
  have hle := kc_le (es_own kd vn va') M'
  refine ⟨⟨by omega, fun o ho w => ?_, fun o o' ho ho' w w' e => ?_, fun o ho e => ?_, fun o ho k => ?_⟩, by omega⟩
  · by_cases z : o = p
    · rw [z, es_us]; omega
    · have q := hold o ho z w
      have := V.2.1 o q.1 q.2
      rw [es_un z]; omega
  · by_cases z : o = p
    · by_cases z' : o' = p
      · omega
      · have q := hold o' ho' z' w'
        have := V.2.1 o' q.1 q.2
        rw [z, es_us, es_un z'] at e; omega
    · have q := hold o ho z w
      have l := V.2.1 o q.1 q.2
      by_cases z' : o' = p
      · rw [z', es_us, es_un z] at e; omega
      · have q' := hold o' ho' z' w'
        rw [es_un z, es_un z'] at e
        exact V.2.2.1 o o' q.1 q'.1 q.2 q'.2 e
  · by_cases z : o = p
    · subst z; rw [es_us]; exact h4 e
    · have q := hold o ho z (Or.inl e)
      rw [hva o z] at e
      have a := hA _ (V.2.1 o q.1 q.2)
      rw [es_un z, a.1, a.2.1, a.2.2.1, hnum o z]
      exact V.2.2.2.1 o q.1 e
  · by_cases z : o = p
    · subst z
      rw [es_us]
      refine ⟨(h5 k).1, (h5 k).2.1, fun l hl => ?_⟩
      rw [((h5 k).2.2 l hl).2]; exact ((h5 k).2.2 l hl).1
    · have q := hold o ho z (Or.inr k)
      have a := hA _ (V.2.1 o q.1 q.2)
      have b := V.2.2.2.2 o q.1 k
      rw [es_un z, a.1, a.2.1]
      refine ⟨b.1, b.2.1, fun l hl => ?_⟩
      rw [a.2.2.2 l hl, mpx]; exact b.2.2 l hl
/-- a frame lasts -/
theorem es_fg {gt' : Nat → Nat → Option Nat} {xv' : Nat → Nat} {fN' fE' fP' fV' : Nat → Int32} {i s : Nat} (h : es_f kd vn gt ev xv dp fN fE fP fV i s) (hg : ∀ o, gt i 0 = some o → gt' i 0 = some o ∧ xv' o = xv o) (hx : kd (vn i) = 6 → xv' i = xv i) (hf : fN' (dp i) = fN (dp i) ∧ fE' (dp i) = fE (dp i) ∧ fP' (dp i) = fP (dp i) ∧ fV' (dp i) = fV (dp i)) : es_f kd vn gt' ev xv' dp fN' fE' fP' fV' i s := by
  refine ⟨by rw [hf.1]; exact h.1, by rw [hf.2.1]; exact h.2.1, fun k => ⟨by rw [hf.2.2.1]; exact (h.2.2.1 k).1, fun hs => ?_⟩, fun k => ⟨by rw [hf.2.2.1]; exact (h.2.2.2 k).1, by rw [hf.2.2.2, hx k]; exact (h.2.2.2 k).2⟩⟩
  obtain ⟨o, a, b⟩ := (h.2.2.1 k).2 hs
  exact ⟨o, (hg o a).1, by rw [hf.2.2.2, (hg o a).2]; exact b⟩
/-- frames last when a value comes -/
theorem es_Fg {va' : Nat → Option Nat} {gt' : Nat → Nat → Option Nat} {xv' : Nat → Nat} (F : es_F N kd vn vp vs va gt ev xv dp fN fE fP fV) (hva : ∀ j, j < N → va' j = none → va j = none) (hg : ∀ i s o, gt i s = some o → gt' i s = some o ∧ xv' o = xv o) (hx : ∀ i, kd (vn i) = 6 → i < N → xv' i = xv i) (hlt : ∀ j i, j < N → vp j = some i → i < N) : es_F N kd vn vp vs va' gt' ev xv' dp fN fE fP fV :=
  fun j i hj h1 h2 h3 => es_fg (F j i hj (hva j hj h1) h2 h3) (fun o e => hg i 0 o e) (fun k => hx i k (hlt j i hj h2)) ⟨rfl, rfl, rfl, rfl⟩
/-- the frames below the top pending visit lie below its depth -/
theorem es_fl (S : es_S N r kd cd TT num vn vp vs vl va gt dp) {p j i : Nat} (hp : p < N) (hv : va p = none) (ht : ∀ q, q < N → va q = none → q ≤ p) (hj : j < N) (hj1 : va j = none) (e : vp j = some i) (h : es_tl (kd (vn i)) (vs j) = false) : dp i < dp p := by
  have a := (es_lk' S hj e).2.2.2
  rw [h, if_neg (by intro z; cases z)] at a
  have b := ht j hj hj1
  rcases Nat.eq_or_lt_of_le b with z | z
  · subst z; omega
  · obtain ⟨_, _, _, q⟩ := (es_pd S hp hv).1 j z hj1
    omega
/-- a further visit below the top pending visit p -/
theorem es_Fn (S : es_S N r kd cd TT num vn vp vs vl va gt dp) (F : es_F N kd vn vp vs va gt ev xv dp fN fE fP fV) {p m s d : Nat} {e' : Option Nat} {fN' fE' fP' fV' : Nat → Int32} (hp : p < N) (hv : va p = none) (ht : ∀ q, q < N → va q = none → q ≤ p) (hf : ∀ c, c < dp p → fN' c = fN c ∧ fE' c = fE c ∧ fP' c = fP c ∧ fV' c = fV c) (h : es_tl (kd (vn p)) s = false → es_f kd vn gt ev xv dp fN' fE' fP' fV' p s) :
    es_F (N + 1) kd (es_u vn N m) (es_u vp N (some p)) (es_u vs N s) (es_u va N none) gt (es_u ev N e') xv (es_u dp N d) fN' fE' fP' fV' := by
  have U : ∀ i s, i < N → es_f kd vn gt ev xv dp fN' fE' fP' fV' i s → es_f kd (es_u vn N m) gt (es_u ev N e') xv (es_u dp N d) fN' fE' fP' fV' i s := fun i s hi q => by
    unfold es_f at q ⊢
    rw [es_un (show i ≠ N by omega), es_un (show i ≠ N by omega), es_un (show i ≠ N by omega)]
    exact q
  intro j i hj h1 h2 h3
  by_cases z : j = N
  · subst z
    rw [es_us] at h2
    cases h2
    rw [es_us, es_un (show p ≠ j by omega)] at h3
    rw [es_us]
    exact U p s hp (h h3)
  · have hjN : j < N := by omega
    rw [es_un z] at h1 h2 h3
    have hi := (es_lk' S hjN h2).2.1
    rw [es_un (show i ≠ N by omega)] at h3
    rw [es_un z]
    exact U i _ (by omega) (es_fg (F j i hjN h1 h2 h3) (fun o e => ⟨e, rfl⟩) (fun _ => rfl) (hf _ (es_fl S hp hv ht hjN h1 h2 h3)))
end
end
section
/-! evaluation: Y's questions -/
def es_A (M : Nat) (vn : Nat → Nat) (vp : Nat → Option Nat) (vs : Nat → Nat) (vl va : Nat → Option Nat) (bN bP bS bL bV : Nat → Int32) : Prop := ∀ j, j < M → bN j = nI (vn j) ∧ bP j = nu_o (vp j) ∧ bS j = nI (vs j) ∧ bL j = nu_o (vl j) ∧ bV j = nu_o (va j)
section
variable {g_maxNodes g_maxWeight g_maxVisits g_count g_root g_nc g_weight g_grown g_neg g_made g_next g_nextPar g_nextSlot g_nextLex g_stuck : Int32} {b_kinds b_parts b_cNode b_cPar b_cSlot b_le b_saved b_cur b_nxt b_first b_vNode b_vPar b_vSlot b_vLex b_val b_num : Nat → Int32} {n N r : Nat} {kd : Nat → Nat} {cd : Nat → Nat → Option Nat} {pp : Nat → Int32} {par : Nat → Option Nat} {TT : Nat → Prop} {num : Nat → Int32} {vn : Nat → Nat} {vp : Nat → Option Nat} {vs : Nat → Nat} {vl va : Nat → Option Nat} {gt : Nat → Nat → Option Nat} {dp : Nat → Nat} {post : Int32 → Prop}
theorem es_vs (S : es_S N r kd cd TT num vn vp vs vl va gt dp) {j i : Nat} (hj : j < N) (e : vp j = some i) : vs j ≤ 4 := by
  have := (es_lk' S hj e).2.2.1.2.1
  rcases this with z | z <;> omega
theorem es_vplt (S : es_S N r kd cd TT num vn vp vs vl va gt dp) (hN : N ≤ 192) {j : Nat} (hj : j < N) : nu_lt (vp j) (2 ^ 31) := fun i e => by
  have := (es_lk' S hj e).2.1
  omega
theorem es_valt (S : es_S N r kd cd TT num vn vp vs vl va gt dp) (hN : N ≤ 192) {j : Nat} (hj : j < N) : nu_lt (va j) (2 ^ 31) := fun i e => by
  have := (es_va S hj e).1
  omega
theorem es_gtlt (S : es_S N r kd cd TT num vn vp vs vl va gt dp) (hN : N ≤ 192) {i s : Nat} : nu_lt (gt i s) (2 ^ 31) := fun o e => by
  have := (es_gg S e).1
  omega
theorem yw_got (S : es_S N r kd cd TT num vn vp vs vl va gt dp) (hN : N ≤ 192) (A : es_A N vn vp vs vl va b_vNode b_vPar b_vSlot b_vLex b_val) {i s : Nat} (hi : i < 2 ^ 31) (hs : s < 2 ^ 31) (h : post (nu_o (gt i s))) : wpY_got post (g_maxNodes, g_maxWeight, g_maxVisits, g_count, g_root, g_nc, g_weight, g_grown, g_neg, nI N, g_next, g_nextPar, g_nextSlot, g_nextLex, g_stuck, b_kinds, b_parts, b_cNode, b_cPar, b_cSlot, b_le, b_saved, b_cur, b_nxt, b_first, b_vNode, b_vPar, b_vSlot, b_vLex, b_val, b_num) (nI i) (nI s) := by
  have key : ∀ d j, j + d = N → (∀ j', j' < N → vp j' = some i → vs j' = s → post (nu_o (va j'))) → ((∀ j', j ≤ j' → j' < N → ¬ (vp j' = some i ∧ vs j' = s)) → post (-1)) → wY_got_2 post (nI i) (nI s) g_maxNodes g_maxWeight g_maxVisits g_count g_root g_nc g_weight g_grown g_neg (nI N) g_next g_nextPar g_nextSlot g_nextLex g_stuck b_kinds b_parts b_cNode b_cPar b_cSlot b_le b_saved b_cur b_nxt b_first b_vNode b_vPar b_vSlot b_vLex b_val b_num (d + 1) (nI j) := by
    intro d
    induction d with
    | zero =>
      intro j hj h1 h0
      refine br_t ?_ (h0 fun j' a b => by omega)
      show nI N ≤ nI j
      rw [nI_leI (by omega) (by omega)]; omega
    | succ d ih =>
      intro j hj h1 h0
      have q := A j (by omega)
      have NX : ¬ (vp j = some i ∧ vs j = s) → wY_got_2 post (nI i) (nI s) g_maxNodes g_maxWeight g_maxVisits g_count g_root g_nc g_weight g_grown g_neg (nI N) g_next g_nextPar g_nextSlot g_nextLex g_stuck b_kinds b_parts b_cNode b_cPar b_cSlot b_le b_saved b_cur b_nxt b_first b_vNode b_vPar b_vSlot b_vLex b_val b_num (d + 1) (nI (j + 1)) := fun z => by
        refine ih (j + 1) (by omega) h1 (fun g => h0 fun j' a b => ?_)
        rcases Nat.eq_or_lt_of_le a with e | e
        · subst e; exact z
        · exact g j' e b
      refine br_f ?_ ⟨vp_in_nI (by omega) (by omega), ?_⟩
      · show ¬ nI N ≤ nI j
        rw [nI_leI (by omega) (by omega)]; omega
      rw [nI_clamp (by omega), q.2.1, q.2.2.1, q.2.2.2.2, nu_oeq (es_vplt S hN (by omega)) hi]
      refine br_c (fun e1 => ⟨vp_in_nI (by omega) (by omega), ?_⟩) (fun e1 => nm_r (nI_1 j) (NX fun w => e1 w.1))
      have := es_vs S (show j < N by omega) e1
      rw [nI_eq (by omega) hs]
      exact br_c (fun e2 => ⟨vp_in_nI (by omega) (by omega), h1 j (by omega) e1 e2⟩) (fun e2 => nm_r (nI_1 j) (NX fun w => e2 w.2))
  refine ⟨N + 1, key N 0 (by omega) (fun j' a b e => ?_) (fun g => ?_)⟩
  · rw [← es_gv S a b, e]; exact h
  · cases e : gt i s with
    | none => rw [e] at h; exact h
    | some o =>
      obtain ⟨j, a, b, c⟩ := es_gx S (i := i) (s := s) (by rw [e]; intro z; cases z)
      exact absurd ⟨b, c⟩ (g j (Nat.zero_le _) a)
/-- the entry of need -/
theorem yw_nd0 (W : tm_WF n kd cd pp par) (A' : tm_Ag n kd pp b_kinds b_parts) (S : es_S N r kd cd TT num vn vp vs vl va gt dp) (hN : N ≤ 192) (A : es_A N vn vp vs vl va b_vNode b_vPar b_vSlot b_vLex b_val) (hT : ∀ j, j < N → vn j < n) {p : Nat} (hp : p < N) (h1 : kd (vn p) ≤ 3 → post (-1))
    (h5 : (kd (vn p) = 6 ∨ kd (vn p) = 5) → ∃ f, wY_need_45 post (nI p) (nI (vn p)) (nI (kd (vn p))) g_maxNodes g_maxWeight g_maxVisits g_count g_root g_nc g_weight g_grown g_neg (nI N) g_next g_nextPar g_nextSlot g_nextLex g_stuck b_kinds b_parts b_cNode b_cPar b_cSlot b_le b_saved b_cur b_nxt b_first b_vNode b_vPar b_vSlot b_vLex b_val b_num f 0)
    (h0 : (kd (vn p) = 4 ∨ 7 ≤ kd (vn p)) → gt p 0 = none → post 0)
    (h7 : kd (vn p) = 7 → ∀ a, gt p 0 = some a → post (if cl_k kd cd pp (vn a) (vn p) = true then -2 else -1))
    (h9 : kd (vn p) = 9 → ∀ a, gt p 0 = some a → (b_num a = 0 → wY_need_164 post (nI p) (nu_b (cl_k kd cd pp (vn a) (vn p))) 1 g_maxNodes g_maxWeight g_maxVisits g_count g_root g_nc g_weight g_grown g_neg (nI N) g_next g_nextPar g_nextSlot g_nextLex g_stuck b_kinds b_parts b_cNode b_cPar b_cSlot b_le b_saved b_cur b_nxt b_first b_vNode b_vPar b_vSlot b_vLex b_val b_num) ∧ (¬ b_num a = 0 → wY_need_164 post (nI p) (nu_b (cl_k kd cd pp (vn a) (vn p))) 2 g_maxNodes g_maxWeight g_maxVisits g_count g_root g_nc g_weight g_grown g_neg (nI N) g_next g_nextPar g_nextSlot g_nextLex g_stuck b_kinds b_parts b_cNode b_cPar b_cSlot b_le b_saved b_cur b_nxt b_first b_vNode b_vPar b_vSlot b_vLex b_val b_num))
    (h48 : (kd (vn p) = 4 ∨ kd (vn p) = 8) → ∀ a, gt p 0 = some a → (gt p 1 = none → post 1) ∧ (∀ b, gt p 1 = some b → (cl_k kd cd pp (vn a) (vn p) = true → post (-2)) ∧ (cl_k kd cd pp (vn a) (vn p) = false → (kd (vn p) = 8 → cl_k kd cd pp (vn b) (vn p) = true → post (-2)) ∧ ((kd (vn p) = 8 → cl_k kd cd pp (vn b) (vn p) = false) → wY_need_235 post (nI p) (nI (kd (vn p))) g_maxNodes g_maxWeight g_maxVisits g_count g_root g_nc g_weight g_grown g_neg (nI N) g_next g_nextPar g_nextSlot g_nextLex g_stuck b_kinds b_parts b_cNode b_cPar b_cSlot b_le b_saved b_cur b_nxt b_first b_vNode b_vPar b_vSlot b_vLex b_val b_num)))) : wpY_need post (g_maxNodes, g_maxWeight, g_maxVisits, g_count, g_root, g_nc, g_weight, g_grown, g_neg, nI N, g_next, g_nextPar, g_nextSlot, g_nextLex, g_stuck, b_kinds, b_parts, b_cNode, b_cPar, b_cSlot, b_le, b_saved, b_cur, b_nxt, b_first, b_vNode, b_vPar, b_vSlot, b_vLex, b_val, b_num) (nI p) := by
  have hn := tm_n W
  have hm := hT p hp
  have hk := tm_k W hm
  unfold wpY_need
  dsimp only
  refine ⟨vp_in_nI (by omega) (by omega), nm_r (e' := nI (vn p)) (by rw [nI_clamp (by omega), (A p hp).1]) ⟨vp_in_nI (by omega) (by omega), nm_r (e' := nI (kd (vn p))) (by rw [nI_clamp (by omega), A'.1 _ hm]) ?_⟩⟩
  refine br_c (fun e => h1 (by rw [nu_e1 (by omega)] at e; omega)) (fun e1 => br_c (fun e => h1 (by rw [nu_e2 (by omega)] at e; omega)) (fun e2 => br_c (fun e => h1 (by rw [nu_e3 (by omega)] at e; omega)) (fun e3 => br_c (fun e => h5 (by rw [nu_e6 (by omega)] at e; omega)) (fun e6 => br_c (fun e => h5 (by rw [nu_e5 (by omega)] at e; omega)) (fun e5 => yw_got (s := 0) S hN A (by omega) (by omega) ?_)))))
  rw [nu_e1 (by omega)] at e1
  rw [nu_e2 (by omega)] at e2
  rw [nu_e3 (by omega)] at e3
  rw [nu_e6 (by omega)] at e6
  rw [nu_e5 (by omega)] at e5
  cases ea : gt p 0 with
  | none => exact br_f (by decide) (h0 (by omega) ea)
  | some a =>
    have ha := (es_gg S ea).1
    have hma := hT a ha
    rw [show nu_o (some a) = nI a from rfl]
    refine br_t (nI_pos' (by omega)) ⟨vp_in_nI (by omega) (by omega), ?_⟩
    rw [nI_clamp (show a < 2 ^ 31 by omega), (A a ha).1]
    refine yw_clash W A' hma hm ?_
    rw [nu_e7 (by omega), nu_e9 (by omega)]
    refine br_c (fun k7 => ?_) (fun k7 => br_c (fun k9 => ⟨vp_in_nI (by omega) (by omega), ?_⟩) (fun k9 => yw_got (s := 1) S hN A (by omega) (by omega) ?_))
    · have H := h7 k7 a ea
      rw [nu_b0]
      refine br_c (fun z => ?_) (fun z => ?_)
      · rw [z] at H; exact H
      · rw [ts_nf z] at H; exact H
    · have H := h9 k9 a ea
      exact br_c H.1 H.2
    · have H := h48 (by omega) a ea
      cases eb : gt p 1 with
      | none => exact br_f (by decide) (H.1 eb)
      | some b =>
        have hb := (es_gg S eb).1
        have hmb := hT b hb
        have H2 := H.2 b eb
        rw [show nu_o (some b) = nI b from rfl]
        refine br_t (nI_pos' (by omega)) ?_
        rw [nu_b0]
        refine br_c (fun z => ?_) (fun z => H2.1 (ts_nf z))
        have H3 := H2.2 z
        rw [nu_e8 (by omega)]
        refine br_c (fun k8 => ⟨vp_in_nI (by omega) (by omega), ?_⟩) (fun k8 => H3.2 fun w => absurd w k8)
        rw [nI_clamp (show b < 2 ^ 31 by omega), (A b hb).1]
        refine yw_clash W A' hmb hm ?_
        rw [nu_b0]
        exact br_c (fun w => H3.2 fun _ => w) (fun w => H3.1 k8 (ts_nf w))
theorem yw_nd45 (W : tm_WF n kd cd pp par) (A' : tm_Ag n kd pp b_kinds b_parts) (S : es_S N r kd cd TT num vn vp vs vl va gt dp) (hN : N ≤ 192) (A : es_A N vn vp vs vl va b_vNode b_vPar b_vSlot b_vLex b_val) (hT : ∀ j, j < N → vn j < n) {p : Nat} (hp : p < N) (h1 : ∀ s, s < 4 → cd (vn p) s ≠ none → gt p s = none → (∀ l, l < s → cd (vn p) l ≠ none → gt p l ≠ none) → post (nI s)) (h0 : (∀ s, s < 4 → cd (vn p) s ≠ none → gt p s ≠ none) → post (-1)) : ∃ f, wY_need_45 post (nI p) (nI (vn p)) (nI (kd (vn p))) g_maxNodes g_maxWeight g_maxVisits g_count g_root g_nc g_weight g_grown g_neg (nI N) g_next g_nextPar g_nextSlot g_nextLex g_stuck b_kinds b_parts b_cNode b_cPar b_cSlot b_le b_saved b_cur b_nxt b_first b_vNode b_vPar b_vSlot b_vLex b_val b_num f 0 := by
  have hn := tm_n W
  have hm := hT p hp
  have hk := tm_k W hm
  have key : ∀ d s, s + d = 4 → (∀ l, l < s → cd (vn p) l ≠ none → gt p l ≠ none) → wY_need_45 post (nI p) (nI (vn p)) (nI (kd (vn p))) g_maxNodes g_maxWeight g_maxVisits g_count g_root g_nc g_weight g_grown g_neg (nI N) g_next g_nextPar g_nextSlot g_nextLex g_stuck b_kinds b_parts b_cNode b_cPar b_cSlot b_le b_saved b_cur b_nxt b_first b_vNode b_vPar b_vSlot b_vLex b_val b_num (d + 1) (nI s) := by
    intro d
    induction d with
    | zero =>
      intro s hs D
      have : s = 4 := by omega
      subst this
      exact br_t (by decide) (h0 D)
    | succ d ih =>
      intro s hs D
      have NX : (cd (vn p) s ≠ none → gt p s ≠ none) → wY_need_45 post (nI p) (nI (vn p)) (nI (kd (vn p))) g_maxNodes g_maxWeight g_maxVisits g_count g_root g_nc g_weight g_grown g_neg (nI N) g_next g_nextPar g_nextSlot g_nextLex g_stuck b_kinds b_parts b_cNode b_cPar b_cSlot b_le b_saved b_cur b_nxt b_first b_vNode b_vPar b_vSlot b_vLex b_val b_num (d + 1) (nI (s + 1)) := fun z => ih (s + 1) (by omega) fun l hl => by
        rcases Nat.lt_or_ge l s with w | w
        · exact D l w
        · have : l = s := by omega
          subst this; exact z
      refine br_f ?_ (yw_slot (by omega) (by omega) ?_)
      · show ¬ (4 : Int32) ≤ nI s
        rw [nu_g4 (by omega)]; omega
      by_cases hs' : tm_slot (kd (vn p)) s = true
      · rw [hs']
        refine br_f (by decide) ⟨nu_i4' (by omega) (by omega), ?_⟩
        rw [nu_c4' (by omega), A'.2 _ (by omega), tm_s W hm (by omega) hs', nu_olt (tm_cl' W hm)]
        refine br_c (fun z => nm_r (nI_1 s) (NX fun w => absurd z w)) (fun z => yw_got S hN A (by omega) (by omega) ?_)
        rw [nu_ole (es_gtlt S hN)]
        exact br_c (fun w => nm_r (nI_1 s) (NX fun _ => w)) (fun w => h1 s (by omega) z (Classical.not_not.mp w) D)
      · rw [ts_nt hs']
        exact br_t (by decide) (nm_r (nI_1 s) (NX fun w => absurd (tm_ns W hm hs') w))
  exact ⟨5, key 4 0 rfl fun l hl => by omega⟩
end
end
section
/-! evaluation: Y's results and scan -/
section
variable {g_maxNodes g_maxWeight g_maxVisits g_count g_root g_nc g_weight g_grown g_neg g_made g_next g_nextPar g_nextSlot g_nextLex g_stuck : Int32} {b_kinds b_parts b_cNode b_cPar b_cSlot b_le b_saved b_cur b_nxt b_first b_vNode b_vPar b_vSlot b_vLex b_val b_num : Nat → Int32} {n N r : Nat} {kd : Nat → Nat} {cd : Nat → Nat → Option Nat} {pp : Nat → Int32} {par : Nat → Option Nat} {TT : Nat → Prop} {num : Nat → Int32} {vn : Nat → Nat} {vp : Nat → Option Nat} {vs : Nat → Nat} {vl va : Nat → Option Nat} {gt : Nat → Nat → Option Nat} {dp : Nat → Nat}
theorem yw_res {post : Int32 → SY → Prop} (W : tm_WF n kd cd pp par) (A' : tm_Ag n kd pp b_kinds b_parts) (S : es_S N r kd cd TT num vn vp vs vl va gt dp) (hN : N ≤ 192) (A : es_A N vn vp vs vl va b_vNode b_vPar b_vSlot b_vLex b_val) (hT : ∀ j, j < N → vn j < n) {p : Nat} (hp : p < N)
    (h1 : kd (vn p) = 1 → post (nI p) (g_maxNodes, g_maxWeight, g_maxVisits, g_count, g_root, g_nc, g_weight, g_grown, g_neg, nI N, g_next, g_nextPar, g_nextSlot, g_nextLex, g_stuck, b_kinds, b_parts, b_cNode, b_cPar, b_cSlot, b_le, b_saved, b_cur, b_nxt, b_first, b_vNode, b_vPar, b_vSlot, b_vLex, b_val, upd b_num p (pp (4 * vn p))))
    (h2 : kd (vn p) = 2 → wpY_lookup (fun q => post q (g_maxNodes, g_maxWeight, g_maxVisits, g_count, g_root, g_nc, g_weight, g_grown, g_neg, nI N, g_next, g_nextPar, g_nextSlot, g_nextLex, g_stuck, b_kinds, b_parts, b_cNode, b_cPar, b_cSlot, b_le, b_saved, b_cur, b_nxt, b_first, b_vNode, b_vPar, b_vSlot, b_vLex, b_val, b_num)) (g_maxNodes, g_maxWeight, g_maxVisits, g_count, g_root, g_nc, g_weight, g_grown, g_neg, nI N, g_next, g_nextPar, g_nextSlot, g_nextLex, g_stuck, b_kinds, b_parts, b_cNode, b_cPar, b_cSlot, b_le, b_saved, b_cur, b_nxt, b_first, b_vNode, b_vPar, b_vSlot, b_vLex, b_val, b_num) (nI p))
    (h36 : (kd (vn p) = 3 ∨ kd (vn p) = 6) → post (nI p) (g_maxNodes, g_maxWeight, g_maxVisits, g_count, g_root, g_nc, g_weight, g_grown, g_neg, nI N, g_next, g_nextPar, g_nextSlot, g_nextLex, g_stuck, b_kinds, b_parts, b_cNode, b_cPar, b_cSlot, b_le, b_saved, b_cur, b_nxt, b_first, b_vNode, b_vPar, b_vSlot, b_vLex, b_val, b_num))
    (h4 : kd (vn p) = 4 → post (nu_o (gt p 4)) (g_maxNodes, g_maxWeight, g_maxVisits, g_count, g_root, g_nc, g_weight, g_grown, g_neg, nI N, g_next, g_nextPar, g_nextSlot, g_nextLex, g_stuck, b_kinds, b_parts, b_cNode, b_cPar, b_cSlot, b_le, b_saved, b_cur, b_nxt, b_first, b_vNode, b_vPar, b_vSlot, b_vLex, b_val, b_num))
    (h5 : kd (vn p) = 5 → post (nu_o (gt p 2)) (g_maxNodes, g_maxWeight, g_maxVisits, g_count, g_root, g_nc, g_weight, g_grown, g_neg, nI N, g_next, g_nextPar, g_nextSlot, g_nextLex, g_stuck, b_kinds, b_parts, b_cNode, b_cPar, b_cSlot, b_le, b_saved, b_cur, b_nxt, b_first, b_vNode, b_vPar, b_vSlot, b_vLex, b_val, b_num))
    (h7 : kd (vn p) = 7 → ∃ a, gt p 0 = some a ∧ post (nu_o (gt a (tm_l pp (vn p)))) (g_maxNodes, g_maxWeight, g_maxVisits, g_count, g_root, g_nc, g_weight, g_grown, g_neg, nI N, g_next, g_nextPar, g_nextSlot, g_nextLex, g_stuck, b_kinds, b_parts, b_cNode, b_cPar, b_cSlot, b_le, b_saved, b_cur, b_nxt, b_first, b_vNode, b_vPar, b_vSlot, b_vLex, b_val, b_num))
    (h8 : kd (vn p) = 8 → ∃ a b, gt p 0 = some a ∧ gt p 1 = some b ∧ post (nI p) (g_maxNodes, g_maxWeight, g_maxVisits, g_count, g_root, g_nc, g_weight, g_grown, g_neg, nI N, g_next, g_nextPar, g_nextSlot, g_nextLex, g_stuck, b_kinds, b_parts, b_cNode, b_cPar, b_cSlot, b_le, b_saved, b_cur, b_nxt, b_first, b_vNode, b_vPar, b_vSlot, b_vLex, b_val, upd b_num p (b_num a + b_num b)))
    (h9 : kd (vn p) = 9 → (gt p 1 ≠ none → post (nu_o (gt p 1)) (g_maxNodes, g_maxWeight, g_maxVisits, g_count, g_root, g_nc, g_weight, g_grown, g_neg, nI N, g_next, g_nextPar, g_nextSlot, g_nextLex, g_stuck, b_kinds, b_parts, b_cNode, b_cPar, b_cSlot, b_le, b_saved, b_cur, b_nxt, b_first, b_vNode, b_vPar, b_vSlot, b_vLex, b_val, b_num)) ∧ (gt p 1 = none → post (nu_o (gt p 2)) (g_maxNodes, g_maxWeight, g_maxVisits, g_count, g_root, g_nc, g_weight, g_grown, g_neg, nI N, g_next, g_nextPar, g_nextSlot, g_nextLex, g_stuck, b_kinds, b_parts, b_cNode, b_cPar, b_cSlot, b_le, b_saved, b_cur, b_nxt, b_first, b_vNode, b_vPar, b_vSlot, b_vLex, b_val, b_num))) : wpY_result post (g_maxNodes, g_maxWeight, g_maxVisits, g_count, g_root, g_nc, g_weight, g_grown, g_neg, nI N, g_next, g_nextPar, g_nextSlot, g_nextLex, g_stuck, b_kinds, b_parts, b_cNode, b_cPar, b_cSlot, b_le, b_saved, b_cur, b_nxt, b_first, b_vNode, b_vPar, b_vSlot, b_vLex, b_val, b_num) (nI p) := by
  have hn := tm_n W
  have hm := hT p hp
  have hk := tm_k W hm
  unfold wpY_result
  dsimp only
  refine ⟨vp_in_nI (by omega) (by omega), ?_⟩
  rw [nI_clamp (show p < 2 ^ 31 by omega), (A p hp).1]
  refine ⟨vp_in_nI (by omega) (by omega), nm_r (e' := nI (kd (vn p))) (by rw [nI_clamp (by omega), A'.1 _ hm]) ?_⟩
  rw [nu_e2 (by omega), nu_e4 (by omega), nu_e5 (by omega), nu_e7 (by omega), nu_e9 (by omega), nu_e1 (by omega)]
  refine br_c h2 (fun k2 => br_c (fun k4 => yw_got (s := 4) S hN A (by omega) (by omega) (h4 k4)) (fun k4 => br_c (fun k5 => yw_got (s := 2) S hN A (by omega) (by omega) (h5 k5)) (fun k5 => yw_got (s := 0) S hN A (by omega) (by omega) (yw_got (s := 1) S hN A (by omega) (by omega) ?_))))
  refine br_c (fun k7 => ⟨vp_in_nI (by omega) (by omega), nu_i4' (i := 1) (by omega) (by omega), ?_⟩) (fun k7 => br_c (fun k9 => ?_) (fun k9 => ?_))
  · obtain ⟨a, ea, H⟩ := h7 k7
    have ha := (es_gg S ea).1
    have L := tm_l7 W hm k7
    rw [show (nI (vn p) * 4 + 1).toNatClampNeg = 4 * vn p + 1 from nu_c4' (i := 1) (by omega), A'.2 _ (by omega), L.1, ea]
    exact yw_got S hN A (show a < 2 ^ 31 by omega) (by omega) H
  · rw [nu_olt (es_gtlt S hN)]
    exact br_c (fun z => yw_got (s := 2) S hN A (by omega) (by omega) ((h9 k9).2 z)) (fun z => (h9 k9).1 z)
  · refine br_c (fun k1 => ⟨vp_in_nI (by omega) (by omega), by rw [nu_r4]; exact vp_in_nI (by omega) (by omega), vp_in_nI (by omega) (by omega), nm_r (e' := upd b_num p (pp (4 * vn p))) (by rw [nu_r4, nI_clamp (by omega), A'.2 _ (by omega)]) ?_⟩) (fun k1 => ?_)
    · exact br_f (by rw [nu_e8 (by omega)]; omega) (h1 k1)
    · unfold wY_result_136
      rw [nu_e8 (by omega)]
      refine br_c (fun k8 => ?_) (fun k8 => h36 (by omega))
      obtain ⟨a, b, ea, eb, H⟩ := h8 k8
      have ha := (es_gg S ea).1
      have hb := (es_gg S eb).1
      rw [ea, eb]
      refine br_f (nI_pos (by omega)) (br_f (nI_pos (by omega)) ⟨vp_in_nI (by omega) (by omega), vp_in_nI (by omega) (by omega), vp_in_nI (by omega) (by omega), nm_r (e' := upd b_num p (b_num a + b_num b)) ?_ H⟩)
      rw [show nu_o (some a) = nI a from rfl, show nu_o (some b) = nI b from rfl, nI_clamp (show a < 2 ^ 31 by omega), nI_clamp (show b < 2 ^ 31 by omega), nI_clamp (show p < 2 ^ 31 by omega)]
variable {post : SY → Prop} {J : Int32 → Int32 → Int32 → Int32 → Int32 → Int32 → Int32 → Int32 → Int32 → Int32 → Int32 → Int32 → Int32 → Int32 → Int32 → Int32 → (Nat → Int32) → (Nat → Int32) → (Nat → Int32) → (Nat → Int32) → (Nat → Int32) → (Nat → Int32) → (Nat → Int32) → (Nat → Int32) → (Nat → Int32) → (Nat → Int32) → (Nat → Int32) → (Nat → Int32) → (Nat → Int32) → (Nat → Int32) → (Nat → Int32) → (Nat → Int32) → Prop}
theorem yw_131 {p : Nat} {x : Int32} (hx : x = -1 ∨ x = -3) (h : J (nI p + (-1)) g_maxNodes g_maxWeight g_maxVisits g_count g_root g_nc g_weight g_grown g_neg g_made g_next g_nextPar g_nextSlot g_nextLex g_stuck b_kinds b_parts b_cNode b_cPar b_cSlot b_le b_saved b_cur b_nxt b_first b_vNode b_vPar b_vSlot b_vLex b_val b_num) : wY_visit_131 post J (nI p) x g_maxNodes g_maxWeight g_maxVisits g_count g_root g_nc g_weight g_grown g_neg g_made g_next g_nextPar g_nextSlot g_nextLex g_stuck b_kinds b_parts b_cNode b_cPar b_cSlot b_le b_saved b_cur b_nxt b_first b_vNode b_vPar b_vSlot b_vLex b_val b_num := by
  rcases hx with e | e <;> subst e
  · exact br_f (by decide) (br_t (by decide) (nm_e h))
  · exact br_f (by decide) (br_t (by decide) (nm_e h))
theorem yw_114k {p : Nat} (h : J (nI p + (-1)) g_maxNodes g_maxWeight g_maxVisits g_count g_root g_nc g_weight g_grown g_neg g_made g_next g_nextPar g_nextSlot g_nextLex g_stuck b_kinds b_parts b_cNode b_cPar b_cSlot b_le b_saved b_cur b_nxt b_first b_vNode b_vPar b_vSlot b_vLex b_val b_num) : wY_visit_114 post J (nI p) (-3) g_maxNodes g_maxWeight g_maxVisits g_count g_root g_nc g_weight g_grown g_neg g_made g_next g_nextPar g_nextSlot g_nextLex g_stuck b_kinds b_parts b_cNode b_cPar b_cSlot b_le b_saved b_cur b_nxt b_first b_vNode b_vPar b_vSlot b_vLex b_val b_num := br_f (by decide) (yw_131 (Or.inr rfl) h)
theorem yw_114t {p : Nat} {x : Int32} (hp : p < 192) (e : b_vNode p = x) (h : J (nI p + (-1)) g_maxNodes g_maxWeight g_maxVisits g_count g_root g_nc g_weight g_grown g_neg g_made x g_nextPar g_nextSlot g_nextLex 1 b_kinds b_parts b_cNode b_cPar b_cSlot b_le b_saved b_cur b_nxt b_first b_vNode b_vPar b_vSlot b_vLex b_val b_num) : wY_visit_114 post J (nI p) (-2) g_maxNodes g_maxWeight g_maxVisits g_count g_root g_nc g_weight g_grown g_neg g_made g_next g_nextPar g_nextSlot g_nextLex g_stuck b_kinds b_parts b_cNode b_cPar b_cSlot b_le b_saved b_cur b_nxt b_first b_vNode b_vPar b_vSlot b_vLex b_val b_num :=
  br_f (by decide) (br_t rfl ⟨vp_in_nI (by omega) (by omega), nm_r (by rw [nI_clamp (by omega), e]) (br_t (by decide) (nm_e h))⟩)
theorem yw_114s (W : tm_WF n kd cd pp par) (A' : tm_Ag n kd pp b_kinds b_parts) {p m s c : Nat} (hp : p < 192) (hm : m < n) (e : b_vNode p = nI m) (hs : s < 4) (ec : cd m s = some c) (h : J (nI p + (-1)) g_maxNodes g_maxWeight g_maxVisits g_count g_root g_nc g_weight g_grown g_neg g_made (nI c) (nI p) (nI s) (nI p) g_stuck b_kinds b_parts b_cNode b_cPar b_cSlot b_le b_saved b_cur b_nxt b_first b_vNode b_vPar b_vSlot b_vLex b_val b_num) : wY_visit_114 post J (nI p) (nI s) g_maxNodes g_maxWeight g_maxVisits g_count g_root g_nc g_weight g_grown g_neg g_made g_next g_nextPar g_nextSlot g_nextLex g_stuck b_kinds b_parts b_cNode b_cPar b_cSlot b_le b_saved b_cur b_nxt b_first b_vNode b_vPar b_vSlot b_vLex b_val b_num := by
  have hn := tm_n W
  have hsl := (tm_o W hm (by rw [ec]; intro z; cases z)).2
  refine br_f (nu_ne1 (by omega)) (br_f ?_ (br_f (nI_pos (by omega)) (br_f ?_ ⟨vp_in_nI (by omega) (by omega), br_f ?_ ⟨?_, nm_r (e' := nI c) ?_ (nm_e h)⟩⟩)))
  · intro z
    have := nI_pos (n := s) (by omega)
    rw [z] at this
    exact this (by decide)
  · rw [nu_e4 (by omega)]; omega
  · rw [nu_e4 (by omega)]; omega
  · rw [nI_clamp (show p < 2 ^ 31 by omega), e]; exact nu_i4' (by omega) (by omega)
  · rw [nI_clamp (show p < 2 ^ 31 by omega), e, nu_c4' (by omega), A'.2 _ (by omega), tm_s W hm hs hsl, ec]; rfl
theorem yw_1144 (W : tm_WF n kd cd pp par) (A' : tm_Ag n kd pp b_kinds b_parts) (S : es_S N r kd cd TT num vn vp vs vl va gt dp) (hN : N ≤ 192) (A : es_A N vn vp vs vl va b_vNode b_vPar b_vSlot b_vLex b_val) (hT : ∀ j, j < N → vn j < n) {p f c : Nat} (hp : p < N) (ef : gt p 0 = some f) (ec : cd (vn f) 1 = some c) (h : J (nI p + (-1)) g_maxNodes g_maxWeight g_maxVisits g_count g_root g_nc g_weight g_grown g_neg (nI N) (nI c) (nI p) 4 (nI f) g_stuck b_kinds b_parts b_cNode b_cPar b_cSlot b_le b_saved b_cur b_nxt b_first b_vNode b_vPar b_vSlot b_vLex b_val b_num) : wY_visit_114 post J (nI p) 4 g_maxNodes g_maxWeight g_maxVisits g_count g_root g_nc g_weight g_grown g_neg (nI N) g_next g_nextPar g_nextSlot g_nextLex g_stuck b_kinds b_parts b_cNode b_cPar b_cSlot b_le b_saved b_cur b_nxt b_first b_vNode b_vPar b_vSlot b_vLex b_val b_num := by
  have hn := tm_n W
  have hf := (es_gg S ef).1
  have hm := hT f hf
  have hsl := (tm_o W hm (by rw [ec]; intro z; cases z)).2
  refine br_f (by decide) (br_f (by decide) (br_f (by decide) (br_t rfl (yw_got (s := 0) S hN A (by omega) (by omega) ?_))))
  rw [ef, show nu_o (some f) = nI f from rfl]
  refine ⟨vp_in_nI (by omega) (by omega), br_t rfl ?_⟩
  rw [nI_clamp (show f < 2 ^ 31 by omega), (A f hf).1]
  exact ⟨nu_i4' (i := 1) (by omega) (by omega), nm_r (e' := nI c) (by rw [show (nI (vn f) * 4 + 1).toNatClampNeg = 4 * vn f + 1 from nu_c4' (i := 1) (by omega), A'.2 _ (by omega), tm_s W hm (by omega) hsl, ec]; rfl) (nm_e h)⟩
theorem yw_84e {m : Nat} {x : Int32} {c : Nat} (hc : c < 2 ^ 31) (h : post (g_maxNodes, g_maxWeight, g_maxVisits, g_count, g_root, g_nc, g_weight, g_grown, g_neg, g_made, nI c, g_nextPar, g_nextSlot, g_nextLex, g_stuck, b_kinds, b_parts, b_cNode, b_cPar, b_cSlot, b_le, b_saved, b_cur, b_nxt, b_first, b_vNode, b_vPar, b_vSlot, b_vLex, b_val, b_num)) : wY_visit_84 post (m + 1) x g_maxNodes g_maxWeight g_maxVisits g_count g_root g_nc g_weight g_grown g_neg g_made (nI c) g_nextPar g_nextSlot g_nextLex g_stuck b_kinds b_parts b_cNode b_cPar b_cSlot b_le b_saved b_cur b_nxt b_first b_vNode b_vPar b_vSlot b_vLex b_val b_num := br_c (fun _ => h) (fun _ => br_t (nI_pos' hc) h)
theorem yw_84z {m : Nat} (h : post (g_maxNodes, g_maxWeight, g_maxVisits, g_count, g_root, g_nc, g_weight, g_grown, g_neg, g_made, g_next, g_nextPar, g_nextSlot, g_nextLex, g_stuck, b_kinds, b_parts, b_cNode, b_cPar, b_cSlot, b_le, b_saved, b_cur, b_nxt, b_first, b_vNode, b_vPar, b_vSlot, b_vLex, b_val, b_num)) : wY_visit_84 post (m + 1) (nI 0 + (-1)) g_maxNodes g_maxWeight g_maxVisits g_count g_root g_nc g_weight g_grown g_neg g_made g_next g_nextPar g_nextSlot g_nextLex g_stuck b_kinds b_parts b_cNode b_cPar b_cSlot b_le b_saved b_cur b_nxt b_first b_vNode b_vPar b_vSlot b_vLex b_val b_num := br_t (by decide) h
/-- a pending visit is looked at -/
theorem yw_84p {m p : Nat} (hp : p < 192) (e : b_val p = -1) (h : wpY_need (fun q => wY_visit_114 post (wY_visit_84 post m) (nI p) q g_maxNodes g_maxWeight g_maxVisits g_count g_root g_nc g_weight g_grown g_neg g_made (-1) g_nextPar g_nextSlot g_nextLex g_stuck b_kinds b_parts b_cNode b_cPar b_cSlot b_le b_saved b_cur b_nxt b_first b_vNode b_vPar b_vSlot b_vLex b_val b_num) (g_maxNodes, g_maxWeight, g_maxVisits, g_count, g_root, g_nc, g_weight, g_grown, g_neg, g_made, -1, g_nextPar, g_nextSlot, g_nextLex, g_stuck, b_kinds, b_parts, b_cNode, b_cPar, b_cSlot, b_le, b_saved, b_cur, b_nxt, b_first, b_vNode, b_vPar, b_vSlot, b_vLex, b_val, b_num) (nI p)) : wY_visit_84 post (m + 1) (nI p) g_maxNodes g_maxWeight g_maxVisits g_count g_root g_nc g_weight g_grown g_neg g_made (-1) g_nextPar g_nextSlot g_nextLex g_stuck b_kinds b_parts b_cNode b_cPar b_cSlot b_le b_saved b_cur b_nxt b_first b_vNode b_vPar b_vSlot b_vLex b_val b_num := by
  refine br_f (nI_pos (by omega)) (br_f (by decide) ⟨vp_in_nI (by omega) (by omega), ?_⟩)
  rw [nI_clamp (show p < 2 ^ 31 by omega), e]
  exact br_f (by decide) h
/-- visits with values are passed over -/
theorem yw_84k {m p : Nat} : ∀ d, p + d < 192 → (∀ i, p < i → i ≤ p + d → 0 ≤ b_val i) → wY_visit_84 post m (nI p) g_maxNodes g_maxWeight g_maxVisits g_count g_root g_nc g_weight g_grown g_neg g_made (-1) g_nextPar g_nextSlot g_nextLex g_stuck b_kinds b_parts b_cNode b_cPar b_cSlot b_le b_saved b_cur b_nxt b_first b_vNode b_vPar b_vSlot b_vLex b_val b_num → wY_visit_84 post (m + d) (nI (p + d)) g_maxNodes g_maxWeight g_maxVisits g_count g_root g_nc g_weight g_grown g_neg g_made (-1) g_nextPar g_nextSlot g_nextLex g_stuck b_kinds b_parts b_cNode b_cPar b_cSlot b_le b_saved b_cur b_nxt b_first b_vNode b_vPar b_vSlot b_vLex b_val b_num := by
  intro d
  induction d with
  | zero => intro _ _ h; exact h
  | succ d ih =>
    intro hd hv h
    refine br_f (nI_pos (by omega)) (br_f (by decide) ⟨vp_in_nI (by omega) (by omega), ?_⟩)
    rw [nI_clamp (show p + (d + 1) < 2 ^ 31 by omega)]
    refine br_t (hv _ (by omega) (by omega)) (yw_114k ?_)
    rw [show p + (d + 1) = p + d + 1 from rfl, pk_m1]
    exact ih (by omega) (fun i a b => hv i a (by omega)) h
/-- all are passed over -/
theorem yw_84a : ∀ d, d < 192 → (∀ i, i ≤ d → 0 ≤ b_val i) → post (g_maxNodes, g_maxWeight, g_maxVisits, g_count, g_root, g_nc, g_weight, g_grown, g_neg, g_made, -1, g_nextPar, g_nextSlot, g_nextLex, g_stuck, b_kinds, b_parts, b_cNode, b_cPar, b_cSlot, b_le, b_saved, b_cur, b_nxt, b_first, b_vNode, b_vPar, b_vSlot, b_vLex, b_val, b_num) → wY_visit_84 post (d + 2) (nI d) g_maxNodes g_maxWeight g_maxVisits g_count g_root g_nc g_weight g_grown g_neg g_made (-1) g_nextPar g_nextSlot g_nextLex g_stuck b_kinds b_parts b_cNode b_cPar b_cSlot b_le b_saved b_cur b_nxt b_first b_vNode b_vPar b_vSlot b_vLex b_val b_num := by
  intro d
  induction d with
  | zero =>
    intro _ hv h
    refine br_f (by decide) (br_f (by decide) ⟨vp_in_iff.mpr (by decide), ?_⟩)
    exact br_t (hv 0 (Nat.le_refl _)) (yw_114k (yw_84z h))
  | succ d ih =>
    intro hd hv h
    refine br_f (nI_pos (by omega)) (br_f (by decide) ⟨vp_in_nI (by omega) (by omega), ?_⟩)
    rw [nI_clamp (show d + 1 < 2 ^ 31 by omega)]
    refine br_t (hv _ (Nat.le_refl _)) (yw_114k ?_)
    rw [pk_m1]
    exact ih (by omega) (fun i a => hv i (by omega)) h
end
end
section
/-! evaluation: X's parts -/
def es_nf (f : Nat → Int32) (c : Nat) : Nat → Int32 := upd (upd (upd (upd f (4 * c) (-1)) (4 * c + 1) (-1)) (4 * c + 2) (-1)) (4 * c + 3) (-1)
theorem es_nfn {f : Nat → Int32} {c l : Nat} (hl : l < 4) : es_nf f c (4 * c + l) = -1 := by
  have : l = 0 ∨ l = 1 ∨ l = 2 ∨ l = 3 := by omega
  unfold es_nf
  rcases this with rfl | rfl | rfl | rfl
  · rw [pk_un (by omega), pk_un (by omega), pk_un (by omega)]; exact pk_us
  · rw [pk_un (by omega), pk_un (by omega)]; exact pk_us
  · rw [pk_un (by omega)]; exact pk_us
  · exact pk_us
theorem es_nfo {f : Nat → Int32} {c i : Nat} (hi : i < 4 * c) : es_nf f c i = f i := by
  unfold es_nf
  rw [pk_un (by omega), pk_un (by omega), pk_un (by omega), pk_un (by omega)]
section
variable {f_maxNodes f_maxWeight f_maxVisits f_nodeCount f_sealed f_verdictNow f_copyCount f_varCount : Int32} {f_atSet : Int64} {f_atNeg f_visitCount f_done f_stuck f_curNode f_curEnv f_resultValue f_valueCount f_envCount f_depth : Int32} {a_nKind a_nPart a_nParent a_cNode a_cUp a_cChild a_cInst a_cParam a_queue : Nat → Int32} {a_rel : Nat → Int64} {a_vKind a_vWord a_vEnv a_vField a_eName a_eValue a_eNext a_fNode a_fEnv a_fPart a_fValue : Nat → Int32} {n : Nat} {kd : Nat → Nat} {cd : Nat → Nat → Option Nat} {pp : Nat → Int32} {par : Nat → Option Nat}
theorem xw_newv {post : Int32 → SX → Prop} {vc : Nat} {k w e : Int32} (hvc : vc < 192) (h : post (nI vc) (f_maxNodes, f_maxWeight, f_maxVisits, f_nodeCount, f_sealed, f_verdictNow, f_copyCount, f_varCount, f_atSet, f_atNeg, f_visitCount, f_done, f_stuck, f_curNode, f_curEnv, f_resultValue, nI (vc + 1), f_envCount, f_depth, a_nKind, a_nPart, a_nParent, a_cNode, a_cUp, a_cChild, a_cInst, a_cParam, a_queue, a_rel, upd a_vKind vc k, upd a_vWord vc w, upd a_vEnv vc e, es_nf a_vField vc, a_eName, a_eValue, a_eNext, a_fNode, a_fEnv, a_fPart, a_fValue)) : wpX_newValue post (f_maxNodes, f_maxWeight, f_maxVisits, f_nodeCount, f_sealed, f_verdictNow, f_copyCount, f_varCount, f_atSet, f_atNeg, f_visitCount, f_done, f_stuck, f_curNode, f_curEnv, f_resultValue, nI vc, f_envCount, f_depth, a_nKind, a_nPart, a_nParent, a_cNode, a_cUp, a_cChild, a_cInst, a_cParam, a_queue, a_rel, a_vKind, a_vWord, a_vEnv, a_vField, a_eName, a_eValue, a_eNext, a_fNode, a_fEnv, a_fPart, a_fValue) k w e := by
  unfold wpX_newValue
  dsimp only
  refine br_t (by rw [nu_p192 (by omega)]; exact hvc) ⟨vp_in_nI (by omega) (by omega), nm_r (e' := upd a_vKind vc k) (by rw [nI_clamp (by omega)]) ⟨vp_in_nI (by omega) (by omega), nm_r (e' := upd a_vWord vc w) (by rw [nI_clamp (by omega)]) ⟨vp_in_nI (by omega) (by omega), nm_r (e' := upd a_vEnv vc e) (by rw [nI_clamp (by omega)]) ⟨5, ?_⟩⟩⟩⟩
  have st : ∀ f l F, l < 4 → wX_newValue_45 post (nI vc) f_maxNodes f_maxWeight f_maxVisits f_nodeCount f_sealed f_verdictNow f_copyCount f_varCount f_atSet f_atNeg f_visitCount f_done f_stuck f_curNode f_curEnv f_resultValue (nI vc) f_envCount f_depth f (nI (l + 1)) a_nKind a_nPart a_nParent a_cNode a_cUp a_cChild a_cInst a_cParam a_queue a_rel (upd a_vKind vc k) (upd a_vWord vc w) (upd a_vEnv vc e) (upd F (4 * vc + l) (-1)) a_eName a_eValue a_eNext a_fNode a_fEnv a_fPart a_fValue → wX_newValue_45 post (nI vc) f_maxNodes f_maxWeight f_maxVisits f_nodeCount f_sealed f_verdictNow f_copyCount f_varCount f_atSet f_atNeg f_visitCount f_done f_stuck f_curNode f_curEnv f_resultValue (nI vc) f_envCount f_depth (f + 1) (nI l) a_nKind a_nPart a_nParent a_cNode a_cUp a_cChild a_cInst a_cParam a_queue a_rel (upd a_vKind vc k) (upd a_vWord vc w) (upd a_vEnv vc e) F a_eName a_eValue a_eNext a_fNode a_fEnv a_fPart a_fValue := fun f l F hl H => by
    refine br_f ?_ ⟨nu_i4 (by omega) (by omega), nm_r (e' := upd F (4 * vc + l) (-1)) (by rw [nu_c4 (by omega)]) (nm_r (nI_1 l) H)⟩
    show ¬ (4 : Int32) ≤ nI l
    rw [nu_g4 (by omega)]; omega
  exact st 4 0 _ (by omega) (st 3 1 _ (by omega) (st 2 2 _ (by omega) (st 1 3 _ (by omega) (br_t (by decide) (nm_r (nI_1 vc) h)))))
theorem xw_push {post : SX → Prop} (W : tm_WF n kd cd pp par) (A : tm_Ag n kd pp a_nKind a_nPart) {d m s c : Nat} {x : Int32} (hd : d < 192) (hm : m < n) (hs : s < 4) (ec : cd m s = some c) (h : post (f_maxNodes, f_maxWeight, f_maxVisits, f_nodeCount, f_sealed, f_verdictNow, f_copyCount, f_varCount, f_atSet, f_atNeg, f_visitCount, f_done, f_stuck, nI c, f_curEnv, f_resultValue, f_valueCount, f_envCount, nI (d + 1), a_nKind, a_nPart, a_nParent, a_cNode, a_cUp, a_cChild, a_cInst, a_cParam, a_queue, a_rel, a_vKind, a_vWord, a_vEnv, a_vField, a_eName, a_eValue, a_eNext, upd a_fNode d (nI m), upd a_fEnv d f_curEnv, upd a_fPart d (nI s), upd a_fValue d x)) : wpX_push post (f_maxNodes, f_maxWeight, f_maxVisits, f_nodeCount, f_sealed, f_verdictNow, f_copyCount, f_varCount, f_atSet, f_atNeg, f_visitCount, f_done, f_stuck, f_curNode, f_curEnv, f_resultValue, f_valueCount, f_envCount, nI d, a_nKind, a_nPart, a_nParent, a_cNode, a_cUp, a_cChild, a_cInst, a_cParam, a_queue, a_rel, a_vKind, a_vWord, a_vEnv, a_vField, a_eName, a_eValue, a_eNext, a_fNode, a_fEnv, a_fPart, a_fValue) (nI m) (nI s) x := by
  have hn := tm_n W
  have hsl := (tm_o W hm (by rw [ec]; intro z; cases z)).2
  have iD : vp_in (nI d) 192 := vp_in_nI (by omega) (by omega)
  have cD : (nI d).toNatClampNeg = d := nI_clamp (by omega)
  unfold wpX_push
  dsimp only
  refine br_f (by rw [nu_g192 (by omega)]; omega) ⟨iD, nm_r (e' := upd a_fNode d (nI m)) (by rw [cD]) ⟨iD, nm_r (e' := upd a_fEnv d f_curEnv) (by rw [cD]) ⟨iD, nm_r (e' := upd a_fPart d (nI s)) (by rw [cD]) ⟨iD, nm_r (e' := upd a_fValue d x) (by rw [cD]) (nm_r (nI_1 d) ⟨nu_i4 (by omega) (by omega), nm_r (e' := nI c) (by rw [nu_c4 (by omega), A.2 _ (by omega), tm_s W hm hs hsl, ec]; rfl) h⟩)⟩⟩⟩⟩
theorem xw_bind {post : Int32 → SX → Prop} {ec : Nat} {p0 p1 p2 : Int32} (hec : ec < 192) (h : post (nI ec) (f_maxNodes, f_maxWeight, f_maxVisits, f_nodeCount, f_sealed, f_verdictNow, f_copyCount, f_varCount, f_atSet, f_atNeg, f_visitCount, f_done, f_stuck, f_curNode, f_curEnv, f_resultValue, f_valueCount, nI (ec + 1), f_depth, a_nKind, a_nPart, a_nParent, a_cNode, a_cUp, a_cChild, a_cInst, a_cParam, a_queue, a_rel, a_vKind, a_vWord, a_vEnv, a_vField, upd a_eName ec p0, upd a_eValue ec p1, upd a_eNext ec p2, a_fNode, a_fEnv, a_fPart, a_fValue)) : wpX_bind post (f_maxNodes, f_maxWeight, f_maxVisits, f_nodeCount, f_sealed, f_verdictNow, f_copyCount, f_varCount, f_atSet, f_atNeg, f_visitCount, f_done, f_stuck, f_curNode, f_curEnv, f_resultValue, f_valueCount, nI ec, f_depth, a_nKind, a_nPart, a_nParent, a_cNode, a_cUp, a_cChild, a_cInst, a_cParam, a_queue, a_rel, a_vKind, a_vWord, a_vEnv, a_vField, a_eName, a_eValue, a_eNext, a_fNode, a_fEnv, a_fPart, a_fValue) p0 p1 p2 := by
  have iD : vp_in (nI ec) 192 := vp_in_nI (by omega) (by omega)
  have cD : (nI ec).toNatClampNeg = ec := nI_clamp (by omega)
  unfold wpX_bind
  dsimp only
  exact br_t (by rw [nu_p192 (by omega)]; exact hec) ⟨iD, nm_r (e' := upd a_eName ec p0) (by rw [cD]) ⟨iD, nm_r (e' := upd a_eValue ec p1) (by rw [cD]) ⟨iD, nm_r (e' := upd a_eNext ec p2) (by rw [cD]) (nm_r (nI_1 ec) h)⟩⟩⟩
variable {post : Int32 → SX → Prop} {d m : Nat} {v : Int32}
end
section
variable {f_maxNodes f_maxWeight f_maxVisits f_nodeCount f_sealed f_verdictNow f_copyCount f_varCount : Int32} {f_atSet : Int64} {f_atNeg f_visitCount f_done f_stuck f_curNode f_curEnv f_resultValue f_valueCount f_envCount f_depth : Int32} {a_nKind a_nPart a_nParent a_cNode a_cUp a_cChild a_cInst a_cParam a_queue : Nat → Int32} {a_rel : Nat → Int64} {a_vKind a_vWord a_vEnv a_vField a_eName a_eValue a_eNext a_fNode a_fEnv a_fPart a_fValue : Nat → Int32} {n : Nat} {kd : Nat → Nat} {cd : Nat → Nat → Option Nat} {pp : Nat → Int32} {par : Nat → Option Nat} {post : Int32 → SX → Prop} {d m : Nat} {v : Int32}
/-- the ends of feed -/
theorem xw_fkeep (W : tm_WF n kd cd pp par) (A : tm_Ag n kd pp a_nKind a_nPart) (hd : d < 192) (hm : m < n) {c : Nat} (ec : cd m 1 = some c) (h : post (-1) (f_maxNodes, f_maxWeight, f_maxVisits, f_nodeCount, f_sealed, f_verdictNow, f_copyCount, f_varCount, f_atSet, f_atNeg, f_visitCount, f_done, f_stuck, nI c, a_fEnv d, f_resultValue, f_valueCount, f_envCount, f_depth, a_nKind, a_nPart, a_nParent, a_cNode, a_cUp, a_cChild, a_cInst, a_cParam, a_queue, a_rel, a_vKind, a_vWord, a_vEnv, a_vField, a_eName, a_eValue, a_eNext, a_fNode, a_fEnv, upd a_fPart d 1, upd a_fValue d v)) : wpX_keepAndGoOn post (f_maxNodes, f_maxWeight, f_maxVisits, f_nodeCount, f_sealed, f_verdictNow, f_copyCount, f_varCount, f_atSet, f_atNeg, f_visitCount, f_done, f_stuck, f_curNode, f_curEnv, f_resultValue, f_valueCount, f_envCount, f_depth, a_nKind, a_nPart, a_nParent, a_cNode, a_cUp, a_cChild, a_cInst, a_cParam, a_queue, a_rel, a_vKind, a_vWord, a_vEnv, a_vField, a_eName, a_eValue, a_eNext, a_fNode, a_fEnv, a_fPart, a_fValue) (nI d) (nI m) v := by
  have hn := tm_n W
  have hsl := (tm_o W hm (by rw [ec]; intro z; cases z)).2
  have iD : vp_in (nI d) 192 := vp_in_nI (by omega) (by omega)
  have cD : (nI d).toNatClampNeg = d := nI_clamp (by omega)
  unfold wpX_keepAndGoOn
  dsimp only
  exact ⟨iD, nm_r (e' := upd a_fValue d v) (by rw [cD]) ⟨iD, nm_r (e' := upd a_fPart d 1) (by rw [cD]) ⟨nu_i4 (i := 1) (by omega) (by omega), nm_r (e' := nI c) (by rw [show (4 * nI m + 1).toNatClampNeg = 4 * m + 1 from nu_c4 (i := 1) (by omega), A.2 _ (by omega), tm_s W hm (by omega) hsl, ec]; rfl) ⟨iD, nm_r (e' := a_fEnv d) (by rw [cD]) h⟩⟩⟩⟩
theorem xw_fapp (W : tm_WF n kd cd pp par) (A : tm_Ag n kd pp a_nKind a_nPart) (hd : d < 192) (hm : m < n) (eN : a_fNode d = nI m) (k4 : kd m = 4)
    (h0 : a_fPart d = 0 → ∃ c, cd m 1 = some c ∧ post (-1) (f_maxNodes, f_maxWeight, f_maxVisits, f_nodeCount, f_sealed, f_verdictNow, f_copyCount, f_varCount, f_atSet, f_atNeg, f_visitCount, f_done, f_stuck, nI c, a_fEnv d, f_resultValue, f_valueCount, f_envCount, nI (d + 1), a_nKind, a_nPart, a_nParent, a_cNode, a_cUp, a_cChild, a_cInst, a_cParam, a_queue, a_rel, a_vKind, a_vWord, a_vEnv, a_vField, a_eName, a_eValue, a_eNext, a_fNode, a_fEnv, upd a_fPart d 1, upd a_fValue d v))
    (h1 : ¬ a_fPart d = 0 → ∃ fv, a_fValue d = nI fv ∧ fv < 192 ∧ (a_vKind fv ≠ 3 → post (-1) (f_maxNodes, f_maxWeight, f_maxVisits, f_nodeCount, f_sealed, f_verdictNow, f_copyCount, f_varCount, f_atSet, f_atNeg, f_visitCount, f_done, 1, nI m, f_curEnv, f_resultValue, f_valueCount, f_envCount, nI (d + 1), a_nKind, a_nPart, a_nParent, a_cNode, a_cUp, a_cChild, a_cInst, a_cParam, a_queue, a_rel, a_vKind, a_vWord, a_vEnv, a_vField, a_eName, a_eValue, a_eNext, a_fNode, a_fEnv, a_fPart, a_fValue)) ∧ (a_vKind fv = 3 → ∃ lm c ec, a_vWord fv = nI lm ∧ lm < n ∧ cd lm 1 = some c ∧ f_envCount = nI ec ∧ ec < 192 ∧ post (-1) (f_maxNodes, f_maxWeight, f_maxVisits, f_nodeCount, f_sealed, f_verdictNow, f_copyCount, f_varCount, f_atSet, f_atNeg, f_visitCount, f_done, f_stuck, nI c, nI ec, f_resultValue, f_valueCount, nI (ec + 1), nI d, a_nKind, a_nPart, a_nParent, a_cNode, a_cUp, a_cChild, a_cInst, a_cParam, a_queue, a_rel, a_vKind, a_vWord, a_vEnv, a_vField, upd a_eName ec (pp (4 * lm)), upd a_eValue ec v, upd a_eNext ec (a_vEnv fv), a_fNode, a_fEnv, a_fPart, a_fValue))) : wpX_feed post (f_maxNodes, f_maxWeight, f_maxVisits, f_nodeCount, f_sealed, f_verdictNow, f_copyCount, f_varCount, f_atSet, f_atNeg, f_visitCount, f_done, f_stuck, f_curNode, f_curEnv, f_resultValue, f_valueCount, f_envCount, nI (d + 1), a_nKind, a_nPart, a_nParent, a_cNode, a_cUp, a_cChild, a_cInst, a_cParam, a_queue, a_rel, a_vKind, a_vWord, a_vEnv, a_vField, a_eName, a_eValue, a_eNext, a_fNode, a_fEnv, a_fPart, a_fValue) v := by
  have hn := tm_n W
  have iD : vp_in (nI d) 192 := vp_in_nI (by omega) (by omega)
  have cD : (nI d).toNatClampNeg = d := nI_clamp (by omega)
  unfold wpX_feed
  dsimp only
  refine nm_r (nI_pred d) ⟨iD, nm_r (e' := nI m) (by rw [cD, eN]) ⟨vp_in_nI (by omega) (by omega), nm_r (e' := nI (kd m)) (by rw [nI_clamp (by omega), A.1 m hm]) (br_t (by rw [k4]; rfl) ?_)⟩⟩
  unfold wpX_feedApp
  dsimp only
  refine ⟨iD, ?_⟩
  rw [cD]
  refine br_c (fun z => ?_) (fun z => ⟨iD, ?_⟩)
  · obtain ⟨c, ec, H⟩ := h0 z
    exact xw_fkeep W A hd hm ec H
  · obtain ⟨fv, ef, hf, H1, H2⟩ := h1 z
    refine nm_r ef ⟨vp_in_nI (by omega) (by omega), ?_⟩
    rw [nI_clamp (show fv < 2 ^ 31 by omega)]
    refine br_c (fun k3 => ⟨vp_in_nI (by omega) (by omega), ?_⟩) (fun k3 => H1 k3)
    obtain ⟨lm, c, ec, ew, hl, ec1, ee, hec, H⟩ := H2 k3
    subst ee
    have hsl := (tm_o W hl (by rw [ec1]; intro z; cases z)).2
    refine nm_r ew (nm_r (nI_pred d) ⟨nu_i40 (by omega) (by omega), vp_in_nI (by omega) (by omega), ?_⟩)
    rw [show (4 * nI lm).toNatClampNeg = 4 * lm by rw [nu_4, nI_clamp (by omega)], A.2 _ (by omega)]
    have E : a_nPart (4 * nI lm + 1).toNatClampNeg = nI c := by rw [show (4 * nI lm + 1).toNatClampNeg = 4 * lm + 1 from nu_c4 (i := 1) (by omega), A.2 _ (by omega), tm_s W hl (by omega) hsl, ec1]; rfl
    exact xw_bind hec ⟨nu_i4 (i := 1) (by omega) (by omega), nm_r E H⟩
theorem xw_flet (W : tm_WF n kd cd pp par) (A : tm_Ag n kd pp a_nKind a_nPart) (hd : d < 192) (hm : m < n) (eN : a_fNode d = nI m) (k5 : kd m = 5) {c ec : Nat} (ec1 : cd m 2 = some c) (hec : ec < 192) (h : post (-1) (f_maxNodes, f_maxWeight, f_maxVisits, f_nodeCount, f_sealed, f_verdictNow, f_copyCount, f_varCount, f_atSet, f_atNeg, f_visitCount, f_done, f_stuck, nI c, nI ec, f_resultValue, f_valueCount, nI (ec + 1), nI d, a_nKind, a_nPart, a_nParent, a_cNode, a_cUp, a_cChild, a_cInst, a_cParam, a_queue, a_rel, a_vKind, a_vWord, a_vEnv, a_vField, upd a_eName ec (pp (4 * m)), upd a_eValue ec v, upd a_eNext ec (a_fEnv d), a_fNode, a_fEnv, a_fPart, a_fValue)) : wpX_feed post (f_maxNodes, f_maxWeight, f_maxVisits, f_nodeCount, f_sealed, f_verdictNow, f_copyCount, f_varCount, f_atSet, f_atNeg, f_visitCount, f_done, f_stuck, f_curNode, f_curEnv, f_resultValue, f_valueCount, nI ec, nI (d + 1), a_nKind, a_nPart, a_nParent, a_cNode, a_cUp, a_cChild, a_cInst, a_cParam, a_queue, a_rel, a_vKind, a_vWord, a_vEnv, a_vField, a_eName, a_eValue, a_eNext, a_fNode, a_fEnv, a_fPart, a_fValue) v := by
  have hn := tm_n W
  have hsl := (tm_o W hm (by rw [ec1]; intro z; cases z)).2
  have iD : vp_in (nI d) 192 := vp_in_nI (by omega) (by omega)
  have cD : (nI d).toNatClampNeg = d := nI_clamp (by omega)
  unfold wpX_feed
  dsimp only
  refine nm_r (nI_pred d) ⟨iD, nm_r (e' := nI m) (by rw [cD, eN]) ⟨vp_in_nI (by omega) (by omega), nm_r (e' := nI (kd m)) (by rw [nI_clamp (by omega), A.1 m hm]) (br_f (by rw [k5]; decide) (br_t (by rw [k5]; rfl) (nm_r (nI_pred d) ⟨nu_i40 (by omega) (by omega), iD, ?_⟩)))⟩⟩
  rw [show (4 * nI m).toNatClampNeg = 4 * m by rw [nu_4, nI_clamp (by omega)], A.2 _ (by omega), cD]
  have E : a_nPart (4 * nI m + 2).toNatClampNeg = nI c := by rw [show (4 * nI m + 2).toNatClampNeg = 4 * m + 2 from nu_c4 (i := 2) (by omega), A.2 _ (by omega), tm_s W hm (by omega) hsl, ec1]; rfl
  exact xw_bind hec ⟨nu_i4 (i := 2) (by omega) (by omega), nm_r E h⟩
theorem xw_frec (W : tm_WF n kd cd pp par) (A : tm_Ag n kd pp a_nKind a_nPart) (hd : d < 192) (hm : m < n) (eN : a_fNode d = nI m) (k6 : kd m = 6) {cl s : Nat} (e1 : a_fValue d = nI cl) (hcl : cl < 192) (e2 : a_fPart d = nI s) (hs : s < 4)
    (h1 : ∀ c, tm_nx (cd m) (s + 1) < 4 → cd m (tm_nx (cd m) (s + 1)) = some c → post (-1) (f_maxNodes, f_maxWeight, f_maxVisits, f_nodeCount, f_sealed, f_verdictNow, f_copyCount, f_varCount, f_atSet, f_atNeg, f_visitCount, f_done, f_stuck, nI c, a_fEnv d, f_resultValue, f_valueCount, f_envCount, nI (d + 1), a_nKind, a_nPart, a_nParent, a_cNode, a_cUp, a_cChild, a_cInst, a_cParam, a_queue, a_rel, a_vKind, a_vWord, a_vEnv, upd a_vField (4 * cl + s) v, a_eName, a_eValue, a_eNext, a_fNode, a_fEnv, upd a_fPart d (nI (tm_nx (cd m) (s + 1))), a_fValue))
    (h0 : ¬ tm_nx (cd m) (s + 1) < 4 → post (nI cl) (f_maxNodes, f_maxWeight, f_maxVisits, f_nodeCount, f_sealed, f_verdictNow, f_copyCount, f_varCount, f_atSet, f_atNeg, f_visitCount, f_done, f_stuck, f_curNode, f_curEnv, f_resultValue, f_valueCount, f_envCount, nI d, a_nKind, a_nPart, a_nParent, a_cNode, a_cUp, a_cChild, a_cInst, a_cParam, a_queue, a_rel, a_vKind, a_vWord, a_vEnv, upd a_vField (4 * cl + s) v, a_eName, a_eValue, a_eNext, a_fNode, a_fEnv, a_fPart, a_fValue))
    (hx : tm_nx (cd m) (s + 1) < 4 → cd m (tm_nx (cd m) (s + 1)) ≠ none) (hx4 : tm_nx (cd m) (s + 1) ≤ 4) : wpX_feed post (f_maxNodes, f_maxWeight, f_maxVisits, f_nodeCount, f_sealed, f_verdictNow, f_copyCount, f_varCount, f_atSet, f_atNeg, f_visitCount, f_done, f_stuck, f_curNode, f_curEnv, f_resultValue, f_valueCount, f_envCount, nI (d + 1), a_nKind, a_nPart, a_nParent, a_cNode, a_cUp, a_cChild, a_cInst, a_cParam, a_queue, a_rel, a_vKind, a_vWord, a_vEnv, a_vField, a_eName, a_eValue, a_eNext, a_fNode, a_fEnv, a_fPart, a_fValue) v := by
  have hn := tm_n W
  have iD : vp_in (nI d) 192 := vp_in_nI (by omega) (by omega)
  have cD : (nI d).toNatClampNeg = d := nI_clamp (by omega)
  unfold wpX_feed
  dsimp only
  refine nm_r (nI_pred d) ⟨iD, nm_r (e' := nI m) (by rw [cD, eN]) ⟨vp_in_nI (by omega) (by omega), nm_r (e' := nI (kd m)) (by rw [nI_clamp (by omega), A.1 m hm]) (br_f (by rw [k6]; decide) (br_f (by rw [k6]; decide) (br_t (by rw [k6]; rfl) ?_)))⟩⟩
  unfold wpX_feedRec
  dsimp only
  refine ⟨iD, nm_r (e' := nI cl) (by rw [cD, e1]) ⟨iD, nm_r (e' := nI s) (by rw [cD, e2]) ⟨nu_i4 (by omega) (by omega), nm_r (e' := upd a_vField (4 * cl + s) v) (by rw [nu_c4 (by omega)]) ?_⟩⟩⟩
  rw [nI_1]
  refine xw_ncp W A hm (by omega) ?_
  rw [nu_p4 (by omega)]
  refine br_c (fun z => ⟨iD, nm_r (e' := upd a_fPart d (nI (tm_nx (cd m) (s + 1)))) (by rw [cD]) ⟨nu_i4 (by omega) (by omega), ?_⟩⟩) (fun z => nm_r (nI_pred d) (h0 z))
  cases ec : cd m (tm_nx (cd m) (s + 1)) with
  | none => exact absurd ec (hx z)
  | some c =>
    have hsl := (tm_o W hm (by rw [ec]; intro z; cases z)).2
    exact nm_r (e' := nI c) (by rw [nu_c4 (by omega), A.2 _ (by omega), tm_s W hm z hsl, ec]; rfl) ⟨iD, nm_r (e' := a_fEnv d) (by rw [cD]) (h1 c z ec)⟩
theorem xw_fsel (W : tm_WF n kd cd pp par) (A : tm_Ag n kd pp a_nKind a_nPart) (hd : d < 192) (hm : m < n) (eN : a_fNode d = nI m) (k7 : kd m = 7) {vv : Nat} (hvv : vv < 192)
    (h1 : a_vKind vv = 6 → 0 ≤ a_vField (4 * vv + tm_l pp m) → post (a_vField (4 * vv + tm_l pp m)) (f_maxNodes, f_maxWeight, f_maxVisits, f_nodeCount, f_sealed, f_verdictNow, f_copyCount, f_varCount, f_atSet, f_atNeg, f_visitCount, f_done, f_stuck, f_curNode, f_curEnv, f_resultValue, f_valueCount, f_envCount, nI d, a_nKind, a_nPart, a_nParent, a_cNode, a_cUp, a_cChild, a_cInst, a_cParam, a_queue, a_rel, a_vKind, a_vWord, a_vEnv, a_vField, a_eName, a_eValue, a_eNext, a_fNode, a_fEnv, a_fPart, a_fValue))
    (h0 : ¬ (a_vKind vv = 6 ∧ 0 ≤ a_vField (4 * vv + tm_l pp m)) → post (-1) (f_maxNodes, f_maxWeight, f_maxVisits, f_nodeCount, f_sealed, f_verdictNow, f_copyCount, f_varCount, f_atSet, f_atNeg, f_visitCount, f_done, 1, nI m, f_curEnv, f_resultValue, f_valueCount, f_envCount, nI (d + 1), a_nKind, a_nPart, a_nParent, a_cNode, a_cUp, a_cChild, a_cInst, a_cParam, a_queue, a_rel, a_vKind, a_vWord, a_vEnv, a_vField, a_eName, a_eValue, a_eNext, a_fNode, a_fEnv, a_fPart, a_fValue)) : wpX_feed post (f_maxNodes, f_maxWeight, f_maxVisits, f_nodeCount, f_sealed, f_verdictNow, f_copyCount, f_varCount, f_atSet, f_atNeg, f_visitCount, f_done, f_stuck, f_curNode, f_curEnv, f_resultValue, f_valueCount, f_envCount, nI (d + 1), a_nKind, a_nPart, a_nParent, a_cNode, a_cUp, a_cChild, a_cInst, a_cParam, a_queue, a_rel, a_vKind, a_vWord, a_vEnv, a_vField, a_eName, a_eValue, a_eNext, a_fNode, a_fEnv, a_fPart, a_fValue) (nI vv) := by
  have hn := tm_n W
  have iD : vp_in (nI d) 192 := vp_in_nI (by omega) (by omega)
  have cD : (nI d).toNatClampNeg = d := nI_clamp (by omega)
  have L := tm_l7 W hm k7
  unfold wpX_feed
  dsimp only
  refine nm_r (nI_pred d) ⟨iD, nm_r (e' := nI m) (by rw [cD, eN]) ⟨vp_in_nI (by omega) (by omega), nm_r (e' := nI (kd m)) (by rw [nI_clamp (by omega), A.1 m hm]) (br_f (by rw [k7]; decide) (br_f (by rw [k7]; decide) (br_f (by rw [k7]; decide) (br_t (by rw [k7]; rfl) ?_))))⟩⟩
  unfold wpX_feedSel
  dsimp only
  refine ⟨vp_in_nI (by omega) (by omega), ?_⟩
  rw [nI_clamp (show vv < 2 ^ 31 by omega), show (4 * nI m + 1).toNatClampNeg = 4 * m + 1 from nu_c4 (i := 1) (by omega), A.2 _ (by omega), L.1]
  refine br_c (fun z => ⟨nu_i4 (i := 1) (by omega) (by omega), nu_i4 (by omega) (by omega), nm_r (e' := a_vField (4 * vv + tm_l pp m)) (by rw [nu_c4 (by omega)]) (br_c (fun y => nm_r (nI_pred d) (h1 z y)) (fun y => h0 fun w => y w.2))⟩) (fun z => br_f (by decide) (h0 fun w => z w.1))
theorem xw_fadd (W : tm_WF n kd cd pp par) (A : tm_Ag n kd pp a_nKind a_nPart) (hd : d < 192) (hm : m < n) (eN : a_fNode d = nI m) (k8 : kd m = 8) {vv vc : Nat} (hvv : vv < 192)
    (h0 : a_fPart d = 0 → ∃ c, cd m 1 = some c ∧ post (-1) (f_maxNodes, f_maxWeight, f_maxVisits, f_nodeCount, f_sealed, f_verdictNow, f_copyCount, f_varCount, f_atSet, f_atNeg, f_visitCount, f_done, f_stuck, nI c, a_fEnv d, f_resultValue, nI vc, f_envCount, nI (d + 1), a_nKind, a_nPart, a_nParent, a_cNode, a_cUp, a_cChild, a_cInst, a_cParam, a_queue, a_rel, a_vKind, a_vWord, a_vEnv, a_vField, a_eName, a_eValue, a_eNext, a_fNode, a_fEnv, upd a_fPart d 1, upd a_fValue d (nI vv)))
    (h1 : ¬ a_fPart d = 0 → ∃ av, a_fValue d = nI av ∧ av < 192 ∧ (¬ (a_vKind av = 1 ∧ a_vKind vv = 1) → post (-1) (f_maxNodes, f_maxWeight, f_maxVisits, f_nodeCount, f_sealed, f_verdictNow, f_copyCount, f_varCount, f_atSet, f_atNeg, f_visitCount, f_done, 1, nI m, f_curEnv, f_resultValue, nI vc, f_envCount, nI (d + 1), a_nKind, a_nPart, a_nParent, a_cNode, a_cUp, a_cChild, a_cInst, a_cParam, a_queue, a_rel, a_vKind, a_vWord, a_vEnv, a_vField, a_eName, a_eValue, a_eNext, a_fNode, a_fEnv, a_fPart, a_fValue)) ∧ (a_vKind av = 1 → a_vKind vv = 1 → vc < 192 ∧ post (nI vc) (f_maxNodes, f_maxWeight, f_maxVisits, f_nodeCount, f_sealed, f_verdictNow, f_copyCount, f_varCount, f_atSet, f_atNeg, f_visitCount, f_done, f_stuck, f_curNode, f_curEnv, f_resultValue, nI (vc + 1), f_envCount, nI d, a_nKind, a_nPart, a_nParent, a_cNode, a_cUp, a_cChild, a_cInst, a_cParam, a_queue, a_rel, upd a_vKind vc 1, upd a_vWord vc (a_vWord av + a_vWord vv), upd a_vEnv vc (-1), es_nf a_vField vc, a_eName, a_eValue, a_eNext, a_fNode, a_fEnv, a_fPart, a_fValue))) : wpX_feed post (f_maxNodes, f_maxWeight, f_maxVisits, f_nodeCount, f_sealed, f_verdictNow, f_copyCount, f_varCount, f_atSet, f_atNeg, f_visitCount, f_done, f_stuck, f_curNode, f_curEnv, f_resultValue, nI vc, f_envCount, nI (d + 1), a_nKind, a_nPart, a_nParent, a_cNode, a_cUp, a_cChild, a_cInst, a_cParam, a_queue, a_rel, a_vKind, a_vWord, a_vEnv, a_vField, a_eName, a_eValue, a_eNext, a_fNode, a_fEnv, a_fPart, a_fValue) (nI vv) := by
  have hn := tm_n W
  have iD : vp_in (nI d) 192 := vp_in_nI (by omega) (by omega)
  have cD : (nI d).toNatClampNeg = d := nI_clamp (by omega)
  unfold wpX_feed
  dsimp only
  refine nm_r (nI_pred d) ⟨iD, nm_r (e' := nI m) (by rw [cD, eN]) ⟨vp_in_nI (by omega) (by omega), nm_r (e' := nI (kd m)) (by rw [nI_clamp (by omega), A.1 m hm]) (br_f (by rw [k8]; decide) (br_f (by rw [k8]; decide) (br_f (by rw [k8]; decide) (br_f (by rw [k8]; decide) (br_t (by rw [k8]; rfl) ?_)))))⟩⟩
  unfold wpX_feedAdd
  dsimp only
  refine ⟨iD, ?_⟩
  rw [cD]
  refine br_c (fun z => ?_) (fun z => ⟨iD, ?_⟩)
  · obtain ⟨c, ec, H⟩ := h0 z
    exact xw_fkeep W A hd hm ec H
  · obtain ⟨av, ea, hav, H1, H2⟩ := h1 z
    refine nm_r ea ⟨vp_in_nI (by omega) (by omega), ?_⟩
    rw [nI_clamp (show av < 2 ^ 31 by omega), nI_clamp (show vv < 2 ^ 31 by omega)]
    refine br_c (fun k => ⟨vp_in_nI (by omega) (by omega), br_c (fun k' => nm_r (nI_pred d) ⟨vp_in_nI (by omega) (by omega), vp_in_nI (by omega) (by omega), ?_⟩) (fun k' => H1 fun w => k' w.2)⟩) (fun k => H1 fun w => k w.1)
    exact xw_newv (H2 k k').1 (H2 k k').2
theorem xw_fifz (W : tm_WF n kd cd pp par) (A : tm_Ag n kd pp a_nKind a_nPart) (hd : d < 192) (hm : m < n) (eN : a_fNode d = nI m) (k9 : kd m = 9) {vv : Nat} (hvv : vv < 192)
    (h0 : ¬ a_vKind vv = 1 → post (-1) (f_maxNodes, f_maxWeight, f_maxVisits, f_nodeCount, f_sealed, f_verdictNow, f_copyCount, f_varCount, f_atSet, f_atNeg, f_visitCount, f_done, 1, nI m, f_curEnv, f_resultValue, f_valueCount, f_envCount, nI (d + 1), a_nKind, a_nPart, a_nParent, a_cNode, a_cUp, a_cChild, a_cInst, a_cParam, a_queue, a_rel, a_vKind, a_vWord, a_vEnv, a_vField, a_eName, a_eValue, a_eNext, a_fNode, a_fEnv, a_fPart, a_fValue))
    (h1 : a_vKind vv = 1 → ∀ s c, s = (if a_vWord vv = 0 then 1 else 2) → cd m s = some c → post (-1) (f_maxNodes, f_maxWeight, f_maxVisits, f_nodeCount, f_sealed, f_verdictNow, f_copyCount, f_varCount, f_atSet, f_atNeg, f_visitCount, f_done, f_stuck, nI c, a_fEnv d, f_resultValue, f_valueCount, f_envCount, nI d, a_nKind, a_nPart, a_nParent, a_cNode, a_cUp, a_cChild, a_cInst, a_cParam, a_queue, a_rel, a_vKind, a_vWord, a_vEnv, a_vField, a_eName, a_eValue, a_eNext, a_fNode, a_fEnv, a_fPart, a_fValue)) : wpX_feed post (f_maxNodes, f_maxWeight, f_maxVisits, f_nodeCount, f_sealed, f_verdictNow, f_copyCount, f_varCount, f_atSet, f_atNeg, f_visitCount, f_done, f_stuck, f_curNode, f_curEnv, f_resultValue, f_valueCount, f_envCount, nI (d + 1), a_nKind, a_nPart, a_nParent, a_cNode, a_cUp, a_cChild, a_cInst, a_cParam, a_queue, a_rel, a_vKind, a_vWord, a_vEnv, a_vField, a_eName, a_eValue, a_eNext, a_fNode, a_fEnv, a_fPart, a_fValue) (nI vv) := by
  have hn := tm_n W
  have iD : vp_in (nI d) 192 := vp_in_nI (by omega) (by omega)
  have cD : (nI d).toNatClampNeg = d := nI_clamp (by omega)
  have s1 : tm_slot (kd m) 1 = true := by rw [k9]; rfl
  have s2 : tm_slot (kd m) 2 = true := by rw [k9]; rfl
  unfold wpX_feed
  dsimp only
  refine nm_r (nI_pred d) ⟨iD, nm_r (e' := nI m) (by rw [cD, eN]) ⟨vp_in_nI (by omega) (by omega), nm_r (e' := nI (kd m)) (by rw [nI_clamp (by omega), A.1 m hm]) (br_f (by rw [k9]; decide) (br_f (by rw [k9]; decide) (br_f (by rw [k9]; decide) (br_f (by rw [k9]; decide) (br_f (by rw [k9]; decide) ?_)))))⟩⟩
  unfold wpX_feedIfz
  dsimp only
  refine ⟨vp_in_nI (by omega) (by omega), ?_⟩
  rw [nI_clamp (show vv < 2 ^ 31 by omega)]
  refine br_c (fun k => nm_r (nI_pred d) ⟨vp_in_nI (by omega) (by omega), br_c (fun z => ⟨nu_i4 (i := 1) (by omega) (by omega), ?_⟩) (fun z => ⟨nu_i4 (i := 2) (by omega) (by omega), ?_⟩)⟩) (fun k => h0 k)
  · cases ec : cd m 1 with
    | none => exact absurd ec (tm_nn W hm (by omega) s1 (by omega))
    | some c =>
      rw [show (4 * nI m + 1).toNatClampNeg = 4 * m + 1 from nu_c4 (i := 1) (by omega), A.2 _ (by omega), tm_s W hm (by omega) s1, ec]
      exact ⟨iD, nm_r (e' := a_fEnv d) (by rw [cD]) (h1 k 1 c (by rw [if_pos z]) ec)⟩
  · cases ec : cd m 2 with
    | none => exact absurd ec (tm_nn W hm (by omega) s2 (by omega))
    | some c =>
      rw [show (4 * nI m + 2).toNatClampNeg = 4 * m + 2 from nu_c4 (i := 2) (by omega), A.2 _ (by omega), tm_s W hm (by omega) s2, ec]
      exact ⟨iD, nm_r (e' := a_fEnv d) (by rw [cD]) (h1 k 2 c (by rw [if_neg z]) ec)⟩
end
end
section
/-! evaluation: the value of a variable, both sides -/
theorem bd_wgt {n : Nat} {kd : Nat → Nat} {cd : Nat → Nat → Option Nat} {pp : Nat → Int32} {par : Nat → Option Nat} {r v : Nat} (W : tm_WF n kd cd pp par) : ∀ f a b, bd_w kd cd pp par r v f a = some b → a < b := by
  intro f
  induction f with
  | zero => intro a b h; cases h
  | succ f ih =>
    intro a b h
    by_cases e : a = r
    · subst e; rw [bd_w_r] at h; cases h
    · cases ea : par a with
      | none => rw [bd_w_n e ea] at h; cases h
      | some c =>
        have := (tm_pl W ea).1
        rw [bd_w_s e ea] at h
        split at h
        · cases h; exact this
        · have := ih c b h; omega
section
variable {f_maxNodes f_maxWeight f_maxVisits f_nodeCount f_sealed f_verdictNow f_copyCount f_varCount : Int32} {f_atSet : Int64} {f_atNeg f_visitCount f_done f_stuck f_curNode f_curEnv f_resultValue f_valueCount f_envCount f_depth : Int32} {a_nKind a_nPart a_nParent a_cNode a_cUp a_cChild a_cInst a_cParam a_queue : Nat → Int32} {a_rel : Nat → Int64} {a_vKind a_vWord a_vEnv a_vField a_eName a_eValue a_eNext a_fNode a_fEnv a_fPart a_fValue : Nat → Int32} {g_maxNodes g_maxWeight g_maxVisits g_count g_root g_nc g_weight g_grown g_neg g_made g_next g_nextPar g_nextSlot g_nextLex g_stuck : Int32} {b_kinds b_parts b_cNode b_cPar b_cSlot b_le b_saved b_cur b_nxt b_first b_vNode b_vPar b_vSlot b_vLex b_val b_num : Nat → Int32} {n N r v : Nat} {kd : Nat → Nat} {cd : Nat → Nat → Option Nat} {pp : Nat → Int32} {par : Nat → Option Nat} {TT : Nat → Prop} {num : Nat → Int32} {vn : Nat → Nat} {vp : Nat → Option Nat} {vs : Nat → Nat} {vl va : Nat → Option Nat} {gt : Nat → Nat → Option Nat} {dp : Nat → Nat} {ev : Nat → Option Nat} {xv : Nat → Nat} {ec : Nat}
theorem es_look (W : tm_WF n kd cd pp par) (A' : tm_Ag n kd pp b_kinds b_parts) (S : es_S N r kd cd TT num vn vp vs vl va gt dp) (hN : N ≤ 192) (A : es_A N vn vp vs vl va b_vNode b_vPar b_vSlot b_vLex b_val) (hT : ∀ j, j < N → vn j < n) (E : es_E N kd pp vn vp vs vl gt ev xv ec a_eName a_eValue a_eNext) (hec : ec ≤ 192) :
    ∀ f j t b, t + f = 48 → j < N → bd_w kd cd pp par r v f (vn j) = some b → ∃ o g s, gt g s = some o ∧ (∀ post : Int32 → Prop, post (nI o) → wY_lookup_20 post (nI b) g_maxNodes g_maxWeight g_maxVisits g_count g_root g_nc g_weight g_grown g_neg (nI N) g_next g_nextPar g_nextSlot g_nextLex g_stuck b_kinds b_parts b_cNode b_cPar b_cSlot b_le b_saved b_cur b_nxt b_first b_vNode b_vPar b_vSlot b_vLex b_val b_num (f + 1) (nI j) (nI t)) ∧ (∀ (m st : Nat) (post : Int32 → Prop), f < m → (∀ e, ev j = some e → st + e < 192) → post (nI (xv o)) → wX_lookup_7 post (pp (4 * v)) f_maxNodes f_maxWeight f_maxVisits f_nodeCount f_sealed f_verdictNow f_copyCount f_varCount f_atSet f_atNeg f_visitCount f_done f_stuck f_curNode f_curEnv f_resultValue f_valueCount f_envCount f_depth a_nKind a_nPart a_nParent a_cNode a_cUp a_cChild a_cInst a_cParam a_queue a_rel a_vKind a_vWord a_vEnv a_vField a_eName a_eValue a_eNext a_fNode a_fEnv a_fPart a_fValue m (nu_o (ev j)) (nI st)) := by
  have hn := tm_n W
  intro f
  induction f with
  | zero => intro j t b _ _ h; cases h
  | succ f ih =>
    intro j t b ht hj h
    have hnr : vn j ≠ r := fun z => by rw [z, bd_w_r] at h; cases h
    have hj0 : 0 < j := by
      rcases Nat.eq_zero_or_pos j with z | z
      · subst z; exact absurd (es_0 S).2.1 hnr
      · exact z
    obtain ⟨i, hij, ei, L, _⟩ := es_lk S hj0 hj
    -- the visit around j
    obtain ⟨u, huj, eu, pu, sc⟩ : ∃ u, u < j ∧ vl j = some u ∧ par (vn j) = some (vn u) ∧ ((kd (vn u) = 5 ∧ cd (vn u) 2 = some (vn j)) ↔ (kd (vn u) = 5 ∧ vs j = 2)) := by
      rcases L.2.1 with ⟨a, b', c⟩ | ⟨a, b', c, f', d, e, k3, c1, c2⟩
      · refine ⟨i, hij, c, (tm_c W (hT i (by omega)) b').2, fun z => ⟨z.1, ?_⟩, fun z => ⟨z.1, ?_⟩⟩
        · exact tm_inj W (hT i (by omega)) b' z.2
        · rw [← z.2]; exact b'
      · exact ⟨f', e, c2, (tm_c W (hT f' (by omega)) c1).2, fun z => by omega, fun z => by omega⟩
    have huN : u < N := by omega
    have hmu := hT u huN
    have hku := tm_k W hmu
    have qj := A j hj
    have qu := A u huN
    have hbn := bd_wlt W (f + 1) (vn j) b h
    rw [bd_w_s hnr pu] at h
    -- Y's entry
    have EY : ∀ post : Int32 → Prop, (vn u = b → (kd b = 5 → wY_lookup_77 post (nI u) g_maxNodes g_maxWeight g_maxVisits g_count g_root g_nc g_weight g_grown g_neg (nI N) g_next g_nextPar g_nextSlot g_nextLex g_stuck b_kinds b_parts b_cNode b_cPar b_cSlot b_le b_saved b_cur b_nxt b_first b_vNode b_vPar b_vSlot b_vLex b_val b_num) ∧ (¬ kd b = 5 → wY_lookup_77 post (nu_o (vp j)) g_maxNodes g_maxWeight g_maxVisits g_count g_root g_nc g_weight g_grown g_neg (nI N) g_next g_nextPar g_nextSlot g_nextLex g_stuck b_kinds b_parts b_cNode b_cPar b_cSlot b_le b_saved b_cur b_nxt b_first b_vNode b_vPar b_vSlot b_vLex b_val b_num)) → (vn u ≠ b → wY_lookup_20 post (nI b) g_maxNodes g_maxWeight g_maxVisits g_count g_root g_nc g_weight g_grown g_neg (nI N) g_next g_nextPar g_nextSlot g_nextLex g_stuck b_kinds b_parts b_cNode b_cPar b_cSlot b_le b_saved b_cur b_nxt b_first b_vNode b_vPar b_vSlot b_vLex b_val b_num (f + 1) (nI u) (nI (t + 1))) → wY_lookup_20 post (nI b) g_maxNodes g_maxWeight g_maxVisits g_count g_root g_nc g_weight g_grown g_neg (nI N) g_next g_nextPar g_nextSlot g_nextLex g_stuck b_kinds b_parts b_cNode b_cPar b_cSlot b_le b_saved b_cur b_nxt b_first b_vNode b_vPar b_vSlot b_vLex b_val b_num (f + 1 + 1) (nI j) (nI t) := fun post H1 H0 => by
      refine br_f ?_ (br_f (nI_pos (by omega)) ⟨vp_in_nI (by omega) (by omega), nm_r (e' := nI u) (by rw [nI_clamp (by omega), qj.2.2.2.1, eu]; rfl) (br_f (nI_pos (by omega)) ⟨vp_in_nI (by omega) (by omega), ?_⟩)⟩)
      · show ¬ (48 : Int32) ≤ nI t
        rw [nu_g48 (by omega)]; omega
      have hkb := tm_k W hbn
      rw [nI_clamp (show u < 2 ^ 31 by omega), qu.1, nI_eq (by omega) (by omega), nI_clamp (show b < 2 ^ 31 by omega), A'.1 b hbn, nu_e5 (by omega), nI_clamp (show j < 2 ^ 31 by omega), qj.2.1]
      exact br_c (fun e => ⟨vp_in_nI (by omega) (by omega), br_c (fun k => (H1 e).1 k) (fun k => ⟨vp_in_nI (by omega) (by omega), (H1 e).2 k⟩)⟩) (fun e => nm_r (nI_1 t) (H0 e))
    -- X's steps
    have XH : ∀ (e : Nat) (m st : Nat) (post : Int32 → Prop), e < 192 → st < 192 → a_eName e = pp (4 * v) → post (a_eValue e) → wX_lookup_7 post (pp (4 * v)) f_maxNodes f_maxWeight f_maxVisits f_nodeCount f_sealed f_verdictNow f_copyCount f_varCount f_atSet f_atNeg f_visitCount f_done f_stuck f_curNode f_curEnv f_resultValue f_valueCount f_envCount f_depth a_nKind a_nPart a_nParent a_cNode a_cUp a_cChild a_cInst a_cParam a_queue a_rel a_vKind a_vWord a_vEnv a_vField a_eName a_eValue a_eNext a_fNode a_fEnv a_fPart a_fValue (m + 1) (nI e) (nI st) := fun e m st post he hst e1 hp => by
      refine br_f ?_ (br_f (nI_pos (by omega)) ⟨vp_in_nI (by omega) (by omega), ?_⟩)
      · show ¬ (192 : Int32) ≤ nI st
        rw [nu_g192 (by omega)]; omega
      rw [nI_clamp (show e < 2 ^ 31 by omega)]
      exact br_t e1 ⟨vp_in_nI (by omega) (by omega), hp⟩
    have XM : ∀ (e : Nat) (m st : Nat) (post : Int32 → Prop), e < 192 → st < 192 → a_eName e ≠ pp (4 * v) → wX_lookup_7 post (pp (4 * v)) f_maxNodes f_maxWeight f_maxVisits f_nodeCount f_sealed f_verdictNow f_copyCount f_varCount f_atSet f_atNeg f_visitCount f_done f_stuck f_curNode f_curEnv f_resultValue f_valueCount f_envCount f_depth a_nKind a_nPart a_nParent a_cNode a_cUp a_cChild a_cInst a_cParam a_queue a_rel a_vKind a_vWord a_vEnv a_vField a_eName a_eValue a_eNext a_fNode a_fEnv a_fPart a_fValue m (a_eNext e) (nI (st + 1)) → wX_lookup_7 post (pp (4 * v)) f_maxNodes f_maxWeight f_maxVisits f_nodeCount f_sealed f_verdictNow f_copyCount f_varCount f_atSet f_atNeg f_visitCount f_done f_stuck f_curNode f_curEnv f_resultValue f_valueCount f_envCount f_depth a_nKind a_nPart a_nParent a_cNode a_cUp a_cChild a_cInst a_cParam a_queue a_rel a_vKind a_vWord a_vEnv a_vField a_eName a_eValue a_eNext a_fNode a_fEnv a_fPart a_fValue (m + 1) (nI e) (nI st) := fun e m st post he hst e1 hp => by
      refine br_f ?_ (br_f (nI_pos (by omega)) ⟨vp_in_nI (by omega) (by omega), ?_⟩)
      · show ¬ (192 : Int32) ≤ nI st
        rw [nu_g192 (by omega)]; omega
      rw [nI_clamp (show e < 2 ^ 31 by omega)]
      exact br_f e1 ⟨vp_in_nI (by omega) (by omega), nm_e (nm_r (nI_1 st) hp)⟩
    have EV := E.2.2 j u hj eu
    by_cases hm : (kd (vn u) = 3 ∨ (kd (vn u) = 5 ∧ cd (vn u) 2 = some (vn j))) ∧ pp (4 * vn u) = pp (4 * v)
    · rw [if_pos hm] at h
      cases h
      rcases hm.1 with k3 | k5
      · obtain ⟨e, i', o, h1, h2, h3, h4, h5, h6, h7⟩ := EV.1 k3
        have hi' := (es_lk' S hj h5).2.1
        refine ⟨o, i', 1, h6, fun post hp => EY post (fun _ => ⟨fun k => by omega, fun _ => ?_⟩) (fun z => absurd rfl z), fun m st post hm' hst hp => ?_⟩
        · rw [h5]
          refine yw_got (s := 1) S hN A (show i' < 2 ^ 31 by omega) (by omega) ?_
          rw [h6]; exact hp
        · obtain ⟨m', rfl⟩ : ∃ m', m = m' + 1 := ⟨m - 1, by omega⟩
          have := hst e h1
          rw [h1]
          refine XH e m' st post (by omega) (by omega) (h3.trans hm.2) ?_
          rw [h7]; exact hp
      · obtain ⟨e, o, h1, h2, h3, h4, h5, h6⟩ := EV.2.1 k5.1 (sc.mp k5).2
        refine ⟨o, u, 1, h5, fun post hp => EY post (fun _ => ⟨fun _ => ?_, fun k => absurd k5.1 k⟩) (fun z => absurd rfl z), fun m st post hm' hst hp => ?_⟩
        · refine yw_got (s := 1) S hN A (show u < 2 ^ 31 by omega) (by omega) ?_
          rw [h5]; exact hp
        · obtain ⟨m', rfl⟩ : ∃ m', m = m' + 1 := ⟨m - 1, by omega⟩
          have := hst e h1
          rw [h1]
          refine XH e m' st post (by omega) (by omega) (h3.trans hm.2) ?_
          rw [h6]; exact hp
    · rw [if_neg hm] at h
      have hgt := bd_wgt W f (vn u) b h
      obtain ⟨o, g, s, hg, hY, hX⟩ := ih u (t + 1) b (by omega) huN h
      refine ⟨o, g, s, hg, fun post hp => EY post (fun z => by omega) (fun _ => hY post hp), fun m st post hm' hst hp => ?_⟩
      by_cases k3 : kd (vn u) = 3
      · obtain ⟨e, i', o', h1, h2, h3, h4, _⟩ := EV.1 k3
        obtain ⟨m', rfl⟩ : ∃ m', m = m' + 1 := ⟨m - 1, by omega⟩
        have := hst e h1
        rw [h1]
        refine XM e m' st post (by omega) (by omega) (fun z => hm ⟨Or.inl k3, h3.symm.trans z⟩) ?_
        rw [h4]
        exact hX m' (st + 1) post (by omega) (fun e' he' => by have := h2 e' he'; omega) hp
      · by_cases k5 : kd (vn u) = 5 ∧ vs j = 2
        · obtain ⟨e, o', h1, h2, h3, h4, _⟩ := EV.2.1 k5.1 k5.2
          obtain ⟨m', rfl⟩ : ∃ m', m = m' + 1 := ⟨m - 1, by omega⟩
          have := hst e h1
          rw [h1]
          refine XM e m' st post (by omega) (by omega) (fun z => hm ⟨Or.inr (sc.mpr k5), h3.symm.trans z⟩) ?_
          rw [h4]
          exact hX m' (st + 1) post (by omega) (fun e' he' => by have := h2 e' he'; omega) hp
        · have e := EV.2.2 k3 k5
          rw [e]
          exact hX m st post (by omega) (fun e' he' => hst e' (by rw [e]; exact he')) hp
/-- a variable's value -/
theorem es_lookup (W : tm_WF n kd cd pp par) (A' : tm_Ag n kd pp b_kinds b_parts) (S : es_S N r kd cd TT num vn vp vs vl va gt dp) (hN : N ≤ 192) (A : es_A N vn vp vs vl va b_vNode b_vPar b_vSlot b_vLex b_val) (hT : ∀ j, j < N → vn j < n) (E : es_E N kd pp vn vp vs vl gt ev xv ec a_eName a_eValue a_eNext) (hec : ec ≤ 192) {j b : Nat} (hj : j < N) (h : bd_b kd cd pp par r (vn j) = some b) {n' : Nat} {kd' : Nat → Nat} {cd' : Nat → Nat → Option Nat} {pp' : Nat → Int32} {par' : Nat → Option Nat} (W2 : tm_WF n' kd' cd' pp' par') (A2 : tm_Ag n' kd' pp' b_kinds b_parts) (hr : r < n') (hj' : vn j < n') (h' : bd_b kd' cd' pp' par' r (vn j) = some b) :
    ∃ o g s, gt g s = some o ∧ (∀ post : Int32 → Prop, post (nI o) → wpY_lookup post (g_maxNodes, g_maxWeight, g_maxVisits, nI n', nI r, g_nc, g_weight, g_grown, g_neg, nI N, g_next, g_nextPar, g_nextSlot, g_nextLex, g_stuck, b_kinds, b_parts, b_cNode, b_cPar, b_cSlot, b_le, b_saved, b_cur, b_nxt, b_first, b_vNode, b_vPar, b_vSlot, b_vLex, b_val, b_num) (nI j)) ∧ (∀ post : Int32 → Prop, post (nI (xv o)) → wpX_lookup post (f_maxNodes, f_maxWeight, f_maxVisits, f_nodeCount, f_sealed, f_verdictNow, f_copyCount, f_varCount, f_atSet, f_atNeg, f_visitCount, f_done, f_stuck, f_curNode, nu_o (ev j), f_resultValue, f_valueCount, f_envCount, f_depth, a_nKind, a_nPart, a_nParent, a_cNode, a_cUp, a_cChild, a_cInst, a_cParam, a_queue, a_rel, a_vKind, a_vWord, a_vEnv, a_vField, a_eName, a_eValue, a_eNext, a_fNode, a_fEnv, a_fPart, a_fValue) (pp (4 * vn j))) := by
  have hn := tm_n W
  obtain ⟨o, g, s, h1, h2, h3⟩ := @es_look f_maxNodes f_maxWeight f_maxVisits f_nodeCount f_sealed f_verdictNow f_copyCount f_varCount f_atSet f_atNeg f_visitCount f_done f_stuck f_curNode (nu_o (ev j)) f_resultValue f_valueCount f_envCount f_depth a_nKind a_nPart a_nParent a_cNode a_cUp a_cChild a_cInst a_cParam a_queue a_rel a_vKind a_vWord a_vEnv a_vField a_eName a_eValue a_eNext a_fNode a_fEnv a_fPart a_fValue g_maxNodes g_maxWeight g_maxVisits (nI n') (nI r) g_nc g_weight g_grown g_neg g_next g_nextPar g_nextSlot g_nextLex g_stuck b_kinds b_parts b_cNode b_cPar b_cSlot b_le b_saved b_cur b_nxt b_first b_vNode b_vPar b_vSlot b_vLex b_val b_num n N r (vn j) kd cd pp par TT num vn vp vs vl va gt dp ev xv ec W A' S hN A hT E hec 48 j 0 b rfl hj h
  refine ⟨o, g, s, h1, fun post hp => ⟨vp_in_nI (by omega) (by omega), ?_⟩, fun post hp => ⟨49, h3 49 0 post (by omega) (fun e he => ?_) hp⟩⟩
  · rw [nI_clamp (show j < 2 ^ 31 by omega), (A j hj).1]
    refine yw_bd W2 A2 hr hj' ?_
    rw [h']
    exact ⟨49, h2 post hp⟩
  · have := E.1 j hj e he
    omega
end
end
section
/-! evaluation: the states between visits, and while a value is handed down -/
/-- running: visit M comes next -/
def es_run (M r : Nat) (kd : Nat → Nat) (cd : Nat → Nat → Option Nat) (pp : Nat → Int32) (TT : Nat → Prop) (f_done f_stuck f_curNode f_curEnv f_resultValue f_valueCount f_envCount f_depth : Int32) (a_vKind a_vWord a_vEnv a_vField a_eName a_eValue a_eNext a_fNode a_fEnv a_fPart a_fValue : Nat → Int32) (g_next g_nextPar g_nextSlot g_nextLex g_stuck : Int32) (b_vNode b_vPar b_vSlot b_vLex b_val b_num : Nat → Int32) : Prop :=
  ∃ (vn : Nat → Nat) (vp : Nat → Option Nat) (vs : Nat → Nat) (vl va : Nat → Option Nat) (gt : Nat → Nat → Option Nat) (dp : Nat → Nat) (ev : Nat → Option Nat) (xv : Nat → Nat) (vc ec : Nat),
    es_S (M + 1) r kd cd TT b_num vn vp vs vl va gt dp ∧ va M = none ∧ va 0 = none ∧ es_E (M + 1) kd pp vn vp vs vl gt ev xv ec a_eName a_eValue a_eNext ∧ es_V M kd vn va gt ev xv vc a_vKind a_vWord a_vEnv a_vField b_num ∧ es_F (M + 1) kd vn vp vs va gt ev xv dp a_fNode a_fEnv a_fPart a_fValue ∧ es_A M vn vp vs vl va b_vNode b_vPar b_vSlot b_vLex b_val ∧ ec ≤ M ∧
    f_done = 0 ∧ f_stuck = 0 ∧ f_curNode = nI (vn M) ∧ f_curEnv = nu_o (ev M) ∧ f_valueCount = nI vc ∧ f_envCount = nI ec ∧ f_depth = nI (dp M) ∧ g_next = nI (vn M) ∧ g_nextPar = nu_o (vp M) ∧ g_nextSlot = nI (vs M) ∧ g_nextLex = nu_o (vl M) ∧ g_stuck = 0
def es_stk (M : Nat) (f_done f_stuck f_curNode g_next g_stuck : Int32) (b_val : Nat → Int32) : Prop := 0 < M ∧ f_done = 0 ∧ f_stuck = 1 ∧ g_stuck = 1 ∧ b_val 0 = -1 ∧ ∃ m, m < 2 ^ 31 ∧ f_curNode = nI m ∧ g_next = nI m
def es_done (M r : Nat) (kd : Nat → Nat) (cd : Nat → Nat → Option Nat) (TT : Nat → Prop) (f_done f_resultValue : Int32) (a_vKind a_vWord a_vEnv a_vField : Nat → Int32) (g_next : Int32) (b_vNode b_vPar b_vSlot b_vLex b_val b_num : Nat → Int32) : Prop :=
  0 < M ∧ f_done = 1 ∧ g_next = -1 ∧ ∃ (vn : Nat → Nat) (vp : Nat → Option Nat) (vs : Nat → Nat) (vl va : Nat → Option Nat) (gt : Nat → Nat → Option Nat) (dp : Nat → Nat) (ev : Nat → Option Nat) (xv : Nat → Nat) (vc o : Nat),
    es_S M r kd cd TT b_num vn vp vs vl va gt dp ∧ es_V M kd vn va gt ev xv vc a_vKind a_vWord a_vEnv a_vField b_num ∧ es_A M vn vp vs vl va b_vNode b_vPar b_vSlot b_vLex b_val ∧ va 0 = some o ∧ f_resultValue = nI (xv o)
def es_R (M r : Nat) (kd : Nat → Nat) (cd : Nat → Nat → Option Nat) (pp : Nat → Int32) (TT : Nat → Prop) (f_done f_stuck f_curNode f_curEnv f_resultValue f_valueCount f_envCount f_depth : Int32) (a_vKind a_vWord a_vEnv a_vField a_eName a_eValue a_eNext a_fNode a_fEnv a_fPart a_fValue : Nat → Int32) (g_next g_nextPar g_nextSlot g_nextLex g_stuck : Int32) (b_vNode b_vPar b_vSlot b_vLex b_val b_num : Nat → Int32) : Prop :=
  es_run M r kd cd pp TT f_done f_stuck f_curNode f_curEnv f_resultValue f_valueCount f_envCount f_depth a_vKind a_vWord a_vEnv a_vField a_eName a_eValue a_eNext a_fNode a_fEnv a_fPart a_fValue g_next g_nextPar g_nextSlot g_nextLex g_stuck b_vNode b_vPar b_vSlot b_vLex b_val b_num ∨
  es_stk M f_done f_stuck f_curNode g_next g_stuck b_val ∨
  es_done M r kd cd TT f_done f_resultValue a_vKind a_vWord a_vEnv a_vField g_next b_vNode b_vPar b_vSlot b_vLex b_val b_num
/-- the value of visit j is handed down -/
def es_D (N r : Nat) (kd : Nat → Nat) (cd : Nat → Nat → Option Nat) (pp : Nat → Int32) (TT : Nat → Prop) (vn : Nat → Nat) (vp : Nat → Option Nat) (vs : Nat → Nat) (vl : Nat → Option Nat) (dp : Nat → Nat) (ev : Nat → Option Nat) (ec : Nat) (eN eV eX fN fE fP fV bN bP bS bL : Nat → Int32)
    (j o : Nat) (va : Nat → Option Nat) (gt gv : Nat → Nat → Option Nat) (xv : Nat → Nat) (vc : Nat) (vK vW vE vF bV num : Nat → Int32) : Prop :=
  es_S N r kd cd TT num vn vp vs vl va gt dp ∧ es_E N kd pp vn vp vs vl gt ev xv ec eN eV eX ∧ es_V N kd vn va gv ev xv vc vK vW vE vF num ∧ es_F N kd vn vp vs va gt ev xv dp fN fE fP fV ∧ es_A N vn vp vs vl va bN bP bS bL bV ∧
  j < N ∧ va j = some o ∧ (∀ i s, ¬ (vp j = some i ∧ vs j = s) → gv i s = gt i s) ∧ (∀ q, q < N → va q = none → ∃ i, vp j = some i ∧ q ≤ i ∧ dp q ≤ dp i) ∧ (∀ i, vp j = some i → va i = none ∧ (es_tl (kd (vn i)) (vs j) = false → es_f kd vn gt ev xv dp fN fE fP fV i (vs j))) ∧ (j ≠ 0 → va 0 = none) ∧ (∀ j' i, j' < N → vp j = some i → vp j' = some i → j' ≤ j)
section
variable {N r : Nat} {kd : Nat → Nat} {cd : Nat → Nat → Option Nat} {pp : Nat → Int32} {TT : Nat → Prop} {num num' : Nat → Int32} {vn : Nat → Nat} {vp : Nat → Option Nat} {vs : Nat → Nat} {vl va : Nat → Option Nat} {gt gv : Nat → Nat → Option Nat} {dp : Nat → Nat} {ev : Nat → Option Nat} {xv xv' : Nat → Nat} {ec vc vc' : Nat} {eN eV eX vK vW vE vF vK' vW' vE' vF' fN fE fP fV bN bP bS bL bV : Nat → Int32}
/-- the top pending visit gets its value, and hands it down -/
theorem es_Dset (S : es_S N r kd cd TT num vn vp vs vl va gt dp) (E : es_E N kd pp vn vp vs vl gt ev xv ec eN eV eX) (F : es_F N kd vn vp vs va gt ev xv dp fN fE fP fV) (A : es_A N vn vp vs vl va bN bP bS bL bV) {p o : Nat} (hp : p < N) (hv : va p = none) (ht : ∀ q, q < N → va q = none → q ≤ p) (hn : ∀ a, a ≠ p → num' a = num a) (ho : (o = p ∧ (kd (vn p) = 1 ∨ kd (vn p) = 3 ∨ kd (vn p) = 6 ∨ kd (vn p) = 8) ∧ (kd (vn p) = 6 → ∀ l, cd (vn p) l ≠ none → gt p l ≠ none)) ∨ (o < N ∧ va o = some o))
    (hx : ∀ w, va w = some w → xv' w = xv w) (hx6 : ∀ i, kd (vn i) = 6 → i < N → xv' i = xv i) (h0 : p ≠ 0 → va 0 = none)
    (V : es_V N kd vn (es_u va p (some o)) gt ev xv' vc' vK' vW' vE' vF' num') : es_D N r kd cd pp TT vn vp vs vl dp ev ec eN eV eX fN fE fP fV bN bP bS bL p o (es_u va p (some o)) (es_g gt vp vs p (some o)) gt xv' vc' vK' vW' vE' vF' (upd bV p (nI o)) num' := by
  have S' := es_set S hp hv ht hn ho
  have hg : ∀ i s w, gt i s = some w → es_g gt vp vs p (some o) i s = some w ∧ xv' w = xv w := fun i s w e => ⟨es_gm S hp hv e, hx w (es_gg S e).2.1⟩
  have hpn : ∀ q, es_u va p (some o) q = none → q ≠ p ∧ va q = none := fun q e => by
    have z : q ≠ p := fun z => by rw [z, es_us] at e; cases e
    rw [es_un z] at e
    exact ⟨z, e⟩
  refine ⟨S', es_Eg E (fun i s w e => (hg i s w e).1) (fun i s w e => (hg i s w e).2), V, es_Fg F (fun j hj e => (hpn j e).2) hg hx6 (fun j i hj e => by have := (es_lk' S hj e).2.1; omega), fun j hj => ?_, hp, es_us, fun i s z => ?_, fun q hq e => ?_, fun i ei => ⟨?_, fun tl => ?_⟩, fun z => ?_, fun j' i hj' e e' => (es_pd S hp hv).2.2 j' i hj' e e'⟩
  · have q := A j hj
    refine ⟨q.1, q.2.1, q.2.2.1, q.2.2.2.1, ?_⟩
    by_cases z : j = p
    · rw [z, pk_us, es_us]; rfl
    · rw [pk_un z, es_un z]; exact q.2.2.2.2
  · unfold es_g
    rw [if_neg z]
  · obtain ⟨z, e'⟩ := hpn q e
    have := ht q hq e'
    obtain ⟨i, ei, hi, hd⟩ := (es_pd S hp hv).1 q (by omega) e'
    refine ⟨i, ei, hi, ?_⟩
    rcases Nat.eq_or_lt_of_le hi with w | w
    · rw [w]; exact Nat.le_refl _
    · have hip := (es_lk' S hp ei).2.1
      have hvi := (es_pd S hp hv).2.1 i ei
      obtain ⟨_, _, _, h⟩ := (es_pd S (show i < N by omega) hvi).1 q w e'
      exact h
  · have hip := (es_lk' S hp ei).2.1
    rw [es_un (by omega)]
    exact (es_pd S hp hv).2.1 i ei
  · have hip := (es_lk' S hp ei).2.1
    exact es_fg (F p i hp hv ei tl) (fun w e => hg i 0 w e) (fun k => hx6 i k (by omega)) ⟨rfl, rfl, rfl, rfl⟩
  · rw [es_un (by omega)]; exact h0 z
/-- values: only what lies below N counts -/
theorem es_Vc {m : Nat} {e' : Option Nat} (V : es_V N kd vn va gt ev xv vc vK vW vE vF num) : es_V N kd (es_u vn N m) (es_u va N none) gt (es_u ev N e') xv vc vK vW vE vF num := by
  have O : ∀ w, w < N → (es_own kd (es_u vn N m) (es_u va N none) w ↔ es_own kd vn va w) := fun w hw => by
    unfold es_own
    rw [es_un (show w ≠ N by omega), es_un (show w ≠ N by omega)]
  refine ⟨Nat.le_trans V.1 (kc_m fun w hw z => (O w hw).mpr z), fun w hw z => V.2.1 w hw ((O w hw).mp z), fun w w' hw hw' z z' => V.2.2.1 w w' hw hw' ((O w hw).mp z) ((O w' hw').mp z'), fun w hw e => ?_, fun w hw k => ?_⟩
  · rw [es_un (show w ≠ N by omega)] at e
    rw [es_un (show w ≠ N by omega), es_un (show w ≠ N by omega)]
    exact V.2.2.2.1 w hw e
  · rw [es_un (show w ≠ N by omega)] at k
    rw [es_un (show w ≠ N by omega)]
    exact V.2.2.2.2 w hw k
/-- a further visit comes next -/
theorem es_Rnew (S : es_S N r kd cd TT num vn vp vs vl va gt dp) (E : es_E N kd pp vn vp vs vl gt ev xv ec eN eV eX) (V : es_V N kd vn va gt ev xv vc vK vW vE vF num) (F : es_F N kd vn vp vs va gt ev xv dp fN fE fP fV) (A : es_A N vn vp vs vl va bN bP bS bL bV) {p m s d u ec' : Nat} {e' : Option Nat} {eN' eV' eX' fN' fE' fP' fV' : Nat → Int32} {rv : Int32} (hp : p < N) (hv : va p = none) (h00 : va 0 = none) (ht : ∀ q, q < N → va q = none → q ≤ p ∧ dp q ≤ dp p) (hs : ∀ j, j < N → vp j = some p → vs j < s) (hT : TT m) (hd : d = if es_tl (kd (vn p)) s = true then dp p else dp p + 1)
    (hL : es_L kd cd num (es_u vn N m) (es_u vs N s) (es_u vl N (some u)) gt p N)
    (hu : u < N) (hec : ec ≤ ec') (hecN : ec' ≤ N) (he' : nu_lt e' ec') (h1 : ∀ c, c < ec → eN' c = eN c ∧ eV' c = eV c ∧ eX' c = eX c)
    (k3 : kd (vn u) = 3 → ∃ e o, e' = some e ∧ nu_lt (ev u) e ∧ eN' e = pp (4 * vn u) ∧ eX' e = nu_o (ev u) ∧ gt p 1 = some o ∧ eV' e = nI (xv o))
    (k5 : kd (vn u) = 5 → s = 2 → ∃ e o, e' = some e ∧ nu_lt (ev u) e ∧ eN' e = pp (4 * vn u) ∧ eX' e = nu_o (ev u) ∧ gt u 1 = some o ∧ eV' e = nI (xv o))
    (k0 : kd (vn u) ≠ 3 → ¬ (kd (vn u) = 5 ∧ s = 2) → e' = ev u)
    (hf : ∀ c, c < dp p → fN' c = fN c ∧ fE' c = fE c ∧ fP' c = fP c ∧ fV' c = fV c) (hfp : es_tl (kd (vn p)) s = false → es_f kd vn gt ev xv dp fN' fE' fP' fV' p s) :
    es_R N r kd cd pp TT 0 0 (nI m) (nu_o e') rv (nI vc) (nI ec') (nI d) vK vW vE vF eN' eV' eX' fN' fE' fP' fV' (nI m) (nI p) (nI s) (nI u) 0 bN bP bS bL bV num := by
  have hg : gt p s = none := by
    cases e : gt p s with
    | none => rfl
    | some o =>
      obtain ⟨j, a, b, c⟩ := es_gx S (i := p) (s := s) (by rw [e]; intro z; cases z)
      have := hs j a b
      omega
  have h0 := es_0 S
  refine Or.inl ⟨es_u vn N m, es_u vp N (some p), es_u vs N s, es_u vl N (some u), es_u va N none, gt, es_u dp N d, es_u ev N e', xv, vc, ec', es_new S hp hv ht hs hT hd hg hL, es_us, ?_, es_En S E hu hec he' h1 k3 k5 k0, es_Vc V, es_Fn S F hp hv (fun q hq e => (ht q hq e).1) hf hfp, fun j hj => ?_, hecN, rfl, rfl, ?_⟩
  · rw [es_un (by omega)]; exact h00
  · rw [es_un (show j ≠ N by omega), es_un (show j ≠ N by omega), es_un (show j ≠ N by omega), es_un (show j ≠ N by omega), es_un (show j ≠ N by omega)]
    exact A j hj
  · rw [es_us, es_us, es_us, es_us, es_us, es_us]
    exact ⟨rfl, rfl, rfl, rfl, rfl, rfl, rfl, rfl, rfl, rfl⟩
end
end
section
/-! evaluation: a value handed down, both sides -/
def es_out (K : SX → SY → Prop) (n N r ec : Nat) (f_maxNodes f_maxWeight f_maxVisits f_nodeCount f_sealed f_verdictNow f_copyCount f_varCount : Int32) (f_atSet : Int64) (f_atNeg f_curNode f_curEnv f_resultValue : Int32) (a_nKind a_nPart a_nParent a_cNode a_cUp a_cChild a_cInst a_cParam a_queue : Nat → Int32) (a_rel : Nat → Int64) (a_eName a_eValue a_eNext a_fNode a_fEnv a_fPart a_fValue : Nat → Int32) (g_maxNodes g_maxWeight g_maxVisits g_count g_root g_nc g_weight g_grown g_neg g_nextPar g_nextSlot g_nextLex : Int32) (b_kinds b_parts b_cNode b_cPar b_cSlot b_le b_saved b_cur b_nxt b_first b_vNode b_vPar b_vSlot b_vLex : Nat → Int32) (dj j x vc : Nat) (vK vW vE vF bV num : Nat → Int32) : Prop :=
  ∃ u v, K u v ∧ (∀ (m t : Nat) (post : SX → Prop), dj + 2 ≤ m → t + dj ≤ 192 → post u → wX_giveBack_4 post m (nI x) (nI t) f_maxNodes f_maxWeight f_maxVisits f_nodeCount f_sealed f_verdictNow f_copyCount f_varCount f_atSet f_atNeg (nI N) 0 0 f_curNode f_curEnv f_resultValue (nI vc) (nI ec) (nI dj) a_nKind a_nPart a_nParent a_cNode a_cUp a_cChild a_cInst a_cParam a_queue a_rel vK vW vE vF a_eName a_eValue a_eNext a_fNode a_fEnv a_fPart a_fValue) ∧ (∀ (m : Nat) (post : SY → Prop), j + 1 ≤ m → post v → wY_visit_84 post m (nI j + (-1)) g_maxNodes g_maxWeight g_maxVisits g_count g_root g_nc g_weight g_grown g_neg (nI N) (-1) g_nextPar g_nextSlot g_nextLex 0 b_kinds b_parts b_cNode b_cPar b_cSlot b_le b_saved b_cur b_nxt b_first b_vNode b_vPar b_vSlot b_vLex bV num)
section
variable {f_maxNodes f_maxWeight f_maxVisits f_nodeCount f_sealed f_verdictNow f_copyCount f_varCount : Int32} {f_atSet : Int64} {f_atNeg f_visitCount f_done f_stuck f_curNode f_curEnv f_resultValue f_valueCount f_envCount f_depth : Int32} {a_nKind a_nPart a_nParent a_cNode a_cUp a_cChild a_cInst a_cParam a_queue : Nat → Int32} {a_rel : Nat → Int64} {a_vKind a_vWord a_vEnv a_vField a_eName a_eValue a_eNext a_fNode a_fEnv a_fPart a_fValue : Nat → Int32} {g_maxNodes g_maxWeight g_maxVisits g_count g_root g_nc g_weight g_grown g_neg g_made g_next g_nextPar g_nextSlot g_nextLex g_stuck : Int32} {b_kinds b_parts b_cNode b_cPar b_cSlot b_le b_saved b_cur b_nxt b_first b_vNode b_vPar b_vSlot b_vLex b_val b_num : Nat → Int32} {K : SX → SY → Prop} {n N r : Nat} {kd : Nat → Nat} {cd : Nat → Nat → Option Nat} {pp : Nat → Int32} {par : Nat → Option Nat} {TT : Nat → Prop} {vn : Nat → Nat} {vp : Nat → Option Nat} {vs : Nat → Nat} {vl va : Nat → Option Nat} {gt gv : Nat → Nat → Option Nat} {dp : Nat → Nat} {ev : Nat → Option Nat} {xv : Nat → Nat} {ec vc j o p dj x : Nat} {vK vW vE vF bV num : Nat → Int32}
/-- Y comes to the parent of j -/
theorem es_YN {post : SY → Prop} (A : es_A N vn vp vs vl va b_vNode b_vPar b_vSlot b_vLex bV) (hN : N ≤ 192) (hva : ∀ q, q < N → nu_lt (va q) (2 ^ 31)) (hpj : p < j) (hj : j < N) (hv : va p = none) (ht : ∀ q, q < N → va q = none → q ≤ p) {m : Nat} (hm : j + 1 ≤ m) (h : ∀ m', p + 1 ≤ m' → wpY_need (fun q => wY_visit_114 post (wY_visit_84 post m') (nI p) q g_maxNodes g_maxWeight g_maxVisits g_count g_root g_nc g_weight g_grown g_neg (nI N) (-1) g_nextPar g_nextSlot g_nextLex 0 b_kinds b_parts b_cNode b_cPar b_cSlot b_le b_saved b_cur b_nxt b_first b_vNode b_vPar b_vSlot b_vLex bV num) (g_maxNodes, g_maxWeight, g_maxVisits, g_count, g_root, g_nc, g_weight, g_grown, g_neg, nI N, -1, g_nextPar, g_nextSlot, g_nextLex, 0, b_kinds, b_parts, b_cNode, b_cPar, b_cSlot, b_le, b_saved, b_cur, b_nxt, b_first, b_vNode, b_vPar, b_vSlot, b_vLex, bV, num) (nI p)) : wY_visit_84 post m (nI j + (-1)) g_maxNodes g_maxWeight g_maxVisits g_count g_root g_nc g_weight g_grown g_neg (nI N) (-1) g_nextPar g_nextSlot g_nextLex 0 b_kinds b_parts b_cNode b_cPar b_cSlot b_le b_saved b_cur b_nxt b_first b_vNode b_vPar b_vSlot b_vLex bV num := by
  rw [nu_m1 (by omega)]
  obtain ⟨d, hd⟩ : ∃ d, j - 1 = p + d := ⟨j - 1 - p, by omega⟩
  obtain ⟨m', rfl⟩ : ∃ m', m = m' + 1 + d := ⟨m - 1 - d, by omega⟩
  rw [hd]
  refine yw_84k d (by omega) (fun i a b => ?_) (yw_84p (by omega) (by rw [(A p (by omega)).2.2.2.2, hv]; rfl) (h m' (by omega)))
  rw [(A i (by omega)).2.2.2.2, nu_ole (hva i (by omega))]
  intro z
  have := ht i (by omega) z
  omega
/-- after result: the value is kept -/
theorem yw_rsk {post : SY → Prop} {m' w : Nat} {num' : Nat → Int32} (hp : p < 192) (h : wY_visit_84 post m' (nI p + (-1)) g_maxNodes g_maxWeight g_maxVisits g_count g_root g_nc g_weight g_grown g_neg (nI N) (-1) g_nextPar g_nextSlot g_nextLex 0 b_kinds b_parts b_cNode b_cPar b_cSlot b_le b_saved b_cur b_nxt b_first b_vNode b_vPar b_vSlot b_vLex (upd bV p (nI w)) num') : vp_in (nI p) 192 ∧ ∀ a, a = upd bV (nI p).toNatClampNeg (nI w) → wY_visit_131 post (wY_visit_84 post m') (nI p) (-1) g_maxNodes g_maxWeight g_maxVisits g_count g_root g_nc g_weight g_grown g_neg (nI N) (-1) g_nextPar g_nextSlot g_nextLex 0 b_kinds b_parts b_cNode b_cPar b_cSlot b_le b_saved b_cur b_nxt b_first b_vNode b_vPar b_vSlot b_vLex a num' :=
  ⟨vp_in_nI (by omega) (by omega), nm_r (e' := upd bV p (nI w)) (by rw [nI_clamp (by omega)]) (yw_131 (Or.inl rfl) h)⟩
/-- the value passes on: Y sets it, X has it already -/
theorem es_pass {w : Nat} (A : es_A N vn vp vs vl va b_vNode b_vPar b_vSlot b_vLex bV) (hN : N ≤ 192) (hva : ∀ q, q < N → nu_lt (va q) (2 ^ 31)) (hpj : p < j) (hj : j < N) (hv : va p = none) (ht : ∀ q, q < N → va q = none → q ≤ p) (hdp : dj = dp p) (hI : es_out K n N r ec f_maxNodes f_maxWeight f_maxVisits f_nodeCount f_sealed f_verdictNow f_copyCount f_varCount f_atSet f_atNeg f_curNode f_curEnv f_resultValue a_nKind a_nPart a_nParent a_cNode a_cUp a_cChild a_cInst a_cParam a_queue a_rel a_eName a_eValue a_eNext a_fNode a_fEnv a_fPart a_fValue g_maxNodes g_maxWeight g_maxVisits g_count g_root g_nc g_weight g_grown g_neg g_nextPar g_nextSlot g_nextLex b_kinds b_parts b_cNode b_cPar b_cSlot b_le b_saved b_cur b_nxt b_first b_vNode b_vPar b_vSlot b_vLex (dp p) p x vc vK vW vE vF (upd bV p (nI w)) num)
    (hnd : ∀ post : Int32 → Prop, post (-1) → wpY_need post (g_maxNodes, g_maxWeight, g_maxVisits, g_count, g_root, g_nc, g_weight, g_grown, g_neg, nI N, -1, g_nextPar, g_nextSlot, g_nextLex, 0, b_kinds, b_parts, b_cNode, b_cPar, b_cSlot, b_le, b_saved, b_cur, b_nxt, b_first, b_vNode, b_vPar, b_vSlot, b_vLex, bV, num) (nI p))
    (hrs : ∀ post : Int32 → SY → Prop, post (nI w) (g_maxNodes, g_maxWeight, g_maxVisits, g_count, g_root, g_nc, g_weight, g_grown, g_neg, nI N, -1, g_nextPar, g_nextSlot, g_nextLex, 0, b_kinds, b_parts, b_cNode, b_cPar, b_cSlot, b_le, b_saved, b_cur, b_nxt, b_first, b_vNode, b_vPar, b_vSlot, b_vLex, bV, num) → wpY_result post (g_maxNodes, g_maxWeight, g_maxVisits, g_count, g_root, g_nc, g_weight, g_grown, g_neg, nI N, -1, g_nextPar, g_nextSlot, g_nextLex, 0, b_kinds, b_parts, b_cNode, b_cPar, b_cSlot, b_le, b_saved, b_cur, b_nxt, b_first, b_vNode, b_vPar, b_vSlot, b_vLex, bV, num) (nI p)) : es_out K n N r ec f_maxNodes f_maxWeight f_maxVisits f_nodeCount f_sealed f_verdictNow f_copyCount f_varCount f_atSet f_atNeg f_curNode f_curEnv f_resultValue a_nKind a_nPart a_nParent a_cNode a_cUp a_cChild a_cInst a_cParam a_queue a_rel a_eName a_eValue a_eNext a_fNode a_fEnv a_fPart a_fValue g_maxNodes g_maxWeight g_maxVisits g_count g_root g_nc g_weight g_grown g_neg g_nextPar g_nextSlot g_nextLex b_kinds b_parts b_cNode b_cPar b_cSlot b_le b_saved b_cur b_nxt b_first b_vNode b_vPar b_vSlot b_vLex dj j x vc vK vW vE vF bV num := by
  obtain ⟨u, v, hk, hX, hY⟩ := hI
  refine ⟨u, v, hk, fun m t post hm ht' hp => ?_, fun m post hm hp => es_YN (va := va) A hN hva hpj hj hv ht hm fun m' hm' => hnd _ (br_t rfl (hrs _ (yw_rsk (by omega) (hY m' post hm' hp))))⟩
  rw [hdp] at hm ht' ⊢
  exact hX m t post hm ht' hp
end
end
section
/-! evaluation: the cases of handing down -/
section
variable {f_maxNodes f_maxWeight f_maxVisits f_nodeCount f_sealed f_verdictNow f_copyCount f_varCount : Int32} {f_atSet : Int64} {f_atNeg f_visitCount f_done f_stuck f_curNode f_curEnv f_resultValue f_valueCount f_envCount f_depth : Int32} {a_nKind a_nPart a_nParent a_cNode a_cUp a_cChild a_cInst a_cParam a_queue : Nat → Int32} {a_rel : Nat → Int64} {a_vKind a_vWord a_vEnv a_vField a_eName a_eValue a_eNext a_fNode a_fEnv a_fPart a_fValue : Nat → Int32} {g_maxNodes g_maxWeight g_maxVisits g_count g_root g_nc g_weight g_grown g_neg g_made g_next g_nextPar g_nextSlot g_nextLex g_stuck : Int32} {b_kinds b_parts b_cNode b_cPar b_cSlot b_le b_saved b_cur b_nxt b_first b_vNode b_vPar b_vSlot b_vLex b_val b_num : Nat → Int32} {K : SX → SY → Prop} {n N r : Nat} {kd : Nat → Nat} {cd : Nat → Nat → Option Nat} {pp : Nat → Int32} {par : Nat → Option Nat} {TT : Nat → Prop} {vn : Nat → Nat} {vp : Nat → Option Nat} {vs : Nat → Nat} {vl va : Nat → Option Nat} {gt gv : Nat → Nat → Option Nat} {dp : Nat → Nat} {ev : Nat → Option Nat} {xv : Nat → Nat} {ec vc j o p : Nat} {vK vW vE vF bV num : Nat → Int32}
theorem es_c1 (S : es_S N r kd cd TT num vn vp vs vl va gt dp) (hj : j < N) (ep : vp j = some p) (hlc : ∀ j' i, j' < N → vp j = some i → vp j' = some i → j' ≤ j) {j' : Nat} (h : j' < N) (e : vp j' = some p) : vs j' ≤ vs j := by
  rcases Nat.eq_or_lt_of_le (hlc j' p h ep e) with z | z
  · rw [z]; exact Nat.le_refl _
  · exact Nat.le_of_lt (es_so S h hj e ep z)
theorem es_c2 (S : es_S N r kd cd TT num vn vp vs vl va gt dp) (hj : j < N) (ep : vp j = some p) (hlc : ∀ j' i, j' < N → vp j = some i → vp j' = some i → j' ≤ j) {s : Nat} (h : vs j < s) : gt p s = none := by
  cases e : gt p s with
  | none => rfl
  | some w =>
    obtain ⟨j', a, b, c⟩ := es_gx S (i := p) (s := s) (by rw [e]; intro z; cases z)
    have := es_c1 S hj ep hlc a b
    omega
/-- what X holds of a value -/
theorem es_w (S : es_S N r kd cd TT num vn vp vs vl va gt dp) (V : es_V N kd vn va gv ev xv vc vK vW vE vF num) (hN : N ≤ 192) {w : Nat} (hw : w < N) (e : va w = some w) : xv w < vc ∧ vc ≤ 192 ∧ vc ≤ N ∧ ((kd (vn w) = 1 ∨ kd (vn w) = 8) → vK (xv w) = 1 ∧ vW (xv w) = num w) ∧ (kd (vn w) = 3 → vK (xv w) = 3 ∧ vW (xv w) = nI (vn w) ∧ vE (xv w) = nu_o (ev w)) ∧ (kd (vn w) = 6 → vK (xv w) = 6) := by
  have a := V.2.1 w hw (Or.inl e)
  have b := V.1
  have c := kc_le (es_own kd vn va) N
  have d := V.2.2.2.1 w hw e
  exact ⟨a, by omega, by omega, d.1, d.2, fun k => (V.2.2.2.2 w hw k).1⟩
/-- the fields of X's records, when the parent is no record -/
theorem es_Vp (V : es_V N kd vn va gv ev xv vc vK vW vE vF num) (hgv : ∀ i s, ¬ (vp j = some i ∧ vs j = s) → gv i s = gt i s) (ep : vp j = some p) (k6 : kd (vn p) ≠ 6) : es_V N kd vn va gt ev xv vc vK vW vE vF num := by
  refine es_Vg V fun w l hw k hl => (hgv w l fun z => ?_).symm
  rw [ep] at z
  cases z.1
  exact k6 k
/-- the child's value is the node's: APP, LET, IFZ at their last child -/
theorem es_tail (W : tm_WF n kd cd pp par) (A1 : tm_Ag n kd pp a_nKind a_nPart) (A2 : tm_Ag n kd pp b_kinds b_parts) (hTn : ∀ m, TT m → m < n) (hTc : ∀ m i c, TT m → cd m i = some c → TT c) (hN : N ≤ 192) (hec : ec < N) (hK : ∀ (f_done f_stuck f_curNode f_curEnv f_resultValue f_valueCount f_envCount f_depth : Int32) (a_vKind a_vWord a_vEnv a_vField a_eName a_eValue a_eNext a_fNode a_fEnv a_fPart a_fValue : Nat → Int32) (g_next g_nextPar g_nextSlot g_nextLex g_stuck : Int32) (b_vNode b_vPar b_vSlot b_vLex b_val b_num : Nat → Int32), es_R N r kd cd pp TT f_done f_stuck f_curNode f_curEnv f_resultValue f_valueCount f_envCount f_depth a_vKind a_vWord a_vEnv a_vField a_eName a_eValue a_eNext a_fNode a_fEnv a_fPart a_fValue g_next g_nextPar g_nextSlot g_nextLex g_stuck b_vNode b_vPar b_vSlot b_vLex b_val b_num → K (f_maxNodes, f_maxWeight, f_maxVisits, f_nodeCount, f_sealed, f_verdictNow, f_copyCount, f_varCount, f_atSet, f_atNeg, nI N, f_done, f_stuck, f_curNode, f_curEnv, f_resultValue, f_valueCount, f_envCount, f_depth, a_nKind, a_nPart, a_nParent, a_cNode, a_cUp, a_cChild, a_cInst, a_cParam, a_queue, a_rel, a_vKind, a_vWord, a_vEnv, a_vField, a_eName, a_eValue, a_eNext, a_fNode, a_fEnv, a_fPart, a_fValue) (g_maxNodes, g_maxWeight, g_maxVisits, g_count, g_root, g_nc, g_weight, g_grown, g_neg, nI N, g_next, g_nextPar, g_nextSlot, g_nextLex, g_stuck, b_kinds, b_parts, b_cNode, b_cPar, b_cSlot, b_le, b_saved, b_cur, b_nxt, b_first, b_vNode, b_vPar, b_vSlot, b_vLex, b_val, b_num)) (S : es_S N r kd cd TT num vn vp vs vl va gt dp) (E : es_E N kd pp vn vp vs vl gt ev xv ec a_eName a_eValue a_eNext) (V : es_V N kd vn va gv ev xv vc vK vW vE vF num) (F : es_F N kd vn vp vs va gt ev xv dp a_fNode a_fEnv a_fPart a_fValue) (A : es_A N vn vp vs vl va b_vNode b_vPar b_vSlot b_vLex bV) (hj : j < N) (ea : va j = some o) (hgv : ∀ i s, ¬ (vp j = some i ∧ vs j = s) → gv i s = gt i s) (ep : vp j = some p) (hv : va p = none) (ht : ∀ q, q < N → va q = none → q ≤ p ∧ dp q ≤ dp p) (h00 : va 0 = none) (hlc : ∀ j' i, j' < N → vp j = some i → vp j' = some i → j' ≤ j) (hf : es_tl (kd (vn p)) (vs j) = false → es_f kd vn gt ev xv dp a_fNode a_fEnv a_fPart a_fValue p (vs j)) (ih : ∀ (p o : Nat) (va : Nat → Option Nat) (gt gv : Nat → Nat → Option Nat) (xv : Nat → Nat) (vc : Nat) (vK vW vE vF bV num : Nat → Int32), p < j → es_D N r kd cd pp TT vn vp vs vl dp ev ec a_eName a_eValue a_eNext a_fNode a_fEnv a_fPart a_fValue b_vNode b_vPar b_vSlot b_vLex p o va gt gv xv vc vK vW vE vF bV num → es_out K n N r ec f_maxNodes f_maxWeight f_maxVisits f_nodeCount f_sealed f_verdictNow f_copyCount f_varCount f_atSet f_atNeg f_curNode f_curEnv f_resultValue a_nKind a_nPart a_nParent a_cNode a_cUp a_cChild a_cInst a_cParam a_queue a_rel a_eName a_eValue a_eNext a_fNode a_fEnv a_fPart a_fValue g_maxNodes g_maxWeight g_maxVisits g_count g_root g_nc g_weight g_grown g_neg g_nextPar g_nextSlot g_nextLex b_kinds b_parts b_cNode b_cPar b_cSlot b_le b_saved b_cur b_nxt b_first b_vNode b_vPar b_vSlot b_vLex (dp p) p (xv o) vc vK vW vE vF bV num) (tl : es_tl (kd (vn p)) (vs j) = true) : es_out K n N r ec f_maxNodes f_maxWeight f_maxVisits f_nodeCount f_sealed f_verdictNow f_copyCount f_varCount f_atSet f_atNeg f_curNode f_curEnv f_resultValue a_nKind a_nPart a_nParent a_cNode a_cUp a_cChild a_cInst a_cParam a_queue a_rel a_eName a_eValue a_eNext a_fNode a_fEnv a_fPart a_fValue g_maxNodes g_maxWeight g_maxVisits g_count g_root g_nc g_weight g_grown g_neg g_nextPar g_nextSlot g_nextLex b_kinds b_parts b_cNode b_cPar b_cSlot b_le b_saved b_cur b_nxt b_first b_vNode b_vPar b_vSlot b_vLex (dp j) j (xv o) vc vK vW vE vF bV num := by
  have hn := tm_n W
  obtain ⟨hj0, hpj, L, dpj⟩ := es_lk' S hj ep
  rw [if_pos tl] at dpj
  have hpN : p < N := by omega
  have hm := hTn _ (es_tt S hpN)
  have hk := tm_k W hm
  have gps : gt p (vs j) = some o := (es_gv S hj ep).trans ea
  have hob := es_va S hj ea
  have hop : o ≠ p := fun z => by have := hob.2.1; rw [z, hv] at this; cases this
  have ht' : ∀ q, q < N → va q = none → q ≤ p := fun q a b => (ht q a b).1
  have hT : ∀ j, j < N → vn j < n := fun j h => hTn _ (es_tt S h)
  have kk : (kd (vn p) = 4 ∧ vs j = 4) ∨ (kd (vn p) = 5 ∧ vs j = 2) ∨ (kd (vn p) = 9 ∧ (vs j = 1 ∨ vs j = 2)) := by
    unfold es_tl at tl
    simp only [Bool.or_eq_true, Bool.and_eq_true, beq_iff_eq] at tl
    omega
  have D := es_Dset (o := o) (num' := num) (xv' := xv) S E F A hpN hv ht' (fun _ _ => rfl) (Or.inr ⟨hob.1, hob.2.1⟩) (fun _ _ => rfl) (fun _ _ _ => rfl) (fun _ => h00) (es_V0 (es_Vp V hgv ep (by omega)) hv hop)
  have I := ih p o _ _ _ _ _ _ _ _ _ _ _ hpj D
  refine es_pass (va := va) (w := o) A hN (fun q hq => es_valt S hN hq) hpj hj hv ht' dpj I (fun post hp => ?_) (fun post hp => ?_)
  · refine yw_nd0 W A2 S hN A hT hpN (fun z => by omega) (fun z => yw_nd45 W A2 S hN A hT hpN (fun s hs hc hg hl => ?_) (fun _ => hp)) (fun z hg => ?_) (fun z => by omega) (fun k9 a e => ?_) (fun k a e => ⟨fun hg => ?_, fun b eb => ⟨fun hc => ?_, fun hc => ⟨fun k8 => by omega, fun _ => ?_⟩⟩⟩)
    · have k5 : kd (vn p) = 5 := by omega
      have hs2 := (tm_o W hm hc).2
      rw [k5] at hs2
      have : s = 1 ∨ s = 2 := by
        have tab : ∀ s, s < 4 → tm_slot 5 s = true → s = 1 ∨ s = 2 := by decide
        exact tab s hs hs2
      rcases this with e | e
      · subst e; exact absurd hg (L.2.2.2.1 (by omega) k5)
      · subst e; rw [show (2 : Nat) = vs j by omega, gps] at hg; cases hg
    · rcases kk with q | q | q
      · rcases L.2.1 with z | ⟨_, _, _, f, e, _⟩
        · omega
        · rw [hg] at e; cases e
      · omega
      · obtain ⟨a, e, _⟩ := L.2.2.2.2.1 q.2 q.1
        rw [hg] at e; cases e
    · have q : vs j = 1 ∨ vs j = 2 := by omega
      obtain ⟨a', e', ha', hka, hnum⟩ := L.2.2.2.2.1 q k9
      rw [e] at e'
      cases e'
      have ck : cl_k kd cd pp (vn a) (vn p) = false := by
        unfold cl_k
        rw [if_neg (by omega), if_neg (by omega)]
        exact decide_eq_false (by omega)
      rw [ck]
      refine ⟨fun z => br_t rfl (yw_got (s := 1) S hN A (by omega) (by omega) ?_), fun z => br_t rfl (yw_got (s := 2) S hN A (by omega) (by omega) ?_)⟩
      · rw [show (1 : Nat) = vs j from (hnum.mp z).symm, gps]
        exact br_t (nI_pos' (by have := hob.1; omega)) hp
      · rw [show (2 : Nat) = vs j from by rcases q with q | q; exact absurd (hnum.mpr q) z; exact q.symm, gps]
        exact br_t (nI_pos' (by have := hob.1; omega)) hp
    · rcases L.2.1 with z | ⟨_, _, z, _⟩
      · omega
      · exact absurd hg z
    · rcases L.2.1 with z | ⟨_, k4, _, f, e', _, k3, _⟩
      · omega
      · rw [e] at e'
        cases e'
        unfold cl_k at hc
        rw [if_pos k4] at hc
        exact absurd k3 (of_decide_eq_true hc)
    · have k4 : kd (vn p) = 4 ∧ vs j = 4 := by omega
      unfold wY_need_235
      rw [nu_e4 (by omega)]
      refine br_t k4.1 (yw_got (s := 4) S hN A (by omega) (by omega) ?_)
      rw [show (4 : Nat) = vs j by omega, gps]
      exact br_t (nI_pos' (by have := hob.1; omega)) hp
  · refine yw_res W A2 S hN A hT hpN (fun z => by omega) (fun z => by omega) (fun z => by omega) (fun z => ?_) (fun z => ?_) (fun z => by omega) (fun z => by omega) (fun k9 => ?_)
    · rw [show (4 : Nat) = vs j by omega, gps]; exact hp
    · rw [show (2 : Nat) = vs j by omega, gps]; exact hp
    · have q : vs j = 1 ∨ vs j = 2 := by omega
      rcases q with q | q
      · rw [q] at gps
        refine ⟨fun _ => by rw [gps]; exact hp, fun z => by rw [gps] at z; cases z⟩
      · have g1 : gt p 1 = none := by
          cases e : gt p 1 with
          | none => rfl
          | some w =>
            obtain ⟨j', a', b', c'⟩ := es_gx S (i := p) (s := 1) (by rw [e]; intro z; cases z)
            obtain ⟨_, _, L', _⟩ := es_lk' S a' b'
            obtain ⟨x, ex, _, _, hx⟩ := L'.2.2.2.2.1 (Or.inl c') k9
            obtain ⟨y, ey, _, _, hy⟩ := L.2.2.2.2.1 (Or.inr q) k9
            rw [ex] at ey
            cases ey
            have := hy.mp (hx.mpr c')
            omega
        rw [q] at gps
        refine ⟨fun z => absurd g1 z, fun _ => by rw [gps]; exact hp⟩
end
end
section
/-! evaluation: the cases of handing down -/
section
variable {f_maxNodes f_maxWeight f_maxVisits f_nodeCount f_sealed f_verdictNow f_copyCount f_varCount : Int32} {f_atSet : Int64} {f_atNeg f_visitCount f_done f_stuck f_curNode f_curEnv f_resultValue f_valueCount f_envCount f_depth : Int32} {a_nKind a_nPart a_nParent a_cNode a_cUp a_cChild a_cInst a_cParam a_queue : Nat → Int32} {a_rel : Nat → Int64} {a_vKind a_vWord a_vEnv a_vField a_eName a_eValue a_eNext a_fNode a_fEnv a_fPart a_fValue : Nat → Int32} {g_maxNodes g_maxWeight g_maxVisits g_count g_root g_nc g_weight g_grown g_neg g_made g_next g_nextPar g_nextSlot g_nextLex g_stuck : Int32} {b_kinds b_parts b_cNode b_cPar b_cSlot b_le b_saved b_cur b_nxt b_first b_vNode b_vPar b_vSlot b_vLex b_val b_num : Nat → Int32} {K : SX → SY → Prop} {n N r : Nat} {kd : Nat → Nat} {cd : Nat → Nat → Option Nat} {pp : Nat → Int32} {par : Nat → Option Nat} {TT : Nat → Prop} {vn : Nat → Nat} {vp : Nat → Option Nat} {vs : Nat → Nat} {vl va : Nat → Option Nat} {gt gv : Nat → Nat → Option Nat} {dp : Nat → Nat} {ev : Nat → Option Nat} {xv : Nat → Nat} {ec vc j o p : Nat} {vK vW vE vF bV num : Nat → Int32}

theorem xw_gbe {post : SX → Prop} {m : Nat} {x : Int32} (h : post (f_maxNodes, f_maxWeight, f_maxVisits, f_nodeCount, f_sealed, f_verdictNow, f_copyCount, f_varCount, f_atSet, f_atNeg, f_visitCount, f_done, f_stuck, f_curNode, f_curEnv, f_resultValue, f_valueCount, f_envCount, f_depth, a_nKind, a_nPart, a_nParent, a_cNode, a_cUp, a_cChild, a_cInst, a_cParam, a_queue, a_rel, a_vKind, a_vWord, a_vEnv, a_vField, a_eName, a_eValue, a_eNext, a_fNode, a_fEnv, a_fPart, a_fValue)) : wX_giveBack_4 post (m + 1) (-1) x f_maxNodes f_maxWeight f_maxVisits f_nodeCount f_sealed f_verdictNow f_copyCount f_varCount f_atSet f_atNeg f_visitCount f_done f_stuck f_curNode f_curEnv f_resultValue f_valueCount f_envCount f_depth a_nKind a_nPart a_nParent a_cNode a_cUp a_cChild a_cInst a_cParam a_queue a_rel a_vKind a_vWord a_vEnv a_vField a_eName a_eValue a_eNext a_fNode a_fEnv a_fPart a_fValue := br_c (fun _ => h) (fun _ => br_t (by decide) h)
/-- what is known at a parent whose child has come to its value -/
theorem es_ctx (W : tm_WF n kd cd pp par) (hTn : ∀ m, TT m → m < n) (hN : N ≤ 192) (S : es_S N r kd cd TT num vn vp vs vl va gt dp) (V : es_V N kd vn va gv ev xv vc vK vW vE vF num) (hj : j < N) (ea : va j = some o) (ep : vp j = some p) (hv : va p = none) (tl : es_tl (kd (vn p)) (vs j) = false) : 0 < j ∧ p < j ∧ es_L kd cd num vn vs vl gt p j ∧ dp j = dp p + 1 ∧ p < N ∧ vn p < n ∧ gt p (vs j) = some o ∧ o < N ∧ va o = some o ∧ o ≠ p ∧ xv o < 192 ∧ dp p < 192 ∧ (kd (vn o) = 1 ∨ kd (vn o) = 3 ∨ kd (vn o) = 6 ∨ kd (vn o) = 8) := by
  obtain ⟨hj0, hpj, L, dpj⟩ := es_lk' S hj ep
  rw [tl, if_neg (by intro z; cases z)] at dpj
  have hob := es_va S hj ea
  have w := es_w S V hN hob.1 hob.2.1
  have d := es_dpj S hj
  exact ⟨hj0, hpj, L, dpj, by omega, hTn _ (es_tt S (by omega)), (es_gv S hj ep).trans ea, hob.1, hob.2.1, (fun z => by have := hob.2.1; rw [z, hv] at this; cases this), by omega, by omega, hob.2.2⟩
/-- stuck at p, both -/
theorem es_ostk (W : tm_WF n kd cd pp par) (A1 : tm_Ag n kd pp a_nKind a_nPart) (A2 : tm_Ag n kd pp b_kinds b_parts) (hTn : ∀ m, TT m → m < n) (hTc : ∀ m i c, TT m → cd m i = some c → TT c) (hN : N ≤ 192) (hec : ec < N) (hK : ∀ (f_done f_stuck f_curNode f_curEnv f_resultValue f_valueCount f_envCount f_depth : Int32) (a_vKind a_vWord a_vEnv a_vField a_eName a_eValue a_eNext a_fNode a_fEnv a_fPart a_fValue : Nat → Int32) (g_next g_nextPar g_nextSlot g_nextLex g_stuck : Int32) (b_vNode b_vPar b_vSlot b_vLex b_val b_num : Nat → Int32), es_R N r kd cd pp TT f_done f_stuck f_curNode f_curEnv f_resultValue f_valueCount f_envCount f_depth a_vKind a_vWord a_vEnv a_vField a_eName a_eValue a_eNext a_fNode a_fEnv a_fPart a_fValue g_next g_nextPar g_nextSlot g_nextLex g_stuck b_vNode b_vPar b_vSlot b_vLex b_val b_num → K (f_maxNodes, f_maxWeight, f_maxVisits, f_nodeCount, f_sealed, f_verdictNow, f_copyCount, f_varCount, f_atSet, f_atNeg, nI N, f_done, f_stuck, f_curNode, f_curEnv, f_resultValue, f_valueCount, f_envCount, f_depth, a_nKind, a_nPart, a_nParent, a_cNode, a_cUp, a_cChild, a_cInst, a_cParam, a_queue, a_rel, a_vKind, a_vWord, a_vEnv, a_vField, a_eName, a_eValue, a_eNext, a_fNode, a_fEnv, a_fPart, a_fValue) (g_maxNodes, g_maxWeight, g_maxVisits, g_count, g_root, g_nc, g_weight, g_grown, g_neg, nI N, g_next, g_nextPar, g_nextSlot, g_nextLex, g_stuck, b_kinds, b_parts, b_cNode, b_cPar, b_cSlot, b_le, b_saved, b_cur, b_nxt, b_first, b_vNode, b_vPar, b_vSlot, b_vLex, b_val, b_num)) (S : es_S N r kd cd TT num vn vp vs vl va gt dp) (E : es_E N kd pp vn vp vs vl gt ev xv ec a_eName a_eValue a_eNext) (V : es_V N kd vn va gv ev xv vc vK vW vE vF num) (F : es_F N kd vn vp vs va gt ev xv dp a_fNode a_fEnv a_fPart a_fValue) (A : es_A N vn vp vs vl va b_vNode b_vPar b_vSlot b_vLex bV) (hj : j < N) (ea : va j = some o) (hgv : ∀ i s, ¬ (vp j = some i ∧ vs j = s) → gv i s = gt i s) (ep : vp j = some p) (hv : va p = none) (ht : ∀ q, q < N → va q = none → q ≤ p ∧ dp q ≤ dp p) (h00 : va 0 = none) (hlc : ∀ j' i, j' < N → vp j = some i → vp j' = some i → j' ≤ j) (hf : es_tl (kd (vn p)) (vs j) = false → es_f kd vn gt ev xv dp a_fNode a_fEnv a_fPart a_fValue p (vs j)) (tl : es_tl (kd (vn p)) (vs j) = false)
    (hX : ∀ (m t : Nat) (post : SX → Prop), t ≤ 192 → post (f_maxNodes, f_maxWeight, f_maxVisits, f_nodeCount, f_sealed, f_verdictNow, f_copyCount, f_varCount, f_atSet, f_atNeg, nI N, 0, 1, nI (vn p), f_curEnv, f_resultValue, nI vc, nI ec, nI (dp p + 1), a_nKind, a_nPart, a_nParent, a_cNode, a_cUp, a_cChild, a_cInst, a_cParam, a_queue, a_rel, vK, vW, vE, vF, a_eName, a_eValue, a_eNext, a_fNode, a_fEnv, a_fPart, a_fValue) → wX_giveBack_4 post (m + 1 + 1) (nI (xv o)) (nI t) f_maxNodes f_maxWeight f_maxVisits f_nodeCount f_sealed f_verdictNow f_copyCount f_varCount f_atSet f_atNeg (nI N) 0 0 f_curNode f_curEnv f_resultValue (nI vc) (nI ec) (nI (dp p + 1)) a_nKind a_nPart a_nParent a_cNode a_cUp a_cChild a_cInst a_cParam a_queue a_rel vK vW vE vF a_eName a_eValue a_eNext a_fNode a_fEnv a_fPart a_fValue)
    (hY : ∀ post : Int32 → Prop, post (-2) → wpY_need post (g_maxNodes, g_maxWeight, g_maxVisits, g_count, g_root, g_nc, g_weight, g_grown, g_neg, nI N, -1, g_nextPar, g_nextSlot, g_nextLex, 0, b_kinds, b_parts, b_cNode, b_cPar, b_cSlot, b_le, b_saved, b_cur, b_nxt, b_first, b_vNode, b_vPar, b_vSlot, b_vLex, bV, num) (nI p)) : es_out K n N r ec f_maxNodes f_maxWeight f_maxVisits f_nodeCount f_sealed f_verdictNow f_copyCount f_varCount f_atSet f_atNeg f_curNode f_curEnv f_resultValue a_nKind a_nPart a_nParent a_cNode a_cUp a_cChild a_cInst a_cParam a_queue a_rel a_eName a_eValue a_eNext a_fNode a_fEnv a_fPart a_fValue g_maxNodes g_maxWeight g_maxVisits g_count g_root g_nc g_weight g_grown g_neg g_nextPar g_nextSlot g_nextLex b_kinds b_parts b_cNode b_cPar b_cSlot b_le b_saved b_cur b_nxt b_first b_vNode b_vPar b_vSlot b_vLex (dp j) j (xv o) vc vK vW vE vF bV num := by
  have hn := tm_n W
  obtain ⟨hj0, hpj, L, dpj, hpN, hm, gps, hoN, hoo, hop, hxo, hdp, ko⟩ := es_ctx W hTn hN S V hj ea ep hv tl
  have R : es_R N r kd cd pp TT 0 1 (nI (vn p)) f_curEnv f_resultValue (nI vc) (nI ec) (nI (dp p + 1)) vK vW vE vF a_eName a_eValue a_eNext a_fNode a_fEnv a_fPart a_fValue (nI (vn p)) g_nextPar g_nextSlot g_nextLex 1 b_vNode b_vPar b_vSlot b_vLex bV num :=
    Or.inr (Or.inl ⟨by omega, rfl, rfl, rfl, by rw [(A 0 (by omega)).2.2.2.2, h00]; rfl, vn p, by omega, rfl, rfl⟩)
  refine ⟨_, _, hK _ _ _ _ _ _ _ _ _ _ _ _ _ _ _ _ _ _ _ _ _ _ _ _ _ _ _ _ _ _ R, fun m t post hm' ht' hp => ?_, fun m post hm' hp => es_YN (va := va) A hN (fun q hq => es_valt S hN hq) hpj hj hv (fun q a b => (ht q a b).1) hm' fun m' hm'' => hY _ ?_⟩
  · obtain ⟨m', rfl⟩ : ∃ m', m = m' + 1 + 1 := ⟨m - 2, by omega⟩
    rw [dpj]
    exact hX m' t post (by omega) hp
  · obtain ⟨m'', rfl⟩ : ∃ m'', m' = m'' + 1 := ⟨m' - 1, by omega⟩
    exact yw_114t (by omega) (A p hpN).1 (yw_84e (by omega) hp)
/-- a further visit, both -/
theorem es_onew (W : tm_WF n kd cd pp par) (A1 : tm_Ag n kd pp a_nKind a_nPart) (A2 : tm_Ag n kd pp b_kinds b_parts) (hTn : ∀ m, TT m → m < n) (hTc : ∀ m i c, TT m → cd m i = some c → TT c) (hN : N ≤ 192) (hec : ec < N) (hK : ∀ (f_done f_stuck f_curNode f_curEnv f_resultValue f_valueCount f_envCount f_depth : Int32) (a_vKind a_vWord a_vEnv a_vField a_eName a_eValue a_eNext a_fNode a_fEnv a_fPart a_fValue : Nat → Int32) (g_next g_nextPar g_nextSlot g_nextLex g_stuck : Int32) (b_vNode b_vPar b_vSlot b_vLex b_val b_num : Nat → Int32), es_R N r kd cd pp TT f_done f_stuck f_curNode f_curEnv f_resultValue f_valueCount f_envCount f_depth a_vKind a_vWord a_vEnv a_vField a_eName a_eValue a_eNext a_fNode a_fEnv a_fPart a_fValue g_next g_nextPar g_nextSlot g_nextLex g_stuck b_vNode b_vPar b_vSlot b_vLex b_val b_num → K (f_maxNodes, f_maxWeight, f_maxVisits, f_nodeCount, f_sealed, f_verdictNow, f_copyCount, f_varCount, f_atSet, f_atNeg, nI N, f_done, f_stuck, f_curNode, f_curEnv, f_resultValue, f_valueCount, f_envCount, f_depth, a_nKind, a_nPart, a_nParent, a_cNode, a_cUp, a_cChild, a_cInst, a_cParam, a_queue, a_rel, a_vKind, a_vWord, a_vEnv, a_vField, a_eName, a_eValue, a_eNext, a_fNode, a_fEnv, a_fPart, a_fValue) (g_maxNodes, g_maxWeight, g_maxVisits, g_count, g_root, g_nc, g_weight, g_grown, g_neg, nI N, g_next, g_nextPar, g_nextSlot, g_nextLex, g_stuck, b_kinds, b_parts, b_cNode, b_cPar, b_cSlot, b_le, b_saved, b_cur, b_nxt, b_first, b_vNode, b_vPar, b_vSlot, b_vLex, b_val, b_num)) (S : es_S N r kd cd TT num vn vp vs vl va gt dp) (E : es_E N kd pp vn vp vs vl gt ev xv ec a_eName a_eValue a_eNext) (V : es_V N kd vn va gv ev xv vc vK vW vE vF num) (F : es_F N kd vn vp vs va gt ev xv dp a_fNode a_fEnv a_fPart a_fValue) (A : es_A N vn vp vs vl va b_vNode b_vPar b_vSlot b_vLex bV) (hj : j < N) (ea : va j = some o) (hgv : ∀ i s, ¬ (vp j = some i ∧ vs j = s) → gv i s = gt i s) (ep : vp j = some p) (hv : va p = none) (ht : ∀ q, q < N → va q = none → q ≤ p ∧ dp q ≤ dp p) (h00 : va 0 = none) (hlc : ∀ j' i, j' < N → vp j = some i → vp j' = some i → j' ≤ j) (hf : es_tl (kd (vn p)) (vs j) = false → es_f kd vn gt ev xv dp a_fNode a_fEnv a_fPart a_fValue p (vs j)) (tl : es_tl (kd (vn p)) (vs j) = false) {m s d u ec' : Nat} {e' : Option Nat} {eN' eV' eX' fN' fE' fP' fV' vF' : Nat → Int32} (V' : es_V N kd vn va gt ev xv vc vK vW vE vF' num) (hs : vs j < s) (hT : TT m) (hd : d = if es_tl (kd (vn p)) s = true then dp p else dp p + 1)
    (hL : es_L kd cd num (es_u vn N m) (es_u vs N s) (es_u vl N (some u)) gt p N)
    (hu : u < N) (hec2 : ec ≤ ec') (hecN : ec' ≤ N) (he' : nu_lt e' ec') (h1 : ∀ c, c < ec → eN' c = a_eName c ∧ eV' c = a_eValue c ∧ eX' c = a_eNext c)
    (k3 : kd (vn u) = 3 → ∃ e o, e' = some e ∧ nu_lt (ev u) e ∧ eN' e = pp (4 * vn u) ∧ eX' e = nu_o (ev u) ∧ gt p 1 = some o ∧ eV' e = nI (xv o))
    (k5 : kd (vn u) = 5 → s = 2 → ∃ e o, e' = some e ∧ nu_lt (ev u) e ∧ eN' e = pp (4 * vn u) ∧ eX' e = nu_o (ev u) ∧ gt u 1 = some o ∧ eV' e = nI (xv o))
    (k0 : kd (vn u) ≠ 3 → ¬ (kd (vn u) = 5 ∧ s = 2) → e' = ev u)
    (hff : ∀ c, c < dp p → fN' c = a_fNode c ∧ fE' c = a_fEnv c ∧ fP' c = a_fPart c ∧ fV' c = a_fValue c) (hfp : es_tl (kd (vn p)) s = false → es_f kd vn gt ev xv dp fN' fE' fP' fV' p s)
    (hX : ∀ (m' t : Nat) (post : SX → Prop), t ≤ 192 → post (f_maxNodes, f_maxWeight, f_maxVisits, f_nodeCount, f_sealed, f_verdictNow, f_copyCount, f_varCount, f_atSet, f_atNeg, nI N, 0, 0, nI m, nu_o e', f_resultValue, nI vc, nI ec', nI d, a_nKind, a_nPart, a_nParent, a_cNode, a_cUp, a_cChild, a_cInst, a_cParam, a_queue, a_rel, vK, vW, vE, vF', eN', eV', eX', fN', fE', fP', fV') → wX_giveBack_4 post (m' + 1 + 1) (nI (xv o)) (nI t) f_maxNodes f_maxWeight f_maxVisits f_nodeCount f_sealed f_verdictNow f_copyCount f_varCount f_atSet f_atNeg (nI N) 0 0 f_curNode f_curEnv f_resultValue (nI vc) (nI ec) (nI (dp p + 1)) a_nKind a_nPart a_nParent a_cNode a_cUp a_cChild a_cInst a_cParam a_queue a_rel vK vW vE vF a_eName a_eValue a_eNext a_fNode a_fEnv a_fPart a_fValue)
    (hY : ∀ post : Int32 → Prop, post (nI s) → wpY_need post (g_maxNodes, g_maxWeight, g_maxVisits, g_count, g_root, g_nc, g_weight, g_grown, g_neg, nI N, -1, g_nextPar, g_nextSlot, g_nextLex, 0, b_kinds, b_parts, b_cNode, b_cPar, b_cSlot, b_le, b_saved, b_cur, b_nxt, b_first, b_vNode, b_vPar, b_vSlot, b_vLex, bV, num) (nI p))
    (hY2 : ∀ (m' : Nat) (post : SY → Prop), post (g_maxNodes, g_maxWeight, g_maxVisits, g_count, g_root, g_nc, g_weight, g_grown, g_neg, nI N, nI m, nI p, nI s, nI u, 0, b_kinds, b_parts, b_cNode, b_cPar, b_cSlot, b_le, b_saved, b_cur, b_nxt, b_first, b_vNode, b_vPar, b_vSlot, b_vLex, bV, num) → wY_visit_114 post (wY_visit_84 post (m' + 1)) (nI p) (nI s) g_maxNodes g_maxWeight g_maxVisits g_count g_root g_nc g_weight g_grown g_neg (nI N) (-1) g_nextPar g_nextSlot g_nextLex 0 b_kinds b_parts b_cNode b_cPar b_cSlot b_le b_saved b_cur b_nxt b_first b_vNode b_vPar b_vSlot b_vLex bV num) : es_out K n N r ec f_maxNodes f_maxWeight f_maxVisits f_nodeCount f_sealed f_verdictNow f_copyCount f_varCount f_atSet f_atNeg f_curNode f_curEnv f_resultValue a_nKind a_nPart a_nParent a_cNode a_cUp a_cChild a_cInst a_cParam a_queue a_rel a_eName a_eValue a_eNext a_fNode a_fEnv a_fPart a_fValue g_maxNodes g_maxWeight g_maxVisits g_count g_root g_nc g_weight g_grown g_neg g_nextPar g_nextSlot g_nextLex b_kinds b_parts b_cNode b_cPar b_cSlot b_le b_saved b_cur b_nxt b_first b_vNode b_vPar b_vSlot b_vLex (dp j) j (xv o) vc vK vW vE vF bV num := by
  have hn := tm_n W
  obtain ⟨hj0, hpj, L, dpj, hpN, hm, gps, hoN, hoo, hop, hxo, hdp, ko⟩ := es_ctx W hTn hN S V hj ea ep hv tl
  have R := es_Rnew (rv := f_resultValue) S E V' F A hpN hv h00 ht (fun j' a b => by have := es_c1 S hj ep hlc a b; omega) hT hd hL hu hec2 hecN he' h1 k3 k5 k0 hff hfp
  refine ⟨_, _, hK _ _ _ _ _ _ _ _ _ _ _ _ _ _ _ _ _ _ _ _ _ _ _ _ _ _ _ _ _ _ R, fun m t post hm' ht' hp => ?_, fun m post hm' hp => es_YN (va := va) A hN (fun q hq => es_valt S hN hq) hpj hj hv (fun q a b => (ht q a b).1) hm' fun m' hm'' => hY _ ?_⟩
  · obtain ⟨m', rfl⟩ : ∃ m', m = m' + 1 + 1 := ⟨m - 2, by omega⟩
    rw [dpj]
    exact hX m' t post (by omega) hp
  · obtain ⟨m'', rfl⟩ : ∃ m'', m' = m'' + 1 := ⟨m' - 1, by omega⟩
    exact hY2 m'' post hp
/-- the link of a plain child -/
theorem es_Lp {m s : Nat} (hp : p < N) (k3 : kd (vn p) ≠ 3) (hs : s < 4) (hc : cd (vn p) s = some m) (h1 : s = 1 → (kd (vn p) = 4 ∨ kd (vn p) = 8) → gt p 0 ≠ none) (h2 : s = 2 → kd (vn p) = 5 → gt p 1 ≠ none) (h9 : (s = 1 ∨ s = 2) → kd (vn p) = 9 → ∃ a, gt p 0 = some a ∧ a < N ∧ (kd (vn a) = 1 ∨ kd (vn a) = 8) ∧ (num a = 0 ↔ s = 1)) (h6 : kd (vn p) = 6 → ∀ l, l < s → cd (vn p) l ≠ none → gt p l ≠ none) : es_L kd cd num (es_u vn N m) (es_u vs N s) (es_u vl N (some p)) gt p N := by
  unfold es_L
  rw [es_us, es_us, es_us, es_un (show p ≠ N by omega)]
  refine ⟨k3, Or.inl ⟨hs, hc, rfl⟩, h1, h2, fun a b => ?_, h6⟩
  obtain ⟨v, c, d, e⟩ := h9 a b
  exact ⟨v, c, d, by rw [es_un (show v ≠ N by omega)]; exact e⟩
/-- APP, ADD: the first value is kept -/
theorem es_keep (W : tm_WF n kd cd pp par) (A1 : tm_Ag n kd pp a_nKind a_nPart) (A2 : tm_Ag n kd pp b_kinds b_parts) (hTn : ∀ m, TT m → m < n) (hTc : ∀ m i c, TT m → cd m i = some c → TT c) (hN : N ≤ 192) (hec : ec < N) (hK : ∀ (f_done f_stuck f_curNode f_curEnv f_resultValue f_valueCount f_envCount f_depth : Int32) (a_vKind a_vWord a_vEnv a_vField a_eName a_eValue a_eNext a_fNode a_fEnv a_fPart a_fValue : Nat → Int32) (g_next g_nextPar g_nextSlot g_nextLex g_stuck : Int32) (b_vNode b_vPar b_vSlot b_vLex b_val b_num : Nat → Int32), es_R N r kd cd pp TT f_done f_stuck f_curNode f_curEnv f_resultValue f_valueCount f_envCount f_depth a_vKind a_vWord a_vEnv a_vField a_eName a_eValue a_eNext a_fNode a_fEnv a_fPart a_fValue g_next g_nextPar g_nextSlot g_nextLex g_stuck b_vNode b_vPar b_vSlot b_vLex b_val b_num → K (f_maxNodes, f_maxWeight, f_maxVisits, f_nodeCount, f_sealed, f_verdictNow, f_copyCount, f_varCount, f_atSet, f_atNeg, nI N, f_done, f_stuck, f_curNode, f_curEnv, f_resultValue, f_valueCount, f_envCount, f_depth, a_nKind, a_nPart, a_nParent, a_cNode, a_cUp, a_cChild, a_cInst, a_cParam, a_queue, a_rel, a_vKind, a_vWord, a_vEnv, a_vField, a_eName, a_eValue, a_eNext, a_fNode, a_fEnv, a_fPart, a_fValue) (g_maxNodes, g_maxWeight, g_maxVisits, g_count, g_root, g_nc, g_weight, g_grown, g_neg, nI N, g_next, g_nextPar, g_nextSlot, g_nextLex, g_stuck, b_kinds, b_parts, b_cNode, b_cPar, b_cSlot, b_le, b_saved, b_cur, b_nxt, b_first, b_vNode, b_vPar, b_vSlot, b_vLex, b_val, b_num)) (S : es_S N r kd cd TT num vn vp vs vl va gt dp) (E : es_E N kd pp vn vp vs vl gt ev xv ec a_eName a_eValue a_eNext) (V : es_V N kd vn va gv ev xv vc vK vW vE vF num) (F : es_F N kd vn vp vs va gt ev xv dp a_fNode a_fEnv a_fPart a_fValue) (A : es_A N vn vp vs vl va b_vNode b_vPar b_vSlot b_vLex bV) (hj : j < N) (ea : va j = some o) (hgv : ∀ i s, ¬ (vp j = some i ∧ vs j = s) → gv i s = gt i s) (ep : vp j = some p) (hv : va p = none) (ht : ∀ q, q < N → va q = none → q ≤ p ∧ dp q ≤ dp p) (h00 : va 0 = none) (hlc : ∀ j' i, j' < N → vp j = some i → vp j' = some i → j' ≤ j) (hf : es_tl (kd (vn p)) (vs j) = false → es_f kd vn gt ev xv dp a_fNode a_fEnv a_fPart a_fValue p (vs j)) (k48 : kd (vn p) = 4 ∨ kd (vn p) = 8) (s0 : vs j = 0) : es_out K n N r ec f_maxNodes f_maxWeight f_maxVisits f_nodeCount f_sealed f_verdictNow f_copyCount f_varCount f_atSet f_atNeg f_curNode f_curEnv f_resultValue a_nKind a_nPart a_nParent a_cNode a_cUp a_cChild a_cInst a_cParam a_queue a_rel a_eName a_eValue a_eNext a_fNode a_fEnv a_fPart a_fValue g_maxNodes g_maxWeight g_maxVisits g_count g_root g_nc g_weight g_grown g_neg g_nextPar g_nextSlot g_nextLex b_kinds b_parts b_cNode b_cPar b_cSlot b_le b_saved b_cur b_nxt b_first b_vNode b_vPar b_vSlot b_vLex (dp j) j (xv o) vc vK vW vE vF bV num := by
  have hn := tm_n W
  have tl : es_tl (kd (vn p)) (vs j) = false := by rw [s0]; rcases k48 with k | k <;> rw [k] <;> rfl
  obtain ⟨hj0, hpj, L, dpj, hpN, hm, gps, hoN, hoo, hop, hxo, hdp, ko⟩ := es_ctx W hTn hN S V hj ea ep hv tl
  have hT : ∀ j, j < N → vn j < n := fun j h => hTn _ (es_tt S h)
  have hF := hf tl
  rw [s0] at gps hF
  have s1 : tm_slot (kd (vn p)) 1 = true := by rcases k48 with k | k <;> rw [k] <;> rfl
  have t1 : es_tl (kd (vn p)) 1 = false := by rcases k48 with k | k <;> rw [k] <;> rfl
  cases ec1 : cd (vn p) 1 with
  | none => exact absurd ec1 (tm_nn W hm (by omega) s1 (by omega))
  | some c =>
    refine es_onew W A1 A2 hTn hTc hN hec hK S E V F A hj ea hgv ep hv ht h00 hlc hf tl (m := c) (s := 1) (d := dp p + 1) (u := p) (ec' := ec) (e' := ev p) (eN' := a_eName) (eV' := a_eValue) (eX' := a_eNext) (fN' := a_fNode) (fE' := a_fEnv) (fP' := upd a_fPart (dp p) 1) (fV' := upd a_fValue (dp p) (nI (xv o))) (vF' := vF) (es_Vp V hgv ep (by omega)) (by omega) (hTc _ 1 c (es_tt S hpN) ec1) (by rw [t1]; rfl) (es_Lp hpN (by omega) (by omega) ec1 (fun _ _ => by rw [gps]; intro z; cases z) (fun z => by omega) (fun _ z => by omega) (fun z => by omega)) hpN (Nat.le_refl _) (by omega) (E.1 p hpN) (fun _ _ => ⟨rfl, rfl, rfl⟩) (fun z => by omega) (fun z => by omega) (fun _ _ => rfl) (fun c' hc' => ⟨rfl, rfl, pk_un (by omega), pk_un (by omega)⟩) (fun _ => ⟨hF.1, hF.2.1, fun _ => ⟨pk_us, fun _ => ⟨o, gps, pk_us⟩⟩, fun z => by omega⟩) (fun m' t post ht' hp => ?_) (fun post hp => ?_) (fun m' post hp => ?_)
    · refine br_f (by rw [nu_q192 (by omega)]; omega) (br_f (nI_pos (by omega)) (br_f (nI_ne0 (by omega) (by omega)) ?_))
      have hF3 := hF.2.2.1 k48
      rcases k48 with k | k
      · refine xw_fapp W A1 hdp hm hF.1 k (fun _ => ⟨c, ec1, ?_⟩) (fun z => absurd hF3.1 z)
        rw [hF.2.1]
        exact nm_r (nI_1 t) (xw_gbe hp)
      · refine xw_fadd W A1 hdp hm hF.1 k hxo (fun _ => ⟨c, ec1, ?_⟩) (fun z => absurd hF3.1 z)
        rw [hF.2.1]
        exact nm_r (nI_1 t) (xw_gbe hp)
    · refine yw_nd0 W A2 S hN A hT hpN (fun z => by omega) (fun z => by omega) (fun z hg => by rw [gps] at hg; cases hg) (fun z => by omega) (fun z => by omega) (fun k a e => ⟨fun hg => hp, fun b eb => ?_⟩)
      have := es_c2 S hj ep hlc (s := 1) (by omega)
      rw [this] at eb; cases eb
    · exact yw_114s W A2 (by omega) hm (A p hpN).1 (by omega) ec1 (yw_84e (by have := (tm_c W hm ec1).1; omega) hp)
end
end
section
/-! evaluation: the cases of handing down -/
section
variable {f_maxNodes f_maxWeight f_maxVisits f_nodeCount f_sealed f_verdictNow f_copyCount f_varCount : Int32} {f_atSet : Int64} {f_atNeg f_visitCount f_done f_stuck f_curNode f_curEnv f_resultValue f_valueCount f_envCount f_depth : Int32} {a_nKind a_nPart a_nParent a_cNode a_cUp a_cChild a_cInst a_cParam a_queue : Nat → Int32} {a_rel : Nat → Int64} {a_vKind a_vWord a_vEnv a_vField a_eName a_eValue a_eNext a_fNode a_fEnv a_fPart a_fValue : Nat → Int32} {g_maxNodes g_maxWeight g_maxVisits g_count g_root g_nc g_weight g_grown g_neg g_made g_next g_nextPar g_nextSlot g_nextLex g_stuck : Int32} {b_kinds b_parts b_cNode b_cPar b_cSlot b_le b_saved b_cur b_nxt b_first b_vNode b_vPar b_vSlot b_vLex b_val b_num : Nat → Int32} {K : SX → SY → Prop} {n N r : Nat} {kd : Nat → Nat} {cd : Nat → Nat → Option Nat} {pp : Nat → Int32} {par : Nat → Option Nat} {TT : Nat → Prop} {vn : Nat → Nat} {vp : Nat → Option Nat} {vs : Nat → Nat} {vl va : Nat → Option Nat} {gt gv : Nat → Nat → Option Nat} {dp : Nat → Nat} {ev : Nat → Option Nat} {xv : Nat → Nat} {ec vc j o p : Nat} {vK vW vE vF bV num : Nat → Int32}

theorem tm_nxs (f : Nat → Option Nat) : ∀ d i, i + d = 4 → tm_nxd f d i ≤ 4 ∧ (tm_nxd f d i < 4 → i ≤ tm_nxd f d i ∧ f (tm_nxd f d i) ≠ none) ∧ (∀ l, i ≤ l → l < tm_nxd f d i → f l = none) := by
  intro d
  induction d with
  | zero => intro i hi; exact ⟨Nat.le_refl _, fun z => absurd z (Nat.lt_irrefl _), fun l a b => by have : l < 4 := b; omega⟩
  | succ d ih =>
    intro i hi
    rw [tm_nxd]
    split
    · next z =>
      obtain ⟨a, b, c⟩ := ih (i + 1) (by omega)
      refine ⟨a, fun w => ⟨by have := (b w).1; omega, (b w).2⟩, fun l h1 h2 => ?_⟩
      rcases Nat.eq_or_lt_of_le h1 with e | e
      · subst e; exact z
      · exact c l e h2
    · next z => exact ⟨by omega, fun _ => ⟨Nat.le_refl _, z⟩, fun l h1 h2 => by omega⟩
theorem tm_nxx (f : Nat → Option Nat) {i : Nat} (hi : i ≤ 4) : tm_nx f i ≤ 4 ∧ (tm_nx f i < 4 → i ≤ tm_nx f i ∧ f (tm_nx f i) ≠ none) ∧ (∀ l, i ≤ l → l < tm_nx f i → f l = none) := tm_nxs f (4 - i) i (by omega)
/-- the parent's value is there: it is handed on -/
theorem es_oval (W : tm_WF n kd cd pp par) (A1 : tm_Ag n kd pp a_nKind a_nPart) (A2 : tm_Ag n kd pp b_kinds b_parts) (hTn : ∀ m, TT m → m < n) (hTc : ∀ m i c, TT m → cd m i = some c → TT c) (hN : N ≤ 192) (hec : ec < N) (hK : ∀ (f_done f_stuck f_curNode f_curEnv f_resultValue f_valueCount f_envCount f_depth : Int32) (a_vKind a_vWord a_vEnv a_vField a_eName a_eValue a_eNext a_fNode a_fEnv a_fPart a_fValue : Nat → Int32) (g_next g_nextPar g_nextSlot g_nextLex g_stuck : Int32) (b_vNode b_vPar b_vSlot b_vLex b_val b_num : Nat → Int32), es_R N r kd cd pp TT f_done f_stuck f_curNode f_curEnv f_resultValue f_valueCount f_envCount f_depth a_vKind a_vWord a_vEnv a_vField a_eName a_eValue a_eNext a_fNode a_fEnv a_fPart a_fValue g_next g_nextPar g_nextSlot g_nextLex g_stuck b_vNode b_vPar b_vSlot b_vLex b_val b_num → K (f_maxNodes, f_maxWeight, f_maxVisits, f_nodeCount, f_sealed, f_verdictNow, f_copyCount, f_varCount, f_atSet, f_atNeg, nI N, f_done, f_stuck, f_curNode, f_curEnv, f_resultValue, f_valueCount, f_envCount, f_depth, a_nKind, a_nPart, a_nParent, a_cNode, a_cUp, a_cChild, a_cInst, a_cParam, a_queue, a_rel, a_vKind, a_vWord, a_vEnv, a_vField, a_eName, a_eValue, a_eNext, a_fNode, a_fEnv, a_fPart, a_fValue) (g_maxNodes, g_maxWeight, g_maxVisits, g_count, g_root, g_nc, g_weight, g_grown, g_neg, nI N, g_next, g_nextPar, g_nextSlot, g_nextLex, g_stuck, b_kinds, b_parts, b_cNode, b_cPar, b_cSlot, b_le, b_saved, b_cur, b_nxt, b_first, b_vNode, b_vPar, b_vSlot, b_vLex, b_val, b_num)) (S : es_S N r kd cd TT num vn vp vs vl va gt dp) (E : es_E N kd pp vn vp vs vl gt ev xv ec a_eName a_eValue a_eNext) (V : es_V N kd vn va gv ev xv vc vK vW vE vF num) (F : es_F N kd vn vp vs va gt ev xv dp a_fNode a_fEnv a_fPart a_fValue) (A : es_A N vn vp vs vl va b_vNode b_vPar b_vSlot b_vLex bV) (hj : j < N) (ea : va j = some o) (hgv : ∀ i s, ¬ (vp j = some i ∧ vs j = s) → gv i s = gt i s) (ep : vp j = some p) (hv : va p = none) (ht : ∀ q, q < N → va q = none → q ≤ p ∧ dp q ≤ dp p) (h00 : va 0 = none) (hlc : ∀ j' i, j' < N → vp j = some i → vp j' = some i → j' ≤ j) (hf : es_tl (kd (vn p)) (vs j) = false → es_f kd vn gt ev xv dp a_fNode a_fEnv a_fPart a_fValue p (vs j)) (tl : es_tl (kd (vn p)) (vs j) = false) {x' w vc' : Nat} {vK' vW' vE' vF' num' : Nat → Int32} (hI : es_out K n N r ec f_maxNodes f_maxWeight f_maxVisits f_nodeCount f_sealed f_verdictNow f_copyCount f_varCount f_atSet f_atNeg f_curNode f_curEnv f_resultValue a_nKind a_nPart a_nParent a_cNode a_cUp a_cChild a_cInst a_cParam a_queue a_rel a_eName a_eValue a_eNext a_fNode a_fEnv a_fPart a_fValue g_maxNodes g_maxWeight g_maxVisits g_count g_root g_nc g_weight g_grown g_neg g_nextPar g_nextSlot g_nextLex b_kinds b_parts b_cNode b_cPar b_cSlot b_le b_saved b_cur b_nxt b_first b_vNode b_vPar b_vSlot b_vLex (dp p) p x' vc' vK' vW' vE' vF' (upd bV p (nI w)) num')
    (hX : ∀ (m t : Nat) (post : SX → Prop), t ≤ 192 → wX_giveBack_4 post m (nI x') (nI (t + 1)) f_maxNodes f_maxWeight f_maxVisits f_nodeCount f_sealed f_verdictNow f_copyCount f_varCount f_atSet f_atNeg (nI N) 0 0 f_curNode f_curEnv f_resultValue (nI vc') (nI ec) (nI (dp p)) a_nKind a_nPart a_nParent a_cNode a_cUp a_cChild a_cInst a_cParam a_queue a_rel vK' vW' vE' vF' a_eName a_eValue a_eNext a_fNode a_fEnv a_fPart a_fValue → wX_giveBack_4 post (m + 1) (nI (xv o)) (nI t) f_maxNodes f_maxWeight f_maxVisits f_nodeCount f_sealed f_verdictNow f_copyCount f_varCount f_atSet f_atNeg (nI N) 0 0 f_curNode f_curEnv f_resultValue (nI vc) (nI ec) (nI (dp p + 1)) a_nKind a_nPart a_nParent a_cNode a_cUp a_cChild a_cInst a_cParam a_queue a_rel vK vW vE vF a_eName a_eValue a_eNext a_fNode a_fEnv a_fPart a_fValue)
    (hnd : ∀ post : Int32 → Prop, post (-1) → wpY_need post (g_maxNodes, g_maxWeight, g_maxVisits, g_count, g_root, g_nc, g_weight, g_grown, g_neg, nI N, -1, g_nextPar, g_nextSlot, g_nextLex, 0, b_kinds, b_parts, b_cNode, b_cPar, b_cSlot, b_le, b_saved, b_cur, b_nxt, b_first, b_vNode, b_vPar, b_vSlot, b_vLex, bV, num) (nI p))
    (hrs : ∀ post : Int32 → SY → Prop, post (nI w) (g_maxNodes, g_maxWeight, g_maxVisits, g_count, g_root, g_nc, g_weight, g_grown, g_neg, nI N, -1, g_nextPar, g_nextSlot, g_nextLex, 0, b_kinds, b_parts, b_cNode, b_cPar, b_cSlot, b_le, b_saved, b_cur, b_nxt, b_first, b_vNode, b_vPar, b_vSlot, b_vLex, bV, num') → wpY_result post (g_maxNodes, g_maxWeight, g_maxVisits, g_count, g_root, g_nc, g_weight, g_grown, g_neg, nI N, -1, g_nextPar, g_nextSlot, g_nextLex, 0, b_kinds, b_parts, b_cNode, b_cPar, b_cSlot, b_le, b_saved, b_cur, b_nxt, b_first, b_vNode, b_vPar, b_vSlot, b_vLex, bV, num) (nI p)) : es_out K n N r ec f_maxNodes f_maxWeight f_maxVisits f_nodeCount f_sealed f_verdictNow f_copyCount f_varCount f_atSet f_atNeg f_curNode f_curEnv f_resultValue a_nKind a_nPart a_nParent a_cNode a_cUp a_cChild a_cInst a_cParam a_queue a_rel a_eName a_eValue a_eNext a_fNode a_fEnv a_fPart a_fValue g_maxNodes g_maxWeight g_maxVisits g_count g_root g_nc g_weight g_grown g_neg g_nextPar g_nextSlot g_nextLex b_kinds b_parts b_cNode b_cPar b_cSlot b_le b_saved b_cur b_nxt b_first b_vNode b_vPar b_vSlot b_vLex (dp j) j (xv o) vc vK vW vE vF bV num := by
  have hn := tm_n W
  obtain ⟨hj0, hpj, L, dpj, hpN, hm, gps, hoN, hoo, hop, hxo, hdp, ko⟩ := es_ctx W hTn hN S V hj ea ep hv tl
  obtain ⟨u, v, hk, hX', hY'⟩ := hI
  refine ⟨u, v, hk, fun m t post hm' ht' hp => ?_, fun m post hm' hp => es_YN (va := va) A hN (fun q hq => es_valt S hN hq) hpj hj hv (fun q a b => (ht q a b).1) hm' fun m' hm'' => hnd _ (br_t rfl (hrs _ (yw_rsk (by omega) (hY' m' post hm'' hp))))⟩
  obtain ⟨m', rfl⟩ : ∃ m', m = m' + 1 := ⟨m - 1, by omega⟩
  rw [dpj]
  exact hX m' t post (by omega) (hX' m' (t + 1) post (by omega) (by omega) hp)
/-- APP: the argument is there -/
theorem es_app (W : tm_WF n kd cd pp par) (A1 : tm_Ag n kd pp a_nKind a_nPart) (A2 : tm_Ag n kd pp b_kinds b_parts) (hTn : ∀ m, TT m → m < n) (hTc : ∀ m i c, TT m → cd m i = some c → TT c) (hN : N ≤ 192) (hec : ec < N) (hK : ∀ (f_done f_stuck f_curNode f_curEnv f_resultValue f_valueCount f_envCount f_depth : Int32) (a_vKind a_vWord a_vEnv a_vField a_eName a_eValue a_eNext a_fNode a_fEnv a_fPart a_fValue : Nat → Int32) (g_next g_nextPar g_nextSlot g_nextLex g_stuck : Int32) (b_vNode b_vPar b_vSlot b_vLex b_val b_num : Nat → Int32), es_R N r kd cd pp TT f_done f_stuck f_curNode f_curEnv f_resultValue f_valueCount f_envCount f_depth a_vKind a_vWord a_vEnv a_vField a_eName a_eValue a_eNext a_fNode a_fEnv a_fPart a_fValue g_next g_nextPar g_nextSlot g_nextLex g_stuck b_vNode b_vPar b_vSlot b_vLex b_val b_num → K (f_maxNodes, f_maxWeight, f_maxVisits, f_nodeCount, f_sealed, f_verdictNow, f_copyCount, f_varCount, f_atSet, f_atNeg, nI N, f_done, f_stuck, f_curNode, f_curEnv, f_resultValue, f_valueCount, f_envCount, f_depth, a_nKind, a_nPart, a_nParent, a_cNode, a_cUp, a_cChild, a_cInst, a_cParam, a_queue, a_rel, a_vKind, a_vWord, a_vEnv, a_vField, a_eName, a_eValue, a_eNext, a_fNode, a_fEnv, a_fPart, a_fValue) (g_maxNodes, g_maxWeight, g_maxVisits, g_count, g_root, g_nc, g_weight, g_grown, g_neg, nI N, g_next, g_nextPar, g_nextSlot, g_nextLex, g_stuck, b_kinds, b_parts, b_cNode, b_cPar, b_cSlot, b_le, b_saved, b_cur, b_nxt, b_first, b_vNode, b_vPar, b_vSlot, b_vLex, b_val, b_num)) (S : es_S N r kd cd TT num vn vp vs vl va gt dp) (E : es_E N kd pp vn vp vs vl gt ev xv ec a_eName a_eValue a_eNext) (V : es_V N kd vn va gv ev xv vc vK vW vE vF num) (F : es_F N kd vn vp vs va gt ev xv dp a_fNode a_fEnv a_fPart a_fValue) (A : es_A N vn vp vs vl va b_vNode b_vPar b_vSlot b_vLex bV) (hj : j < N) (ea : va j = some o) (hgv : ∀ i s, ¬ (vp j = some i ∧ vs j = s) → gv i s = gt i s) (ep : vp j = some p) (hv : va p = none) (ht : ∀ q, q < N → va q = none → q ≤ p ∧ dp q ≤ dp p) (h00 : va 0 = none) (hlc : ∀ j' i, j' < N → vp j = some i → vp j' = some i → j' ≤ j) (hf : es_tl (kd (vn p)) (vs j) = false → es_f kd vn gt ev xv dp a_fNode a_fEnv a_fPart a_fValue p (vs j)) (k4 : kd (vn p) = 4) (s1 : vs j = 1) : es_out K n N r ec f_maxNodes f_maxWeight f_maxVisits f_nodeCount f_sealed f_verdictNow f_copyCount f_varCount f_atSet f_atNeg f_curNode f_curEnv f_resultValue a_nKind a_nPart a_nParent a_cNode a_cUp a_cChild a_cInst a_cParam a_queue a_rel a_eName a_eValue a_eNext a_fNode a_fEnv a_fPart a_fValue g_maxNodes g_maxWeight g_maxVisits g_count g_root g_nc g_weight g_grown g_neg g_nextPar g_nextSlot g_nextLex b_kinds b_parts b_cNode b_cPar b_cSlot b_le b_saved b_cur b_nxt b_first b_vNode b_vPar b_vSlot b_vLex (dp j) j (xv o) vc vK vW vE vF bV num := by
  have hn := tm_n W
  have tl : es_tl (kd (vn p)) (vs j) = false := by rw [s1, k4]; rfl
  obtain ⟨hj0, hpj, L, dpj, hpN, hm, gps, hoN, hoo, hop, hxo, hdp, ko⟩ := es_ctx W hTn hN S V hj ea ep hv tl
  have hT : ∀ j, j < N → vn j < n := fun j h => hTn _ (es_tt S h)
  have hF := hf tl
  rw [s1] at gps hF
  have hF4 := hF.2.2.1 (Or.inl k4)
  obtain ⟨a, ega, efv⟩ := hF4.2 rfl
  have ha := es_gg S ega
  have wa := es_w S V hN ha.1 ha.2.1
  have hpz : ¬ a_fPart (dp p) = 0 := by rw [hF4.1]; decide
  have g4 : gt p 4 = none := es_c2 S hj ep hlc (by omega)
  have ENT : ∀ (m t : Nat) (post : SX → Prop), t ≤ 192 → wpX_feed (fun q u => match u with
      | (f_maxNodes_1, f_maxWeight_1, f_maxVisits_1, f_nodeCount_1, f_sealed_1, f_verdictNow_1, f_copyCount_1, f_varCount_1, f_atSet_1, f_atNeg_1, f_visitCount_1, f_done_1, f_stuck_1, f_curNode_1, f_curEnv_1, f_resultValue_1, f_valueCount_1, f_envCount_1, f_depth_1, a_nKind_1, a_nPart_1, a_nParent_1, a_cNode_1, a_cUp_1, a_cChild_1, a_cInst_1, a_cParam_1, a_queue_1, a_rel_1, a_vKind_1, a_vWord_1, a_vEnv_1, a_vField_1, a_eName_1, a_eValue_1, a_eNext_1, a_fNode_1, a_fEnv_1, a_fPart_1, a_fValue_1) => ∀ y, y = nI t + 1 → wX_giveBack_4 post m q y f_maxNodes_1 f_maxWeight_1 f_maxVisits_1 f_nodeCount_1 f_sealed_1 f_verdictNow_1 f_copyCount_1 f_varCount_1 f_atSet_1 f_atNeg_1 f_visitCount_1 f_done_1 f_stuck_1 f_curNode_1 f_curEnv_1 f_resultValue_1 f_valueCount_1 f_envCount_1 f_depth_1 a_nKind_1 a_nPart_1 a_nParent_1 a_cNode_1 a_cUp_1 a_cChild_1 a_cInst_1 a_cParam_1 a_queue_1 a_rel_1 a_vKind_1 a_vWord_1 a_vEnv_1 a_vField_1 a_eName_1 a_eValue_1 a_eNext_1 a_fNode_1 a_fEnv_1 a_fPart_1 a_fValue_1) (f_maxNodes, f_maxWeight, f_maxVisits, f_nodeCount, f_sealed, f_verdictNow, f_copyCount, f_varCount, f_atSet, f_atNeg, nI N, 0, 0, f_curNode, f_curEnv, f_resultValue, nI vc, nI ec, nI (dp p + 1), a_nKind, a_nPart, a_nParent, a_cNode, a_cUp, a_cChild, a_cInst, a_cParam, a_queue, a_rel, vK, vW, vE, vF, a_eName, a_eValue, a_eNext, a_fNode, a_fEnv, a_fPart, a_fValue) (nI (xv o)) → wX_giveBack_4 post (m + 1) (nI (xv o)) (nI t) f_maxNodes f_maxWeight f_maxVisits f_nodeCount f_sealed f_verdictNow f_copyCount f_varCount f_atSet f_atNeg (nI N) 0 0 f_curNode f_curEnv f_resultValue (nI vc) (nI ec) (nI (dp p + 1)) a_nKind a_nPart a_nParent a_cNode a_cUp a_cChild a_cInst a_cParam a_queue a_rel vK vW vE vF a_eName a_eValue a_eNext a_fNode a_fEnv a_fPart a_fValue := fun m t post ht' H => br_f (by rw [nu_q192 (by omega)]; omega) (br_f (nI_pos (by omega)) (br_f (nI_ne0 (by omega) (by omega)) H))
  by_cases k3 : kd (vn a) = 3
  · have hwa := wa.2.2.2.2.1 k3
    have hma := hT a ha.1
    have sl : tm_slot (kd (vn a)) 1 = true := by rw [k3]; rfl
    cases ec1 : cd (vn a) 1 with
    | none => exact absurd ec1 (tm_nn W hma (by omega) sl (by omega))
    | some c =>
      have hL : es_L kd cd num (es_u vn N c) (es_u vs N 4) (es_u vl N (some a)) gt p N := by
        unfold es_L
        rw [es_us, es_us, es_us, es_un (show p ≠ N by omega)]
        exact ⟨by omega, Or.inr ⟨rfl, k4, (by rw [gps]; intro z; cases z), a, ega, ha.1, by rw [es_un (show a ≠ N by omega)]; exact k3, by rw [es_un (show a ≠ N by omega)]; exact ec1, rfl⟩, fun z => by omega, fun z => by omega, fun z => by omega, fun z => by omega⟩
      refine es_onew W A1 A2 hTn hTc hN hec hK S E V F A hj ea hgv ep hv ht h00 hlc hf tl (m := c) (s := 4) (d := dp p) (u := a) (ec' := ec + 1) (e' := some ec) (eN' := upd a_eName ec (pp (4 * vn a))) (eV' := upd a_eValue ec (nI (xv o))) (eX' := upd a_eNext ec (nu_o (ev a))) (fN' := a_fNode) (fE' := a_fEnv) (fP' := a_fPart) (fV' := a_fValue) (vF' := vF) (es_Vp V hgv ep (by omega)) (by omega) (hTc _ 1 c (es_tt S ha.1) ec1) (by rw [k4]; rfl) hL ha.1 (by omega) (by omega) (fun k z => by cases z; omega) (fun c' hc' => ⟨pk_un (by omega), pk_un (by omega), pk_un (by omega)⟩) (fun _ => ⟨ec, o, rfl, E.1 a ha.1, pk_us, pk_us, gps, pk_us⟩) (fun z => by omega) (fun z => absurd k3 z) (fun _ _ => ⟨rfl, rfl, rfl, rfl⟩) (fun z => by rw [k4] at z; cases z) (fun m' t post ht' hp => ENT _ t post ht' ?_) (fun post hp => ?_) (fun m' post hp => ?_)
      · refine xw_fapp W A1 hdp hm hF.1 k4 (fun z => absurd z hpz) (fun _ => ⟨xv a, efv, by omega, fun z => absurd hwa.1 z, fun _ => ⟨vn a, c, ec, hwa.2.1, hma, ec1, rfl, by omega, ?_⟩⟩)
        rw [hwa.2.2]
        exact nm_r (nI_1 t) (xw_gbe hp)
      · have ck : cl_k kd cd pp (vn a) (vn p) = false := by
          unfold cl_k
          rw [if_pos k4]
          exact decide_eq_false fun z => z k3
        refine yw_nd0 W A2 S hN A hT hpN (fun z => by omega) (fun z => by omega) (fun z hg => by rw [ega] at hg; cases hg) (fun z => by omega) (fun z => by omega) (fun k a' e => ⟨(fun hg => by rw [gps] at hg; cases hg), fun b eb => ⟨fun hc => ?_, fun hc => ⟨fun k8 => by omega, fun _ => ?_⟩⟩⟩)
        · rw [ega] at e; cases e; rw [ck] at hc; cases hc
        · unfold wY_need_235
          rw [nu_e4 (by omega)]
          refine br_t k4 (yw_got (s := 4) S hN A (by omega) (by omega) ?_)
          rw [g4]
          exact br_f (by decide) hp
      · exact yw_1144 W A2 S hN A hT hpN ega ec1 (yw_84e (by have := (tm_c W hma ec1).1; omega) hp)
  · have hk3 : ¬ vK (xv a) = 3 := by
      rcases ha.2.2.1 with k | k | k | k
      · rw [(wa.2.2.2.1 (Or.inl k)).1]; decide
      · exact absurd k k3
      · rw [wa.2.2.2.2.2 k]; decide
      · rw [(wa.2.2.2.1 (Or.inr k)).1]; decide
    refine es_ostk W A1 A2 hTn hTc hN hec hK S E V F A hj ea hgv ep hv ht h00 hlc hf tl (fun m t post ht' hp => ENT _ t post ht' ?_) (fun post hp => ?_)
    · exact xw_fapp W A1 hdp hm hF.1 k4 (fun z => absurd z hpz) (fun _ => ⟨xv a, efv, by omega, fun _ => nm_r (nI_1 t) (xw_gbe hp), fun z => absurd z hk3⟩)
    · have ck : cl_k kd cd pp (vn a) (vn p) = true := by
        unfold cl_k
        rw [if_pos k4]
        exact decide_eq_true k3
      refine yw_nd0 W A2 S hN A hT hpN (fun z => by omega) (fun z => by omega) (fun z hg => by rw [ega] at hg; cases hg) (fun z => by omega) (fun z => by omega) (fun k a' e => ⟨(fun hg => by rw [gps] at hg; cases hg), fun b eb => ⟨fun hc => hp, fun hc => ?_⟩⟩)
      rw [ega] at e; cases e; rw [ck] at hc; cases hc
/-- LET: the bound value is there -/
theorem es_let (W : tm_WF n kd cd pp par) (A1 : tm_Ag n kd pp a_nKind a_nPart) (A2 : tm_Ag n kd pp b_kinds b_parts) (hTn : ∀ m, TT m → m < n) (hTc : ∀ m i c, TT m → cd m i = some c → TT c) (hN : N ≤ 192) (hec : ec < N) (hK : ∀ (f_done f_stuck f_curNode f_curEnv f_resultValue f_valueCount f_envCount f_depth : Int32) (a_vKind a_vWord a_vEnv a_vField a_eName a_eValue a_eNext a_fNode a_fEnv a_fPart a_fValue : Nat → Int32) (g_next g_nextPar g_nextSlot g_nextLex g_stuck : Int32) (b_vNode b_vPar b_vSlot b_vLex b_val b_num : Nat → Int32), es_R N r kd cd pp TT f_done f_stuck f_curNode f_curEnv f_resultValue f_valueCount f_envCount f_depth a_vKind a_vWord a_vEnv a_vField a_eName a_eValue a_eNext a_fNode a_fEnv a_fPart a_fValue g_next g_nextPar g_nextSlot g_nextLex g_stuck b_vNode b_vPar b_vSlot b_vLex b_val b_num → K (f_maxNodes, f_maxWeight, f_maxVisits, f_nodeCount, f_sealed, f_verdictNow, f_copyCount, f_varCount, f_atSet, f_atNeg, nI N, f_done, f_stuck, f_curNode, f_curEnv, f_resultValue, f_valueCount, f_envCount, f_depth, a_nKind, a_nPart, a_nParent, a_cNode, a_cUp, a_cChild, a_cInst, a_cParam, a_queue, a_rel, a_vKind, a_vWord, a_vEnv, a_vField, a_eName, a_eValue, a_eNext, a_fNode, a_fEnv, a_fPart, a_fValue) (g_maxNodes, g_maxWeight, g_maxVisits, g_count, g_root, g_nc, g_weight, g_grown, g_neg, nI N, g_next, g_nextPar, g_nextSlot, g_nextLex, g_stuck, b_kinds, b_parts, b_cNode, b_cPar, b_cSlot, b_le, b_saved, b_cur, b_nxt, b_first, b_vNode, b_vPar, b_vSlot, b_vLex, b_val, b_num)) (S : es_S N r kd cd TT num vn vp vs vl va gt dp) (E : es_E N kd pp vn vp vs vl gt ev xv ec a_eName a_eValue a_eNext) (V : es_V N kd vn va gv ev xv vc vK vW vE vF num) (F : es_F N kd vn vp vs va gt ev xv dp a_fNode a_fEnv a_fPart a_fValue) (A : es_A N vn vp vs vl va b_vNode b_vPar b_vSlot b_vLex bV) (hj : j < N) (ea : va j = some o) (hgv : ∀ i s, ¬ (vp j = some i ∧ vs j = s) → gv i s = gt i s) (ep : vp j = some p) (hv : va p = none) (ht : ∀ q, q < N → va q = none → q ≤ p ∧ dp q ≤ dp p) (h00 : va 0 = none) (hlc : ∀ j' i, j' < N → vp j = some i → vp j' = some i → j' ≤ j) (hf : es_tl (kd (vn p)) (vs j) = false → es_f kd vn gt ev xv dp a_fNode a_fEnv a_fPart a_fValue p (vs j)) (k5 : kd (vn p) = 5) (s1 : vs j = 1) : es_out K n N r ec f_maxNodes f_maxWeight f_maxVisits f_nodeCount f_sealed f_verdictNow f_copyCount f_varCount f_atSet f_atNeg f_curNode f_curEnv f_resultValue a_nKind a_nPart a_nParent a_cNode a_cUp a_cChild a_cInst a_cParam a_queue a_rel a_eName a_eValue a_eNext a_fNode a_fEnv a_fPart a_fValue g_maxNodes g_maxWeight g_maxVisits g_count g_root g_nc g_weight g_grown g_neg g_nextPar g_nextSlot g_nextLex b_kinds b_parts b_cNode b_cPar b_cSlot b_le b_saved b_cur b_nxt b_first b_vNode b_vPar b_vSlot b_vLex (dp j) j (xv o) vc vK vW vE vF bV num := by
  have hn := tm_n W
  have tl : es_tl (kd (vn p)) (vs j) = false := by rw [s1, k5]; rfl
  obtain ⟨hj0, hpj, L, dpj, hpN, hm, gps, hoN, hoo, hop, hxo, hdp, ko⟩ := es_ctx W hTn hN S V hj ea ep hv tl
  have hT : ∀ j, j < N → vn j < n := fun j h => hTn _ (es_tt S h)
  have hF := hf tl
  rw [s1] at gps hF
  have sl : tm_slot (kd (vn p)) 2 = true := by rw [k5]; rfl
  have g2 : gt p 2 = none := es_c2 S hj ep hlc (by omega)
  cases ec1 : cd (vn p) 2 with
  | none => exact absurd ec1 (tm_nn W hm (by omega) sl (by omega))
  | some c =>
    refine es_onew W A1 A2 hTn hTc hN hec hK S E V F A hj ea hgv ep hv ht h00 hlc hf tl (m := c) (s := 2) (d := dp p) (u := p) (ec' := ec + 1) (e' := some ec) (eN' := upd a_eName ec (pp (4 * vn p))) (eV' := upd a_eValue ec (nI (xv o))) (eX' := upd a_eNext ec (nu_o (ev p))) (fN' := a_fNode) (fE' := a_fEnv) (fP' := a_fPart) (fV' := a_fValue) (vF' := vF) (es_Vp V hgv ep (by omega)) (by omega) (hTc _ 2 c (es_tt S hpN) ec1) (by rw [k5]; rfl) (es_Lp hpN (by omega) (by omega) ec1 (fun z => by omega) (fun _ _ => by rw [gps]; intro z; cases z) (fun _ z => by omega) (fun z => by omega)) hpN (by omega) (by omega) (fun k z => by cases z; omega) (fun c' hc' => ⟨pk_un (by omega), pk_un (by omega), pk_un (by omega)⟩) (fun z => by omega) (fun _ _ => ⟨ec, o, rfl, E.1 p hpN, pk_us, pk_us, gps, pk_us⟩) (fun _ z => absurd ⟨k5, rfl⟩ z) (fun _ _ => ⟨rfl, rfl, rfl, rfl⟩) (fun z => by rw [k5] at z; cases z) (fun m' t post ht' hp => ?_) (fun post hp => ?_) (fun m' post hp => ?_)
    · refine br_f (by rw [nu_q192 (by omega)]; omega) (br_f (nI_pos (by omega)) (br_f (nI_ne0 (by omega) (by omega)) (xw_flet W A1 hdp hm hF.1 k5 ec1 (by omega) ?_)))
      rw [hF.2.1]
      exact nm_r (nI_1 t) (xw_gbe hp)
    · refine yw_nd0 W A2 S hN A hT hpN (fun z => by omega) (fun z => yw_nd45 W A2 S hN A hT hpN (fun s hs hc hg hl => ?_) (fun z => absurd g2 (z 2 (by omega) (by rw [ec1]; intro z; cases z)))) (fun z => by omega) (fun z => by omega) (fun z => by omega) (fun z => by omega)
      have hs2 := (tm_o W hm hc).2
      rw [k5] at hs2
      have tab : ∀ s, s < 4 → tm_slot 5 s = true → s = 1 ∨ s = 2 := by decide
      rcases tab s hs hs2 with e | e
      · subst e; rw [gps] at hg; cases hg
      · subst e; exact hp
    · exact yw_114s W A2 (by omega) hm (A p hpN).1 (by omega) ec1 (yw_84e (by have := (tm_c W hm ec1).1; omega) hp)
end
end
section
/-! evaluation: the cases of handing down -/
section
variable {f_maxNodes f_maxWeight f_maxVisits f_nodeCount f_sealed f_verdictNow f_copyCount f_varCount : Int32} {f_atSet : Int64} {f_atNeg f_visitCount f_done f_stuck f_curNode f_curEnv f_resultValue f_valueCount f_envCount f_depth : Int32} {a_nKind a_nPart a_nParent a_cNode a_cUp a_cChild a_cInst a_cParam a_queue : Nat → Int32} {a_rel : Nat → Int64} {a_vKind a_vWord a_vEnv a_vField a_eName a_eValue a_eNext a_fNode a_fEnv a_fPart a_fValue : Nat → Int32} {g_maxNodes g_maxWeight g_maxVisits g_count g_root g_nc g_weight g_grown g_neg g_made g_next g_nextPar g_nextSlot g_nextLex g_stuck : Int32} {b_kinds b_parts b_cNode b_cPar b_cSlot b_le b_saved b_cur b_nxt b_first b_vNode b_vPar b_vSlot b_vLex b_val b_num : Nat → Int32} {K : SX → SY → Prop} {n N r : Nat} {kd : Nat → Nat} {cd : Nat → Nat → Option Nat} {pp : Nat → Int32} {par : Nat → Option Nat} {TT : Nat → Prop} {vn : Nat → Nat} {vp : Nat → Option Nat} {vs : Nat → Nat} {vl va : Nat → Option Nat} {gt gv : Nat → Nat → Option Nat} {dp : Nat → Nat} {ev : Nat → Option Nat} {xv : Nat → Nat} {ec vc j o p : Nat} {vK vW vE vF bV num : Nat → Int32}

/-- REC: a field is there -/
theorem es_rec (W : tm_WF n kd cd pp par) (A1 : tm_Ag n kd pp a_nKind a_nPart) (A2 : tm_Ag n kd pp b_kinds b_parts) (hTn : ∀ m, TT m → m < n) (hTc : ∀ m i c, TT m → cd m i = some c → TT c) (hN : N ≤ 192) (hec : ec < N) (hK : ∀ (f_done f_stuck f_curNode f_curEnv f_resultValue f_valueCount f_envCount f_depth : Int32) (a_vKind a_vWord a_vEnv a_vField a_eName a_eValue a_eNext a_fNode a_fEnv a_fPart a_fValue : Nat → Int32) (g_next g_nextPar g_nextSlot g_nextLex g_stuck : Int32) (b_vNode b_vPar b_vSlot b_vLex b_val b_num : Nat → Int32), es_R N r kd cd pp TT f_done f_stuck f_curNode f_curEnv f_resultValue f_valueCount f_envCount f_depth a_vKind a_vWord a_vEnv a_vField a_eName a_eValue a_eNext a_fNode a_fEnv a_fPart a_fValue g_next g_nextPar g_nextSlot g_nextLex g_stuck b_vNode b_vPar b_vSlot b_vLex b_val b_num → K (f_maxNodes, f_maxWeight, f_maxVisits, f_nodeCount, f_sealed, f_verdictNow, f_copyCount, f_varCount, f_atSet, f_atNeg, nI N, f_done, f_stuck, f_curNode, f_curEnv, f_resultValue, f_valueCount, f_envCount, f_depth, a_nKind, a_nPart, a_nParent, a_cNode, a_cUp, a_cChild, a_cInst, a_cParam, a_queue, a_rel, a_vKind, a_vWord, a_vEnv, a_vField, a_eName, a_eValue, a_eNext, a_fNode, a_fEnv, a_fPart, a_fValue) (g_maxNodes, g_maxWeight, g_maxVisits, g_count, g_root, g_nc, g_weight, g_grown, g_neg, nI N, g_next, g_nextPar, g_nextSlot, g_nextLex, g_stuck, b_kinds, b_parts, b_cNode, b_cPar, b_cSlot, b_le, b_saved, b_cur, b_nxt, b_first, b_vNode, b_vPar, b_vSlot, b_vLex, b_val, b_num)) (S : es_S N r kd cd TT num vn vp vs vl va gt dp) (E : es_E N kd pp vn vp vs vl gt ev xv ec a_eName a_eValue a_eNext) (V : es_V N kd vn va gv ev xv vc vK vW vE vF num) (F : es_F N kd vn vp vs va gt ev xv dp a_fNode a_fEnv a_fPart a_fValue) (A : es_A N vn vp vs vl va b_vNode b_vPar b_vSlot b_vLex bV) (hj : j < N) (ea : va j = some o) (hgv : ∀ i s, ¬ (vp j = some i ∧ vs j = s) → gv i s = gt i s) (ep : vp j = some p) (hv : va p = none) (ht : ∀ q, q < N → va q = none → q ≤ p ∧ dp q ≤ dp p) (h00 : va 0 = none) (hlc : ∀ j' i, j' < N → vp j = some i → vp j' = some i → j' ≤ j) (hf : es_tl (kd (vn p)) (vs j) = false → es_f kd vn gt ev xv dp a_fNode a_fEnv a_fPart a_fValue p (vs j)) (ih : ∀ (p o : Nat) (va : Nat → Option Nat) (gt gv : Nat → Nat → Option Nat) (xv : Nat → Nat) (vc : Nat) (vK vW vE vF bV num : Nat → Int32), p < j → es_D N r kd cd pp TT vn vp vs vl dp ev ec a_eName a_eValue a_eNext a_fNode a_fEnv a_fPart a_fValue b_vNode b_vPar b_vSlot b_vLex p o va gt gv xv vc vK vW vE vF bV num → es_out K n N r ec f_maxNodes f_maxWeight f_maxVisits f_nodeCount f_sealed f_verdictNow f_copyCount f_varCount f_atSet f_atNeg f_curNode f_curEnv f_resultValue a_nKind a_nPart a_nParent a_cNode a_cUp a_cChild a_cInst a_cParam a_queue a_rel a_eName a_eValue a_eNext a_fNode a_fEnv a_fPart a_fValue g_maxNodes g_maxWeight g_maxVisits g_count g_root g_nc g_weight g_grown g_neg g_nextPar g_nextSlot g_nextLex b_kinds b_parts b_cNode b_cPar b_cSlot b_le b_saved b_cur b_nxt b_first b_vNode b_vPar b_vSlot b_vLex (dp p) p (xv o) vc vK vW vE vF bV num) (k6 : kd (vn p) = 6) : es_out K n N r ec f_maxNodes f_maxWeight f_maxVisits f_nodeCount f_sealed f_verdictNow f_copyCount f_varCount f_atSet f_atNeg f_curNode f_curEnv f_resultValue a_nKind a_nPart a_nParent a_cNode a_cUp a_cChild a_cInst a_cParam a_queue a_rel a_eName a_eValue a_eNext a_fNode a_fEnv a_fPart a_fValue g_maxNodes g_maxWeight g_maxVisits g_count g_root g_nc g_weight g_grown g_neg g_nextPar g_nextSlot g_nextLex b_kinds b_parts b_cNode b_cPar b_cSlot b_le b_saved b_cur b_nxt b_first b_vNode b_vPar b_vSlot b_vLex (dp j) j (xv o) vc vK vW vE vF bV num := by
  have hn := tm_n W
  have tl : es_tl (kd (vn p)) (vs j) = false := by rw [k6]; rfl
  obtain ⟨hj0, hpj, L, dpj, hpN, hm, gps, hoN, hoo, hop, hxo, hdp, ko⟩ := es_ctx W hTn hN S V hj ea ep hv tl
  have hT : ∀ j, j < N → vn j < n := fun j h => hTn _ (es_tt S h)
  have hF := hf tl
  have hF6 := hF.2.2.2 k6
  have hs : vs j < 4 := by rcases L.2.1 with z | z <;> omega
  have hL6 := L.2.2.2.2.2 k6
  have hxp : xv p < 192 := by
    have a := V.2.1 p hpN (Or.inr k6)
    have b := V.1
    have c := kc_le (es_own kd vn va) N
    omega
  obtain ⟨x4, x1, x0⟩ := tm_nxx (cd (vn p)) (i := vs j + 1) (by omega)
  have V1 : es_V N kd vn va gt ev xv vc vK vW vE (upd vF (4 * xv p + vs j) (nI (xv o))) num := by
    refine es_Vf V hpN k6 hs gps fun w l hw k hl z => (hgv w l fun y => z ?_).symm
    rw [ep] at y
    cases y.1
    exact ⟨rfl, y.2.symm⟩
  have low : ∀ l, l ≤ vs j → cd (vn p) l ≠ none → gt p l ≠ none := fun l hl hc => by
    rcases Nat.eq_or_lt_of_le hl with z | z
    · rw [z, gps]; intro y; cases y
    · exact hL6 l z hc
  have ENT : ∀ (m t : Nat) (post : SX → Prop), t ≤ 192 → wpX_feed (fun q u => match u with
      | (f_maxNodes_1, f_maxWeight_1, f_maxVisits_1, f_nodeCount_1, f_sealed_1, f_verdictNow_1, f_copyCount_1, f_varCount_1, f_atSet_1, f_atNeg_1, f_visitCount_1, f_done_1, f_stuck_1, f_curNode_1, f_curEnv_1, f_resultValue_1, f_valueCount_1, f_envCount_1, f_depth_1, a_nKind_1, a_nPart_1, a_nParent_1, a_cNode_1, a_cUp_1, a_cChild_1, a_cInst_1, a_cParam_1, a_queue_1, a_rel_1, a_vKind_1, a_vWord_1, a_vEnv_1, a_vField_1, a_eName_1, a_eValue_1, a_eNext_1, a_fNode_1, a_fEnv_1, a_fPart_1, a_fValue_1) => ∀ y, y = nI t + 1 → wX_giveBack_4 post m q y f_maxNodes_1 f_maxWeight_1 f_maxVisits_1 f_nodeCount_1 f_sealed_1 f_verdictNow_1 f_copyCount_1 f_varCount_1 f_atSet_1 f_atNeg_1 f_visitCount_1 f_done_1 f_stuck_1 f_curNode_1 f_curEnv_1 f_resultValue_1 f_valueCount_1 f_envCount_1 f_depth_1 a_nKind_1 a_nPart_1 a_nParent_1 a_cNode_1 a_cUp_1 a_cChild_1 a_cInst_1 a_cParam_1 a_queue_1 a_rel_1 a_vKind_1 a_vWord_1 a_vEnv_1 a_vField_1 a_eName_1 a_eValue_1 a_eNext_1 a_fNode_1 a_fEnv_1 a_fPart_1 a_fValue_1) (f_maxNodes, f_maxWeight, f_maxVisits, f_nodeCount, f_sealed, f_verdictNow, f_copyCount, f_varCount, f_atSet, f_atNeg, nI N, 0, 0, f_curNode, f_curEnv, f_resultValue, nI vc, nI ec, nI (dp p + 1), a_nKind, a_nPart, a_nParent, a_cNode, a_cUp, a_cChild, a_cInst, a_cParam, a_queue, a_rel, vK, vW, vE, vF, a_eName, a_eValue, a_eNext, a_fNode, a_fEnv, a_fPart, a_fValue) (nI (xv o)) → wX_giveBack_4 post (m + 1) (nI (xv o)) (nI t) f_maxNodes f_maxWeight f_maxVisits f_nodeCount f_sealed f_verdictNow f_copyCount f_varCount f_atSet f_atNeg (nI N) 0 0 f_curNode f_curEnv f_resultValue (nI vc) (nI ec) (nI (dp p + 1)) a_nKind a_nPart a_nParent a_cNode a_cUp a_cChild a_cInst a_cParam a_queue a_rel vK vW vE vF a_eName a_eValue a_eNext a_fNode a_fEnv a_fPart a_fValue := fun m t post ht' H => br_f (by rw [nu_q192 (by omega)]; omega) (br_f (nI_pos (by omega)) (br_f (nI_ne0 (by omega) (by omega)) H))
  by_cases hx : tm_nx (cd (vn p)) (vs j + 1) < 4
  · cases ec1 : cd (vn p) (tm_nx (cd (vn p)) (vs j + 1)) with
    | none => exact absurd ec1 (x1 hx).2
    | some c =>
      have hgt := (x1 hx).1
      have gn : gt p (tm_nx (cd (vn p)) (vs j + 1)) = none := es_c2 S hj ep hlc (by omega)
      have mid : ∀ l, l < tm_nx (cd (vn p)) (vs j + 1) → cd (vn p) l ≠ none → gt p l ≠ none := fun l hl hc => by
        rcases Nat.lt_or_ge (vs j) l with z | z
        · exact absurd (x0 l (by omega) hl) hc
        · exact low l z hc
      refine es_onew W A1 A2 hTn hTc hN hec hK S E V F A hj ea hgv ep hv ht h00 hlc hf tl (m := c) (s := tm_nx (cd (vn p)) (vs j + 1)) (d := dp p + 1) (u := p) (ec' := ec) (e' := ev p) (eN' := a_eName) (eV' := a_eValue) (eX' := a_eNext) (fN' := a_fNode) (fE' := a_fEnv) (fP' := upd a_fPart (dp p) (nI (tm_nx (cd (vn p)) (vs j + 1)))) (fV' := a_fValue) (vF' := upd vF (4 * xv p + vs j) (nI (xv o))) V1 (by omega) (hTc _ _ c (es_tt S hpN) ec1) (by rw [k6]; rfl) (es_Lp hpN (by omega) hx ec1 (fun _ z => by omega) (fun _ z => by omega) (fun _ z => by omega) (fun _ => mid)) hpN (Nat.le_refl _) (by omega) (E.1 p hpN) (fun _ _ => ⟨rfl, rfl, rfl⟩) (fun z => by omega) (fun z => by omega) (fun _ _ => rfl) (fun c' hc' => ⟨rfl, rfl, pk_un (by omega), rfl⟩) (fun _ => ⟨hF.1, hF.2.1, fun z => by omega, fun _ => ⟨pk_us, hF6.2⟩⟩) (fun m' t post ht' hp => ENT _ t post ht' ?_) (fun post hp => ?_) (fun m' post hp => ?_)
      · refine xw_frec W A1 hdp hm hF.1 k6 hF6.2 hxp hF6.1 hs (fun c' _ ec' => ?_) (fun z => absurd hx z) (fun _ => (x1 hx).2) x4
        rw [ec1] at ec'
        cases ec'
        rw [hF.2.1]
        exact nm_r (nI_1 t) (xw_gbe hp)
      · refine yw_nd0 W A2 S hN A hT hpN (fun z => by omega) (fun z => yw_nd45 W A2 S hN A hT hpN (fun s hs' hc hg hl => ?_) (fun z => absurd gn (z _ hx (x1 hx).2))) (fun z => by omega) (fun z => by omega) (fun z => by omega) (fun z => by omega)
        have : s = tm_nx (cd (vn p)) (vs j + 1) := by
          rcases Nat.lt_trichotomy s (tm_nx (cd (vn p)) (vs j + 1)) with z | z | z
          · exact absurd hg (mid s z hc)
          · exact z
          · exact absurd gn (hl _ z (x1 hx).2)
        rw [this]; exact hp
      · exact yw_114s W A2 (by omega) hm (A p hpN).1 hx ec1 (yw_84e (by have := (tm_c W hm ec1).1; omega) hp)
  · have full : ∀ l, cd (vn p) l ≠ none → gt p l ≠ none := fun l hc => by
      have hl := (tm_o W hm hc).1
      rcases Nat.lt_or_ge (vs j) l with z | z
      · exact absurd (x0 l (by omega) (by omega)) hc
      · exact low l z hc
    have D := es_Dset (o := p) (num' := num) (xv' := xv) S E F A hpN hv (fun q a b => (ht q a b).1) (fun _ _ => rfl) (Or.inl ⟨rfl, Or.inr (Or.inr (Or.inl k6)), fun _ => full⟩) (fun _ _ => rfl) (fun _ _ _ => rfl) (fun _ => h00) (es_V6 V1 hv k6)
    have I := ih p p _ _ _ _ _ _ _ _ _ _ _ hpj D
    refine es_oval W A1 A2 hTn hTc hN hec hK S E V F A hj ea hgv ep hv ht h00 hlc hf tl I (fun m t post ht' H => ENT _ t post ht' ?_) (fun post hp => ?_) (fun post hp => ?_)
    · exact xw_frec W A1 hdp hm hF.1 k6 hF6.2 hxp hF6.1 hs (fun _ z => absurd z hx) (fun _ => nm_r (nI_1 t) H) (fun z => absurd z hx) x4
    · exact yw_nd0 W A2 S hN A hT hpN (fun z => by omega) (fun z => yw_nd45 W A2 S hN A hT hpN (fun s hs' hc hg hl => absurd hg (full s hc)) (fun z => hp)) (fun z => by omega) (fun z => by omega) (fun z => by omega) (fun z => by omega)
    · exact yw_res W A2 S hN A hT hpN (fun z => by omega) (fun z => by omega) (fun z => hp) (fun z => by omega) (fun z => by omega) (fun z => by omega) (fun z => by omega) (fun z => by omega)
/-- SEL -/
theorem es_sel (W : tm_WF n kd cd pp par) (A1 : tm_Ag n kd pp a_nKind a_nPart) (A2 : tm_Ag n kd pp b_kinds b_parts) (hTn : ∀ m, TT m → m < n) (hTc : ∀ m i c, TT m → cd m i = some c → TT c) (hN : N ≤ 192) (hec : ec < N) (hK : ∀ (f_done f_stuck f_curNode f_curEnv f_resultValue f_valueCount f_envCount f_depth : Int32) (a_vKind a_vWord a_vEnv a_vField a_eName a_eValue a_eNext a_fNode a_fEnv a_fPart a_fValue : Nat → Int32) (g_next g_nextPar g_nextSlot g_nextLex g_stuck : Int32) (b_vNode b_vPar b_vSlot b_vLex b_val b_num : Nat → Int32), es_R N r kd cd pp TT f_done f_stuck f_curNode f_curEnv f_resultValue f_valueCount f_envCount f_depth a_vKind a_vWord a_vEnv a_vField a_eName a_eValue a_eNext a_fNode a_fEnv a_fPart a_fValue g_next g_nextPar g_nextSlot g_nextLex g_stuck b_vNode b_vPar b_vSlot b_vLex b_val b_num → K (f_maxNodes, f_maxWeight, f_maxVisits, f_nodeCount, f_sealed, f_verdictNow, f_copyCount, f_varCount, f_atSet, f_atNeg, nI N, f_done, f_stuck, f_curNode, f_curEnv, f_resultValue, f_valueCount, f_envCount, f_depth, a_nKind, a_nPart, a_nParent, a_cNode, a_cUp, a_cChild, a_cInst, a_cParam, a_queue, a_rel, a_vKind, a_vWord, a_vEnv, a_vField, a_eName, a_eValue, a_eNext, a_fNode, a_fEnv, a_fPart, a_fValue) (g_maxNodes, g_maxWeight, g_maxVisits, g_count, g_root, g_nc, g_weight, g_grown, g_neg, nI N, g_next, g_nextPar, g_nextSlot, g_nextLex, g_stuck, b_kinds, b_parts, b_cNode, b_cPar, b_cSlot, b_le, b_saved, b_cur, b_nxt, b_first, b_vNode, b_vPar, b_vSlot, b_vLex, b_val, b_num)) (S : es_S N r kd cd TT num vn vp vs vl va gt dp) (E : es_E N kd pp vn vp vs vl gt ev xv ec a_eName a_eValue a_eNext) (V : es_V N kd vn va gv ev xv vc vK vW vE vF num) (F : es_F N kd vn vp vs va gt ev xv dp a_fNode a_fEnv a_fPart a_fValue) (A : es_A N vn vp vs vl va b_vNode b_vPar b_vSlot b_vLex bV) (hj : j < N) (ea : va j = some o) (hgv : ∀ i s, ¬ (vp j = some i ∧ vs j = s) → gv i s = gt i s) (ep : vp j = some p) (hv : va p = none) (ht : ∀ q, q < N → va q = none → q ≤ p ∧ dp q ≤ dp p) (h00 : va 0 = none) (hlc : ∀ j' i, j' < N → vp j = some i → vp j' = some i → j' ≤ j) (hf : es_tl (kd (vn p)) (vs j) = false → es_f kd vn gt ev xv dp a_fNode a_fEnv a_fPart a_fValue p (vs j)) (ih : ∀ (p o : Nat) (va : Nat → Option Nat) (gt gv : Nat → Nat → Option Nat) (xv : Nat → Nat) (vc : Nat) (vK vW vE vF bV num : Nat → Int32), p < j → es_D N r kd cd pp TT vn vp vs vl dp ev ec a_eName a_eValue a_eNext a_fNode a_fEnv a_fPart a_fValue b_vNode b_vPar b_vSlot b_vLex p o va gt gv xv vc vK vW vE vF bV num → es_out K n N r ec f_maxNodes f_maxWeight f_maxVisits f_nodeCount f_sealed f_verdictNow f_copyCount f_varCount f_atSet f_atNeg f_curNode f_curEnv f_resultValue a_nKind a_nPart a_nParent a_cNode a_cUp a_cChild a_cInst a_cParam a_queue a_rel a_eName a_eValue a_eNext a_fNode a_fEnv a_fPart a_fValue g_maxNodes g_maxWeight g_maxVisits g_count g_root g_nc g_weight g_grown g_neg g_nextPar g_nextSlot g_nextLex b_kinds b_parts b_cNode b_cPar b_cSlot b_le b_saved b_cur b_nxt b_first b_vNode b_vPar b_vSlot b_vLex (dp p) p (xv o) vc vK vW vE vF bV num) (k7 : kd (vn p) = 7) (s0 : vs j = 0) : es_out K n N r ec f_maxNodes f_maxWeight f_maxVisits f_nodeCount f_sealed f_verdictNow f_copyCount f_varCount f_atSet f_atNeg f_curNode f_curEnv f_resultValue a_nKind a_nPart a_nParent a_cNode a_cUp a_cChild a_cInst a_cParam a_queue a_rel a_eName a_eValue a_eNext a_fNode a_fEnv a_fPart a_fValue g_maxNodes g_maxWeight g_maxVisits g_count g_root g_nc g_weight g_grown g_neg g_nextPar g_nextSlot g_nextLex b_kinds b_parts b_cNode b_cPar b_cSlot b_le b_saved b_cur b_nxt b_first b_vNode b_vPar b_vSlot b_vLex (dp j) j (xv o) vc vK vW vE vF bV num := by
  have hn := tm_n W
  have tl : es_tl (kd (vn p)) (vs j) = false := by rw [k7]; rfl
  obtain ⟨hj0, hpj, L, dpj, hpN, hm, gps, hoN, hoo, hop, hxo, hdp, ko⟩ := es_ctx W hTn hN S V hj ea ep hv tl
  have hT : ∀ j, j < N → vn j < n := fun j h => hTn _ (es_tt S h)
  have hF := hf tl
  rw [s0] at gps
  have hl := (tm_l7 W hm k7).2
  have wo := es_w S V hN hoN hoo
  have ENT : ∀ (m t : Nat) (post : SX → Prop), t ≤ 192 → wpX_feed (fun q u => match u with
      | (f_maxNodes_1, f_maxWeight_1, f_maxVisits_1, f_nodeCount_1, f_sealed_1, f_verdictNow_1, f_copyCount_1, f_varCount_1, f_atSet_1, f_atNeg_1, f_visitCount_1, f_done_1, f_stuck_1, f_curNode_1, f_curEnv_1, f_resultValue_1, f_valueCount_1, f_envCount_1, f_depth_1, a_nKind_1, a_nPart_1, a_nParent_1, a_cNode_1, a_cUp_1, a_cChild_1, a_cInst_1, a_cParam_1, a_queue_1, a_rel_1, a_vKind_1, a_vWord_1, a_vEnv_1, a_vField_1, a_eName_1, a_eValue_1, a_eNext_1, a_fNode_1, a_fEnv_1, a_fPart_1, a_fValue_1) => ∀ y, y = nI t + 1 → wX_giveBack_4 post m q y f_maxNodes_1 f_maxWeight_1 f_maxVisits_1 f_nodeCount_1 f_sealed_1 f_verdictNow_1 f_copyCount_1 f_varCount_1 f_atSet_1 f_atNeg_1 f_visitCount_1 f_done_1 f_stuck_1 f_curNode_1 f_curEnv_1 f_resultValue_1 f_valueCount_1 f_envCount_1 f_depth_1 a_nKind_1 a_nPart_1 a_nParent_1 a_cNode_1 a_cUp_1 a_cChild_1 a_cInst_1 a_cParam_1 a_queue_1 a_rel_1 a_vKind_1 a_vWord_1 a_vEnv_1 a_vField_1 a_eName_1 a_eValue_1 a_eNext_1 a_fNode_1 a_fEnv_1 a_fPart_1 a_fValue_1) (f_maxNodes, f_maxWeight, f_maxVisits, f_nodeCount, f_sealed, f_verdictNow, f_copyCount, f_varCount, f_atSet, f_atNeg, nI N, 0, 0, f_curNode, f_curEnv, f_resultValue, nI vc, nI ec, nI (dp p + 1), a_nKind, a_nPart, a_nParent, a_cNode, a_cUp, a_cChild, a_cInst, a_cParam, a_queue, a_rel, vK, vW, vE, vF, a_eName, a_eValue, a_eNext, a_fNode, a_fEnv, a_fPart, a_fValue) (nI (xv o)) → wX_giveBack_4 post (m + 1) (nI (xv o)) (nI t) f_maxNodes f_maxWeight f_maxVisits f_nodeCount f_sealed f_verdictNow f_copyCount f_varCount f_atSet f_atNeg (nI N) 0 0 f_curNode f_curEnv f_resultValue (nI vc) (nI ec) (nI (dp p + 1)) a_nKind a_nPart a_nParent a_cNode a_cUp a_cChild a_cInst a_cParam a_queue a_rel vK vW vE vF a_eName a_eValue a_eNext a_fNode a_fEnv a_fPart a_fValue := fun m t post ht' H => br_f (by rw [nu_q192 (by omega)]; omega) (br_f (nI_pos (by omega)) (br_f (nI_ne0 (by omega) (by omega)) H))
  have fld : kd (vn o) = 6 → vF (4 * xv o + tm_l pp (vn p)) = nu_o ((gt o (tm_l pp (vn p))).map xv) := fun k6 => by
    have := (V.2.2.2.2 o hoN k6).2.2 (tm_l pp (vn p)) (by omega)
    rwa [hgv o _ (fun z => by rw [ep] at z; cases z.1; omega)] at this
  by_cases hc : kd (vn o) = 6 ∧ cd (vn o) (tm_l pp (vn p)) ≠ none
  · cases ew : gt o (tm_l pp (vn p)) with
    | none => exact absurd ew (es_rc S hoN hoo hc.1 hc.2)
    | some w =>
      have hw := es_gg S ew
      have hwp : w ≠ p := fun z => by have := hw.2.1; rw [z, hv] at this; cases this
      have ww := es_w S V hN hw.1 hw.2.1
      have fl := fld hc.1
      rw [ew] at fl
      have fl' : vF (4 * xv o + tm_l pp (vn p)) = nI (xv w) := fl
      have ck : cl_k kd cd pp (vn o) (vn p) = false := by
        unfold cl_k
        rw [if_neg (by omega), if_pos k7]
        exact decide_eq_false fun z => z.elim (fun z => z hc.1) hc.2
      have D := es_Dset (o := w) (num' := num) (xv' := xv) S E F A hpN hv (fun q a b => (ht q a b).1) (fun _ _ => rfl) (Or.inr ⟨hw.1, hw.2.1⟩) (fun _ _ => rfl) (fun _ _ _ => rfl) (fun _ => h00) (es_V0 (es_Vp V hgv ep (by omega)) hv hwp)
      have I := ih p w _ _ _ _ _ _ _ _ _ _ _ hpj D
      refine es_oval W A1 A2 hTn hTc hN hec hK S E V F A hj ea hgv ep hv ht h00 hlc hf tl I (fun m t post ht' H => ENT _ t post ht' ?_) (fun post hp => ?_) (fun post hp => ?_)
      · refine xw_fsel W A1 hdp hm hF.1 k7 hxo (fun _ _ => ?_) (fun z => absurd ⟨wo.2.2.2.2.2 hc.1, by rw [fl']; exact nI_pos' (by omega)⟩ z)
        rw [fl']
        exact nm_r (nI_1 t) H
      · refine yw_nd0 W A2 S hN A hT hpN (fun z => by omega) (fun z => by omega) (fun z hg => by rw [gps] at hg; cases hg) (fun _ a e => ?_) (fun z => by omega) (fun z => by omega)
        rw [gps] at e
        cases e
        rw [ck]; exact hp
      · refine yw_res W A2 S hN A hT hpN (fun z => by omega) (fun z => by omega) (fun z => by omega) (fun z => by omega) (fun z => by omega) (fun _ => ⟨o, gps, ?_⟩) (fun z => by omega) (fun z => by omega)
        rw [ew]; exact hp
  · have ck : cl_k kd cd pp (vn o) (vn p) = true := by
      unfold cl_k
      rw [if_neg (by omega), if_pos k7]
      refine decide_eq_true ?_
      rcases Classical.em (kd (vn o) = 6) with z | z
      · exact Or.inr (Classical.byContradiction fun w => hc ⟨z, w⟩)
      · exact Or.inl z
    refine es_ostk W A1 A2 hTn hTc hN hec hK S E V F A hj ea hgv ep hv ht h00 hlc hf tl (fun m t post ht' hp => ENT _ t post ht' ?_) (fun post hp => ?_)
    · have no : ¬ (vK (xv o) = 6 ∧ 0 ≤ vF (4 * xv o + tm_l pp (vn p))) := fun z => by
        by_cases k6 : kd (vn o) = 6
        · have g0 : gt o (tm_l pp (vn p)) = none := by
            cases e : gt o (tm_l pp (vn p)) with
            | none => rfl
            | some w =>
              exfalso
              obtain ⟨j', a', b', c'⟩ := es_gx S (i := o) (s := tm_l pp (vn p)) (by rw [e]; intro z; cases z)
              obtain ⟨_, _, L', _⟩ := es_lk' S a' b'
              rcases L'.2.1 with q | q
              · rw [c'] at q; exact hc ⟨k6, by rw [q.2.1]; intro y; cases y⟩
              · omega
          have := fld k6
          rw [g0] at this
          rw [this] at z
          exact nu_m1le z.2
        · rcases ko with k | k | k | k
          · have := (wo.2.2.2.1 (Or.inl k)).1; rw [z.1] at this; exact absurd this (by decide)
          · have := (wo.2.2.2.2.1 k).1; rw [z.1] at this; exact absurd this (by decide)
          · exact k6 k
          · have := (wo.2.2.2.1 (Or.inr k)).1; rw [z.1] at this; exact absurd this (by decide)
      exact xw_fsel W A1 hdp hm hF.1 k7 hxo (fun z1 z2 => absurd ⟨z1, z2⟩ no) (fun _ => nm_r (nI_1 t) (xw_gbe hp))
    · refine yw_nd0 W A2 S hN A hT hpN (fun z => by omega) (fun z => by omega) (fun z hg => by rw [gps] at hg; cases hg) (fun _ a e => ?_) (fun z => by omega) (fun z => by omega)
      rw [gps] at e
      cases e
      rw [ck]; exact hp
end
end
section
/-! evaluation: the cases of handing down -/
section
variable {f_maxNodes f_maxWeight f_maxVisits f_nodeCount f_sealed f_verdictNow f_copyCount f_varCount : Int32} {f_atSet : Int64} {f_atNeg f_visitCount f_done f_stuck f_curNode f_curEnv f_resultValue f_valueCount f_envCount f_depth : Int32} {a_nKind a_nPart a_nParent a_cNode a_cUp a_cChild a_cInst a_cParam a_queue : Nat → Int32} {a_rel : Nat → Int64} {a_vKind a_vWord a_vEnv a_vField a_eName a_eValue a_eNext a_fNode a_fEnv a_fPart a_fValue : Nat → Int32} {g_maxNodes g_maxWeight g_maxVisits g_count g_root g_nc g_weight g_grown g_neg g_made g_next g_nextPar g_nextSlot g_nextLex g_stuck : Int32} {b_kinds b_parts b_cNode b_cPar b_cSlot b_le b_saved b_cur b_nxt b_first b_vNode b_vPar b_vSlot b_vLex b_val b_num : Nat → Int32} {K : SX → SY → Prop} {n N r : Nat} {kd : Nat → Nat} {cd : Nat → Nat → Option Nat} {pp : Nat → Int32} {par : Nat → Option Nat} {TT : Nat → Prop} {vn : Nat → Nat} {vp : Nat → Option Nat} {vs : Nat → Nat} {vl va : Nat → Option Nat} {gt gv : Nat → Nat → Option Nat} {dp : Nat → Nat} {ev : Nat → Option Nat} {xv : Nat → Nat} {ec vc j o p : Nat} {vK vW vE vF bV num : Nat → Int32}

/-- ADD: the second number is there -/
theorem es_add (W : tm_WF n kd cd pp par) (A1 : tm_Ag n kd pp a_nKind a_nPart) (A2 : tm_Ag n kd pp b_kinds b_parts) (hTn : ∀ m, TT m → m < n) (hTc : ∀ m i c, TT m → cd m i = some c → TT c) (hN : N ≤ 192) (hec : ec < N) (hK : ∀ (f_done f_stuck f_curNode f_curEnv f_resultValue f_valueCount f_envCount f_depth : Int32) (a_vKind a_vWord a_vEnv a_vField a_eName a_eValue a_eNext a_fNode a_fEnv a_fPart a_fValue : Nat → Int32) (g_next g_nextPar g_nextSlot g_nextLex g_stuck : Int32) (b_vNode b_vPar b_vSlot b_vLex b_val b_num : Nat → Int32), es_R N r kd cd pp TT f_done f_stuck f_curNode f_curEnv f_resultValue f_valueCount f_envCount f_depth a_vKind a_vWord a_vEnv a_vField a_eName a_eValue a_eNext a_fNode a_fEnv a_fPart a_fValue g_next g_nextPar g_nextSlot g_nextLex g_stuck b_vNode b_vPar b_vSlot b_vLex b_val b_num → K (f_maxNodes, f_maxWeight, f_maxVisits, f_nodeCount, f_sealed, f_verdictNow, f_copyCount, f_varCount, f_atSet, f_atNeg, nI N, f_done, f_stuck, f_curNode, f_curEnv, f_resultValue, f_valueCount, f_envCount, f_depth, a_nKind, a_nPart, a_nParent, a_cNode, a_cUp, a_cChild, a_cInst, a_cParam, a_queue, a_rel, a_vKind, a_vWord, a_vEnv, a_vField, a_eName, a_eValue, a_eNext, a_fNode, a_fEnv, a_fPart, a_fValue) (g_maxNodes, g_maxWeight, g_maxVisits, g_count, g_root, g_nc, g_weight, g_grown, g_neg, nI N, g_next, g_nextPar, g_nextSlot, g_nextLex, g_stuck, b_kinds, b_parts, b_cNode, b_cPar, b_cSlot, b_le, b_saved, b_cur, b_nxt, b_first, b_vNode, b_vPar, b_vSlot, b_vLex, b_val, b_num)) (S : es_S N r kd cd TT num vn vp vs vl va gt dp) (E : es_E N kd pp vn vp vs vl gt ev xv ec a_eName a_eValue a_eNext) (V : es_V N kd vn va gv ev xv vc vK vW vE vF num) (F : es_F N kd vn vp vs va gt ev xv dp a_fNode a_fEnv a_fPart a_fValue) (A : es_A N vn vp vs vl va b_vNode b_vPar b_vSlot b_vLex bV) (hj : j < N) (ea : va j = some o) (hgv : ∀ i s, ¬ (vp j = some i ∧ vs j = s) → gv i s = gt i s) (ep : vp j = some p) (hv : va p = none) (ht : ∀ q, q < N → va q = none → q ≤ p ∧ dp q ≤ dp p) (h00 : va 0 = none) (hlc : ∀ j' i, j' < N → vp j = some i → vp j' = some i → j' ≤ j) (hf : es_tl (kd (vn p)) (vs j) = false → es_f kd vn gt ev xv dp a_fNode a_fEnv a_fPart a_fValue p (vs j)) (ih : ∀ (p o : Nat) (va : Nat → Option Nat) (gt gv : Nat → Nat → Option Nat) (xv : Nat → Nat) (vc : Nat) (vK vW vE vF bV num : Nat → Int32), p < j → es_D N r kd cd pp TT vn vp vs vl dp ev ec a_eName a_eValue a_eNext a_fNode a_fEnv a_fPart a_fValue b_vNode b_vPar b_vSlot b_vLex p o va gt gv xv vc vK vW vE vF bV num → es_out K n N r ec f_maxNodes f_maxWeight f_maxVisits f_nodeCount f_sealed f_verdictNow f_copyCount f_varCount f_atSet f_atNeg f_curNode f_curEnv f_resultValue a_nKind a_nPart a_nParent a_cNode a_cUp a_cChild a_cInst a_cParam a_queue a_rel a_eName a_eValue a_eNext a_fNode a_fEnv a_fPart a_fValue g_maxNodes g_maxWeight g_maxVisits g_count g_root g_nc g_weight g_grown g_neg g_nextPar g_nextSlot g_nextLex b_kinds b_parts b_cNode b_cPar b_cSlot b_le b_saved b_cur b_nxt b_first b_vNode b_vPar b_vSlot b_vLex (dp p) p (xv o) vc vK vW vE vF bV num) (k8 : kd (vn p) = 8) (s1 : vs j = 1) : es_out K n N r ec f_maxNodes f_maxWeight f_maxVisits f_nodeCount f_sealed f_verdictNow f_copyCount f_varCount f_atSet f_atNeg f_curNode f_curEnv f_resultValue a_nKind a_nPart a_nParent a_cNode a_cUp a_cChild a_cInst a_cParam a_queue a_rel a_eName a_eValue a_eNext a_fNode a_fEnv a_fPart a_fValue g_maxNodes g_maxWeight g_maxVisits g_count g_root g_nc g_weight g_grown g_neg g_nextPar g_nextSlot g_nextLex b_kinds b_parts b_cNode b_cPar b_cSlot b_le b_saved b_cur b_nxt b_first b_vNode b_vPar b_vSlot b_vLex (dp j) j (xv o) vc vK vW vE vF bV num := by
  have hn := tm_n W
  have tl : es_tl (kd (vn p)) (vs j) = false := by rw [k8]; rfl
  obtain ⟨hj0, hpj, L, dpj, hpN, hm, gps, hoN, hoo, hop, hxo, hdp, ko⟩ := es_ctx W hTn hN S V hj ea ep hv tl
  have hT : ∀ j, j < N → vn j < n := fun j h => hTn _ (es_tt S h)
  have hF := hf tl
  rw [s1] at gps hF
  have hF4 := hF.2.2.1 (Or.inr k8)
  obtain ⟨a, ega, efv⟩ := hF4.2 rfl
  have ha := es_gg S ega
  have wa := es_w S V hN ha.1 ha.2.1
  have wo := es_w S V hN hoN hoo
  have hpz : ¬ a_fPart (dp p) = 0 := by rw [hF4.1]; decide
  have ENT : ∀ (m t : Nat) (post : SX → Prop), t ≤ 192 → wpX_feed (fun q u => match u with
      | (f_maxNodes_1, f_maxWeight_1, f_maxVisits_1, f_nodeCount_1, f_sealed_1, f_verdictNow_1, f_copyCount_1, f_varCount_1, f_atSet_1, f_atNeg_1, f_visitCount_1, f_done_1, f_stuck_1, f_curNode_1, f_curEnv_1, f_resultValue_1, f_valueCount_1, f_envCount_1, f_depth_1, a_nKind_1, a_nPart_1, a_nParent_1, a_cNode_1, a_cUp_1, a_cChild_1, a_cInst_1, a_cParam_1, a_queue_1, a_rel_1, a_vKind_1, a_vWord_1, a_vEnv_1, a_vField_1, a_eName_1, a_eValue_1, a_eNext_1, a_fNode_1, a_fEnv_1, a_fPart_1, a_fValue_1) => ∀ y, y = nI t + 1 → wX_giveBack_4 post m q y f_maxNodes_1 f_maxWeight_1 f_maxVisits_1 f_nodeCount_1 f_sealed_1 f_verdictNow_1 f_copyCount_1 f_varCount_1 f_atSet_1 f_atNeg_1 f_visitCount_1 f_done_1 f_stuck_1 f_curNode_1 f_curEnv_1 f_resultValue_1 f_valueCount_1 f_envCount_1 f_depth_1 a_nKind_1 a_nPart_1 a_nParent_1 a_cNode_1 a_cUp_1 a_cChild_1 a_cInst_1 a_cParam_1 a_queue_1 a_rel_1 a_vKind_1 a_vWord_1 a_vEnv_1 a_vField_1 a_eName_1 a_eValue_1 a_eNext_1 a_fNode_1 a_fEnv_1 a_fPart_1 a_fValue_1) (f_maxNodes, f_maxWeight, f_maxVisits, f_nodeCount, f_sealed, f_verdictNow, f_copyCount, f_varCount, f_atSet, f_atNeg, nI N, 0, 0, f_curNode, f_curEnv, f_resultValue, nI vc, nI ec, nI (dp p + 1), a_nKind, a_nPart, a_nParent, a_cNode, a_cUp, a_cChild, a_cInst, a_cParam, a_queue, a_rel, vK, vW, vE, vF, a_eName, a_eValue, a_eNext, a_fNode, a_fEnv, a_fPart, a_fValue) (nI (xv o)) → wX_giveBack_4 post (m + 1) (nI (xv o)) (nI t) f_maxNodes f_maxWeight f_maxVisits f_nodeCount f_sealed f_verdictNow f_copyCount f_varCount f_atSet f_atNeg (nI N) 0 0 f_curNode f_curEnv f_resultValue (nI vc) (nI ec) (nI (dp p + 1)) a_nKind a_nPart a_nParent a_cNode a_cUp a_cChild a_cInst a_cParam a_queue a_rel vK vW vE vF a_eName a_eValue a_eNext a_fNode a_fEnv a_fPart a_fValue := fun m t post ht' H => br_f (by rw [nu_q192 (by omega)]; omega) (br_f (nI_pos (by omega)) (br_f (nI_ne0 (by omega) (by omega)) H))
  have K1 : ∀ w, w < N → va w = some w → (vK (xv w) = 1 ↔ (kd (vn w) = 1 ∨ kd (vn w) = 8)) := fun w hw ew => by
    have q := es_w S V hN hw ew
    refine ⟨fun z => ?_, fun z => (q.2.2.2.1 z).1⟩
    rcases (es_va S hw ew).2.2 with k | k | k | k
    · exact Or.inl k
    · rw [(q.2.2.2.2.1 k).1] at z; exact absurd z (by decide)
    · rw [q.2.2.2.2.2 k] at z; exact absurd z (by decide)
    · exact Or.inr k
  have CK : ∀ w, cl_k kd cd pp (vn w) (vn p) = false ↔ (kd (vn w) = 1 ∨ kd (vn w) = 8) := fun w => by
    unfold cl_k
    rw [if_neg (by omega), if_neg (by omega), decide_eq_false_iff_not]
    omega
  by_cases hok : (kd (vn a) = 1 ∨ kd (vn a) = 8) ∧ (kd (vn o) = 1 ∨ kd (vn o) = 8)
  · have hwa := wa.2.2.2.1 hok.1
    have hwo := wo.2.2.2.1 hok.2
    obtain ⟨V', hvc⟩ := es_Va (p := p) (M' := N) (va' := es_u va p (some p)) (num' := upd num p (num a + num o)) (vK' := upd vK vc 1) (vW' := upd vW vc (vW (xv a) + vW (xv o))) (vE' := upd vE vc (-1)) (vF' := es_nf vF vc) (es_Vp V hgv ep (by omega)) (Nat.le_refl _) hpN (fun _ z => z.elim (fun z => by rw [hv] at z; cases z) (fun z => by omega)) (fun w hw => by
        unfold es_own
        by_cases z : w = p
        · rw [z, es_us]; exact ⟨fun _ => Or.inr rfl, fun _ => Or.inl rfl⟩
        · rw [es_un z]; exact ⟨fun q => Or.inl ⟨hw, q⟩, fun q => q.elim (fun q => q.2) (fun q => absurd q z)⟩) (fun w z => es_un z) (fun w z => pk_un z) (fun i s w e z => by have := (es_gg S e).2.1; rw [z, hv] at this; cases this) (fun c hc => ⟨pk_un (by omega), pk_un (by omega), pk_un (by omega), fun l hl => es_nfo (by omega)⟩) (fun _ => ⟨fun _ => ⟨pk_us, by rw [pk_us, pk_us, hwa.2, hwo.2]⟩, fun z => by omega⟩) (fun z => by omega)
    have D := es_Dset (o := p) S E F A hpN hv (fun q a b => (ht q a b).1) (fun w z => pk_un z) (Or.inl ⟨rfl, Or.inr (Or.inr (Or.inr k8)), fun z => by omega⟩) (fun w e => es_un fun z => by rw [z, hv] at e; cases e) (fun i k hi => es_un fun z => by rw [z] at k; omega) (fun _ => h00) V'
    have I := ih p p _ _ _ _ _ _ _ _ _ _ _ hpj D
    rw [es_us] at I
    refine es_oval W A1 A2 hTn hTc hN hec hK S E V F A hj ea hgv ep hv ht h00 hlc hf tl I (fun m t post ht' H => ENT _ t post ht' ?_) (fun post hp => ?_) (fun post hp => ?_)
    · exact xw_fadd W A1 hdp hm hF.1 k8 hxo (fun z => absurd z hpz) (fun _ => ⟨xv a, efv, by omega, fun z => absurd ⟨hwa.1, hwo.1⟩ z, fun _ _ => ⟨by omega, nm_r (nI_1 t) H⟩⟩)
    · refine yw_nd0 W A2 S hN A hT hpN (fun z => by omega) (fun z => by omega) (fun z hg => by rw [ega] at hg; cases hg) (fun z => by omega) (fun z => by omega) (fun _ a' e => ⟨(fun hg => by rw [gps] at hg; cases hg), fun b eb => ⟨fun hc => ?_, fun _ => ⟨fun _ hc => ?_, fun _ => ?_⟩⟩⟩)
      · rw [ega] at e; cases e; rw [(CK a).mpr hok.1] at hc; cases hc
      · rw [gps] at eb; cases eb; rw [(CK o).mpr hok.2] at hc; cases hc
      · exact br_f (by rw [k8]; decide) hp
    · exact yw_res W A2 S hN A hT hpN (fun z => by omega) (fun z => by omega) (fun z => by omega) (fun z => by omega) (fun z => by omega) (fun z => by omega) (fun _ => ⟨a, o, ega, gps, hp⟩) (fun z => by omega)
  · refine es_ostk W A1 A2 hTn hTc hN hec hK S E V F A hj ea hgv ep hv ht h00 hlc hf tl (fun m t post ht' hp => ENT _ t post ht' ?_) (fun post hp => ?_)
    · have no : ¬ (vK (xv a) = 1 ∧ vK (xv o) = 1) := fun z => hok ⟨(K1 a ha.1 ha.2.1).mp z.1, (K1 o hoN hoo).mp z.2⟩
      exact xw_fadd W A1 hdp hm hF.1 k8 hxo (fun z => absurd z hpz) (fun _ => ⟨xv a, efv, by omega, fun _ => nm_r (nI_1 t) (xw_gbe hp), fun z1 z2 => absurd ⟨z1, z2⟩ no⟩)
    · refine yw_nd0 W A2 S hN A hT hpN (fun z => by omega) (fun z => by omega) (fun z hg => by rw [ega] at hg; cases hg) (fun z => by omega) (fun z => by omega) (fun _ a' e => ⟨(fun hg => by rw [gps] at hg; cases hg), fun b eb => ⟨fun _ => hp, fun hc => ⟨fun _ _ => hp, fun hc2 => ?_⟩⟩⟩)
      rw [ega] at e; cases e
      rw [gps] at eb; cases eb
      exact absurd ⟨(CK a).mp hc, (CK o).mp (hc2 k8)⟩ hok
/-- IFZ: the number is there -/
theorem es_ifz (W : tm_WF n kd cd pp par) (A1 : tm_Ag n kd pp a_nKind a_nPart) (A2 : tm_Ag n kd pp b_kinds b_parts) (hTn : ∀ m, TT m → m < n) (hTc : ∀ m i c, TT m → cd m i = some c → TT c) (hN : N ≤ 192) (hec : ec < N) (hK : ∀ (f_done f_stuck f_curNode f_curEnv f_resultValue f_valueCount f_envCount f_depth : Int32) (a_vKind a_vWord a_vEnv a_vField a_eName a_eValue a_eNext a_fNode a_fEnv a_fPart a_fValue : Nat → Int32) (g_next g_nextPar g_nextSlot g_nextLex g_stuck : Int32) (b_vNode b_vPar b_vSlot b_vLex b_val b_num : Nat → Int32), es_R N r kd cd pp TT f_done f_stuck f_curNode f_curEnv f_resultValue f_valueCount f_envCount f_depth a_vKind a_vWord a_vEnv a_vField a_eName a_eValue a_eNext a_fNode a_fEnv a_fPart a_fValue g_next g_nextPar g_nextSlot g_nextLex g_stuck b_vNode b_vPar b_vSlot b_vLex b_val b_num → K (f_maxNodes, f_maxWeight, f_maxVisits, f_nodeCount, f_sealed, f_verdictNow, f_copyCount, f_varCount, f_atSet, f_atNeg, nI N, f_done, f_stuck, f_curNode, f_curEnv, f_resultValue, f_valueCount, f_envCount, f_depth, a_nKind, a_nPart, a_nParent, a_cNode, a_cUp, a_cChild, a_cInst, a_cParam, a_queue, a_rel, a_vKind, a_vWord, a_vEnv, a_vField, a_eName, a_eValue, a_eNext, a_fNode, a_fEnv, a_fPart, a_fValue) (g_maxNodes, g_maxWeight, g_maxVisits, g_count, g_root, g_nc, g_weight, g_grown, g_neg, nI N, g_next, g_nextPar, g_nextSlot, g_nextLex, g_stuck, b_kinds, b_parts, b_cNode, b_cPar, b_cSlot, b_le, b_saved, b_cur, b_nxt, b_first, b_vNode, b_vPar, b_vSlot, b_vLex, b_val, b_num)) (S : es_S N r kd cd TT num vn vp vs vl va gt dp) (E : es_E N kd pp vn vp vs vl gt ev xv ec a_eName a_eValue a_eNext) (V : es_V N kd vn va gv ev xv vc vK vW vE vF num) (F : es_F N kd vn vp vs va gt ev xv dp a_fNode a_fEnv a_fPart a_fValue) (A : es_A N vn vp vs vl va b_vNode b_vPar b_vSlot b_vLex bV) (hj : j < N) (ea : va j = some o) (hgv : ∀ i s, ¬ (vp j = some i ∧ vs j = s) → gv i s = gt i s) (ep : vp j = some p) (hv : va p = none) (ht : ∀ q, q < N → va q = none → q ≤ p ∧ dp q ≤ dp p) (h00 : va 0 = none) (hlc : ∀ j' i, j' < N → vp j = some i → vp j' = some i → j' ≤ j) (hf : es_tl (kd (vn p)) (vs j) = false → es_f kd vn gt ev xv dp a_fNode a_fEnv a_fPart a_fValue p (vs j)) (k9 : kd (vn p) = 9) (s0 : vs j = 0) : es_out K n N r ec f_maxNodes f_maxWeight f_maxVisits f_nodeCount f_sealed f_verdictNow f_copyCount f_varCount f_atSet f_atNeg f_curNode f_curEnv f_resultValue a_nKind a_nPart a_nParent a_cNode a_cUp a_cChild a_cInst a_cParam a_queue a_rel a_eName a_eValue a_eNext a_fNode a_fEnv a_fPart a_fValue g_maxNodes g_maxWeight g_maxVisits g_count g_root g_nc g_weight g_grown g_neg g_nextPar g_nextSlot g_nextLex b_kinds b_parts b_cNode b_cPar b_cSlot b_le b_saved b_cur b_nxt b_first b_vNode b_vPar b_vSlot b_vLex (dp j) j (xv o) vc vK vW vE vF bV num := by
  have hn := tm_n W
  have tl : es_tl (kd (vn p)) (vs j) = false := by rw [k9, s0]; rfl
  obtain ⟨hj0, hpj, L, dpj, hpN, hm, gps, hoN, hoo, hop, hxo, hdp, ko⟩ := es_ctx W hTn hN S V hj ea ep hv tl
  have hT : ∀ j, j < N → vn j < n := fun j h => hTn _ (es_tt S h)
  have hF := hf tl
  rw [s0] at gps
  have wo := es_w S V hN hoN hoo
  have ENT : ∀ (m t : Nat) (post : SX → Prop), t ≤ 192 → wpX_feed (fun q u => match u with
      | (f_maxNodes_1, f_maxWeight_1, f_maxVisits_1, f_nodeCount_1, f_sealed_1, f_verdictNow_1, f_copyCount_1, f_varCount_1, f_atSet_1, f_atNeg_1, f_visitCount_1, f_done_1, f_stuck_1, f_curNode_1, f_curEnv_1, f_resultValue_1, f_valueCount_1, f_envCount_1, f_depth_1, a_nKind_1, a_nPart_1, a_nParent_1, a_cNode_1, a_cUp_1, a_cChild_1, a_cInst_1, a_cParam_1, a_queue_1, a_rel_1, a_vKind_1, a_vWord_1, a_vEnv_1, a_vField_1, a_eName_1, a_eValue_1, a_eNext_1, a_fNode_1, a_fEnv_1, a_fPart_1, a_fValue_1) => ∀ y, y = nI t + 1 → wX_giveBack_4 post m q y f_maxNodes_1 f_maxWeight_1 f_maxVisits_1 f_nodeCount_1 f_sealed_1 f_verdictNow_1 f_copyCount_1 f_varCount_1 f_atSet_1 f_atNeg_1 f_visitCount_1 f_done_1 f_stuck_1 f_curNode_1 f_curEnv_1 f_resultValue_1 f_valueCount_1 f_envCount_1 f_depth_1 a_nKind_1 a_nPart_1 a_nParent_1 a_cNode_1 a_cUp_1 a_cChild_1 a_cInst_1 a_cParam_1 a_queue_1 a_rel_1 a_vKind_1 a_vWord_1 a_vEnv_1 a_vField_1 a_eName_1 a_eValue_1 a_eNext_1 a_fNode_1 a_fEnv_1 a_fPart_1 a_fValue_1) (f_maxNodes, f_maxWeight, f_maxVisits, f_nodeCount, f_sealed, f_verdictNow, f_copyCount, f_varCount, f_atSet, f_atNeg, nI N, 0, 0, f_curNode, f_curEnv, f_resultValue, nI vc, nI ec, nI (dp p + 1), a_nKind, a_nPart, a_nParent, a_cNode, a_cUp, a_cChild, a_cInst, a_cParam, a_queue, a_rel, vK, vW, vE, vF, a_eName, a_eValue, a_eNext, a_fNode, a_fEnv, a_fPart, a_fValue) (nI (xv o)) → wX_giveBack_4 post (m + 1) (nI (xv o)) (nI t) f_maxNodes f_maxWeight f_maxVisits f_nodeCount f_sealed f_verdictNow f_copyCount f_varCount f_atSet f_atNeg (nI N) 0 0 f_curNode f_curEnv f_resultValue (nI vc) (nI ec) (nI (dp p + 1)) a_nKind a_nPart a_nParent a_cNode a_cUp a_cChild a_cInst a_cParam a_queue a_rel vK vW vE vF a_eName a_eValue a_eNext a_fNode a_fEnv a_fPart a_fValue := fun m t post ht' H => br_f (by rw [nu_q192 (by omega)]; omega) (br_f (nI_pos (by omega)) (br_f (nI_ne0 (by omega) (by omega)) H))
  have CK : cl_k kd cd pp (vn o) (vn p) = false ↔ (kd (vn o) = 1 ∨ kd (vn o) = 8) := by
    unfold cl_k
    rw [if_neg (by omega), if_neg (by omega), decide_eq_false_iff_not]
    omega
  by_cases hok : kd (vn o) = 1 ∨ kd (vn o) = 8
  · have hwo := wo.2.2.2.1 hok
    have ck := CK.mpr hok
    have go : ∀ s, (s = 1 ∨ s = 2) → (num o = 0 ↔ s = 1) → es_out K n N r ec f_maxNodes f_maxWeight f_maxVisits f_nodeCount f_sealed f_verdictNow f_copyCount f_varCount f_atSet f_atNeg f_curNode f_curEnv f_resultValue a_nKind a_nPart a_nParent a_cNode a_cUp a_cChild a_cInst a_cParam a_queue a_rel a_eName a_eValue a_eNext a_fNode a_fEnv a_fPart a_fValue g_maxNodes g_maxWeight g_maxVisits g_count g_root g_nc g_weight g_grown g_neg g_nextPar g_nextSlot g_nextLex b_kinds b_parts b_cNode b_cPar b_cSlot b_le b_saved b_cur b_nxt b_first b_vNode b_vPar b_vSlot b_vLex (dp j) j (xv o) vc vK vW vE vF bV num := fun s hs12 hsn => by
      have ss : tm_slot (kd (vn p)) s = true := by rw [k9]; rcases hs12 with z | z <;> rw [z] <;> rfl
      have t1 : es_tl (kd (vn p)) s = true := by rw [k9]; rcases hs12 with z | z <;> rw [z] <;> rfl
      have gs : gt p s = none := es_c2 S hj ep hlc (by omega)
      cases ec1 : cd (vn p) s with
      | none => exact absurd ec1 (tm_nn W hm (by omega) ss (by omega))
      | some c =>
        refine es_onew W A1 A2 hTn hTc hN hec hK S E V F A hj ea hgv ep hv ht h00 hlc hf tl (m := c) (s := s) (d := dp p) (u := p) (ec' := ec) (e' := ev p) (eN' := a_eName) (eV' := a_eValue) (eX' := a_eNext) (fN' := a_fNode) (fE' := a_fEnv) (fP' := a_fPart) (fV' := a_fValue) (vF' := vF) (es_Vp V hgv ep (by omega)) (by omega) (hTc _ _ c (es_tt S hpN) ec1) (by rw [t1]; rfl) (es_Lp hpN (by omega) (by omega) ec1 (fun _ z => by omega) (fun _ z => by omega) (fun _ _ => ⟨o, gps, hoN, hok, hsn⟩) (fun z => by omega)) hpN (Nat.le_refl _) (by omega) (E.1 p hpN) (fun _ _ => ⟨rfl, rfl, rfl⟩) (fun z => by omega) (fun z => by omega) (fun _ _ => rfl) (fun _ _ => ⟨rfl, rfl, rfl, rfl⟩) (fun z => by rw [t1] at z; cases z) (fun m' t post ht' hp => ENT _ t post ht' ?_) (fun post hp => ?_) (fun m' post hp => ?_)
        · refine xw_fifz W A1 hdp hm hF.1 k9 hxo (fun z => absurd hwo.1 z) (fun _ s' c' es' ec' => ?_)
          have : s' = s := by
            rw [hwo.2] at es'
            rw [es']
            by_cases z : num o = 0
            · rw [if_pos z]; exact (hsn.mp z).symm
            · rw [if_neg z]
              rcases hs12 with y | y
              · exact absurd (hsn.mpr y) z
              · exact y.symm
          rw [this, ec1] at ec'
          cases ec'
          rw [hF.2.1]
          exact nm_r (nI_1 t) (xw_gbe hp)
        · refine yw_nd0 W A2 S hN A hT hpN (fun z => by omega) (fun z => by omega) (fun z hg => by rw [gps] at hg; cases hg) (fun z => by omega) (fun _ a e => ?_) (fun z => by omega)
          rw [gps] at e
          cases e
          rw [ck]
          refine ⟨fun z => br_t rfl (yw_got (s := 1) S hN A (by omega) (by omega) ?_), fun z => br_t rfl (yw_got (s := 2) S hN A (by omega) (by omega) ?_)⟩
          · have := hsn.mp z
            subst this
            rw [gs]; exact br_f (by decide) hp
          · have : s = 2 := by
              rcases hs12 with y | y
              · exact absurd (hsn.mpr y) z
              · exact y
            subst this
            rw [gs]; exact br_f (by decide) hp
        · exact yw_114s W A2 (by omega) hm (A p hpN).1 (by omega) ec1 (yw_84e (by have := (tm_c W hm ec1).1; omega) hp)
    by_cases z : num o = 0
    · exact go 1 (Or.inl rfl) ⟨fun _ => rfl, fun _ => z⟩
    · exact go 2 (Or.inr rfl) ⟨fun w => absurd w z, fun w => by omega⟩
  · have ck : cl_k kd cd pp (vn o) (vn p) = true := ts_nf fun z => hok (CK.mp z)
    refine es_ostk W A1 A2 hTn hTc hN hec hK S E V F A hj ea hgv ep hv ht h00 hlc hf tl (fun m t post ht' hp => ENT _ t post ht' ?_) (fun post hp => ?_)
    · have no : ¬ vK (xv o) = 1 := fun z => by
        rcases ko with k | k | k | k
        · exact hok (Or.inl k)
        · rw [(wo.2.2.2.2.1 k).1] at z; exact absurd z (by decide)
        · rw [wo.2.2.2.2.2 k] at z; exact absurd z (by decide)
        · exact hok (Or.inr k)
      exact xw_fifz W A1 hdp hm hF.1 k9 hxo (fun _ => nm_r (nI_1 t) (xw_gbe hp)) (fun z => absurd z no)
    · refine yw_nd0 W A2 S hN A hT hpN (fun z => by omega) (fun z => by omega) (fun z hg => by rw [gps] at hg; cases hg) (fun z => by omega) (fun _ a e => ?_) (fun z => by omega)
      rw [gps] at e
      cases e
      rw [ck]
      exact ⟨fun _ => br_f (by decide) hp, fun _ => br_f (by decide) hp⟩
/-- a value is handed down to the end -/
theorem es_del (W : tm_WF n kd cd pp par) (A1 : tm_Ag n kd pp a_nKind a_nPart) (A2 : tm_Ag n kd pp b_kinds b_parts) (hTn : ∀ m, TT m → m < n) (hTc : ∀ m i c, TT m → cd m i = some c → TT c) (hN : N ≤ 192) (hec : ec < N) (hK : ∀ (f_done f_stuck f_curNode f_curEnv f_resultValue f_valueCount f_envCount f_depth : Int32) (a_vKind a_vWord a_vEnv a_vField a_eName a_eValue a_eNext a_fNode a_fEnv a_fPart a_fValue : Nat → Int32) (g_next g_nextPar g_nextSlot g_nextLex g_stuck : Int32) (b_vNode b_vPar b_vSlot b_vLex b_val b_num : Nat → Int32), es_R N r kd cd pp TT f_done f_stuck f_curNode f_curEnv f_resultValue f_valueCount f_envCount f_depth a_vKind a_vWord a_vEnv a_vField a_eName a_eValue a_eNext a_fNode a_fEnv a_fPart a_fValue g_next g_nextPar g_nextSlot g_nextLex g_stuck b_vNode b_vPar b_vSlot b_vLex b_val b_num → K (f_maxNodes, f_maxWeight, f_maxVisits, f_nodeCount, f_sealed, f_verdictNow, f_copyCount, f_varCount, f_atSet, f_atNeg, nI N, f_done, f_stuck, f_curNode, f_curEnv, f_resultValue, f_valueCount, f_envCount, f_depth, a_nKind, a_nPart, a_nParent, a_cNode, a_cUp, a_cChild, a_cInst, a_cParam, a_queue, a_rel, a_vKind, a_vWord, a_vEnv, a_vField, a_eName, a_eValue, a_eNext, a_fNode, a_fEnv, a_fPart, a_fValue) (g_maxNodes, g_maxWeight, g_maxVisits, g_count, g_root, g_nc, g_weight, g_grown, g_neg, nI N, g_next, g_nextPar, g_nextSlot, g_nextLex, g_stuck, b_kinds, b_parts, b_cNode, b_cPar, b_cSlot, b_le, b_saved, b_cur, b_nxt, b_first, b_vNode, b_vPar, b_vSlot, b_vLex, b_val, b_num)) : ∀ (k j o : Nat) (va : Nat → Option Nat) (gt gv : Nat → Nat → Option Nat) (xv : Nat → Nat) (vc : Nat) (vK vW vE vF bV num : Nat → Int32), j < k → es_D N r kd cd pp TT vn vp vs vl dp ev ec a_eName a_eValue a_eNext a_fNode a_fEnv a_fPart a_fValue b_vNode b_vPar b_vSlot b_vLex j o va gt gv xv vc vK vW vE vF bV num → es_out K n N r ec f_maxNodes f_maxWeight f_maxVisits f_nodeCount f_sealed f_verdictNow f_copyCount f_varCount f_atSet f_atNeg f_curNode f_curEnv f_resultValue a_nKind a_nPart a_nParent a_cNode a_cUp a_cChild a_cInst a_cParam a_queue a_rel a_eName a_eValue a_eNext a_fNode a_fEnv a_fPart a_fValue g_maxNodes g_maxWeight g_maxVisits g_count g_root g_nc g_weight g_grown g_neg g_nextPar g_nextSlot g_nextLex b_kinds b_parts b_cNode b_cPar b_cSlot b_le b_saved b_cur b_nxt b_first b_vNode b_vPar b_vSlot b_vLex (dp j) j (xv o) vc vK vW vE vF bV num := by
  have hn := tm_n W
  intro k
  induction k with
  | zero => intro j o va gt gv xv vc vK vW vE vF bV num h; omega
  | succ k ih =>
    intro j o va gt gv xv vc vK vW vE vF bV num hjk D
    obtain ⟨S, E, V, F, A, hj, ea, hgv, hq, hpar, h00, hlc⟩ := D
    rcases Nat.eq_zero_or_pos j with z | z
    · subst z
      have h0 := es_0 S
      have hob := es_va S hj ea
      have w := es_w S V hN hob.1 hob.2.1
      have V' : es_V N kd vn va gt ev xv vc vK vW vE vF num := es_Vg V fun o l _ _ _ => (hgv o l fun z => by rw [h0.2.2.1] at z; cases z.1).symm
      have R : es_R N r kd cd pp TT 1 0 (-1) f_curEnv (nI (xv o)) (nI vc) (nI ec) (nI (dp 0)) vK vW vE vF a_eName a_eValue a_eNext a_fNode a_fEnv a_fPart a_fValue (-1) g_nextPar g_nextSlot g_nextLex 0 b_vNode b_vPar b_vSlot b_vLex bV num :=
        Or.inr (Or.inr ⟨by omega, rfl, rfl, vn, vp, vs, vl, va, gt, dp, ev, xv, vc, o, S, V', A, ea, rfl⟩)
      refine ⟨_, _, hK _ _ _ _ _ _ _ _ _ _ _ _ _ _ _ _ _ _ _ _ _ _ _ _ _ _ _ _ _ _ R, fun m t post hm' ht' hp => ?_, fun m post hm' hp => ?_⟩
      · obtain ⟨m', rfl⟩ : ∃ m', m = m' + 1 + 1 := ⟨m - 2, by omega⟩
        exact br_f (by rw [nu_q192 (by omega)]; omega) (br_f (nI_pos (by omega)) (br_t (by rw [h0.2.2.2.2]; rfl) (nm_r (nI_1 t) (xw_gbe hp))))
      · obtain ⟨m', rfl⟩ : ∃ m', m = m' + 1 := ⟨m - 1, by omega⟩
        exact yw_84z hp
    · obtain ⟨p, hpj, ep, L, _⟩ := es_lk S z hj
      have hp2 := hpar p ep
      have hv := hp2.1
      have hf := hp2.2
      have ht : ∀ q, q < N → va q = none → q ≤ p ∧ dp q ≤ dp p := fun q a b => by
        obtain ⟨i, e, x⟩ := hq q a b
        rw [ep] at e
        cases e
        exact x
      have h00' := h00 (by omega)
      have ih' : ∀ (p o : Nat) (va : Nat → Option Nat) (gt gv : Nat → Nat → Option Nat) (xv : Nat → Nat) (vc : Nat) (vK vW vE vF bV num : Nat → Int32), p < j → es_D N r kd cd pp TT vn vp vs vl dp ev ec a_eName a_eValue a_eNext a_fNode a_fEnv a_fPart a_fValue b_vNode b_vPar b_vSlot b_vLex p o va gt gv xv vc vK vW vE vF bV num → es_out K n N r ec f_maxNodes f_maxWeight f_maxVisits f_nodeCount f_sealed f_verdictNow f_copyCount f_varCount f_atSet f_atNeg f_curNode f_curEnv f_resultValue a_nKind a_nPart a_nParent a_cNode a_cUp a_cChild a_cInst a_cParam a_queue a_rel a_eName a_eValue a_eNext a_fNode a_fEnv a_fPart a_fValue g_maxNodes g_maxWeight g_maxVisits g_count g_root g_nc g_weight g_grown g_neg g_nextPar g_nextSlot g_nextLex b_kinds b_parts b_cNode b_cPar b_cSlot b_le b_saved b_cur b_nxt b_first b_vNode b_vPar b_vSlot b_vLex (dp p) p (xv o) vc vK vW vE vF bV num := fun p o va gt gv xv vc vK vW vE vF bV num hp D => ih p o va gt gv xv vc vK vW vE vF bV num (by omega) D
      have hm := hTn _ (es_tt S (show p < N by omega))
      have hk := tm_k W hm
      have sl : vs j < 4 → tm_slot (kd (vn p)) (vs j) = true := fun h4 => by
        rcases L.2.1 with y | y
        · exact (tm_o W hm (by rw [y.2.1]; intro z; cases z)).2
        · omega
      have h3 := L.1
      have hs5 := es_vs S hj ep
      cases tl : es_tl (kd (vn p)) (vs j) with
      | true => exact es_tail W A1 A2 hTn hTc hN hec hK S E V F A hj ea hgv ep hv ht h00' hlc hf ih' tl
      | false =>
        have hs4 : vs j < 4 := by
          rcases L.2.1 with y | y
          · exact y.1
          · rw [y.1, y.2.1] at tl; cases tl
        have sl' := sl hs4
        have tab : ∀ k, k < 10 → ∀ s, s < 4 → (!(tm_slot k s) || es_tl k s || k == 3 || (k == 4 && s == 0) || (k == 4 && s == 1) || (k == 5 && s == 1) || k == 6 || (k == 7 && s == 0) || (k == 8 && s == 0) || (k == 8 && s == 1) || (k == 9 && s == 0)) = true := by decide +kernel
        have q := tab _ (show kd (vn p) < 10 by omega) _ hs4
        rw [sl', tl] at q
        simp only [Bool.not_true, Bool.false_or, Bool.or_eq_true, Bool.and_eq_true, beq_iff_eq] at q
        have q' : (kd (vn p) = 4 ∧ vs j = 0) ∨ (kd (vn p) = 4 ∧ vs j = 1) ∨ (kd (vn p) = 5 ∧ vs j = 1) ∨ kd (vn p) = 6 ∨ (kd (vn p) = 7 ∧ vs j = 0) ∨ (kd (vn p) = 8 ∧ vs j = 0) ∨ (kd (vn p) = 8 ∧ vs j = 1) ∨ (kd (vn p) = 9 ∧ vs j = 0) := by omega
        rcases q' with q | q | q | q | q | q | q | q
        · exact es_keep W A1 A2 hTn hTc hN hec hK S E V F A hj ea hgv ep hv ht h00' hlc hf (Or.inl q.1) q.2
        · exact es_app W A1 A2 hTn hTc hN hec hK S E V F A hj ea hgv ep hv ht h00' hlc hf q.1 q.2
        · exact es_let W A1 A2 hTn hTc hN hec hK S E V F A hj ea hgv ep hv ht h00' hlc hf q.1 q.2
        · exact es_rec W A1 A2 hTn hTc hN hec hK S E V F A hj ea hgv ep hv ht h00' hlc hf ih' q
        · exact es_sel W A1 A2 hTn hTc hN hec hK S E V F A hj ea hgv ep hv ht h00' hlc hf ih' q.1 q.2
        · exact es_keep W A1 A2 hTn hTc hN hec hK S E V F A hj ea hgv ep hv ht h00' hlc hf (Or.inr q.1) q.2
        · exact es_add W A1 A2 hTn hTc hN hec hK S E V F A hj ea hgv ep hv ht h00' hlc hf ih' q.1 q.2
        · exact es_ifz W A1 A2 hTn hTc hN hec hK S E V F A hj ea hgv ep hv ht h00' hlc hf q.1 q.2
end
end
section
/-! evaluation: the cases of handing down -/

section
variable {N : Nat} {kd vn : Nat → Nat} {vp : Nat → Option Nat} {vs : Nat → Nat} {va : Nat → Option Nat} {gt : Nat → Nat → Option Nat} {ev : Nat → Option Nat} {xv xv' dp : Nat → Nat} {fN fE fP fV : Nat → Int32}
theorem es_Fx (F : es_F N kd vn vp vs va gt ev xv dp fN fE fP fV) (hg : ∀ i s o, gt i s = some o → xv' o = xv o) (hx : ∀ j i, j < N → vp j = some i → xv' i = xv i) : es_F N kd vn vp vs va gt ev xv' dp fN fE fP fV :=
  fun j i hj h1 h2 h3 => es_fg (F j i hj h1 h2 h3) (fun o e => ⟨e, hg i 0 o e⟩) (fun _ => hx j i hj h2) ⟨rfl, rfl, rfl, rfl⟩
end
section
variable {f_maxNodes f_maxWeight f_maxVisits f_nodeCount f_sealed f_verdictNow f_copyCount f_varCount : Int32} {f_atSet : Int64} {f_atNeg f_visitCount f_done f_stuck f_curNode f_curEnv f_resultValue f_valueCount f_envCount f_depth : Int32} {a_nKind a_nPart a_nParent a_cNode a_cUp a_cChild a_cInst a_cParam a_queue : Nat → Int32} {a_rel : Nat → Int64} {a_vKind a_vWord a_vEnv a_vField a_eName a_eValue a_eNext a_fNode a_fEnv a_fPart a_fValue : Nat → Int32} {g_maxNodes g_maxWeight g_maxVisits g_count g_root g_nc g_weight g_grown g_neg g_made g_next g_nextPar g_nextSlot g_nextLex g_stuck : Int32} {b_kinds b_parts b_cNode b_cPar b_cSlot b_le b_saved b_cur b_nxt b_first b_vNode b_vPar b_vSlot b_vLex b_val b_num : Nat → Int32} {K : SX → SY → Prop} {n M r : Nat} {kd : Nat → Nat} {cd : Nat → Nat → Option Nat} {pp : Nat → Int32} {par : Nat → Option Nat} {TT : Nat → Prop} {n' : Nat} {kd' : Nat → Nat} {cd' : Nat → Nat → Option Nat} {pp' : Nat → Int32} {par' : Nat → Option Nat}
theorem es_visit (W : tm_WF n kd cd pp par) (A1 : tm_Ag n kd pp a_nKind a_nPart) (A2 : tm_Ag n kd pp b_kinds b_parts) (hTn : ∀ m, TT m → m < n) (hTc : ∀ m i c, TT m → cd m i = some c → TT c) (W2 : tm_WF n' kd' cd' pp' par') (A22 : tm_Ag n' kd' pp' b_kinds b_parts) (hnn : n ≤ n') (hr : r < n') (hTv : ∀ m, TT m → kd m = 2 → ∃ b, bd_b kd cd pp par r m = some b ∧ bd_b kd' cd' pp' par' r m = some b) (hM : M < 192)
    (hK : ∀ (f_done f_stuck f_curNode f_curEnv f_resultValue f_valueCount f_envCount f_depth : Int32) (a_vKind a_vWord a_vEnv a_vField a_eName a_eValue a_eNext a_fNode a_fEnv a_fPart a_fValue : Nat → Int32) (g_next g_nextPar g_nextSlot g_nextLex g_stuck : Int32) (b_vNode b_vPar b_vSlot b_vLex b_val b_num : Nat → Int32), es_R (M + 1) r kd cd pp TT f_done f_stuck f_curNode f_curEnv f_resultValue f_valueCount f_envCount f_depth a_vKind a_vWord a_vEnv a_vField a_eName a_eValue a_eNext a_fNode a_fEnv a_fPart a_fValue g_next g_nextPar g_nextSlot g_nextLex g_stuck b_vNode b_vPar b_vSlot b_vLex b_val b_num → K (f_maxNodes, f_maxWeight, f_maxVisits, f_nodeCount, f_sealed, f_verdictNow, f_copyCount, f_varCount, f_atSet, f_atNeg, nI (M + 1), f_done, f_stuck, f_curNode, f_curEnv, f_resultValue, f_valueCount, f_envCount, f_depth, a_nKind, a_nPart, a_nParent, a_cNode, a_cUp, a_cChild, a_cInst, a_cParam, a_queue, a_rel, a_vKind, a_vWord, a_vEnv, a_vField, a_eName, a_eValue, a_eNext, a_fNode, a_fEnv, a_fPart, a_fValue) (g_maxNodes, g_maxWeight, g_maxVisits, nI n', nI r, g_nc, g_weight, g_grown, g_neg, nI (M + 1), g_next, g_nextPar, g_nextSlot, g_nextLex, g_stuck, b_kinds, b_parts, b_cNode, b_cPar, b_cSlot, b_le, b_saved, b_cur, b_nxt, b_first, b_vNode, b_vPar, b_vSlot, b_vLex, b_val, b_num))
    (R : es_run M r kd cd pp TT f_done f_stuck f_curNode f_curEnv f_resultValue f_valueCount f_envCount f_depth a_vKind a_vWord a_vEnv a_vField a_eName a_eValue a_eNext a_fNode a_fEnv a_fPart a_fValue g_next g_nextPar g_nextSlot g_nextLex g_stuck b_vNode b_vPar b_vSlot b_vLex b_val b_num) : ∃ u v, K u v ∧ (∀ post : SX → Prop, post u → wpX_visit post (f_maxNodes, f_maxWeight, f_maxVisits, f_nodeCount, f_sealed, f_verdictNow, f_copyCount, f_varCount, f_atSet, f_atNeg, nI M, f_done, f_stuck, f_curNode, f_curEnv, f_resultValue, f_valueCount, f_envCount, f_depth, a_nKind, a_nPart, a_nParent, a_cNode, a_cUp, a_cChild, a_cInst, a_cParam, a_queue, a_rel, a_vKind, a_vWord, a_vEnv, a_vField, a_eName, a_eValue, a_eNext, a_fNode, a_fEnv, a_fPart, a_fValue)) ∧ (∀ post : SY → Prop, post v → wpY_visit post (g_maxNodes, g_maxWeight, g_maxVisits, nI n', nI r, g_nc, g_weight, g_grown, g_neg, nI M, g_next, g_nextPar, g_nextSlot, g_nextLex, g_stuck, b_kinds, b_parts, b_cNode, b_cPar, b_cSlot, b_le, b_saved, b_cur, b_nxt, b_first, b_vNode, b_vPar, b_vSlot, b_vLex, b_val, b_num)) := by
  have hn := tm_n W
  obtain ⟨vn, vp, vs, vl, va, gt, dp, ev, xv, vc, ec, S, hvM, h00, E, V, F, A0, hec, rfl, rfl, rfl, rfl, rfl, rfl, rfl, rfl, rfl, rfl, rfl, rfl⟩ := R
  have hT : ∀ j, j < M + 1 → vn j < n := fun j h => hTn _ (es_tt S h)
  have hm := hT M (by omega)
  have hk := tm_k W hm
  have hMN : M < M + 1 := by omega
  have A : es_A (M + 1) vn vp vs vl va (upd b_vNode M (nI (vn M))) (upd b_vPar M (nu_o (vp M))) (upd b_vSlot M (nI (vs M))) (upd b_vLex M (nu_o (vl M))) (upd b_val M (-1)) := fun j hj => by
    by_cases z : j = M
    · rw [z, pk_us, pk_us, pk_us, pk_us, pk_us, hvM]; exact ⟨rfl, rfl, rfl, rfl, rfl⟩
    · rw [pk_un z, pk_un z, pk_un z, pk_un z, pk_un z]; exact A0 j (by omega)
  have hdM := es_dpj S hMN
  have gM : ∀ s, gt M s = none := fun s => by
    cases e : gt M s with
    | none => rfl
    | some w =>
      obtain ⟨j', a', b', c'⟩ := es_gx S (i := M) (s := s) (by rw [e]; intro z; cases z)
      have := (es_lk' S a' b').2.1
      omega
  have ht : ∀ q, q < M + 1 → va q = none → q ≤ M ∧ dp q ≤ dp M := fun q hq e => by
    refine ⟨by omega, ?_⟩
    rcases Nat.eq_or_lt_of_le (show q ≤ M by omega) with z | z
    · rw [z]; exact Nat.le_refl _
    · obtain ⟨_, _, _, h⟩ := (es_pd S hMN hvM).1 q z e
      exact h
  have cM : (nI M).toNatClampNeg = M := nI_clamp (by omega)
  have iM : vp_in (nI M) 192 := vp_in_nI (by omega) (by omega)
  have ecv : vc ≤ M := Nat.le_trans V.1 (kc_le _ _)
  -- Y's entry
  have YV : ∀ (post : SY → Prop) (m : Nat), wpY_need (fun q => wY_visit_114 post (wY_visit_84 post m) (nI M) q g_maxNodes g_maxWeight g_maxVisits (nI n') (nI r) g_nc g_weight g_grown g_neg (nI (M + 1)) (-1) (nu_o (vp M)) (nI (vs M)) (nu_o (vl M)) 0 b_kinds b_parts b_cNode b_cPar b_cSlot b_le b_saved b_cur b_nxt b_first (upd b_vNode M (nI (vn M))) (upd b_vPar M (nu_o (vp M))) (upd b_vSlot M (nI (vs M))) (upd b_vLex M (nu_o (vl M))) (upd b_val M (-1)) b_num) (g_maxNodes, g_maxWeight, g_maxVisits, nI n', nI r, g_nc, g_weight, g_grown, g_neg, nI (M + 1), -1, nu_o (vp M), nI (vs M), nu_o (vl M), 0, b_kinds, b_parts, b_cNode, b_cPar, b_cSlot, b_le, b_saved, b_cur, b_nxt, b_first, upd b_vNode M (nI (vn M)), upd b_vPar M (nu_o (vp M)), upd b_vSlot M (nI (vs M)), upd b_vLex M (nu_o (vl M)), upd b_val M (-1), b_num) (nI M) → wpY_visit post (g_maxNodes, g_maxWeight, g_maxVisits, nI n', nI r, g_nc, g_weight, g_grown, g_neg, nI M, nI (vn M), nu_o (vp M), nI (vs M), nu_o (vl M), 0, b_kinds, b_parts, b_cNode, b_cPar, b_cSlot, b_le, b_saved, b_cur, b_nxt, b_first, b_vNode, b_vPar, b_vSlot, b_vLex, b_val, b_num) := fun post m H => by
    refine ⟨iM, nm_r (e' := upd b_vNode M (nI (vn M))) (by rw [cM]) ⟨iM, nm_r (e' := upd b_vPar M (nu_o (vp M))) (by rw [cM]) ⟨iM, nm_r (e' := upd b_vSlot M (nI (vs M))) (by rw [cM]) ⟨iM, nm_r (e' := upd b_vLex M (nu_o (vl M))) (by rw [cM]) ⟨iM, nm_r (e' := upd b_val M (-1)) (by rw [cM]) (nm_r (nI_1 M) (nm_r (nI_pred M) ⟨m + 1, ?_⟩))⟩⟩⟩⟩⟩
    exact yw_84p hM pk_us H
  -- a value at once
  have VAL : ∀ (w : Nat) (va' : Nat → Option Nat) (gt' : Nat → Nat → Option Nat) (xv' : Nat → Nat) (vc' : Nat) (vK' vW' vE' vF' num' : Nat → Int32), es_D (M + 1) r kd cd pp TT vn vp vs vl dp ev ec a_eName a_eValue a_eNext a_fNode a_fEnv a_fPart a_fValue (upd b_vNode M (nI (vn M))) (upd b_vPar M (nu_o (vp M))) (upd b_vSlot M (nI (vs M))) (upd b_vLex M (nu_o (vl M))) M w va' gt' gt xv' vc' vK' vW' vE' vF' (upd (upd b_val M (-1)) M (nI w)) num' → xv' w < 2 ^ 31 →
      (∀ post : SX → Prop, wX_visit_135 post (nI (xv' w)) f_maxNodes f_maxWeight f_maxVisits f_nodeCount f_sealed f_verdictNow f_copyCount f_varCount f_atSet f_atNeg (nI (M + 1)) 0 0 (nI (vn M)) (nu_o (ev M)) f_resultValue (nI vc') (nI ec) (nI (dp M)) a_nKind a_nPart a_nParent a_cNode a_cUp a_cChild a_cInst a_cParam a_queue a_rel vK' vW' vE' vF' a_eName a_eValue a_eNext a_fNode a_fEnv a_fPart a_fValue → wpX_visit post (f_maxNodes, f_maxWeight, f_maxVisits, f_nodeCount, f_sealed, f_verdictNow, f_copyCount, f_varCount, f_atSet, f_atNeg, nI M, 0, 0, nI (vn M), nu_o (ev M), f_resultValue, nI vc, nI ec, nI (dp M), a_nKind, a_nPart, a_nParent, a_cNode, a_cUp, a_cChild, a_cInst, a_cParam, a_queue, a_rel, a_vKind, a_vWord, a_vEnv, a_vField, a_eName, a_eValue, a_eNext, a_fNode, a_fEnv, a_fPart, a_fValue)) →
      (∀ post : Int32 → Prop, post (-1) → wpY_need post (g_maxNodes, g_maxWeight, g_maxVisits, nI n', nI r, g_nc, g_weight, g_grown, g_neg, nI (M + 1), -1, nu_o (vp M), nI (vs M), nu_o (vl M), 0, b_kinds, b_parts, b_cNode, b_cPar, b_cSlot, b_le, b_saved, b_cur, b_nxt, b_first, upd b_vNode M (nI (vn M)), upd b_vPar M (nu_o (vp M)), upd b_vSlot M (nI (vs M)), upd b_vLex M (nu_o (vl M)), upd b_val M (-1), b_num) (nI M)) →
      (∀ post : Int32 → SY → Prop, post (nI w) (g_maxNodes, g_maxWeight, g_maxVisits, nI n', nI r, g_nc, g_weight, g_grown, g_neg, nI (M + 1), -1, nu_o (vp M), nI (vs M), nu_o (vl M), 0, b_kinds, b_parts, b_cNode, b_cPar, b_cSlot, b_le, b_saved, b_cur, b_nxt, b_first, upd b_vNode M (nI (vn M)), upd b_vPar M (nu_o (vp M)), upd b_vSlot M (nI (vs M)), upd b_vLex M (nu_o (vl M)), upd b_val M (-1), num') → wpY_result post (g_maxNodes, g_maxWeight, g_maxVisits, nI n', nI r, g_nc, g_weight, g_grown, g_neg, nI (M + 1), -1, nu_o (vp M), nI (vs M), nu_o (vl M), 0, b_kinds, b_parts, b_cNode, b_cPar, b_cSlot, b_le, b_saved, b_cur, b_nxt, b_first, upd b_vNode M (nI (vn M)), upd b_vPar M (nu_o (vp M)), upd b_vSlot M (nI (vs M)), upd b_vLex M (nu_o (vl M)), upd b_val M (-1), b_num) (nI M)) →
      ∃ u v, K u v ∧ (∀ post : SX → Prop, post u → wpX_visit post (f_maxNodes, f_maxWeight, f_maxVisits, f_nodeCount, f_sealed, f_verdictNow, f_copyCount, f_varCount, f_atSet, f_atNeg, nI M, 0, 0, nI (vn M), nu_o (ev M), f_resultValue, nI vc, nI ec, nI (dp M), a_nKind, a_nPart, a_nParent, a_cNode, a_cUp, a_cChild, a_cInst, a_cParam, a_queue, a_rel, a_vKind, a_vWord, a_vEnv, a_vField, a_eName, a_eValue, a_eNext, a_fNode, a_fEnv, a_fPart, a_fValue)) ∧ (∀ post : SY → Prop, post v → wpY_visit post (g_maxNodes, g_maxWeight, g_maxVisits, nI n', nI r, g_nc, g_weight, g_grown, g_neg, nI M, nI (vn M), nu_o (vp M), nI (vs M), nu_o (vl M), 0, b_kinds, b_parts, b_cNode, b_cPar, b_cSlot, b_le, b_saved, b_cur, b_nxt, b_first, b_vNode, b_vPar, b_vSlot, b_vLex, b_val, b_num)) := fun w va' gt' xv' vc' vK' vW' vE' vF' num' D hxw HX HN HR => by
    obtain ⟨u, v, hk, oX, oY⟩ := es_del (K := K) (f_resultValue := f_resultValue) (f_curNode := nI (vn M)) (f_curEnv := nu_o (ev M)) (g_count := nI n') (g_root := nI r) (g_nextPar := nu_o (vp M)) (g_nextSlot := nI (vs M)) (g_nextLex := nu_o (vl M)) W A1 A2 hTn hTc (by omega) (by omega) hK (M + 1) M w va' gt' gt xv' vc' vK' vW' vE' vF' (upd (upd b_val M (-1)) M (nI w)) num' hMN D
    refine ⟨u, v, hk, fun post hp => HX post (br_f (nI_pos hxw) ⟨dp M + 2, oX (dp M + 2) 0 _ (Nat.le_refl _) (by omega) hp⟩), fun post hp => YV post (M + 1) (HN _ (br_t rfl (HR _ ⟨iM, nm_r (e' := upd (upd b_val M (-1)) M (nI w)) (by rw [cM]) (yw_131 (Or.inl rfl) (oY (M + 1) post (Nat.le_refl _) hp))⟩)))⟩
  -- a first child
  have NEWV : ∀ (xv' : Nat → Nat) (vc' : Nat) (vK' vW' vE' vF' : Nat → Int32) (fv : Int32) (nx c : Nat), es_E (M + 1) kd pp vn vp vs vl gt ev xv' ec a_eName a_eValue a_eNext → es_V (M + 1) kd vn va gt ev xv' vc' vK' vW' vE' vF' b_num → es_F (M + 1) kd vn vp vs va gt ev xv' dp a_fNode a_fEnv a_fPart a_fValue → nx < 4 → cd (vn M) nx = some c → (∀ l, l < nx → cd (vn M) l = none) → (kd (vn M) = 6 → fv = nI (xv' M)) → (kd (vn M) ≠ 6 → (kd (vn M) = 5 ∧ nx = 1) ∨ (kd (vn M) ≠ 5 ∧ nx = 0)) → 4 ≤ kd (vn M) →
      (∀ post : SX → Prop, post (f_maxNodes, f_maxWeight, f_maxVisits, f_nodeCount, f_sealed, f_verdictNow, f_copyCount, f_varCount, f_atSet, f_atNeg, nI (M + 1), 0, 0, nI c, nu_o (ev M), f_resultValue, nI vc', nI ec, nI (dp M + 1), a_nKind, a_nPart, a_nParent, a_cNode, a_cUp, a_cChild, a_cInst, a_cParam, a_queue, a_rel, vK', vW', vE', vF', a_eName, a_eValue, a_eNext, upd a_fNode (dp M) (nI (vn M)), upd a_fEnv (dp M) (nu_o (ev M)), upd a_fPart (dp M) (nI nx), upd a_fValue (dp M) fv) → wpX_visit post (f_maxNodes, f_maxWeight, f_maxVisits, f_nodeCount, f_sealed, f_verdictNow, f_copyCount, f_varCount, f_atSet, f_atNeg, nI M, 0, 0, nI (vn M), nu_o (ev M), f_resultValue, nI vc, nI ec, nI (dp M), a_nKind, a_nPart, a_nParent, a_cNode, a_cUp, a_cChild, a_cInst, a_cParam, a_queue, a_rel, a_vKind, a_vWord, a_vEnv, a_vField, a_eName, a_eValue, a_eNext, a_fNode, a_fEnv, a_fPart, a_fValue)) →
      ∃ u v, K u v ∧ (∀ post : SX → Prop, post u → wpX_visit post (f_maxNodes, f_maxWeight, f_maxVisits, f_nodeCount, f_sealed, f_verdictNow, f_copyCount, f_varCount, f_atSet, f_atNeg, nI M, 0, 0, nI (vn M), nu_o (ev M), f_resultValue, nI vc, nI ec, nI (dp M), a_nKind, a_nPart, a_nParent, a_cNode, a_cUp, a_cChild, a_cInst, a_cParam, a_queue, a_rel, a_vKind, a_vWord, a_vEnv, a_vField, a_eName, a_eValue, a_eNext, a_fNode, a_fEnv, a_fPart, a_fValue)) ∧ (∀ post : SY → Prop, post v → wpY_visit post (g_maxNodes, g_maxWeight, g_maxVisits, nI n', nI r, g_nc, g_weight, g_grown, g_neg, nI M, nI (vn M), nu_o (vp M), nI (vs M), nu_o (vl M), 0, b_kinds, b_parts, b_cNode, b_cPar, b_cSlot, b_le, b_saved, b_cur, b_nxt, b_first, b_vNode, b_vPar, b_vSlot, b_vLex, b_val, b_num)) := fun xv' vc' vK' vW' vE' vF' fv nx c E' V' F' hnx hc hlow h6 hnk hk4 HX => by
    have tl : es_tl (kd (vn M)) nx = false := by
      unfold es_tl
      by_cases k6 : kd (vn M) = 6
      · rw [k6]; rfl
      · rcases hnk k6 with z | z
        · rw [z.1, z.2]; rfl
        · rw [z.2]; simp
    have R := es_Rnew (rv := f_resultValue) (p := M) (m := c) (s := nx) (d := dp M + 1) (u := M) (ec' := ec) (e' := ev M) (eN' := a_eName) (eV' := a_eValue) (eX' := a_eNext) (fN' := upd a_fNode (dp M) (nI (vn M))) (fE' := upd a_fEnv (dp M) (nu_o (ev M))) (fP' := upd a_fPart (dp M) (nI nx)) (fV' := upd a_fValue (dp M) fv) S E' V' F' A hMN hvM h00 ht (fun j' a b => by have := (es_lk' S a b).2.1; omega) (hTc _ nx c (es_tt S hMN) hc) (by rw [tl]; rfl) (es_Lp hMN (by omega) hnx hc (fun z1 z2 => by have := hnk (by omega); omega) (fun z1 z2 => by have := hnk (by omega); omega) (fun z1 z2 => by have := hnk (by omega); omega) (fun _ l hl z => absurd (hlow l hl) z)) hMN (Nat.le_refl _) (by omega) (E'.1 M hMN) (fun _ _ => ⟨rfl, rfl, rfl⟩) (fun z => by omega) (fun z1 z2 => by have := hnk (by omega); omega) (fun _ _ => rfl) (fun c' hc' => ⟨pk_un (by omega), pk_un (by omega), pk_un (by omega), pk_un (by omega)⟩) (fun _ => ⟨pk_us, pk_us, fun z => ⟨pk_us, fun z1 => by have := hnk (by omega); omega⟩, fun z => ⟨pk_us, by rw [pk_us]; exact h6 z⟩⟩)
    have hcn := (tm_c W hm hc).1
    refine ⟨_, _, hK _ _ _ _ _ _ _ _ _ _ _ _ _ _ _ _ _ _ _ _ _ _ _ _ _ _ _ _ _ _ R, fun post hp => HX post hp, fun post hp => YV post (M + 1) ?_⟩
    have fin : wY_visit_114 post (wY_visit_84 post (M + 1)) (nI M) (nI nx) g_maxNodes g_maxWeight g_maxVisits (nI n') (nI r) g_nc g_weight g_grown g_neg (nI (M + 1)) (-1) (nu_o (vp M)) (nI (vs M)) (nu_o (vl M)) 0 b_kinds b_parts b_cNode b_cPar b_cSlot b_le b_saved b_cur b_nxt b_first (upd b_vNode M (nI (vn M))) (upd b_vPar M (nu_o (vp M))) (upd b_vSlot M (nI (vs M))) (upd b_vLex M (nu_o (vl M))) (upd b_val M (-1)) b_num := yw_114s W A2 hM hm pk_us hnx hc (yw_84e (by omega) hp)
    refine yw_nd0 W A2 S (by omega) A hT hMN (fun z => by omega) (fun z => yw_nd45 W A2 S (by omega) A hT hMN (fun s hs hcs hg hl => ?_) (fun z => absurd (gM nx) (z nx hnx (by rw [hc]; intro y; cases y)))) (fun z _ => ?_) (fun _ a e => by rw [gM] at e; cases e) (fun _ a e => by rw [gM] at e; cases e) (fun _ a e => by rw [gM] at e; cases e)
    · have : s = nx := by
        rcases Nat.lt_trichotomy s nx with y | y | y
        · exact absurd (hlow s y) hcs
        · exact y
        · exact absurd (gM nx) (hl nx y (by rw [hc]; intro y; cases y))
      rw [this]; exact fin
    · have : nx = 0 := by have := hnk (by omega); omega
      rw [this] at fin
      exact fin
  have kx : (nI (vn M)).toNatClampNeg = vn M := nI_clamp (by omega)
  have pX : a_nPart (4 * nI (vn M)).toNatClampNeg = pp (4 * vn M) := by rw [nu_4, nI_clamp (by omega), A1.2 _ (by omega)]
  have kk : kd (vn M) = 1 ∨ kd (vn M) = 2 ∨ kd (vn M) = 3 ∨ kd (vn M) = 6 ∨ (4 ≤ kd (vn M) ∧ kd (vn M) ≠ 6) := by omega
  have hgw : ∀ i s w, gt i s = some w → w ≠ M := fun i s w e z => by have := (es_gg S e).2.1; rw [z, hvM] at this; cases this
  have OWN : ∀ o, o < M + 1 → (es_own kd vn (es_u va M (some M)) o ↔ (o < M ∧ es_own kd vn va o) ∨ o = M) := fun o ho => by
    unfold es_own
    by_cases z : o = M
    · rw [z, es_us]; exact ⟨fun _ => Or.inr rfl, fun _ => Or.inl rfl⟩
    · rw [es_un z]; exact ⟨fun q => Or.inl ⟨by omega, q⟩, fun q => q.elim (fun q => q.2) (fun q => absurd q z)⟩
  rcases kk with k1 | k2 | k3 | k6 | k4
  · obtain ⟨V', hvc⟩ := es_Va (p := M) (M' := M + 1) (va' := es_u va M (some M)) (num' := upd b_num M (pp (4 * vn M))) (vK' := upd a_vKind vc 1) (vW' := upd a_vWord vc (pp (4 * vn M))) (vE' := upd a_vEnv vc (-1)) (vF' := es_nf a_vField vc) V (by omega) hMN (fun z => by omega) OWN (fun w z => es_un z) (fun w z => pk_un z) hgw (fun c hc => ⟨pk_un (by omega), pk_un (by omega), pk_un (by omega), fun l hl => es_nfo (by omega)⟩) (fun _ => ⟨fun _ => ⟨pk_us, by rw [pk_us, pk_us]⟩, fun z => by omega⟩) (fun z => by omega)
    have D := es_Dset (o := M) S E F A hMN hvM (fun q a b => (ht q a b).1) (fun w z => pk_un z) (Or.inl ⟨rfl, Or.inl k1, fun z => by omega⟩) (fun w e => es_un fun z => by rw [z, hvM] at e; cases e) (fun i k hi => es_un fun z => by rw [z] at k; omega) (fun _ => h00) V'
    refine VAL M _ _ _ _ _ _ _ _ _ D (by rw [es_us]; omega) (fun post H => ?_) (fun post hp => ?_) (fun post hp => ?_)
    · rw [es_us] at H
      refine ⟨vp_in_nI (by omega) (by omega), nm_r (e' := nI (kd (vn M))) (by rw [kx, A1.1 _ hm]) (nm_r (nI_1 M) (br_t (by rw [k1]; rfl) ⟨nu_i40 (by omega) (by omega), ?_⟩))⟩
      rw [pX]
      exact xw_newv (by omega) H
    · exact yw_nd0 W A2 S (by omega) A hT hMN (fun _ => hp) (fun z => by omega) (fun z => by omega) (fun z => by omega) (fun z => by omega) (fun z => by omega)
    · exact yw_res W A2 S (by omega) A hT hMN (fun _ => hp) (fun z => by omega) (fun z => by omega) (fun z => by omega) (fun z => by omega) (fun z => by omega) (fun z => by omega) (fun z => by omega)
  · obtain ⟨b, hb, hb'⟩ := hTv _ (es_tt S hMN) k2
    obtain ⟨o, g, s, hg, hYl, hXl⟩ := @es_lookup f_maxNodes f_maxWeight f_maxVisits f_nodeCount f_sealed f_verdictNow f_copyCount f_varCount f_atSet f_atNeg (nI (M + 1)) 0 0 (nI (vn M)) f_resultValue (nI vc) (nI ec) (nI (dp M)) a_nKind a_nPart a_nParent a_cNode a_cUp a_cChild a_cInst a_cParam a_queue a_rel a_vKind a_vWord a_vEnv a_vField a_eName a_eValue a_eNext a_fNode a_fEnv a_fPart a_fValue g_maxNodes g_maxWeight g_maxVisits g_nc g_weight g_grown g_neg (-1) (nu_o (vp M)) (nI (vs M)) (nu_o (vl M)) 0 b_kinds b_parts b_cNode b_cPar b_cSlot b_le b_saved b_cur b_nxt b_first (upd b_vNode M (nI (vn M))) (upd b_vPar M (nu_o (vp M))) (upd b_vSlot M (nI (vs M))) (upd b_vLex M (nu_o (vl M))) (upd b_val M (-1)) b_num n (M + 1) r kd cd pp par TT b_num vn vp vs vl va gt dp ev xv ec W A2 S (by omega) A hT E (by omega) M b hMN hb n' kd' cd' pp' par' W2 A22 hr (by omega) hb'
    have ho := es_gg S hg
    have hoM := hgw _ _ _ hg
    have D := es_Dset (o := o) (num' := b_num) (xv' := xv) S E F A hMN hvM (fun q a b => (ht q a b).1) (fun _ _ => rfl) (Or.inr ⟨ho.1, ho.2.1⟩) (fun _ _ => rfl) (fun _ _ _ => rfl) (fun _ => h00) (es_V0 (es_Vm V hvM (by omega)) hvM hoM)
    have hxo : xv o < vc := V.2.1 o (by omega) (Or.inl ho.2.1)
    refine VAL o _ _ _ _ _ _ _ _ _ D (by omega) (fun post H => ?_) (fun post hp => ?_) (fun post hp => ?_)
    · refine ⟨vp_in_nI (by omega) (by omega), nm_r (e' := nI (kd (vn M))) (by rw [kx, A1.1 _ hm]) (nm_r (nI_1 M) (br_f (by rw [k2]; decide) (br_t (by rw [k2]; rfl) ⟨nu_i40 (by omega) (by omega), ?_⟩)))⟩
      rw [pX]
      exact hXl _ H
    · exact yw_nd0 W A2 S (by omega) A hT hMN (fun _ => hp) (fun z => by omega) (fun z => by omega) (fun z => by omega) (fun z => by omega) (fun z => by omega)
    · exact yw_res W A2 S (by omega) A hT hMN (fun z => by omega) (fun _ => hYl _ hp) (fun z => by omega) (fun z => by omega) (fun z => by omega) (fun z => by omega) (fun z => by omega) (fun z => by omega)
  · obtain ⟨V', hvc⟩ := es_Va (p := M) (M' := M + 1) (va' := es_u va M (some M)) (num' := b_num) (vK' := upd a_vKind vc 3) (vW' := upd a_vWord vc (nI (vn M))) (vE' := upd a_vEnv vc (nu_o (ev M))) (vF' := es_nf a_vField vc) V (by omega) hMN (fun z => by omega) OWN (fun w z => es_un z) (fun _ _ => rfl) hgw (fun c hc => ⟨pk_un (by omega), pk_un (by omega), pk_un (by omega), fun l hl => es_nfo (by omega)⟩) (fun _ => ⟨fun z => by omega, fun _ => ⟨pk_us, pk_us, pk_us⟩⟩) (fun z => by omega)
    have D := es_Dset (o := M) S E F A hMN hvM (fun q a b => (ht q a b).1) (fun _ _ => rfl) (Or.inl ⟨rfl, Or.inr (Or.inl k3), fun z => by omega⟩) (fun w e => es_un fun z => by rw [z, hvM] at e; cases e) (fun i k hi => es_un fun z => by rw [z] at k; omega) (fun _ => h00) V'
    refine VAL M _ _ _ _ _ _ _ _ _ D (by rw [es_us]; omega) (fun post H => ?_) (fun post hp => ?_) (fun post hp => ?_)
    · rw [es_us] at H
      exact ⟨vp_in_nI (by omega) (by omega), nm_r (e' := nI (kd (vn M))) (by rw [kx, A1.1 _ hm]) (nm_r (nI_1 M) (br_f (by rw [k3]; decide) (br_f (by rw [k3]; decide) (br_t (by rw [k3]; rfl) (xw_newv (by omega) H)))))⟩
    · exact yw_nd0 W A2 S (by omega) A hT hMN (fun _ => hp) (fun z => by omega) (fun z => by omega) (fun z => by omega) (fun z => by omega) (fun z => by omega)
    · exact yw_res W A2 S (by omega) A hT hMN (fun z => by omega) (fun z => by omega) (fun _ => hp) (fun z => by omega) (fun z => by omega) (fun z => by omega) (fun z => by omega) (fun z => by omega)
  · obtain ⟨V', hvc⟩ := es_Va (p := M) (M' := M + 1) (va' := va) (num' := b_num) (vK' := upd a_vKind vc 6) (vW' := upd a_vWord vc (nI (vn M))) (vE' := upd a_vEnv vc (-1)) (vF' := es_nf a_vField vc) V (by omega) hMN (fun z => by omega) (fun o ho => by
        by_cases z : o = M
        · rw [z]; exact ⟨fun _ => Or.inr rfl, fun _ => Or.inr k6⟩
        · exact ⟨fun q => Or.inl ⟨by omega, q⟩, fun q => q.elim (fun q => q.2) (fun q => absurd q z)⟩) (fun _ _ => rfl) (fun _ _ => rfl) hgw (fun c hc => ⟨pk_un (by omega), pk_un (by omega), pk_un (by omega), fun l hl => es_nfo (by omega)⟩) (fun z => by rw [hvM] at z; cases z) (fun _ => ⟨pk_us, pk_us, fun l hl => ⟨es_nfn hl, gM l⟩⟩)
    have E' := es_Eg (gt' := gt) (xv' := es_u xv M vc) E (fun _ _ _ e => e) (fun i s w e => es_un (hgw i s w e))
    have F' := es_Fx (xv' := es_u xv M vc) F (fun i s w e => es_un (hgw i s w e)) (fun j i hj e => es_un (by have := (es_lk' S hj e).2.1; omega))
    obtain ⟨x4, x1, x0⟩ := tm_nxx (cd (vn M)) (i := 0) (by omega)
    have HX0 : ∀ post : SX → Prop, wX_visit_106 post (nI (vn M)) (-1) (nI vc) f_maxNodes f_maxWeight f_maxVisits f_nodeCount f_sealed f_verdictNow f_copyCount f_varCount f_atSet f_atNeg (nI (M + 1)) 0 0 (nI (vn M)) (nu_o (ev M)) f_resultValue (nI (vc + 1)) (nI ec) (nI (dp M)) a_nKind a_nPart a_nParent a_cNode a_cUp a_cChild a_cInst a_cParam a_queue a_rel (upd a_vKind vc 6) (upd a_vWord vc (nI (vn M))) (upd a_vEnv vc (-1)) (es_nf a_vField vc) a_eName a_eValue a_eNext a_fNode a_fEnv a_fPart a_fValue → wpX_visit post (f_maxNodes, f_maxWeight, f_maxVisits, f_nodeCount, f_sealed, f_verdictNow, f_copyCount, f_varCount, f_atSet, f_atNeg, nI M, 0, 0, nI (vn M), nu_o (ev M), f_resultValue, nI vc, nI ec, nI (dp M), a_nKind, a_nPart, a_nParent, a_cNode, a_cUp, a_cChild, a_cInst, a_cParam, a_queue, a_rel, a_vKind, a_vWord, a_vEnv, a_vField, a_eName, a_eValue, a_eNext, a_fNode, a_fEnv, a_fPart, a_fValue) := fun post H =>
      ⟨vp_in_nI (by omega) (by omega), nm_r (e' := nI (kd (vn M))) (by rw [kx, A1.1 _ hm]) (nm_r (nI_1 M) (br_f (by rw [k6]; decide) (br_f (by rw [k6]; decide) (br_f (by rw [k6]; decide) (br_t (by rw [k6]; rfl) (xw_newv (by omega) H))))))⟩
    by_cases hx : tm_nx (cd (vn M)) 0 < 4
    · cases ec1 : cd (vn M) (tm_nx (cd (vn M)) 0) with
      | none => exact absurd ec1 (x1 hx).2
      | some c =>
        refine NEWV (es_u xv M vc) (vc + 1) _ _ _ _ (nI vc) _ c E' V' F' hx ec1 (fun l hl => x0 l (Nat.zero_le _) hl) (fun _ => by rw [es_us]) (fun z => absurd k6 z) (by omega) (fun post hp => HX0 post (xw_ncp (i := 0) W A1 hm (by omega) (br_f (by rw [nu_g4 (by omega)]; omega) ?_)))
        exact xw_push W A1 (by omega) hm hx ec1 (br_t (by decide) hp)
    · have D := es_Dset (o := M) (num' := b_num) (xv' := es_u xv M vc) S E' F' A hMN hvM (fun q a b => (ht q a b).1) (fun _ _ => rfl) (Or.inl ⟨rfl, Or.inr (Or.inr (Or.inl k6)), fun _ l hl => absurd (x0 l (Nat.zero_le _) (by have := (tm_o W hm hl).1; omega)) hl⟩) (fun _ _ => rfl) (fun _ _ _ => rfl) (fun _ => h00) (es_V6 V' hvM k6)
      refine VAL M _ _ _ _ _ _ _ _ _ D (by rw [es_us]; omega) (fun post H => HX0 post (xw_ncp (i := 0) W A1 hm (by omega) (br_t (by rw [nu_g4 (by omega)]; omega) ?_))) (fun post hp => ?_) (fun post hp => ?_)
      · rw [es_us] at H; exact H
      · exact yw_nd0 W A2 S (by omega) A hT hMN (fun z => by omega) (fun z => yw_nd45 W A2 S (by omega) A hT hMN (fun s hs hcs hg hl => absurd (x0 s (Nat.zero_le _) (by omega)) hcs) (fun _ => hp)) (fun z => by omega) (fun z => by omega) (fun z => by omega) (fun z => by omega)
      · exact yw_res W A2 S (by omega) A hT hMN (fun z => by omega) (fun z => by omega) (fun _ => hp) (fun z => by omega) (fun z => by omega) (fun z => by omega) (fun z => by omega) (fun z => by omega)
  · obtain ⟨x4, x1, x0⟩ := tm_nxx (cd (vn M)) (i := 0) (by omega)
    have s01 : kd (vn M) ≠ 5 → cd (vn M) 0 ≠ none := fun z => tm_nn W hm (by omega) (by
      have tab : ∀ k, k < 10 → ((4 ≤ k ∧ k ≠ 6 ∧ k ≠ 5) → tm_slot k 0 = true) := by decide
      exact tab _ (by omega) ⟨k4.1, k4.2, z⟩) k4.2
    have nxk : (kd (vn M) = 5 ∧ tm_nx (cd (vn M)) 0 = 1) ∨ (kd (vn M) ≠ 5 ∧ tm_nx (cd (vn M)) 0 = 0) := by
      by_cases k5 : kd (vn M) = 5
      · refine Or.inl ⟨k5, ?_⟩
        have c1 : cd (vn M) 1 ≠ none := tm_nn W hm (by omega) (by rw [k5]; rfl) k4.2
        have c0 : cd (vn M) 0 = none := tm_ns W hm (by rw [k5]; decide)
        rcases Nat.lt_trichotomy (tm_nx (cd (vn M)) 0) 1 with y | y | y
        · have y0 : tm_nx (cd (vn M)) 0 = 0 := by omega
          exact absurd (by rw [y0]; exact c0) (x1 (by omega)).2
        · exact y
        · exact absurd (x0 1 (Nat.zero_le _) y) c1
      · refine Or.inr ⟨k5, ?_⟩
        rcases Nat.eq_zero_or_pos (tm_nx (cd (vn M)) 0) with y | y
        · exact y
        · exact absurd (x0 0 (Nat.le_refl _) y) (s01 k5)
    have hx : tm_nx (cd (vn M)) 0 < 4 := by omega
    cases ec1 : cd (vn M) (tm_nx (cd (vn M)) 0) with
    | none => exact absurd ec1 (x1 hx).2
    | some c =>
      refine NEWV xv vc _ _ _ _ (-1) _ c E (es_Vm V hvM k4.2) F hx ec1 (fun l hl => x0 l (Nat.zero_le _) hl) (fun z => absurd z k4.2) (fun _ => nxk) (by omega) (fun post hp => ?_)
      refine ⟨vp_in_nI (by omega) (by omega), nm_r (e' := nI (kd (vn M))) (by rw [kx, A1.1 _ hm]) (nm_r (nI_1 M) (br_f (by rw [nu_e1 (by omega)]; omega) (br_f (by rw [nu_e2 (by omega)]; omega) (br_f (by rw [nu_e3 (by omega)]; omega) (br_f (by rw [nu_e6 (by omega)]; omega) (xw_ncp (i := 0) W A1 hm (by omega) (br_f (by rw [nu_g4 (by omega)]; omega) ?_)))))))⟩
      exact xw_push W A1 (by omega) hm hx ec1 (br_t (by decide) hp)
end
end
section
/-! the final value: both sides -/
def es_rx (xv : Nat → Nat) : Option Nat → Int32
  | none => -2
  | some w => nI (xv w)
section
variable {f_maxNodes f_maxWeight f_maxVisits f_nodeCount f_sealed f_verdictNow f_copyCount f_varCount : Int32} {f_atSet : Int64} {f_atNeg f_visitCount f_done f_stuck f_curNode f_curEnv f_resultValue f_valueCount f_envCount f_depth : Int32} {a_nKind a_nPart a_nParent a_cNode a_cUp a_cChild a_cInst a_cParam a_queue : Nat → Int32} {a_rel : Nat → Int64} {a_vKind a_vWord a_vEnv a_vField a_eName a_eValue a_eNext a_fNode a_fEnv a_fPart a_fValue : Nat → Int32} {g_maxNodes g_maxWeight g_maxVisits g_count g_root g_nc g_weight g_grown g_neg g_made g_next g_nextPar g_nextSlot g_nextLex g_stuck : Int32} {b_kinds b_parts b_cNode b_cPar b_cSlot b_le b_saved b_cur b_nxt b_first b_vNode b_vPar b_vSlot b_vLex b_val b_num : Nat → Int32} {n M r : Nat} {kd : Nat → Nat} {cd : Nat → Nat → Option Nat} {pp : Nat → Int32} {par : Nat → Option Nat} {TT : Nat → Prop} {vn : Nat → Nat} {vp : Nat → Option Nat} {vs : Nat → Nat} {vl va : Nat → Option Nat} {gt : Nat → Nat → Option Nat} {dp : Nat → Nat} {ev : Nat → Option Nat} {xv : Nat → Nat} {vc : Nat}
theorem es_arr (W : tm_WF n kd cd pp par) (A2 : tm_Ag n kd pp b_kinds b_parts) (S : es_S M r kd cd TT b_num vn vp vs vl va gt dp) (V : es_V M kd vn va gt ev xv vc a_vKind a_vWord a_vEnv a_vField b_num) (A : es_A M vn vp vs vl va b_vNode b_vPar b_vSlot b_vLex b_val) (hT : ∀ j, j < M → vn j < n) (hM : M ≤ 192) : ∀ f i P w, i + f = 11 → P < 2 ^ 31 → ps_m f P = false → w < M → va w = some w → ∃ q : Option Nat, (∀ w', q = some w' → w' < M ∧ va w' = some w') ∧ (∀ post : Int32 → Prop, post (es_rx xv q) → wX_valueAt_28 post f_maxNodes f_maxWeight f_maxVisits f_nodeCount f_sealed f_verdictNow f_copyCount f_varCount f_atSet f_atNeg f_visitCount f_done f_stuck f_curNode f_curEnv f_resultValue f_valueCount f_envCount f_depth a_nKind a_nPart a_nParent a_cNode a_cUp a_cChild a_cInst a_cParam a_queue a_rel a_vKind a_vWord a_vEnv a_vField a_eName a_eValue a_eNext a_fNode a_fEnv a_fPart a_fValue (f + 1) (nI (xv w)) (nI P) (nI i)) ∧ (∀ post : Int32 → Prop, post (nu_o q) → wY_arrive_12 post g_maxNodes g_maxWeight g_maxVisits g_count g_root g_nc g_weight g_grown g_neg (nI M) g_next g_nextPar g_nextSlot g_nextLex g_stuck b_kinds b_parts b_cNode b_cPar b_cSlot b_le b_saved b_cur b_nxt b_first b_vNode b_vPar b_vSlot b_vLex b_val b_num (f + 1) (nI w) (nI P) (nI i)) := by
  have hn := tm_n W
  intro f
  induction f with
  | zero =>
    intro i P w hi hP hm hw ew
    have : i = 11 := by omega
    subst this
    exact ⟨some w, fun w' e => by cases e; exact ⟨hw, ew⟩, fun post hp => br_t (by decide) hp, fun post hp => br_t (by decide) hp⟩
  | succ f ih =>
    intro i P w hi hP hm hw ew
    have e11 : ¬ (11 : Int32) ≤ nI i := by rw [nu_g11 (by omega)]; omega
    have ww := es_w S V hM hw ew
    have hmw := hT w hw
    have hkw := tm_k W hmw
    by_cases e0 : P = 0
    · subst e0
      exact ⟨some w, fun w' e => by cases e; exact ⟨hw, ew⟩, fun post hp => br_f e11 (br_t rfl hp), fun post hp => br_f e11 (br_t (by decide) hp)⟩
    · rw [ps_m, if_neg e0] at hm
      have hg : 1 ≤ P % 8 ∧ P % 8 ≤ 6 := by
        apply Classical.byContradiction
        intro z
        rw [if_pos (by omega)] at hm
        cases hm
      rw [if_neg (by omega)] at hm
      generalize eg : P % 8 = g at hg
      have EX : ∀ post : Int32 → Prop, ((nI g < 3 → post (-2)) ∧ (¬ nI g < 3 → (a_vKind (xv w) = 6 → ((0 ≤ a_vField (4 * xv w + (g - 3)) → wX_valueAt_28 post f_maxNodes f_maxWeight f_maxVisits f_nodeCount f_sealed f_verdictNow f_copyCount f_varCount f_atSet f_atNeg f_visitCount f_done f_stuck f_curNode f_curEnv f_resultValue f_valueCount f_envCount f_depth a_nKind a_nPart a_nParent a_cNode a_cUp a_cChild a_cInst a_cParam a_queue a_rel a_vKind a_vWord a_vEnv a_vField a_eName a_eValue a_eNext a_fNode a_fEnv a_fPart a_fValue (f + 1) (a_vField (4 * xv w + (g - 3))) (nI (P / 8)) (nI (i + 1))) ∧ (¬ 0 ≤ a_vField (4 * xv w + (g - 3)) → post (-2)))) ∧ (¬ a_vKind (xv w) = 6 → post (-2)))) → wX_valueAt_28 post f_maxNodes f_maxWeight f_maxVisits f_nodeCount f_sealed f_verdictNow f_copyCount f_varCount f_atSet f_atNeg f_visitCount f_done f_stuck f_curNode f_curEnv f_resultValue f_valueCount f_envCount f_depth a_nKind a_nPart a_nParent a_cNode a_cUp a_cChild a_cInst a_cParam a_queue a_rel a_vKind a_vWord a_vEnv a_vField a_eName a_eValue a_eNext a_fNode a_fEnv a_fPart a_fValue (f + 1 + 1) (nI (xv w)) (nI P) (nI i) := fun post H => by
        refine br_f e11 (br_f (by rw [nu_e0 hP]; exact e0) (nm_r (by rw [ps_and7 hP, eg]) (br_c H.1 (fun z => ⟨vp_in_nI (by omega) (by omega), ?_⟩))))
        have z' : 3 ≤ g := by rw [nu_p3 (by omega)] at z; omega
        have H2 := H.2 z
        rw [nI_clamp (show xv w < 2 ^ 31 by omega), show 4 * nI (xv w) + nI g - 3 = nI (4 * xv w + g - 3) by rw [nu_4, nI_add, nu_s3 (by omega)]]
        refine br_c (fun k6 => ⟨vp_in_nI (by omega) (by omega), nm_r (e' := a_vField (4 * xv w + (g - 3))) (by rw [nI_clamp (by omega), show 4 * xv w + g - 3 = 4 * xv w + (g - 3) by omega]) (br_c (fun y => nm_r (ps_us3 hP) (nm_r (nI_1 i) ((H2.1 k6).1 y))) (fun y => (H2.1 k6).2 y))⟩) (fun k6 => H2.2 k6)
      have EY : ∀ post : Int32 → Prop, ((nI g < 3 → post (-1)) ∧ (¬ nI g < 3 → (kd (vn w) = 6 → ((cd (vn w) (g - 3) ≠ none → wpY_got (fun q => ∀ y, y = nI i + 1 → wY_arrive_12 post g_maxNodes g_maxWeight g_maxVisits g_count g_root g_nc g_weight g_grown g_neg (nI M) g_next g_nextPar g_nextSlot g_nextLex g_stuck b_kinds b_parts b_cNode b_cPar b_cSlot b_le b_saved b_cur b_nxt b_first b_vNode b_vPar b_vSlot b_vLex b_val b_num (f + 1) q (nI (P / 8)) y) (g_maxNodes, g_maxWeight, g_maxVisits, g_count, g_root, g_nc, g_weight, g_grown, g_neg, nI M, g_next, g_nextPar, g_nextSlot, g_nextLex, g_stuck, b_kinds, b_parts, b_cNode, b_cPar, b_cSlot, b_le, b_saved, b_cur, b_nxt, b_first, b_vNode, b_vPar, b_vSlot, b_vLex, b_val, b_num) (nI w) (nI (g - 3))) ∧ (cd (vn w) (g - 3) = none → post (-1)))) ∧ (¬ kd (vn w) = 6 → post (-1)))) → wY_arrive_12 post g_maxNodes g_maxWeight g_maxVisits g_count g_root g_nc g_weight g_grown g_neg (nI M) g_next g_nextPar g_nextSlot g_nextLex g_stuck b_kinds b_parts b_cNode b_cPar b_cSlot b_le b_saved b_cur b_nxt b_first b_vNode b_vPar b_vSlot b_vLex b_val b_num (f + 1 + 1) (nI w) (nI P) (nI i) := fun post H => by
        refine br_f e11 (br_f (by rw [nu_le0 hP]; exact e0) (br_f (nI_pos (by omega)) (nm_r (by rw [ps_and7 hP, eg]) (nm_r (ps_s3 hP) (br_c H.1 (fun z => ⟨vp_in_nI (by omega) (by omega), ?_⟩))))))
        have z' : 3 ≤ g := by rw [nu_p3 (by omega)] at z; omega
        have H2 := H.2 z
        rw [nI_clamp (show w < 2 ^ 31 by omega), (A w hw).1]
        refine ⟨vp_in_nI (by omega) (by omega), ?_⟩
        rw [nI_clamp (show vn w < 2 ^ 31 by omega), A2.1 _ hmw, nu_e6 (by omega), show nI (vn w) * 4 + nI g - 3 = nI (4 * vn w + g - 3) by rw [nu_r4, nI_add, nu_s3 (by omega)], nu_s3 z']
        refine br_c (fun k6 => ⟨vp_in_nI (by omega) (by omega), vp_in_nI (by omega) (by omega), ?_⟩) (fun k6 => H2.2 k6)
        rw [nI_clamp (show 4 * vn w + g - 3 < 2 ^ 31 by omega), show 4 * vn w + g - 3 = 4 * vn w + (g - 3) by omega, A2.2 _ (by omega), tm_s W hmw (by omega) (by rw [k6]; rfl), nu_ole (tm_cl' W hmw)]
        exact br_c (fun y => (H2.1 k6).1 y) (fun y => (H2.1 k6).2 (Classical.not_not.mp y))
      by_cases g3 : g < 3
      · have z : nI g < 3 := by rw [nu_p3 (by omega)]; exact g3
        exact ⟨none, (fun w' e => by cases e), fun post hp => EX post (br_t z hp), fun post hp => EY post (br_t z hp)⟩
      · have z : ¬ nI g < 3 := by rw [nu_p3 (by omega)]; exact g3
        by_cases k6 : kd (vn w) = 6
        · have v6 := ww.2.2.2.2.2 k6
          have fl := (V.2.2.2.2 w hw k6).2.2 (g - 3) (by omega)
          cases ew2 : gt w (g - 3) with
          | none =>
            have cn : cd (vn w) (g - 3) = none := by
              cases e : cd (vn w) (g - 3) with
              | none => rfl
              | some c => exact absurd ew2 (es_rc S hw ew k6 (by rw [e]; intro y; cases y))
            rw [ew2] at fl
            exact ⟨none, (fun w' e => by cases e), fun post hp => EX post (br_f z ⟨fun _ => br_f (by rw [fl]; exact nu_m1le) hp, fun y => absurd v6 y⟩), fun post hp => EY post (br_f z ⟨fun _ => ⟨fun y => absurd cn y, fun _ => hp⟩, fun y => absurd k6 y⟩)⟩
          | some w' =>
            have hw' := es_gg S ew2
            have ww' := es_w S V hM hw'.1 hw'.2.1
            have cn : cd (vn w) (g - 3) ≠ none := by
              obtain ⟨j', a', b', c'⟩ := es_gx S (i := w) (s := g - 3) (by rw [ew2]; intro z; cases z)
              obtain ⟨_, _, L', _⟩ := es_lk' S a' b'
              rcases L'.2.1 with y | y
              · rw [c'] at y; rw [y.2.1]; intro x; cases x
              · omega
            rw [ew2] at fl
            have fl' : a_vField (4 * xv w + (g - 3)) = nI (xv w') := fl
            obtain ⟨q, h1, h2, h3⟩ := ih (i + 1) (P / 8) w' (by omega) (by omega) hm hw'.1 hw'.2.1
            refine ⟨q, h1, fun post hp => EX post (br_f z ⟨fun _ => ?_, fun y => absurd v6 y⟩), fun post hp => EY post (br_f z ⟨fun _ => ⟨fun _ => yw_got S hM A (by omega) (by omega) ?_, fun y => absurd y cn⟩, fun y => absurd k6 y⟩)⟩
            · rw [fl']
              exact br_t (nI_pos' (by omega)) (h2 post hp)
            · rw [ew2]
              exact nm_r (nI_1 i) (h3 post hp)
        · have v6 : ¬ a_vKind (xv w) = 6 := fun y => by
            rcases (es_va S hw ew).2.2 with k | k | k | k
            · rw [(ww.2.2.2.1 (Or.inl k)).1] at y; exact absurd y (by decide)
            · rw [(ww.2.2.2.2.1 k).1] at y; exact absurd y (by decide)
            · exact k6 k
            · rw [(ww.2.2.2.1 (Or.inr k)).1] at y; exact absurd y (by decide)
          exact ⟨none, (fun w' e => by cases e), fun post hp => EX post (br_f z ⟨fun y => absurd y v6, fun _ => hp⟩), fun post hp => EY post (br_f z ⟨fun y => absurd y k6, fun _ => hp⟩)⟩
end
theorem ps_h4t : ∀ b0 b1 b2 b3 : Bool, (4 ||| ps_b b3 3 (ps_b b2 2 (ps_b b1 1 (ps_b b0 0 0)))) = ps_b b3 3 (ps_b b2 2 (ps_b b1 1 (ps_b b0 0 4))) ∧ ps_b b3 3 (ps_b b2 2 (ps_b b1 1 (ps_b b0 0 4))) ≠ 1 ∧ 0 ≤ ps_b b3 3 (ps_b b2 2 (ps_b b1 1 (ps_b b0 0 4))) := by decide +kernel
theorem ps_h4e (f : Nat → Bool) : (4 ||| ps_rb f 0) = ps_rb f 4 ∧ ps_rb f 4 ≠ 1 ∧ 0 ≤ ps_rb f 4 := ps_h4t (f 0) (f 1) (f 2) (f 3)
section
variable {g_maxNodes g_maxWeight g_maxVisits g_count g_root g_nc g_weight g_grown g_neg g_made g_next g_nextPar g_nextSlot g_nextLex g_stuck : Int32} {b_kinds b_parts b_cNode b_cPar b_cSlot b_le b_saved b_cur b_nxt b_first b_vNode b_vPar b_vSlot b_vLex b_val b_num : Nat → Int32} {n : Nat} {kd : Nat → Nat} {cd : Nat → Nat → Option Nat} {pp : Nat → Int32} {par : Nat → Option Nat}
theorem yw_vh71 {post : Int32 → Prop} (W : tm_WF n kd cd pp par) (A : tm_Ag n kd pp b_kinds b_parts) {m : Nat} (hm : m < n) (h6 : kd m = 6) (h : post (ps_rb (ps_r cd m) 4)) : ∃ f, wY_valueHead_71 post (nI m) g_maxNodes g_maxWeight g_maxVisits g_count g_root g_nc g_weight g_grown g_neg g_made g_next g_nextPar g_nextSlot g_nextLex g_stuck b_kinds b_parts b_cNode b_cPar b_cSlot b_le b_saved b_cur b_nxt b_first b_vNode b_vPar b_vSlot b_vLex b_val b_num f 4 0 := by
  have hn := tm_n W
  have st : ∀ f l x, l < 4 → wY_valueHead_71 post (nI m) g_maxNodes g_maxWeight g_maxVisits g_count g_root g_nc g_weight g_grown g_neg g_made g_next g_nextPar g_nextSlot g_nextLex g_stuck b_kinds b_parts b_cNode b_cPar b_cSlot b_le b_saved b_cur b_nxt b_first b_vNode b_vPar b_vSlot b_vLex b_val b_num f (ps_b (ps_r cd m l) l x) (nI (l + 1)) → wY_valueHead_71 post (nI m) g_maxNodes g_maxWeight g_maxVisits g_count g_root g_nc g_weight g_grown g_neg g_made g_next g_nextPar g_nextSlot g_nextLex g_stuck b_kinds b_parts b_cNode b_cPar b_cSlot b_le b_saved b_cur b_nxt b_first b_vNode b_vPar b_vSlot b_vLex b_val b_num (f + 1) x (nI l) := fun f l x hl H => by
    refine br_f ?_ ⟨nu_i4' (by omega) (by omega), ?_⟩
    · show ¬ (4 : Int32) ≤ nI l
      rw [nu_g4 (by omega)]; omega
    rw [nu_c4' (by omega), A.2 _ (by omega), tm_s W hm hl (by rw [h6]; rfl), nu_olt (tm_cl' W hm)]
    unfold ps_b ps_r at H
    refine br_c (fun y => nm_r (nI_1 l) ?_) (fun y => nm_e (nm_r (nI_1 l) ?_))
    · rw [if_neg (by rw [decide_eq_false (fun z => z y)]; intro z; cases z)] at H; exact H
    · rw [if_pos (decide_eq_true y)] at H; exact H
  exact ⟨5, st 4 0 4 (by omega) (st 3 1 _ (by omega) (st 2 2 _ (by omega) (st 1 3 _ (by omega) (br_t (by decide) h))))⟩
end
end
section
/-! the relation -/
/-- the tree under r -/
def rr_t (cd : Nat → Nat → Option Nat) (r m : Nat) : Prop := ∀ S : Nat → Prop, S r → (∀ m i c, S m → cd m i = some c → S c) → S m
def rr_T (n : Nat) (kd : Nat → Nat) (cd : Nat → Nat → Option Nat) (pp : Nat → Int32) (par : Nat → Option Nat) (mN mW mV : Nat) (f_maxNodes f_maxWeight f_maxVisits f_nodeCount f_sealed f_verdictNow f_copyCount f_varCount : Int32) (f_atSet : Int64) (f_atNeg f_visitCount f_done f_stuck f_curNode f_curEnv f_resultValue f_valueCount f_envCount f_depth : Int32) (a_nKind a_nPart a_nParent a_cNode a_cUp a_cChild a_cInst a_cParam a_queue : Nat → Int32) (a_rel : Nat → Int64) (a_vKind a_vWord a_vEnv a_vField a_eName a_eValue a_eNext a_fNode a_fEnv a_fPart a_fValue : Nat → Int32) (g_maxNodes g_maxWeight g_maxVisits g_count g_root g_nc g_weight g_grown g_neg g_made g_next g_nextPar g_nextSlot g_nextLex g_stuck : Int32) (b_kinds b_parts b_cNode b_cPar b_cSlot b_le b_saved b_cur b_nxt b_first b_vNode b_vPar b_vSlot b_vLex b_val b_num : Nat → Int32) : Prop :=
  tm_WF n kd cd pp par ∧ tm_Ag n kd pp a_nKind a_nPart ∧ tm_Ag n kd pp b_kinds b_parts ∧ (∀ c, c < n → a_nParent c = nu_o (par c)) ∧ f_nodeCount = nI n ∧ g_count = nI n ∧ n ≤ mN ∧ 8 ≤ mN ∧ mN ≤ 48 ∧ 16 ≤ mW ∧ mW ≤ 64 ∧ 16 ≤ mV ∧ mV ≤ 192 ∧ f_maxNodes = nI mN ∧ g_maxNodes = nI mN ∧ f_maxWeight = nI mW ∧ g_maxWeight = nI mW ∧ f_maxVisits = nI mV ∧ g_maxVisits = nI mV
def rr_U (f_maxNodes f_maxWeight f_maxVisits f_nodeCount f_sealed f_verdictNow f_copyCount f_varCount : Int32) (f_atSet : Int64) (f_atNeg f_visitCount f_done f_stuck f_curNode f_curEnv f_resultValue f_valueCount f_envCount f_depth : Int32) (a_nKind a_nPart a_nParent a_cNode a_cUp a_cChild a_cInst a_cParam a_queue : Nat → Int32) (a_rel : Nat → Int64) (a_vKind a_vWord a_vEnv a_vField a_eName a_eValue a_eNext a_fNode a_fEnv a_fPart a_fValue : Nat → Int32) (g_maxNodes g_maxWeight g_maxVisits g_count g_root g_nc g_weight g_grown g_neg g_made g_next g_nextPar g_nextSlot g_nextLex g_stuck : Int32) (b_kinds b_parts b_cNode b_cPar b_cSlot b_le b_saved b_cur b_nxt b_first b_vNode b_vPar b_vSlot b_vLex b_val b_num : Nat → Int32) : Prop := f_sealed = 0 ∧ g_root = -1 ∧ g_made = 0 ∧ g_next = -1
/-- the frozen term, its copies, as both sides hold them -/
def rr_C (n0 r : Nat) (kd : Nat → Nat) (cd : Nat → Nat → Option Nat) (pp : Nat → Int32) (par : Nat → Option Nat) (len cn : Nat → Nat) (cu : Nat → Option Nat) (cs : Nat → Nat) (mW : Nat) (f_maxNodes f_maxWeight f_maxVisits f_nodeCount f_sealed f_verdictNow f_copyCount f_varCount : Int32) (f_atSet : Int64) (f_atNeg f_visitCount f_done f_stuck f_curNode f_curEnv f_resultValue f_valueCount f_envCount f_depth : Int32) (a_nKind a_nPart a_nParent a_cNode a_cUp a_cChild a_cInst a_cParam a_queue : Nat → Int32) (a_rel : Nat → Int64) (a_vKind a_vWord a_vEnv a_vField a_eName a_eValue a_eNext a_fNode a_fEnv a_fPart a_fValue : Nat → Int32) (g_maxNodes g_maxWeight g_maxVisits g_count g_root g_nc g_weight g_grown g_neg g_made g_next g_nextPar g_nextSlot g_nextLex g_stuck : Int32) (b_kinds b_parts b_cNode b_cPar b_cSlot b_le b_saved b_cur b_nxt b_first b_vNode b_vPar b_vSlot b_vLex b_val b_num : Nat → Int32) : Prop :=
  r < n0 ∧ tm_WF n0 kd cd pp par ∧ tm_Ag n0 kd pp a_nKind a_nPart ∧ tm_Ag n0 kd pp b_kinds b_parts ∧ un_S (un_ki kd cd pp par r) r len cn cu cs ∧ un_w kd cn (len 320) ≤ mW ∧ (∀ m, rr_t cd r m → kd m = 2 → bd_b kd cd pp par r m ≠ none) ∧
  f_copyCount = nI (len 320) ∧ f_varCount = nI (un_w kd cn (len 320)) ∧ g_nc = nI (len 320) ∧ cp_X n0 (len 320) kd cn cu (un_sb (un_ki kd cd pp par r) len cn) (fun c => len 320 + un_l kd cn c) a_cNode a_cUp a_cChild a_cInst a_cParam ∧ cp_Y n0 (len 320) cn cu cs (un_sb (un_ki kd cd pp par r) len cn) b_cNode b_cPar b_cSlot
/-- the two relations -/
def rr_L (kd : Nat → Nat) (cd : Nat → Nat → Option Nat) (pp : Nat → Int32) (par : Nat → Option Nat) (r : Nat) (len cn : Nat → Nat) (a_rel : Nat → Int64) (b_le : Nat → Int32) : Prop :=
  cl_G (un_w kd cn (len 320)) 0 a_rel ∧ ps_R (cl_x (len 320) (fun c => kd (cn c)) (fun c => len 320 + un_l kd cn c)) a_rel b_le ∧ (∀ i, i < 16384 → b_le i = 0 ∨ b_le i = 1) ∧ (∀ y z, y < 128 → z < 128 → yl_a b_le y z → y = z ∨ ((cl_x (len 320) (fun c => kd (cn c)) (fun c => len 320 + un_l kd cn c)) y ≠ none ∧ (cl_x (len 320) (fun c => kd (cn c)) (fun c => len 320 + un_l kd cn c)) z ≠ none)) ∧ (∀ y, y < 128 → yl_a b_le y y)
def rr_S (n mW mV : Nat) (f_maxNodes f_maxWeight f_maxVisits f_nodeCount f_sealed f_verdictNow f_copyCount f_varCount : Int32) (f_atSet : Int64) (f_atNeg f_visitCount f_done f_stuck f_curNode f_curEnv f_resultValue f_valueCount f_envCount f_depth : Int32) (a_nKind a_nPart a_nParent a_cNode a_cUp a_cChild a_cInst a_cParam a_queue : Nat → Int32) (a_rel : Nat → Int64) (a_vKind a_vWord a_vEnv a_vField a_eName a_eValue a_eNext a_fNode a_fEnv a_fPart a_fValue : Nat → Int32) (g_maxNodes g_maxWeight g_maxVisits g_count g_root g_nc g_weight g_grown g_neg g_made g_next g_nextPar g_nextSlot g_nextLex g_stuck : Int32) (b_kinds b_parts b_cNode b_cPar b_cSlot b_le b_saved b_cur b_nxt b_first b_vNode b_vPar b_vSlot b_vLex b_val b_num : Nat → Int32) : Prop :=
  ∃ (n0 r : Nat) (kd : Nat → Nat) (cd : Nat → Nat → Option Nat) (pp : Nat → Int32) (par : Nat → Option Nat) (len cn : Nat → Nat) (cu : Nat → Option Nat) (cs : Nat → Nat) (M : Nat),
    n0 ≤ n ∧ f_sealed = 1 ∧ g_root = nI r ∧ rr_C n0 r kd cd pp par len cn cu cs mW f_maxNodes f_maxWeight f_maxVisits f_nodeCount f_sealed f_verdictNow f_copyCount f_varCount f_atSet f_atNeg f_visitCount f_done f_stuck f_curNode f_curEnv f_resultValue f_valueCount f_envCount f_depth a_nKind a_nPart a_nParent a_cNode a_cUp a_cChild a_cInst a_cParam a_queue a_rel a_vKind a_vWord a_vEnv a_vField a_eName a_eValue a_eNext a_fNode a_fEnv a_fPart a_fValue g_maxNodes g_maxWeight g_maxVisits g_count g_root g_nc g_weight g_grown g_neg g_made g_next g_nextPar g_nextSlot g_nextLex g_stuck b_kinds b_parts b_cNode b_cPar b_cSlot b_le b_saved b_cur b_nxt b_first b_vNode b_vPar b_vSlot b_vLex b_val b_num ∧ rr_L kd cd pp par r len cn a_rel b_le ∧
    ((∃ c d, cl_ac (len 320) kd cn cd pp (un_sb (un_ki kd cd pp par r) len cn) (yl_a b_le) c d) → f_verdictNow = 2) ∧ ((¬ ∃ c d, cl_ac (len 320) kd cn cd pp (un_sb (un_ki kd cd pp par r) len cn) (yl_a b_le) c d) → f_verdictNow = 1) ∧
    f_visitCount = nI M ∧ g_made = nI M ∧ M ≤ mV ∧ es_R M r kd cd pp (rr_t cd r) f_done f_stuck f_curNode f_curEnv f_resultValue f_valueCount f_envCount f_depth a_vKind a_vWord a_vEnv a_vField a_eName a_eValue a_eNext a_fNode a_fEnv a_fPart a_fValue g_next g_nextPar g_nextSlot g_nextLex g_stuck b_vNode b_vPar b_vSlot b_vLex b_val b_num
def i_Rel (_ : Nat) (u : SX) (v : SY) : Prop := match u with
  | (f_maxNodes, f_maxWeight, f_maxVisits, f_nodeCount, f_sealed, f_verdictNow, f_copyCount, f_varCount, f_atSet, f_atNeg, f_visitCount, f_done, f_stuck, f_curNode, f_curEnv, f_resultValue, f_valueCount, f_envCount, f_depth, a_nKind, a_nPart, a_nParent, a_cNode, a_cUp, a_cChild, a_cInst, a_cParam, a_queue, a_rel, a_vKind, a_vWord, a_vEnv, a_vField, a_eName, a_eValue, a_eNext, a_fNode, a_fEnv, a_fPart, a_fValue) => match v with
    | (g_maxNodes, g_maxWeight, g_maxVisits, g_count, g_root, g_nc, g_weight, g_grown, g_neg, g_made, g_next, g_nextPar, g_nextSlot, g_nextLex, g_stuck, b_kinds, b_parts, b_cNode, b_cPar, b_cSlot, b_le, b_saved, b_cur, b_nxt, b_first, b_vNode, b_vPar, b_vSlot, b_vLex, b_val, b_num) => ∃ (n : Nat) (kd : Nat → Nat) (cd : Nat → Nat → Option Nat) (pp : Nat → Int32) (par : Nat → Option Nat) (mN mW mV : Nat), rr_T n kd cd pp par mN mW mV f_maxNodes f_maxWeight f_maxVisits f_nodeCount f_sealed f_verdictNow f_copyCount f_varCount f_atSet f_atNeg f_visitCount f_done f_stuck f_curNode f_curEnv f_resultValue f_valueCount f_envCount f_depth a_nKind a_nPart a_nParent a_cNode a_cUp a_cChild a_cInst a_cParam a_queue a_rel a_vKind a_vWord a_vEnv a_vField a_eName a_eValue a_eNext a_fNode a_fEnv a_fPart a_fValue g_maxNodes g_maxWeight g_maxVisits g_count g_root g_nc g_weight g_grown g_neg g_made g_next g_nextPar g_nextSlot g_nextLex g_stuck b_kinds b_parts b_cNode b_cPar b_cSlot b_le b_saved b_cur b_nxt b_first b_vNode b_vPar b_vSlot b_vLex b_val b_num ∧ (rr_U f_maxNodes f_maxWeight f_maxVisits f_nodeCount f_sealed f_verdictNow f_copyCount f_varCount f_atSet f_atNeg f_visitCount f_done f_stuck f_curNode f_curEnv f_resultValue f_valueCount f_envCount f_depth a_nKind a_nPart a_nParent a_cNode a_cUp a_cChild a_cInst a_cParam a_queue a_rel a_vKind a_vWord a_vEnv a_vField a_eName a_eValue a_eNext a_fNode a_fEnv a_fPart a_fValue g_maxNodes g_maxWeight g_maxVisits g_count g_root g_nc g_weight g_grown g_neg g_made g_next g_nextPar g_nextSlot g_nextLex g_stuck b_kinds b_parts b_cNode b_cPar b_cSlot b_le b_saved b_cur b_nxt b_first b_vNode b_vPar b_vSlot b_vLex b_val b_num ∨ rr_S n mW mV f_maxNodes f_maxWeight f_maxVisits f_nodeCount f_sealed f_verdictNow f_copyCount f_varCount f_atSet f_atNeg f_visitCount f_done f_stuck f_curNode f_curEnv f_resultValue f_valueCount f_envCount f_depth a_nKind a_nPart a_nParent a_cNode a_cUp a_cChild a_cInst a_cParam a_queue a_rel a_vKind a_vWord a_vEnv a_vField a_eName a_eValue a_eNext a_fNode a_fEnv a_fPart a_fValue g_maxNodes g_maxWeight g_maxVisits g_count g_root g_nc g_weight g_grown g_neg g_made g_next g_nextPar g_nextSlot g_nextLex g_stuck b_kinds b_parts b_cNode b_cPar b_cSlot b_le b_saved b_cur b_nxt b_first b_vNode b_vPar b_vSlot b_vLex b_val b_num)
theorem zz_el {k : Nat} {u : SX} {v : SY} {P : SX → SY → Prop} (h : ∀ (f_maxNodes f_maxWeight f_maxVisits f_nodeCount f_sealed f_verdictNow f_copyCount f_varCount : Int32) (f_atSet : Int64) (f_atNeg f_visitCount f_done f_stuck f_curNode f_curEnv f_resultValue f_valueCount f_envCount f_depth : Int32) (a_nKind a_nPart a_nParent a_cNode a_cUp a_cChild a_cInst a_cParam a_queue : Nat → Int32) (a_rel : Nat → Int64) (a_vKind a_vWord a_vEnv a_vField a_eName a_eValue a_eNext a_fNode a_fEnv a_fPart a_fValue : Nat → Int32) (g_maxNodes g_maxWeight g_maxVisits g_count g_root g_nc g_weight g_grown g_neg g_made g_next g_nextPar g_nextSlot g_nextLex g_stuck : Int32) (b_kinds b_parts b_cNode b_cPar b_cSlot b_le b_saved b_cur b_nxt b_first b_vNode b_vPar b_vSlot b_vLex b_val b_num : Nat → Int32) (n : Nat) (kd : Nat → Nat) (cd : Nat → Nat → Option Nat) (pp : Nat → Int32) (par : Nat → Option Nat) (mN mW mV : Nat), rr_T n kd cd pp par mN mW mV f_maxNodes f_maxWeight f_maxVisits f_nodeCount f_sealed f_verdictNow f_copyCount f_varCount f_atSet f_atNeg f_visitCount f_done f_stuck f_curNode f_curEnv f_resultValue f_valueCount f_envCount f_depth a_nKind a_nPart a_nParent a_cNode a_cUp a_cChild a_cInst a_cParam a_queue a_rel a_vKind a_vWord a_vEnv a_vField a_eName a_eValue a_eNext a_fNode a_fEnv a_fPart a_fValue g_maxNodes g_maxWeight g_maxVisits g_count g_root g_nc g_weight g_grown g_neg g_made g_next g_nextPar g_nextSlot g_nextLex g_stuck b_kinds b_parts b_cNode b_cPar b_cSlot b_le b_saved b_cur b_nxt b_first b_vNode b_vPar b_vSlot b_vLex b_val b_num → (rr_U f_maxNodes f_maxWeight f_maxVisits f_nodeCount f_sealed f_verdictNow f_copyCount f_varCount f_atSet f_atNeg f_visitCount f_done f_stuck f_curNode f_curEnv f_resultValue f_valueCount f_envCount f_depth a_nKind a_nPart a_nParent a_cNode a_cUp a_cChild a_cInst a_cParam a_queue a_rel a_vKind a_vWord a_vEnv a_vField a_eName a_eValue a_eNext a_fNode a_fEnv a_fPart a_fValue g_maxNodes g_maxWeight g_maxVisits g_count g_root g_nc g_weight g_grown g_neg g_made g_next g_nextPar g_nextSlot g_nextLex g_stuck b_kinds b_parts b_cNode b_cPar b_cSlot b_le b_saved b_cur b_nxt b_first b_vNode b_vPar b_vSlot b_vLex b_val b_num ∨ rr_S n mW mV f_maxNodes f_maxWeight f_maxVisits f_nodeCount f_sealed f_verdictNow f_copyCount f_varCount f_atSet f_atNeg f_visitCount f_done f_stuck f_curNode f_curEnv f_resultValue f_valueCount f_envCount f_depth a_nKind a_nPart a_nParent a_cNode a_cUp a_cChild a_cInst a_cParam a_queue a_rel a_vKind a_vWord a_vEnv a_vField a_eName a_eValue a_eNext a_fNode a_fEnv a_fPart a_fValue g_maxNodes g_maxWeight g_maxVisits g_count g_root g_nc g_weight g_grown g_neg g_made g_next g_nextPar g_nextSlot g_nextLex g_stuck b_kinds b_parts b_cNode b_cPar b_cSlot b_le b_saved b_cur b_nxt b_first b_vNode b_vPar b_vSlot b_vLex b_val b_num) → P (f_maxNodes, f_maxWeight, f_maxVisits, f_nodeCount, f_sealed, f_verdictNow, f_copyCount, f_varCount, f_atSet, f_atNeg, f_visitCount, f_done, f_stuck, f_curNode, f_curEnv, f_resultValue, f_valueCount, f_envCount, f_depth, a_nKind, a_nPart, a_nParent, a_cNode, a_cUp, a_cChild, a_cInst, a_cParam, a_queue, a_rel, a_vKind, a_vWord, a_vEnv, a_vField, a_eName, a_eValue, a_eNext, a_fNode, a_fEnv, a_fPart, a_fValue) (g_maxNodes, g_maxWeight, g_maxVisits, g_count, g_root, g_nc, g_weight, g_grown, g_neg, g_made, g_next, g_nextPar, g_nextSlot, g_nextLex, g_stuck, b_kinds, b_parts, b_cNode, b_cPar, b_cSlot, b_le, b_saved, b_cur, b_nxt, b_first, b_vNode, b_vPar, b_vSlot, b_vLex, b_val, b_num)) (I : i_Rel k u v) : P u v := by
  obtain ⟨f_maxNodes, f_maxWeight, f_maxVisits, f_nodeCount, f_sealed, f_verdictNow, f_copyCount, f_varCount, f_atSet, f_atNeg, f_visitCount, f_done, f_stuck, f_curNode, f_curEnv, f_resultValue, f_valueCount, f_envCount, f_depth, a_nKind, a_nPart, a_nParent, a_cNode, a_cUp, a_cChild, a_cInst, a_cParam, a_queue, a_rel, a_vKind, a_vWord, a_vEnv, a_vField, a_eName, a_eValue, a_eNext, a_fNode, a_fEnv, a_fPart, a_fValue⟩ := u
  obtain ⟨g_maxNodes, g_maxWeight, g_maxVisits, g_count, g_root, g_nc, g_weight, g_grown, g_neg, g_made, g_next, g_nextPar, g_nextSlot, g_nextLex, g_stuck, b_kinds, b_parts, b_cNode, b_cPar, b_cSlot, b_le, b_saved, b_cur, b_nxt, b_first, b_vNode, b_vPar, b_vSlot, b_vLex, b_val, b_num⟩ := v
  exact I.elim fun n I => I.elim fun kd I => I.elim fun cd I => I.elim fun pp I => I.elim fun par I => I.elim fun mN I => I.elim fun mW I => I.elim fun mV I => h f_maxNodes f_maxWeight f_maxVisits f_nodeCount f_sealed f_verdictNow f_copyCount f_varCount f_atSet f_atNeg f_visitCount f_done f_stuck f_curNode f_curEnv f_resultValue f_valueCount f_envCount f_depth a_nKind a_nPart a_nParent a_cNode a_cUp a_cChild a_cInst a_cParam a_queue a_rel a_vKind a_vWord a_vEnv a_vField a_eName a_eValue a_eNext a_fNode a_fEnv a_fPart a_fValue g_maxNodes g_maxWeight g_maxVisits g_count g_root g_nc g_weight g_grown g_neg g_made g_next g_nextPar g_nextSlot g_nextLex g_stuck b_kinds b_parts b_cNode b_cPar b_cSlot b_le b_saved b_cur b_nxt b_first b_vNode b_vPar b_vSlot b_vLex b_val b_num n kd cd pp par mN mW mV I.1 I.2
section
variable {f_maxNodes f_maxWeight f_maxVisits f_nodeCount f_sealed f_verdictNow f_copyCount f_varCount : Int32} {f_atSet : Int64} {f_atNeg f_visitCount f_done f_stuck f_curNode f_curEnv f_resultValue f_valueCount f_envCount f_depth : Int32} {a_nKind a_nPart a_nParent a_cNode a_cUp a_cChild a_cInst a_cParam a_queue : Nat → Int32} {a_rel : Nat → Int64} {a_vKind a_vWord a_vEnv a_vField a_eName a_eValue a_eNext a_fNode a_fEnv a_fPart a_fValue : Nat → Int32} {g_maxNodes g_maxWeight g_maxVisits g_count g_root g_nc g_weight g_grown g_neg g_made g_next g_nextPar g_nextSlot g_nextLex g_stuck : Int32} {b_kinds b_parts b_cNode b_cPar b_cSlot b_le b_saved b_cur b_nxt b_first b_vNode b_vPar b_vSlot b_vLex b_val b_num : Nat → Int32} {k n : Nat} {kd : Nat → Nat} {cd : Nat → Nat → Option Nat} {pp : Nat → Int32} {par : Nat → Option Nat} {mN mW mV : Nat}
theorem zz_in (T : rr_T n kd cd pp par mN mW mV f_maxNodes f_maxWeight f_maxVisits f_nodeCount f_sealed f_verdictNow f_copyCount f_varCount f_atSet f_atNeg f_visitCount f_done f_stuck f_curNode f_curEnv f_resultValue f_valueCount f_envCount f_depth a_nKind a_nPart a_nParent a_cNode a_cUp a_cChild a_cInst a_cParam a_queue a_rel a_vKind a_vWord a_vEnv a_vField a_eName a_eValue a_eNext a_fNode a_fEnv a_fPart a_fValue g_maxNodes g_maxWeight g_maxVisits g_count g_root g_nc g_weight g_grown g_neg g_made g_next g_nextPar g_nextSlot g_nextLex g_stuck b_kinds b_parts b_cNode b_cPar b_cSlot b_le b_saved b_cur b_nxt b_first b_vNode b_vPar b_vSlot b_vLex b_val b_num) (U : rr_U f_maxNodes f_maxWeight f_maxVisits f_nodeCount f_sealed f_verdictNow f_copyCount f_varCount f_atSet f_atNeg f_visitCount f_done f_stuck f_curNode f_curEnv f_resultValue f_valueCount f_envCount f_depth a_nKind a_nPart a_nParent a_cNode a_cUp a_cChild a_cInst a_cParam a_queue a_rel a_vKind a_vWord a_vEnv a_vField a_eName a_eValue a_eNext a_fNode a_fEnv a_fPart a_fValue g_maxNodes g_maxWeight g_maxVisits g_count g_root g_nc g_weight g_grown g_neg g_made g_next g_nextPar g_nextSlot g_nextLex g_stuck b_kinds b_parts b_cNode b_cPar b_cSlot b_le b_saved b_cur b_nxt b_first b_vNode b_vPar b_vSlot b_vLex b_val b_num ∨ rr_S n mW mV f_maxNodes f_maxWeight f_maxVisits f_nodeCount f_sealed f_verdictNow f_copyCount f_varCount f_atSet f_atNeg f_visitCount f_done f_stuck f_curNode f_curEnv f_resultValue f_valueCount f_envCount f_depth a_nKind a_nPart a_nParent a_cNode a_cUp a_cChild a_cInst a_cParam a_queue a_rel a_vKind a_vWord a_vEnv a_vField a_eName a_eValue a_eNext a_fNode a_fEnv a_fPart a_fValue g_maxNodes g_maxWeight g_maxVisits g_count g_root g_nc g_weight g_grown g_neg g_made g_next g_nextPar g_nextSlot g_nextLex g_stuck b_kinds b_parts b_cNode b_cPar b_cSlot b_le b_saved b_cur b_nxt b_first b_vNode b_vPar b_vSlot b_vLex b_val b_num) : i_Rel k (f_maxNodes, f_maxWeight, f_maxVisits, f_nodeCount, f_sealed, f_verdictNow, f_copyCount, f_varCount, f_atSet, f_atNeg, f_visitCount, f_done, f_stuck, f_curNode, f_curEnv, f_resultValue, f_valueCount, f_envCount, f_depth, a_nKind, a_nPart, a_nParent, a_cNode, a_cUp, a_cChild, a_cInst, a_cParam, a_queue, a_rel, a_vKind, a_vWord, a_vEnv, a_vField, a_eName, a_eValue, a_eNext, a_fNode, a_fEnv, a_fPart, a_fValue) (g_maxNodes, g_maxWeight, g_maxVisits, g_count, g_root, g_nc, g_weight, g_grown, g_neg, g_made, g_next, g_nextPar, g_nextSlot, g_nextLex, g_stuck, b_kinds, b_parts, b_cNode, b_cPar, b_cSlot, b_le, b_saved, b_cur, b_nxt, b_first, b_vNode, b_vPar, b_vSlot, b_vLex, b_val, b_num) := ⟨n, kd, cd, pp, par, mN, mW, mV, T, U⟩
end
theorem i_up {k : Nat} {u : SX} {v : SY} (h : i_Rel k u v) : i_Rel (k + 5) u v := h
theorem tm_WF0 : tm_WF 0 (fun _ => 1) (fun _ _ => none) (fun _ => 0) (fun _ => none) :=
  ⟨by omega, fun j h => by omega, fun j i h => by omega, fun j i h => by omega, fun j i c h => by omega, fun j i i' c h => by omega, (fun c j e => by cases e), fun j i h => by omega, fun j h => by omega, fun j i h => by omega⟩
theorem zz_clamp (x : Int32) (lo hi : Nat) (h1 : lo ≤ hi) (h2 : hi < 2 ^ 31) : ∃ m, lo ≤ m ∧ m ≤ hi ∧ ∀ A : Int32 → Prop, A (nI m) → (nI lo ≤ x → (x ≤ nI hi → A x) ∧ (¬ x ≤ nI hi → A (nI hi))) ∧ (¬ nI lo ≤ x → A (nI lo)) := by
  by_cases a : nI lo ≤ x
  · by_cases b : x ≤ nI hi
    · have h0 : ¬ x < 0 := fun z => by
        have := Int32.le_trans (nI_pos' (show lo < 2 ^ 31 by omega)) a
        exact Int32.not_lt.mpr this z
      obtain ⟨m, hm, rfl⟩ := nI_of h0
      rw [nI_leI (by omega) hm] at a
      rw [nI_leI hm h2] at b
      exact ⟨m, a, b, fun A hA => br_t (nI_le a hm) (br_t (nI_le b h2) hA)⟩
    · exact ⟨hi, h1, Nat.le_refl _, fun A hA => br_t a (br_f b hA)⟩
  · exact ⟨lo, Nat.le_refl _, h1, fun A hA => br_f a hA⟩
section
variable {f_maxNodes f_maxWeight f_maxVisits f_nodeCount f_sealed f_verdictNow f_copyCount f_varCount : Int32} {f_atSet : Int64} {f_atNeg f_visitCount f_done f_stuck f_curNode f_curEnv f_resultValue f_valueCount f_envCount f_depth : Int32} {a_nKind a_nPart a_nParent a_cNode a_cUp a_cChild a_cInst a_cParam a_queue : Nat → Int32} {a_rel : Nat → Int64} {a_vKind a_vWord a_vEnv a_vField a_eName a_eValue a_eNext a_fNode a_fEnv a_fPart a_fValue : Nat → Int32}
theorem zz_clx {x : Int32} {lo hi m : Nat} (c : ∀ A : Int32 → Prop, A (nI m) → (nI lo ≤ x → (x ≤ nI hi → A x) ∧ (¬ x ≤ nI hi → A (nI hi))) ∧ (¬ nI lo ≤ x → A (nI lo))) {post : Int32 → Prop} (h : post (nI m)) : wpX_clamp post (f_maxNodes, f_maxWeight, f_maxVisits, f_nodeCount, f_sealed, f_verdictNow, f_copyCount, f_varCount, f_atSet, f_atNeg, f_visitCount, f_done, f_stuck, f_curNode, f_curEnv, f_resultValue, f_valueCount, f_envCount, f_depth, a_nKind, a_nPart, a_nParent, a_cNode, a_cUp, a_cChild, a_cInst, a_cParam, a_queue, a_rel, a_vKind, a_vWord, a_vEnv, a_vField, a_eName, a_eValue, a_eNext, a_fNode, a_fEnv, a_fPart, a_fValue) x (nI lo) (nI hi) := c post h
end
theorem i_vc0 (k0 : Int32) (k1 : Int32) (k2 : Int32) : wpX_init (fun u => wpY_init (fun v => i_Rel 3 u v) k0 k1 k2) k0 k1 k2 := by
  obtain ⟨m0, a0, b0, c0⟩ := zz_clamp k0 8 48 (by omega) (by omega)
  obtain ⟨m1, a1, b1, c1⟩ := zz_clamp k1 16 64 (by omega) (by omega)
  obtain ⟨m2, a2, b2, c2⟩ := zz_clamp k2 16 192 (by omega) (by omega)
  unfold wpX_init
  refine zz_clx c0 ?_
  refine zz_clx c1 ?_
  refine zz_clx c2 ?_
  unfold wpX_clear wpX_startEvaluation
  dsimp only
  unfold wpY_init
  refine c0 (fun z => wY_init_168 _ k1 k2 z 0 0 0 0 0 0 0 0 0 0 0 0 0 0 0 (fun _ => 0) (fun _ => 0) (fun _ => 0) (fun _ => 0) (fun _ => 0) (fun _ => 0) (fun _ => 0) (fun _ => 0) (fun _ => 0) (fun _ => 0) (fun _ => 0) (fun _ => 0) (fun _ => 0) (fun _ => 0) (fun _ => 0) (fun _ => 0)) ?_
  unfold wY_init_168
  refine c1 (fun z => wY_init_195 _ k2 z (nI m0) 0 0 0 0 0 0 0 0 0 0 0 0 0 0 (fun _ => 0) (fun _ => 0) (fun _ => 0) (fun _ => 0) (fun _ => 0) (fun _ => 0) (fun _ => 0) (fun _ => 0) (fun _ => 0) (fun _ => 0) (fun _ => 0) (fun _ => 0) (fun _ => 0) (fun _ => 0) (fun _ => 0) (fun _ => 0)) ?_
  unfold wY_init_195
  refine c2 (fun z => wY_init_224 _ z (nI m0) (nI m1) 0 0 0 0 0 0 0 0 0 0 0 0 0 (fun _ => 0) (fun _ => 0) (fun _ => 0) (fun _ => 0) (fun _ => 0) (fun _ => 0) (fun _ => 0) (fun _ => 0) (fun _ => 0) (fun _ => 0) (fun _ => 0) (fun _ => 0) (fun _ => 0) (fun _ => 0) (fun _ => 0) (fun _ => 0)) ?_
  unfold wY_init_224 wpY_clear wpY_begin
  dsimp only
  exact zz_in (n := 0) (kd := fun _ => 1) (cd := fun _ _ => none) (pp := fun _ => 0) (par := fun _ => none) (mN := m0) (mW := m1) (mV := m2) ⟨tm_WF0, ⟨fun j h => by omega, fun j h => by omega⟩, ⟨fun j h => by omega, fun j h => by omega⟩, fun c h => by omega, rfl, rfl, by omega, a0, b0, a1, b1, a2, b2, rfl, rfl, rfl, rfl, rfl, rfl⟩ (Or.inl ⟨rfl, rfl, rfl, rfl⟩)
theorem i_vc_clear {k : Nat} {u : SX} {v : SY} (I : i_Rel k u v) (hk : k + 5 ≤ 2563) : wpX_clear (fun u' => wpY_clear (fun v' => i_Rel (k + 5) u' v') v) u := by
  refine zz_el (P := fun u v => wpX_clear (fun u' => wpY_clear (fun v' => i_Rel (k + 5) u' v') v) u) ?_ I
  intro f_maxNodes f_maxWeight f_maxVisits f_nodeCount f_sealed f_verdictNow f_copyCount f_varCount f_atSet f_atNeg f_visitCount f_done f_stuck f_curNode f_curEnv f_resultValue f_valueCount f_envCount f_depth a_nKind a_nPart a_nParent a_cNode a_cUp a_cChild a_cInst a_cParam a_queue a_rel a_vKind a_vWord a_vEnv a_vField a_eName a_eValue a_eNext a_fNode a_fEnv a_fPart a_fValue g_maxNodes g_maxWeight g_maxVisits g_count g_root g_nc g_weight g_grown g_neg g_made g_next g_nextPar g_nextSlot g_nextLex g_stuck b_kinds b_parts b_cNode b_cPar b_cSlot b_le b_saved b_cur b_nxt b_first b_vNode b_vPar b_vSlot b_vLex b_val b_num n kd cd pp par mN mW mV T U
  obtain ⟨W, A1, A2, hp, e1, e2, h1, h2, h3, h4, h5, h6, h7, h8⟩ := T
  exact zz_in (k := k) (n := 0) (kd := fun _ => 1) (cd := fun _ _ => none) (pp := fun _ => 0) (par := fun _ => none) (mN := mN) (mW := mW) (mV := mV) ⟨tm_WF0, ⟨fun j h => by omega, fun j h => by omega⟩, ⟨fun j h => by omega, fun j h => by omega⟩, fun c h => by omega, rfl, rfl, by omega, h2, h3, h4, h5, h6, h7, h8⟩ (Or.inl ⟨rfl, rfl, rfl, rfl⟩)
end
section
/-! making nodes, and reading them -/
section
variable {f_maxNodes f_maxWeight f_maxVisits f_nodeCount f_sealed f_verdictNow f_copyCount f_varCount : Int32} {f_atSet : Int64} {f_atNeg f_visitCount f_done f_stuck f_curNode f_curEnv f_resultValue f_valueCount f_envCount f_depth : Int32} {a_nKind a_nPart a_nParent a_cNode a_cUp a_cChild a_cInst a_cParam a_queue : Nat → Int32} {a_rel : Nat → Int64} {a_vKind a_vWord a_vEnv a_vField a_eName a_eValue a_eNext a_fNode a_fEnv a_fPart a_fValue : Nat → Int32} {g_maxNodes g_maxWeight g_maxVisits g_count g_root g_nc g_weight g_grown g_neg g_made g_next g_nextPar g_nextSlot g_nextLex g_stuck : Int32} {b_kinds b_parts b_cNode b_cPar b_cSlot b_le b_saved b_cur b_nxt b_first b_vNode b_vPar b_vSlot b_vLex b_val b_num : Nat → Int32} {k n : Nat} {kd : Nat → Nat} {cd : Nat → Nat → Option Nat} {pp : Nat → Int32} {par : Nat → Option Nat} {mN mW mV : Nat}
/-- a sealed state lasts while the node arrays keep what lies below n -/
theorem zz_keep {n' : Nat} {nc gc : Int32} {ak ap pa bk bp : Nat → Int32} (hn : n ≤ n') (h1 : ∀ j, j < n → ak j = a_nKind j) (h2 : ∀ i, i < 4 * n → ap i = a_nPart i) (h3 : ∀ j, j < n → bk j = b_kinds j) (h4 : ∀ i, i < 4 * n → bp i = b_parts i) (U : rr_U f_maxNodes f_maxWeight f_maxVisits f_nodeCount f_sealed f_verdictNow f_copyCount f_varCount f_atSet f_atNeg f_visitCount f_done f_stuck f_curNode f_curEnv f_resultValue f_valueCount f_envCount f_depth a_nKind a_nPart a_nParent a_cNode a_cUp a_cChild a_cInst a_cParam a_queue a_rel a_vKind a_vWord a_vEnv a_vField a_eName a_eValue a_eNext a_fNode a_fEnv a_fPart a_fValue g_maxNodes g_maxWeight g_maxVisits g_count g_root g_nc g_weight g_grown g_neg g_made g_next g_nextPar g_nextSlot g_nextLex g_stuck b_kinds b_parts b_cNode b_cPar b_cSlot b_le b_saved b_cur b_nxt b_first b_vNode b_vPar b_vSlot b_vLex b_val b_num ∨ rr_S n mW mV f_maxNodes f_maxWeight f_maxVisits f_nodeCount f_sealed f_verdictNow f_copyCount f_varCount f_atSet f_atNeg f_visitCount f_done f_stuck f_curNode f_curEnv f_resultValue f_valueCount f_envCount f_depth a_nKind a_nPart a_nParent a_cNode a_cUp a_cChild a_cInst a_cParam a_queue a_rel a_vKind a_vWord a_vEnv a_vField a_eName a_eValue a_eNext a_fNode a_fEnv a_fPart a_fValue g_maxNodes g_maxWeight g_maxVisits g_count g_root g_nc g_weight g_grown g_neg g_made g_next g_nextPar g_nextSlot g_nextLex g_stuck b_kinds b_parts b_cNode b_cPar b_cSlot b_le b_saved b_cur b_nxt b_first b_vNode b_vPar b_vSlot b_vLex b_val b_num) : rr_U f_maxNodes f_maxWeight f_maxVisits nc f_sealed f_verdictNow f_copyCount f_varCount f_atSet f_atNeg f_visitCount f_done f_stuck f_curNode f_curEnv f_resultValue f_valueCount f_envCount f_depth ak ap pa a_cNode a_cUp a_cChild a_cInst a_cParam a_queue a_rel a_vKind a_vWord a_vEnv a_vField a_eName a_eValue a_eNext a_fNode a_fEnv a_fPart a_fValue g_maxNodes g_maxWeight g_maxVisits gc g_root g_nc g_weight g_grown g_neg g_made g_next g_nextPar g_nextSlot g_nextLex g_stuck bk bp b_cNode b_cPar b_cSlot b_le b_saved b_cur b_nxt b_first b_vNode b_vPar b_vSlot b_vLex b_val b_num ∨ rr_S n' mW mV f_maxNodes f_maxWeight f_maxVisits nc f_sealed f_verdictNow f_copyCount f_varCount f_atSet f_atNeg f_visitCount f_done f_stuck f_curNode f_curEnv f_resultValue f_valueCount f_envCount f_depth ak ap pa a_cNode a_cUp a_cChild a_cInst a_cParam a_queue a_rel a_vKind a_vWord a_vEnv a_vField a_eName a_eValue a_eNext a_fNode a_fEnv a_fPart a_fValue g_maxNodes g_maxWeight g_maxVisits gc g_root g_nc g_weight g_grown g_neg g_made g_next g_nextPar g_nextSlot g_nextLex g_stuck bk bp b_cNode b_cPar b_cSlot b_le b_saved b_cur b_nxt b_first b_vNode b_vPar b_vSlot b_vLex b_val b_num := by
  rcases U with U | U
  · exact Or.inl U
  · obtain ⟨n0, r, kd, cd, pp, par, len, cn, cu, cs, M, q1, q2, q3, ⟨c1, c2, c3, c4, c5⟩, q5⟩ := U
    exact Or.inr ⟨n0, r, kd, cd, pp, par, len, cn, cu, cs, M, by omega, q2, q3, ⟨c1, c2, ⟨fun j hj => (h1 j (by omega)).trans (c3.1 j hj), fun i hi => (h2 i (by omega)).trans (c3.2 i hi)⟩, ⟨fun j hj => (h3 j (by omega)).trans (c4.1 j hj), fun i hi => (h4 i (by omega)).trans (c4.2 i hi)⟩, c5⟩, q5⟩
theorem zz_make {K : Nat} (T : rr_T n kd cd pp par mN mW mV f_maxNodes f_maxWeight f_maxVisits f_nodeCount f_sealed f_verdictNow f_copyCount f_varCount f_atSet f_atNeg f_visitCount f_done f_stuck f_curNode f_curEnv f_resultValue f_valueCount f_envCount f_depth a_nKind a_nPart a_nParent a_cNode a_cUp a_cChild a_cInst a_cParam a_queue a_rel a_vKind a_vWord a_vEnv a_vField a_eName a_eValue a_eNext a_fNode a_fEnv a_fPart a_fValue g_maxNodes g_maxWeight g_maxVisits g_count g_root g_nc g_weight g_grown g_neg g_made g_next g_nextPar g_nextSlot g_nextLex g_stuck b_kinds b_parts b_cNode b_cPar b_cSlot b_le b_saved b_cur b_nxt b_first b_vNode b_vPar b_vSlot b_vLex b_val b_num) (U : rr_U f_maxNodes f_maxWeight f_maxVisits f_nodeCount f_sealed f_verdictNow f_copyCount f_varCount f_atSet f_atNeg f_visitCount f_done f_stuck f_curNode f_curEnv f_resultValue f_valueCount f_envCount f_depth a_nKind a_nPart a_nParent a_cNode a_cUp a_cChild a_cInst a_cParam a_queue a_rel a_vKind a_vWord a_vEnv a_vField a_eName a_eValue a_eNext a_fNode a_fEnv a_fPart a_fValue g_maxNodes g_maxWeight g_maxVisits g_count g_root g_nc g_weight g_grown g_neg g_made g_next g_nextPar g_nextSlot g_nextLex g_stuck b_kinds b_parts b_cNode b_cPar b_cSlot b_le b_saved b_cur b_nxt b_first b_vNode b_vPar b_vSlot b_vLex b_val b_num ∨ rr_S n mW mV f_maxNodes f_maxWeight f_maxVisits f_nodeCount f_sealed f_verdictNow f_copyCount f_varCount f_atSet f_atNeg f_visitCount f_done f_stuck f_curNode f_curEnv f_resultValue f_valueCount f_envCount f_depth a_nKind a_nPart a_nParent a_cNode a_cUp a_cChild a_cInst a_cParam a_queue a_rel a_vKind a_vWord a_vEnv a_vField a_eName a_eValue a_eNext a_fNode a_fEnv a_fPart a_fValue g_maxNodes g_maxWeight g_maxVisits g_count g_root g_nc g_weight g_grown g_neg g_made g_next g_nextPar g_nextSlot g_nextLex g_stuck b_kinds b_parts b_cNode b_cPar b_cSlot b_le b_saved b_cur b_nxt b_first b_vNode b_vPar b_vSlot b_vLex b_val b_num) (hK : 1 ≤ K ∧ K ≤ 9) (p : Nat → Int32) (hp : ∀ i, i < 4 → tm_pc K ≤ i → p i = -1) {post : Int32 → SX → Prop}
    (h : ∀ (r nc : Int32) (ak ap pa : Nat → Int32), (∀ postY : Int32 → SY → Prop, (∀ gc bk bp, i_Rel k (f_maxNodes, f_maxWeight, f_maxVisits, nc, f_sealed, f_verdictNow, f_copyCount, f_varCount, f_atSet, f_atNeg, f_visitCount, f_done, f_stuck, f_curNode, f_curEnv, f_resultValue, f_valueCount, f_envCount, f_depth, ak, ap, pa, a_cNode, a_cUp, a_cChild, a_cInst, a_cParam, a_queue, a_rel, a_vKind, a_vWord, a_vEnv, a_vField, a_eName, a_eValue, a_eNext, a_fNode, a_fEnv, a_fPart, a_fValue) (g_maxNodes, g_maxWeight, g_maxVisits, gc, g_root, g_nc, g_weight, g_grown, g_neg, g_made, g_next, g_nextPar, g_nextSlot, g_nextLex, g_stuck, bk, bp, b_cNode, b_cPar, b_cSlot, b_le, b_saved, b_cur, b_nxt, b_first, b_vNode, b_vPar, b_vSlot, b_vLex, b_val, b_num) → postY r (g_maxNodes, g_maxWeight, g_maxVisits, gc, g_root, g_nc, g_weight, g_grown, g_neg, g_made, g_next, g_nextPar, g_nextSlot, g_nextLex, g_stuck, bk, bp, b_cNode, b_cPar, b_cSlot, b_le, b_saved, b_cur, b_nxt, b_first, b_vNode, b_vPar, b_vSlot, b_vLex, b_val, b_num)) → wpY_make postY (g_maxNodes, g_maxWeight, g_maxVisits, g_count, g_root, g_nc, g_weight, g_grown, g_neg, g_made, g_next, g_nextPar, g_nextSlot, g_nextLex, g_stuck, b_kinds, b_parts, b_cNode, b_cPar, b_cSlot, b_le, b_saved, b_cur, b_nxt, b_first, b_vNode, b_vPar, b_vSlot, b_vLex, b_val, b_num) (nI K) (p 0) (p 1) (p 2) (p 3)) → post r (f_maxNodes, f_maxWeight, f_maxVisits, nc, f_sealed, f_verdictNow, f_copyCount, f_varCount, f_atSet, f_atNeg, f_visitCount, f_done, f_stuck, f_curNode, f_curEnv, f_resultValue, f_valueCount, f_envCount, f_depth, ak, ap, pa, a_cNode, a_cUp, a_cChild, a_cInst, a_cParam, a_queue, a_rel, a_vKind, a_vWord, a_vEnv, a_vField, a_eName, a_eValue, a_eNext, a_fNode, a_fEnv, a_fPart, a_fValue)) : wpX_make post (f_maxNodes, f_maxWeight, f_maxVisits, f_nodeCount, f_sealed, f_verdictNow, f_copyCount, f_varCount, f_atSet, f_atNeg, f_visitCount, f_done, f_stuck, f_curNode, f_curEnv, f_resultValue, f_valueCount, f_envCount, f_depth, a_nKind, a_nPart, a_nParent, a_cNode, a_cUp, a_cChild, a_cInst, a_cParam, a_queue, a_rel, a_vKind, a_vWord, a_vEnv, a_vField, a_eName, a_eValue, a_eNext, a_fNode, a_fEnv, a_fPart, a_fValue) (nI K) (p 0) (p 1) (p 2) (p 3) := by
  obtain ⟨W, A1, A2, hpar, rfl, rfl, h1, h2, h3, h4, h5, h6, h7, rfl, rfl, e3⟩ := T
  refine xw_make (par := par) (by omega) hK.1 h3 h1 hpar (fun c => tm_plt W) (fun hlt O ak ap pa q1 q2 q3 q4 q5 q6 q7 => h _ _ _ _ _ fun postY HY => ?_) (fun no ak ap pa q1 q3 q5 => h _ _ _ _ _ fun postY HY => ?_)
  · refine yw_make W A2 (by omega) hK.1 h3 h1 (fun _ _ bk bp r1 r2 r3 r4 => HY _ _ _ ?_) (fun no => absurd ⟨hlt, O⟩ no)
    have hn48 : n < 48 := by omega
    have AG : ∀ {x y : Nat → Int32} {x0 y0 : Nat → Int32}, tm_Ag n kd pp x0 y0 → (∀ j, j < n → x j = x0 j) → x n = nI K → (∀ i, i < 4 * n → y i = y0 i) → (∀ i, i < 4 → y (4 * n + i) = p i) → tm_Ag (n + 1) (tm_kd' kd n K) (tm_pp' pp n p) x y := fun A x1 x2 y1 y2 => by
      refine ⟨fun j hj => ?_, fun i hi => ?_⟩
      · by_cases z : j = n
        · rw [z, tm_kdn]; exact x2
        · rw [tm_kdo z, x1 j (by omega)]; exact A.1 j (by omega)
      · by_cases z : i < 4 * n
        · rw [tm_ppo z, y1 i z]; exact A.2 i z
        · obtain ⟨d, rfl⟩ : ∃ d, i = 4 * n + d := ⟨i - 4 * n, by omega⟩
          rw [tm_ppn]; exact y2 d (by omega)
    refine zz_in (n := n + 1) (kd := tm_kd' kd n K) (cd := tm_cd' cd n K p) (pp := tm_pp' pp n p) (par := tm_par' par n K p) (mN := mN) (mW := mW) (mV := mV) ⟨tm_mkWF W hn48 hK O hp, AG A1 q1 q2 q3 q4, AG A2 r1 r2 r3 r4, fun c hc => ?_, rfl, rfl, by omega, h2, h3, h4, h5, h6, h7, rfl, rfl, e3⟩ (zz_keep (by omega) q1 q3 r1 r3 U)
    by_cases hcn : c < n
    · by_cases hx : ∃ i, i < 4 ∧ tm_ch K p i = nI c
      · obtain ⟨i, hi, e⟩ := hx
        rw [tm_parc hi e hcn, q5 i c hi (by omega) e]; rfl
      · rw [tm_paro fun _ i hi e => hx ⟨i, hi, e⟩, q6 c hcn fun i hi e => hx ⟨i, hi, e⟩]; exact hpar c hcn
    · have : c = n := by omega
      subst this
      rw [tm_paro fun z => absurd z hcn]
      have pn : par c = none := by
        cases e : par c with
        | none => rfl
        | some j => have := tm_pl W e; omega
      rw [pn, q7 fun i hi e => by have := (tm_chc O (by omega) hi (by omega) e).2.2.1; omega]; rfl
  · refine yw_make W A2 (by omega) hK.1 h3 h1 (fun hlt O => absurd ⟨hlt, O⟩ no) (fun _ bk bp r1 r3 => HY _ _ _ ?_)
    exact zz_in (n := n) (kd := kd) (cd := cd) (pp := pp) (par := par) (mN := mN) (mW := mW) (mV := mV) ⟨W, ⟨fun j hj => (q1 j hj).trans (A1.1 j hj), fun i hi => (q3 i hi).trans (A1.2 i hi)⟩, ⟨fun j hj => (r1 j hj).trans (A2.1 j hj), fun i hi => (r3 i hi).trans (A2.2 i hi)⟩, fun c hc => (q5 c hc).trans (hpar c hc), rfl, rfl, h1, h2, h3, h4, h5, h6, h7, rfl, rfl, e3⟩ (zz_keep (Nat.le_refl _) q1 q3 r1 r3 U)
end
def zz_p (a b c d : Int32) (i : Nat) : Int32 := if i = 0 then a else if i = 1 then b else if i = 2 then c else d
theorem i_vc_mkInt {k : Nat} {u : SX} {v : SY} (I : i_Rel k u v) (hk : k + 5 ≤ 2563) (v1 : Int32) : wpX_mkInt (fun r u' => wpY_mkInt (fun r' v' => r' = r ∧ i_Rel (k + 5) u' v') v v1) u v1 := by
  refine zz_el (P := fun u v => wpX_mkInt (fun r u' => wpY_mkInt (fun r' v' => r' = r ∧ i_Rel (k + 5) u' v') v v1) u v1) ?_ I
  intro f_maxNodes f_maxWeight f_maxVisits f_nodeCount f_sealed f_verdictNow f_copyCount f_varCount f_atSet f_atNeg f_visitCount f_done f_stuck f_curNode f_curEnv f_resultValue f_valueCount f_envCount f_depth a_nKind a_nPart a_nParent a_cNode a_cUp a_cChild a_cInst a_cParam a_queue a_rel a_vKind a_vWord a_vEnv a_vField a_eName a_eValue a_eNext a_fNode a_fEnv a_fPart a_fValue g_maxNodes g_maxWeight g_maxVisits g_count g_root g_nc g_weight g_grown g_neg g_made g_next g_nextPar g_nextSlot g_nextLex g_stuck b_kinds b_parts b_cNode b_cPar b_cSlot b_le b_saved b_cur b_nxt b_first b_vNode b_vPar b_vSlot b_vLex b_val b_num n kd cd pp par mN mW mV T U
  refine zz_make (k := k + 5) (K := 1) T U (by omega) (zz_p v1 (-1) (-1) (-1)) (fun i hi hc => ?_) (fun r nc ak ap pa H => H _ fun gc bk bp hR => And.intro rfl hR)
  have hc' : 1 ≤ i := hc
  have : i = 1 ∨ i = 2 ∨ i = 3 := by omega
  rcases this with rfl | rfl | rfl <;> first | rfl | (exfalso; omega)
theorem i_vc_mkVar {k : Nat} {u : SX} {v : SY} (I : i_Rel k u v) (hk : k + 5 ≤ 2563) (v1 : Int32) : wpX_mkVar (fun r u' => wpY_mkVar (fun r' v' => r' = r ∧ i_Rel (k + 5) u' v') v v1) u v1 := by
  refine zz_el (P := fun u v => wpX_mkVar (fun r u' => wpY_mkVar (fun r' v' => r' = r ∧ i_Rel (k + 5) u' v') v v1) u v1) ?_ I
  intro f_maxNodes f_maxWeight f_maxVisits f_nodeCount f_sealed f_verdictNow f_copyCount f_varCount f_atSet f_atNeg f_visitCount f_done f_stuck f_curNode f_curEnv f_resultValue f_valueCount f_envCount f_depth a_nKind a_nPart a_nParent a_cNode a_cUp a_cChild a_cInst a_cParam a_queue a_rel a_vKind a_vWord a_vEnv a_vField a_eName a_eValue a_eNext a_fNode a_fEnv a_fPart a_fValue g_maxNodes g_maxWeight g_maxVisits g_count g_root g_nc g_weight g_grown g_neg g_made g_next g_nextPar g_nextSlot g_nextLex g_stuck b_kinds b_parts b_cNode b_cPar b_cSlot b_le b_saved b_cur b_nxt b_first b_vNode b_vPar b_vSlot b_vLex b_val b_num n kd cd pp par mN mW mV T U
  refine zz_make (k := k + 5) (K := 2) T U (by omega) (zz_p v1 (-1) (-1) (-1)) (fun i hi hc => ?_) (fun r nc ak ap pa H => H _ fun gc bk bp hR => And.intro rfl hR)
  have hc' : 1 ≤ i := hc
  have : i = 1 ∨ i = 2 ∨ i = 3 := by omega
  rcases this with rfl | rfl | rfl <;> first | rfl | (exfalso; omega)
theorem i_vc_mkLam {k : Nat} {u : SX} {v : SY} (I : i_Rel k u v) (hk : k + 5 ≤ 2563) (v1 : Int32) (v2 : Int32) : wpX_mkLam (fun r u' => wpY_mkLam (fun r' v' => r' = r ∧ i_Rel (k + 5) u' v') v v1 v2) u v1 v2 := by
  refine zz_el (P := fun u v => wpX_mkLam (fun r u' => wpY_mkLam (fun r' v' => r' = r ∧ i_Rel (k + 5) u' v') v v1 v2) u v1 v2) ?_ I
  intro f_maxNodes f_maxWeight f_maxVisits f_nodeCount f_sealed f_verdictNow f_copyCount f_varCount f_atSet f_atNeg f_visitCount f_done f_stuck f_curNode f_curEnv f_resultValue f_valueCount f_envCount f_depth a_nKind a_nPart a_nParent a_cNode a_cUp a_cChild a_cInst a_cParam a_queue a_rel a_vKind a_vWord a_vEnv a_vField a_eName a_eValue a_eNext a_fNode a_fEnv a_fPart a_fValue g_maxNodes g_maxWeight g_maxVisits g_count g_root g_nc g_weight g_grown g_neg g_made g_next g_nextPar g_nextSlot g_nextLex g_stuck b_kinds b_parts b_cNode b_cPar b_cSlot b_le b_saved b_cur b_nxt b_first b_vNode b_vPar b_vSlot b_vLex b_val b_num n kd cd pp par mN mW mV T U
  refine zz_make (k := k + 5) (K := 3) T U (by omega) (zz_p v1 v2 (-1) (-1)) (fun i hi hc => ?_) (fun r nc ak ap pa H => H _ fun gc bk bp hR => And.intro rfl hR)
  have hc' : 2 ≤ i := hc
  have : i = 1 ∨ i = 2 ∨ i = 3 := by omega
  rcases this with rfl | rfl | rfl <;> first | rfl | (exfalso; omega)
theorem i_vc_mkApp {k : Nat} {u : SX} {v : SY} (I : i_Rel k u v) (hk : k + 5 ≤ 2563) (v1 : Int32) (v2 : Int32) : wpX_mkApp (fun r u' => wpY_mkApp (fun r' v' => r' = r ∧ i_Rel (k + 5) u' v') v v1 v2) u v1 v2 := by
  refine zz_el (P := fun u v => wpX_mkApp (fun r u' => wpY_mkApp (fun r' v' => r' = r ∧ i_Rel (k + 5) u' v') v v1 v2) u v1 v2) ?_ I
  intro f_maxNodes f_maxWeight f_maxVisits f_nodeCount f_sealed f_verdictNow f_copyCount f_varCount f_atSet f_atNeg f_visitCount f_done f_stuck f_curNode f_curEnv f_resultValue f_valueCount f_envCount f_depth a_nKind a_nPart a_nParent a_cNode a_cUp a_cChild a_cInst a_cParam a_queue a_rel a_vKind a_vWord a_vEnv a_vField a_eName a_eValue a_eNext a_fNode a_fEnv a_fPart a_fValue g_maxNodes g_maxWeight g_maxVisits g_count g_root g_nc g_weight g_grown g_neg g_made g_next g_nextPar g_nextSlot g_nextLex g_stuck b_kinds b_parts b_cNode b_cPar b_cSlot b_le b_saved b_cur b_nxt b_first b_vNode b_vPar b_vSlot b_vLex b_val b_num n kd cd pp par mN mW mV T U
  refine zz_make (k := k + 5) (K := 4) T U (by omega) (zz_p v1 v2 (-1) (-1)) (fun i hi hc => ?_) (fun r nc ak ap pa H => H _ fun gc bk bp hR => And.intro rfl hR)
  have hc' : 2 ≤ i := hc
  have : i = 1 ∨ i = 2 ∨ i = 3 := by omega
  rcases this with rfl | rfl | rfl <;> first | rfl | (exfalso; omega)
theorem i_vc_mkLet {k : Nat} {u : SX} {v : SY} (I : i_Rel k u v) (hk : k + 5 ≤ 2563) (v1 : Int32) (v2 : Int32) (v3 : Int32) : wpX_mkLet (fun r u' => wpY_mkLet (fun r' v' => r' = r ∧ i_Rel (k + 5) u' v') v v1 v2 v3) u v1 v2 v3 := by
  refine zz_el (P := fun u v => wpX_mkLet (fun r u' => wpY_mkLet (fun r' v' => r' = r ∧ i_Rel (k + 5) u' v') v v1 v2 v3) u v1 v2 v3) ?_ I
  intro f_maxNodes f_maxWeight f_maxVisits f_nodeCount f_sealed f_verdictNow f_copyCount f_varCount f_atSet f_atNeg f_visitCount f_done f_stuck f_curNode f_curEnv f_resultValue f_valueCount f_envCount f_depth a_nKind a_nPart a_nParent a_cNode a_cUp a_cChild a_cInst a_cParam a_queue a_rel a_vKind a_vWord a_vEnv a_vField a_eName a_eValue a_eNext a_fNode a_fEnv a_fPart a_fValue g_maxNodes g_maxWeight g_maxVisits g_count g_root g_nc g_weight g_grown g_neg g_made g_next g_nextPar g_nextSlot g_nextLex g_stuck b_kinds b_parts b_cNode b_cPar b_cSlot b_le b_saved b_cur b_nxt b_first b_vNode b_vPar b_vSlot b_vLex b_val b_num n kd cd pp par mN mW mV T U
  refine zz_make (k := k + 5) (K := 5) T U (by omega) (zz_p v1 v2 v3 (-1)) (fun i hi hc => ?_) (fun r nc ak ap pa H => H _ fun gc bk bp hR => And.intro rfl hR)
  have hc' : 3 ≤ i := hc
  have : i = 1 ∨ i = 2 ∨ i = 3 := by omega
  rcases this with rfl | rfl | rfl <;> first | rfl | (exfalso; omega)
theorem i_vc_mkRec {k : Nat} {u : SX} {v : SY} (I : i_Rel k u v) (hk : k + 5 ≤ 2563) (v1 : Int32) (v2 : Int32) (v3 : Int32) (v4 : Int32) : wpX_mkRec (fun r u' => wpY_mkRec (fun r' v' => r' = r ∧ i_Rel (k + 5) u' v') v v1 v2 v3 v4) u v1 v2 v3 v4 := by
  refine zz_el (P := fun u v => wpX_mkRec (fun r u' => wpY_mkRec (fun r' v' => r' = r ∧ i_Rel (k + 5) u' v') v v1 v2 v3 v4) u v1 v2 v3 v4) ?_ I
  intro f_maxNodes f_maxWeight f_maxVisits f_nodeCount f_sealed f_verdictNow f_copyCount f_varCount f_atSet f_atNeg f_visitCount f_done f_stuck f_curNode f_curEnv f_resultValue f_valueCount f_envCount f_depth a_nKind a_nPart a_nParent a_cNode a_cUp a_cChild a_cInst a_cParam a_queue a_rel a_vKind a_vWord a_vEnv a_vField a_eName a_eValue a_eNext a_fNode a_fEnv a_fPart a_fValue g_maxNodes g_maxWeight g_maxVisits g_count g_root g_nc g_weight g_grown g_neg g_made g_next g_nextPar g_nextSlot g_nextLex g_stuck b_kinds b_parts b_cNode b_cPar b_cSlot b_le b_saved b_cur b_nxt b_first b_vNode b_vPar b_vSlot b_vLex b_val b_num n kd cd pp par mN mW mV T U
  refine zz_make (k := k + 5) (K := 6) T U (by omega) (zz_p v1 v2 v3 v4) (fun i hi hc => ?_) (fun r nc ak ap pa H => H _ fun gc bk bp hR => And.intro rfl hR)
  have hc' : 4 ≤ i := hc
  have : i = 1 ∨ i = 2 ∨ i = 3 := by omega
  rcases this with rfl | rfl | rfl <;> first | rfl | (exfalso; omega)
theorem i_vc_mkSel {k : Nat} {u : SX} {v : SY} (I : i_Rel k u v) (hk : k + 5 ≤ 2563) (v1 : Int32) (v2 : Int32) : wpX_mkSel (fun r u' => wpY_mkSel (fun r' v' => r' = r ∧ i_Rel (k + 5) u' v') v v1 v2) u v1 v2 := by
  refine zz_el (P := fun u v => wpX_mkSel (fun r u' => wpY_mkSel (fun r' v' => r' = r ∧ i_Rel (k + 5) u' v') v v1 v2) u v1 v2) ?_ I
  intro f_maxNodes f_maxWeight f_maxVisits f_nodeCount f_sealed f_verdictNow f_copyCount f_varCount f_atSet f_atNeg f_visitCount f_done f_stuck f_curNode f_curEnv f_resultValue f_valueCount f_envCount f_depth a_nKind a_nPart a_nParent a_cNode a_cUp a_cChild a_cInst a_cParam a_queue a_rel a_vKind a_vWord a_vEnv a_vField a_eName a_eValue a_eNext a_fNode a_fEnv a_fPart a_fValue g_maxNodes g_maxWeight g_maxVisits g_count g_root g_nc g_weight g_grown g_neg g_made g_next g_nextPar g_nextSlot g_nextLex g_stuck b_kinds b_parts b_cNode b_cPar b_cSlot b_le b_saved b_cur b_nxt b_first b_vNode b_vPar b_vSlot b_vLex b_val b_num n kd cd pp par mN mW mV T U
  refine zz_make (k := k + 5) (K := 7) T U (by omega) (zz_p v1 v2 (-1) (-1)) (fun i hi hc => ?_) (fun r nc ak ap pa H => H _ fun gc bk bp hR => And.intro rfl hR)
  have hc' : 2 ≤ i := hc
  have : i = 1 ∨ i = 2 ∨ i = 3 := by omega
  rcases this with rfl | rfl | rfl <;> first | rfl | (exfalso; omega)
theorem i_vc_mkAdd {k : Nat} {u : SX} {v : SY} (I : i_Rel k u v) (hk : k + 5 ≤ 2563) (v1 : Int32) (v2 : Int32) : wpX_mkAdd (fun r u' => wpY_mkAdd (fun r' v' => r' = r ∧ i_Rel (k + 5) u' v') v v1 v2) u v1 v2 := by
  refine zz_el (P := fun u v => wpX_mkAdd (fun r u' => wpY_mkAdd (fun r' v' => r' = r ∧ i_Rel (k + 5) u' v') v v1 v2) u v1 v2) ?_ I
  intro f_maxNodes f_maxWeight f_maxVisits f_nodeCount f_sealed f_verdictNow f_copyCount f_varCount f_atSet f_atNeg f_visitCount f_done f_stuck f_curNode f_curEnv f_resultValue f_valueCount f_envCount f_depth a_nKind a_nPart a_nParent a_cNode a_cUp a_cChild a_cInst a_cParam a_queue a_rel a_vKind a_vWord a_vEnv a_vField a_eName a_eValue a_eNext a_fNode a_fEnv a_fPart a_fValue g_maxNodes g_maxWeight g_maxVisits g_count g_root g_nc g_weight g_grown g_neg g_made g_next g_nextPar g_nextSlot g_nextLex g_stuck b_kinds b_parts b_cNode b_cPar b_cSlot b_le b_saved b_cur b_nxt b_first b_vNode b_vPar b_vSlot b_vLex b_val b_num n kd cd pp par mN mW mV T U
  refine zz_make (k := k + 5) (K := 8) T U (by omega) (zz_p v1 v2 (-1) (-1)) (fun i hi hc => ?_) (fun r nc ak ap pa H => H _ fun gc bk bp hR => And.intro rfl hR)
  have hc' : 2 ≤ i := hc
  have : i = 1 ∨ i = 2 ∨ i = 3 := by omega
  rcases this with rfl | rfl | rfl <;> first | rfl | (exfalso; omega)
theorem i_vc_mkIfz {k : Nat} {u : SX} {v : SY} (I : i_Rel k u v) (hk : k + 5 ≤ 2563) (v1 : Int32) (v2 : Int32) (v3 : Int32) : wpX_mkIfz (fun r u' => wpY_mkIfz (fun r' v' => r' = r ∧ i_Rel (k + 5) u' v') v v1 v2 v3) u v1 v2 v3 := by
  refine zz_el (P := fun u v => wpX_mkIfz (fun r u' => wpY_mkIfz (fun r' v' => r' = r ∧ i_Rel (k + 5) u' v') v v1 v2 v3) u v1 v2 v3) ?_ I
  intro f_maxNodes f_maxWeight f_maxVisits f_nodeCount f_sealed f_verdictNow f_copyCount f_varCount f_atSet f_atNeg f_visitCount f_done f_stuck f_curNode f_curEnv f_resultValue f_valueCount f_envCount f_depth a_nKind a_nPart a_nParent a_cNode a_cUp a_cChild a_cInst a_cParam a_queue a_rel a_vKind a_vWord a_vEnv a_vField a_eName a_eValue a_eNext a_fNode a_fEnv a_fPart a_fValue g_maxNodes g_maxWeight g_maxVisits g_count g_root g_nc g_weight g_grown g_neg g_made g_next g_nextPar g_nextSlot g_nextLex g_stuck b_kinds b_parts b_cNode b_cPar b_cSlot b_le b_saved b_cur b_nxt b_first b_vNode b_vPar b_vSlot b_vLex b_val b_num n kd cd pp par mN mW mV T U
  refine zz_make (k := k + 5) (K := 9) T U (by omega) (zz_p v1 v2 v3 (-1)) (fun i hi hc => ?_) (fun r nc ak ap pa H => H _ fun gc bk bp hR => And.intro rfl hR)
  have hc' : 3 ≤ i := hc
  have : i = 1 ∨ i = 2 ∨ i = 3 := by omega
  rcases this with rfl | rfl | rfl <;> first | rfl | (exfalso; omega)
theorem i_vc_kind {k : Nat} {u : SX} {v : SY} (I : i_Rel k u v) (hk : k + 5 ≤ 2563) (v1 : Int32) : wpX_kind (fun r => wpY_kind (fun r' => r' = r ∧ i_Rel (k + 5) u v) v v1) u v1 := by
  have I' : i_Rel (k + 5) u v := I
  revert I'
  refine zz_el (P := fun u v => i_Rel (k + 5) u v → wpX_kind (fun r => wpY_kind (fun r' => r' = r ∧ i_Rel (k + 5) u v) v v1) u v1) ?_ I
  intro f_maxNodes f_maxWeight f_maxVisits f_nodeCount f_sealed f_verdictNow f_copyCount f_varCount f_atSet f_atNeg f_visitCount f_done f_stuck f_curNode f_curEnv f_resultValue f_valueCount f_envCount f_depth a_nKind a_nPart a_nParent a_cNode a_cUp a_cChild a_cInst a_cParam a_queue a_rel a_vKind a_vWord a_vEnv a_vField a_eName a_eValue a_eNext a_fNode a_fEnv a_fPart a_fValue g_maxNodes g_maxWeight g_maxVisits g_count g_root g_nc g_weight g_grown g_neg g_made g_next g_nextPar g_nextSlot g_nextLex g_stuck b_kinds b_parts b_cNode b_cPar b_cSlot b_le b_saved b_cur b_nxt b_first b_vNode b_vPar b_vSlot b_vLex b_val b_num n kd cd pp par mN mW mV T U I'
  obtain ⟨W, A1, A2, hpar, rfl, rfl, h1, h2, h3, e3⟩ := T
  have hn := tm_n W
  unfold wpX_kind
  dsimp only
  refine xw_ex (by omega) (fun no => br_t rfl ?_) (fun j hj e => br_f (by decide) ?_)
  · refine br_c (fun z => And.intro rfl I') (fun z => ?_)
    obtain ⟨j, hj, rfl⟩ := nI_of z
    exact br_f (fun y => by rw [nI_ltI hj (by omega)] at y; exact no j y rfl) (And.intro rfl I')
  · subst e
    refine ⟨vp_in_nI (by omega) (by omega), br_f (nI_pos (by omega)) (br_t (nI_lt hj (by omega)) ⟨vp_in_nI (by omega) (by omega), And.intro ?_ I'⟩)⟩
    rw [nI_clamp (by omega), A1.1 j hj, A2.1 j hj]
theorem i_vc_part {k : Nat} {u : SX} {v : SY} (I : i_Rel k u v) (hk : k + 5 ≤ 2563) (v1 : Int32) (v2 : Int32) : wpX_part (fun r => wpY_part (fun r' => r' = r ∧ i_Rel (k + 5) u v) v v1 v2) u v1 v2 := by
  have I' : i_Rel (k + 5) u v := I
  revert I'
  refine zz_el (P := fun u v => i_Rel (k + 5) u v → wpX_part (fun r => wpY_part (fun r' => r' = r ∧ i_Rel (k + 5) u v) v v1 v2) u v1 v2) ?_ I
  intro f_maxNodes f_maxWeight f_maxVisits f_nodeCount f_sealed f_verdictNow f_copyCount f_varCount f_atSet f_atNeg f_visitCount f_done f_stuck f_curNode f_curEnv f_resultValue f_valueCount f_envCount f_depth a_nKind a_nPart a_nParent a_cNode a_cUp a_cChild a_cInst a_cParam a_queue a_rel a_vKind a_vWord a_vEnv a_vField a_eName a_eValue a_eNext a_fNode a_fEnv a_fPart a_fValue g_maxNodes g_maxWeight g_maxVisits g_count g_root g_nc g_weight g_grown g_neg g_made g_next g_nextPar g_nextSlot g_nextLex g_stuck b_kinds b_parts b_cNode b_cPar b_cSlot b_le b_saved b_cur b_nxt b_first b_vNode b_vPar b_vSlot b_vLex b_val b_num n kd cd pp par mN mW mV T U I'
  obtain ⟨W, A1, A2, hpar, rfl, rfl, h1, h2, h3, e3⟩ := T
  have hn := tm_n W
  unfold wpX_part
  dsimp only
  refine xw_ex (by omega) (fun no => br_t rfl ?_) (fun j hj e => br_f (by decide) ?_)
  · refine br_c (fun z => And.intro rfl I') (fun z => ?_)
    obtain ⟨j, hj, rfl⟩ := nI_of z
    refine br_t ?_ (And.intro rfl I')
    rw [nI_leI (by omega) hj]
    exact Nat.le_of_not_lt fun y => no j y rfl
  · subst e
    have hk := tm_k W hj
    have pc4 : tm_pc (kd j) ≤ 4 := by unfold tm_pc; split <;> (try split) <;> (try split) <;> omega
    refine ⟨vp_in_nI (by omega) (by omega), ?_⟩
    rw [nI_clamp (by omega), A1.1 j hj]
    refine xw_pc (by omega) ?_
    have Y0 : ∀ r : Int32, (v2 < 0 → r = -1) → (∀ i, i < 4 → v2 = nI i → b_parts (4 * j + i) = r) → (¬ v2 < 0 → ¬ v2 ≤ 3 → r = -1) → wpY_part (fun r' => r' = r ∧ i_Rel (k + 5) (f_maxNodes, f_maxWeight, f_maxVisits, nI n, f_sealed, f_verdictNow, f_copyCount, f_varCount, f_atSet, f_atNeg, f_visitCount, f_done, f_stuck, f_curNode, f_curEnv, f_resultValue, f_valueCount, f_envCount, f_depth, a_nKind, a_nPart, a_nParent, a_cNode, a_cUp, a_cChild, a_cInst, a_cParam, a_queue, a_rel, a_vKind, a_vWord, a_vEnv, a_vField, a_eName, a_eValue, a_eNext, a_fNode, a_fEnv, a_fPart, a_fValue) (g_maxNodes, g_maxWeight, g_maxVisits, nI n, g_root, g_nc, g_weight, g_grown, g_neg, g_made, g_next, g_nextPar, g_nextSlot, g_nextLex, g_stuck, b_kinds, b_parts, b_cNode, b_cPar, b_cSlot, b_le, b_saved, b_cur, b_nxt, b_first, b_vNode, b_vPar, b_vSlot, b_vLex, b_val, b_num)) (g_maxNodes, g_maxWeight, g_maxVisits, nI n, g_root, g_nc, g_weight, g_grown, g_neg, g_made, g_next, g_nextPar, g_nextSlot, g_nextLex, g_stuck, b_kinds, b_parts, b_cNode, b_cPar, b_cSlot, b_le, b_saved, b_cur, b_nxt, b_first, b_vNode, b_vPar, b_vSlot, b_vLex, b_val, b_num) (nI j) v2 := fun r y1 y2 y3 => by
      refine br_f (nI_pos (by omega)) (br_f (by rw [nI_leI (by omega) (by omega)]; omega) (br_c (fun z => And.intro (y1 z).symm I') (fun z => br_c (fun y => ?_) (fun y => And.intro (y3 z y).symm I'))))
      obtain ⟨i, hi, rfl⟩ := nI_of z
      rw [nu_l3 hi] at y
      exact ⟨nu_i4' (by omega) (by omega), And.intro (by rw [nu_c4' (by omega)]; exact y2 i (by omega) rfl) I'⟩
    refine br_c (fun z => Y0 _ (fun _ => rfl) (fun i hi e => by rw [e] at z; exact absurd z (nI_pos (by omega))) (fun y => absurd z y)) (fun z => ?_)
    obtain ⟨i, hi, rfl⟩ := nI_of z
    rw [nI_ltI hi (by omega)]
    refine br_c (fun y => ⟨nu_i4 (by omega) (by omega), Y0 _ (fun w => absurd w z) (fun i' hi' e => ?_) (fun _ w => ?_)⟩) (fun y => Y0 _ (fun _ => rfl) (fun i' hi' e => ?_) (fun _ _ => rfl))
    · rw [nI_eq hi (by omega)] at e
      subst e
      rw [nu_c4 (by omega), A1.2 _ (by omega), A2.2 _ (by omega)]
    · rw [nu_l3 hi] at w; omega
    · rw [nI_eq hi (by omega)] at e
      subst e
      rw [A2.2 _ (by omega)]
      exact tm_pm W hj hi' (by omega)
end
section
/-! the questions about visits and values; running -/
/-- the tree's nodes lie at r or below -/
theorem rr_tle {n : Nat} {kd : Nat → Nat} {cd : Nat → Nat → Option Nat} {pp : Nat → Int32} {par : Nat → Option Nat} (W : tm_WF n kd cd pp par) {r m : Nat} (hr : r < n) (h : rr_t cd r m) : m ≤ r := by
  refine h (fun m => m ≤ r) (Nat.le_refl _) (fun m i c hm e => ?_)
  have := (tm_c W (show m < n by omega) e).1
  omega
theorem rr_tc {cd : Nat → Nat → Option Nat} {r m i c : Nat} (h : rr_t cd r m) (e : cd m i = some c) : rr_t cd r c := fun S h0 h1 => h1 m i c (h S h0 h1) e
theorem rr_tr {cd : Nat → Nat → Option Nat} {r : Nat} : rr_t cd r r := fun _ h0 _ => h0
/-- two readings of the same arrays agree -/
theorem rr_ag {n0 n : Nat} {kd0 kd : Nat → Nat} {cd0 cd : Nat → Nat → Option Nat} {pp0 pp : Nat → Int32} {par0 par : Nat → Option Nat} {ak ap : Nat → Int32} (W0 : tm_WF n0 kd0 cd0 pp0 par0) (A0 : tm_Ag n0 kd0 pp0 ak ap) (W : tm_WF n kd cd pp par) (A : tm_Ag n kd pp ak ap) (hn : n0 ≤ n) : (∀ j, j < n0 → kd j = kd0 j) ∧ (∀ i, i < 4 * n0 → pp i = pp0 i) ∧ (∀ j i, j < n0 → cd j i = cd0 j i) ∧ (∀ c j, par0 c = some j → par c = some j) := by
  have hn48 := tm_n W
  have h1 : ∀ j, j < n0 → kd j = kd0 j := fun j hj => by
    have a := A0.1 j hj
    rw [A.1 j (by omega)] at a
    have b := tm_k W (show j < n by omega)
    have c := tm_k W0 hj
    exact (nI_eq (by omega) (by omega)).mp a
  have h2 : ∀ i, i < 4 * n0 → pp i = pp0 i := fun i hi => (A.2 i (by omega)).symm.trans (A0.2 i hi)
  have h3 : ∀ j i, j < n0 → cd j i = cd0 j i := fun j i hj => by
    by_cases h : i < 4 ∧ tm_slot (kd0 j) i = true
    · have a := tm_s W0 hj h.1 h.2
      have b := tm_s W (show j < n by omega) h.1 (by rw [h1 j hj]; exact h.2)
      rw [h2 _ (by omega), a] at b
      exact (nu_oinj (tm_cl' W0 hj) (tm_cl' W (by omega)) b).symm
    · have a : cd0 j i = none := by
        cases e : cd0 j i with
        | none => rfl
        | some c => exact absurd (tm_o W0 hj (by rw [e]; intro z; cases z)) h
      have b : cd j i = none := by
        cases e : cd j i with
        | none => rfl
        | some c =>
          have := tm_o W (show j < n by omega) (by rw [e]; intro z; cases z)
          rw [h1 j hj] at this
          exact absurd this h
      rw [a, b]
  refine ⟨h1, h2, h3, fun c j e => ?_⟩
  obtain ⟨a, i, b⟩ := tm_p W0 e
  rw [← h3 j i a] at b
  exact (tm_c W (by omega) b).2
/-- binders last -/
theorem rr_bd {n0 : Nat} {kd0 kd : Nat → Nat} {cd0 cd : Nat → Nat → Option Nat} {pp0 pp : Nat → Int32} {par0 par : Nat → Option Nat} (W0 : tm_WF n0 kd0 cd0 pp0 par0) (h : (∀ j, j < n0 → kd j = kd0 j) ∧ (∀ i, i < 4 * n0 → pp i = pp0 i) ∧ (∀ j i, j < n0 → cd j i = cd0 j i) ∧ (∀ c j, par0 c = some j → par c = some j)) {r v : Nat} (hv : v < n0) : ∀ f a b, bd_w kd0 cd0 pp0 par0 r v f a = some b → bd_w kd cd pp par r v f a = some b := by
  intro f
  induction f with
  | zero => intro a b e; cases e
  | succ f ih =>
    intro a b e
    by_cases ha : a = r
    · subst ha; rw [bd_w_r] at e; cases e
    · cases ep : par0 a with
      | none => rw [bd_w_n ha ep] at e; cases e
      | some c =>
        have hc := (tm_pl W0 ep).2
        rw [bd_w_s ha ep] at e
        rw [bd_w_s ha (h.2.2.2 a c ep), h.1 c hc, h.2.2.1 c 2 hc, h.2.1 _ (by omega), h.2.1 _ (by omega)]
        by_cases z : (kd0 c = 3 ∨ kd0 c = 5 ∧ cd0 c 2 = some a) ∧ pp0 (4 * c) = pp0 (4 * v)
        · rw [if_pos z] at e ⊢; exact e
        · rw [if_neg z] at e ⊢; exact ih c b e
section
variable {f_maxNodes f_maxWeight f_maxVisits f_nodeCount f_sealed f_verdictNow f_copyCount f_varCount : Int32} {f_atSet : Int64} {f_atNeg f_visitCount f_done f_stuck f_curNode f_curEnv f_resultValue f_valueCount f_envCount f_depth : Int32} {a_nKind a_nPart a_nParent a_cNode a_cUp a_cChild a_cInst a_cParam a_queue : Nat → Int32} {a_rel : Nat → Int64} {a_vKind a_vWord a_vEnv a_vField a_eName a_eValue a_eNext a_fNode a_fEnv a_fPart a_fValue : Nat → Int32} {g_maxNodes g_maxWeight g_maxVisits g_count g_root g_nc g_weight g_grown g_neg g_made g_next g_nextPar g_nextSlot g_nextLex g_stuck : Int32} {b_kinds b_parts b_cNode b_cPar b_cSlot b_le b_saved b_cur b_nxt b_first b_vNode b_vPar b_vSlot b_vLex b_val b_num : Nat → Int32} {k n : Nat} {kd : Nat → Nat} {cd : Nat → Nat → Option Nat} {pp : Nat → Int32} {par : Nat → Option Nat} {mN mW mV : Nat}
/-- the status: one answer; 1 only while running -/
theorem zz_stat (T : rr_T n kd cd pp par mN mW mV f_maxNodes f_maxWeight f_maxVisits f_nodeCount f_sealed f_verdictNow f_copyCount f_varCount f_atSet f_atNeg f_visitCount f_done f_stuck f_curNode f_curEnv f_resultValue f_valueCount f_envCount f_depth a_nKind a_nPart a_nParent a_cNode a_cUp a_cChild a_cInst a_cParam a_queue a_rel a_vKind a_vWord a_vEnv a_vField a_eName a_eValue a_eNext a_fNode a_fEnv a_fPart a_fValue g_maxNodes g_maxWeight g_maxVisits g_count g_root g_nc g_weight g_grown g_neg g_made g_next g_nextPar g_nextSlot g_nextLex g_stuck b_kinds b_parts b_cNode b_cPar b_cSlot b_le b_saved b_cur b_nxt b_first b_vNode b_vPar b_vSlot b_vLex b_val b_num) (U : rr_U f_maxNodes f_maxWeight f_maxVisits f_nodeCount f_sealed f_verdictNow f_copyCount f_varCount f_atSet f_atNeg f_visitCount f_done f_stuck f_curNode f_curEnv f_resultValue f_valueCount f_envCount f_depth a_nKind a_nPart a_nParent a_cNode a_cUp a_cChild a_cInst a_cParam a_queue a_rel a_vKind a_vWord a_vEnv a_vField a_eName a_eValue a_eNext a_fNode a_fEnv a_fPart a_fValue g_maxNodes g_maxWeight g_maxVisits g_count g_root g_nc g_weight g_grown g_neg g_made g_next g_nextPar g_nextSlot g_nextLex g_stuck b_kinds b_parts b_cNode b_cPar b_cSlot b_le b_saved b_cur b_nxt b_first b_vNode b_vPar b_vSlot b_vLex b_val b_num ∨ rr_S n mW mV f_maxNodes f_maxWeight f_maxVisits f_nodeCount f_sealed f_verdictNow f_copyCount f_varCount f_atSet f_atNeg f_visitCount f_done f_stuck f_curNode f_curEnv f_resultValue f_valueCount f_envCount f_depth a_nKind a_nPart a_nParent a_cNode a_cUp a_cChild a_cInst a_cParam a_queue a_rel a_vKind a_vWord a_vEnv a_vField a_eName a_eValue a_eNext a_fNode a_fEnv a_fPart a_fValue g_maxNodes g_maxWeight g_maxVisits g_count g_root g_nc g_weight g_grown g_neg g_made g_next g_nextPar g_nextSlot g_nextLex g_stuck b_kinds b_parts b_cNode b_cPar b_cSlot b_le b_saved b_cur b_nxt b_first b_vNode b_vPar b_vSlot b_vLex b_val b_num) : ∃ s : Int32, (∀ post : Int32 → Prop, post s → wpX_status post (f_maxNodes, f_maxWeight, f_maxVisits, f_nodeCount, f_sealed, f_verdictNow, f_copyCount, f_varCount, f_atSet, f_atNeg, f_visitCount, f_done, f_stuck, f_curNode, f_curEnv, f_resultValue, f_valueCount, f_envCount, f_depth, a_nKind, a_nPart, a_nParent, a_cNode, a_cUp, a_cChild, a_cInst, a_cParam, a_queue, a_rel, a_vKind, a_vWord, a_vEnv, a_vField, a_eName, a_eValue, a_eNext, a_fNode, a_fEnv, a_fPart, a_fValue)) ∧ (∀ post : Int32 → Prop, post s → wpY_status post (g_maxNodes, g_maxWeight, g_maxVisits, g_count, g_root, g_nc, g_weight, g_grown, g_neg, g_made, g_next, g_nextPar, g_nextSlot, g_nextLex, g_stuck, b_kinds, b_parts, b_cNode, b_cPar, b_cSlot, b_le, b_saved, b_cur, b_nxt, b_first, b_vNode, b_vPar, b_vSlot, b_vLex, b_val, b_num)) ∧
    (s = 1 → ∃ (n0 r : Nat) (kd : Nat → Nat) (cd : Nat → Nat → Option Nat) (pp : Nat → Int32) (par : Nat → Option Nat) (len cn : Nat → Nat) (cu : Nat → Option Nat) (cs : Nat → Nat) (M : Nat), n0 ≤ n ∧ f_sealed = 1 ∧ g_root = nI r ∧ rr_C n0 r kd cd pp par len cn cu cs mW f_maxNodes f_maxWeight f_maxVisits f_nodeCount f_sealed f_verdictNow f_copyCount f_varCount f_atSet f_atNeg f_visitCount f_done f_stuck f_curNode f_curEnv f_resultValue f_valueCount f_envCount f_depth a_nKind a_nPart a_nParent a_cNode a_cUp a_cChild a_cInst a_cParam a_queue a_rel a_vKind a_vWord a_vEnv a_vField a_eName a_eValue a_eNext a_fNode a_fEnv a_fPart a_fValue g_maxNodes g_maxWeight g_maxVisits g_count g_root g_nc g_weight g_grown g_neg g_made g_next g_nextPar g_nextSlot g_nextLex g_stuck b_kinds b_parts b_cNode b_cPar b_cSlot b_le b_saved b_cur b_nxt b_first b_vNode b_vPar b_vSlot b_vLex b_val b_num ∧ rr_L kd cd pp par r len cn a_rel b_le ∧ ((∃ c d, cl_ac (len 320) kd cn cd pp (un_sb (un_ki kd cd pp par r) len cn) (yl_a b_le) c d) → f_verdictNow = 2) ∧ ((¬ ∃ c d, cl_ac (len 320) kd cn cd pp (un_sb (un_ki kd cd pp par r) len cn) (yl_a b_le) c d) → f_verdictNow = 1) ∧ f_visitCount = nI M ∧ g_made = nI M ∧ M < mV ∧ es_run M r kd cd pp (rr_t cd r) f_done f_stuck f_curNode f_curEnv f_resultValue f_valueCount f_envCount f_depth a_vKind a_vWord a_vEnv a_vField a_eName a_eValue a_eNext a_fNode a_fEnv a_fPart a_fValue g_next g_nextPar g_nextSlot g_nextLex g_stuck b_vNode b_vPar b_vSlot b_vLex b_val b_num) ∧
    (s = 2 → ∃ (n0 r : Nat) (kd : Nat → Nat) (cd : Nat → Nat → Option Nat) (pp : Nat → Int32) (par : Nat → Option Nat) (M : Nat), r < n0 ∧ tm_WF n0 kd cd pp par ∧ tm_Ag n0 kd pp a_nKind a_nPart ∧ tm_Ag n0 kd pp b_kinds b_parts ∧ M ≤ mV ∧ g_made = nI M ∧ es_done M r kd cd (rr_t cd r) f_done f_resultValue a_vKind a_vWord a_vEnv a_vField g_next b_vNode b_vPar b_vSlot b_vLex b_val b_num) := by
  obtain ⟨W, A1, A2, hpar, e1, e2, h1, h2, h3, h4, h5, h6, h7, l1, l2, l3, l4, l5, l6⟩ := T
  have n10 : ¬ (1 : Int32) = 0 := by decide
  rcases U with U | U
  · obtain ⟨u1, u2, u3, u4⟩ := U
    subst u1 u2
    exact ⟨0, fun post hp => br_t rfl hp, fun post hp => br_f (by decide) hp, fun z => absurd z (by decide), fun z => absurd z (by decide)⟩
  · obtain ⟨n0, r, kd0, cd0, pp0, par0, len, cn, cu, cs, M, q1, q2, q3, q4, q5, q6, q7, q8, q9, q10, q11⟩ := U
    have c1 := q4.1
    have c2 := q4.2.1
    have hn0 := tm_n c2
    subst q2 q3 q8 q9 l5 l6
    rcases q11 with R | R | R
    · have R' := R
      obtain ⟨vn, vp, vs, vl, va, gt, dp, ev, xv, vc, ec, S, hvM, h00, E, V, F, A0, hec, rfl, rfl, _, _, _, _, _, _, _, _, _, rfl⟩ := R
      have Y0 : ∀ post : Int32 → Prop, ((nI M < nI mV → post 1) ∧ (¬ nI M < nI mV → post 4)) → wpY_status post (g_maxNodes, g_maxWeight, nI mV, g_count, nI r, g_nc, g_weight, g_grown, g_neg, nI M, g_next, g_nextPar, g_nextSlot, g_nextLex, 0, b_kinds, b_parts, b_cNode, b_cPar, b_cSlot, b_le, b_saved, b_cur, b_nxt, b_first, b_vNode, b_vPar, b_vSlot, b_vLex, b_val, b_num) := fun post H => by
        refine br_t (nI_pos' (by omega)) ?_
        rw [nu_le0 (by omega)]
        refine br_c (fun z => br_t rfl H) (fun z => br_t ?_ (br_t rfl H))
        rw [(A0 0 (by omega)).2.2.2.2, h00]; decide
      by_cases hM : M < mV
      · exact ⟨1, fun post hp => br_f n10 (br_t rfl (br_t rfl (br_t (nI_lt hM (by omega)) hp))), fun post hp => Y0 post (br_t (nI_lt hM (by omega)) hp), fun _ => ⟨n0, r, kd0, cd0, pp0, par0, len, cn, cu, cs, M, q1, rfl, rfl, q4, q5, q6, q7, rfl, rfl, hM, R'⟩, fun z => absurd z (by decide)⟩
      · exact ⟨4, fun post hp => br_f n10 (br_t rfl (br_t rfl (br_f (nI_nlt (by omega) (by omega)) hp))), fun post hp => Y0 post (br_f (nI_nlt (by omega) (by omega)) hp), fun z => absurd z (by decide), fun z => absurd z (by decide)⟩
    · obtain ⟨hM0, rfl, rfl, rfl, hv0, _⟩ := R
      refine ⟨3, fun post hp => br_f n10 (br_t rfl (br_f n10 hp)), fun post hp => br_t (nI_pos' (by omega)) (br_f ?_ (br_t ?_ (br_f n10 hp))), fun z => absurd z (by decide), fun z => absurd z (by decide)⟩
      · rw [nu_le0 (by omega)]; omega
      · rw [hv0]; decide
    · have R' := R
      obtain ⟨hM0, rfl, hgn, vn, vp, vs, vl, va, gt, dp, ev, xv, vc, o, S, V, A0, ea, er⟩ := R
      refine ⟨2, fun post hp => br_f n10 (br_f n10 hp), fun post hp => br_t (nI_pos' (by omega)) (br_f ?_ (br_f ?_ hp)), fun z => absurd z (by decide), fun _ => ⟨n0, r, kd0, cd0, pp0, par0, M, c1, c2, q4.2.2.1, q4.2.2.2.1, q10, rfl, R'⟩⟩
      · rw [nu_le0 (by omega)]; omega
      · rw [(A0 0 hM0).2.2.2.2, ea]
        have := (es_va S hM0 ea).1
        exact nI_pos (by omega)
end
theorem i_vc_visits {k : Nat} {u : SX} {v : SY} (I : i_Rel k u v) (hk : k + 5 ≤ 2563) : wpX_visits (fun r => wpY_visits (fun r' => r' = r ∧ i_Rel (k + 5) u v) v) u := by
  have I' : i_Rel (k + 5) u v := I
  revert I'
  refine zz_el (P := fun u v => i_Rel (k + 5) u v → wpX_visits (fun r => wpY_visits (fun r' => r' = r ∧ i_Rel (k + 5) u v) v) u) ?_ I
  intro f_maxNodes f_maxWeight f_maxVisits f_nodeCount f_sealed f_verdictNow f_copyCount f_varCount f_atSet f_atNeg f_visitCount f_done f_stuck f_curNode f_curEnv f_resultValue f_valueCount f_envCount f_depth a_nKind a_nPart a_nParent a_cNode a_cUp a_cChild a_cInst a_cParam a_queue a_rel a_vKind a_vWord a_vEnv a_vField a_eName a_eValue a_eNext a_fNode a_fEnv a_fPart a_fValue g_maxNodes g_maxWeight g_maxVisits g_count g_root g_nc g_weight g_grown g_neg g_made g_next g_nextPar g_nextSlot g_nextLex g_stuck b_kinds b_parts b_cNode b_cPar b_cSlot b_le b_saved b_cur b_nxt b_first b_vNode b_vPar b_vSlot b_vLex b_val b_num n kd cd pp par mN mW mV T U I'
  rcases U with U | U
  · exact br_t U.1 (And.intro U.2.2.1 I')
  · obtain ⟨n0, r, kd0, cd0, pp0, par0, len, cn, cu, cs, M, q1, q2, q3, q4, q5, q6, q7, q8, q9, _⟩ := U
    exact br_f (by rw [q2]; decide) (And.intro (q9.trans q8.symm) I')
theorem i_vc_nextNode {k : Nat} {u : SX} {v : SY} (I : i_Rel k u v) (hk : k + 5 ≤ 2563) : wpX_nextNode (fun r => wpY_nextNode (fun r' => r' = r ∧ i_Rel (k + 5) u v) v) u := by
  have I' : i_Rel (k + 5) u v := I
  revert I'
  refine zz_el (P := fun u v => i_Rel (k + 5) u v → wpX_nextNode (fun r => wpY_nextNode (fun r' => r' = r ∧ i_Rel (k + 5) u v) v) u) ?_ I
  intro f_maxNodes f_maxWeight f_maxVisits f_nodeCount f_sealed f_verdictNow f_copyCount f_varCount f_atSet f_atNeg f_visitCount f_done f_stuck f_curNode f_curEnv f_resultValue f_valueCount f_envCount f_depth a_nKind a_nPart a_nParent a_cNode a_cUp a_cChild a_cInst a_cParam a_queue a_rel a_vKind a_vWord a_vEnv a_vField a_eName a_eValue a_eNext a_fNode a_fEnv a_fPart a_fValue g_maxNodes g_maxWeight g_maxVisits g_count g_root g_nc g_weight g_grown g_neg g_made g_next g_nextPar g_nextSlot g_nextLex g_stuck b_kinds b_parts b_cNode b_cPar b_cSlot b_le b_saved b_cur b_nxt b_first b_vNode b_vPar b_vSlot b_vLex b_val b_num n kd cd pp par mN mW mV T U I'
  rcases U with U | U
  · exact br_t U.1 (And.intro U.2.2.2 I')
  · obtain ⟨n0, r, kd0, cd0, pp0, par0, len, cn, cu, cs, M, q1, q2, q3, q4, q5, q6, q7, q8, q9, q10, R⟩ := U
    refine br_f (by rw [q2]; decide) ?_
    rcases R with R | R | R
    · obtain ⟨vn, vp, vs, vl, va, gt, dp, ev, xv, vc, ec, S, hvM, h00, E, V, F, A0, hec, e1, e2, e3, _, _, _, _, e4, _⟩ := R
      exact br_t e1 (And.intro (e4.trans e3.symm) I')
    · obtain ⟨hM0, e1, _, _, hv0, m, _, e3, e4⟩ := R
      exact br_t e1 (And.intro (e4.trans e3.symm) I')
    · obtain ⟨hM0, e1, e2, _⟩ := R
      exact br_f (by rw [e1]; decide) (And.intro e2 I')
def zz_X19 (post : Int32 → SX → Prop) (L : Int32) (m : Nat) (i : Int32) (u : SX) : Prop := match u with
  | (f_maxNodes, f_maxWeight, f_maxVisits, f_nodeCount, f_sealed, f_verdictNow, f_copyCount, f_varCount, f_atSet, f_atNeg, f_visitCount, f_done, f_stuck, f_curNode, f_curEnv, f_resultValue, f_valueCount, f_envCount, f_depth, a_nKind, a_nPart, a_nParent, a_cNode, a_cUp, a_cChild, a_cInst, a_cParam, a_queue, a_rel, a_vKind, a_vWord, a_vEnv, a_vField, a_eName, a_eValue, a_eNext, a_fNode, a_fEnv, a_fPart, a_fValue) => wX_run_19 post L m i f_maxNodes f_maxWeight f_maxVisits f_nodeCount f_sealed f_verdictNow f_copyCount f_varCount f_atSet f_atNeg f_visitCount f_done f_stuck f_curNode f_curEnv f_resultValue f_valueCount f_envCount f_depth a_nKind a_nPart a_nParent a_cNode a_cUp a_cChild a_cInst a_cParam a_queue a_rel a_vKind a_vWord a_vEnv a_vField a_eName a_eValue a_eNext a_fNode a_fEnv a_fPart a_fValue
def zz_Y2 (post : Int32 → SY → Prop) (q : Int32) (m : Nat) (i : Int32) (v : SY) : Prop := match v with
  | (g_maxNodes, g_maxWeight, g_maxVisits, g_count, g_root, g_nc, g_weight, g_grown, g_neg, g_made, g_next, g_nextPar, g_nextSlot, g_nextLex, g_stuck, b_kinds, b_parts, b_cNode, b_cPar, b_cSlot, b_le, b_saved, b_cur, b_nxt, b_first, b_vNode, b_vPar, b_vSlot, b_vLex, b_val, b_num) => wY_run_2 post q m i g_maxNodes g_maxWeight g_maxVisits g_count g_root g_nc g_weight g_grown g_neg g_made g_next g_nextPar g_nextSlot g_nextLex g_stuck b_kinds b_parts b_cNode b_cPar b_cSlot b_le b_saved b_cur b_nxt b_first b_vNode b_vPar b_vSlot b_vLex b_val b_num
def zz_ok (mV i : Nat) (u : SX) : Prop := match u with
  | (f_maxNodes, f_maxWeight, f_maxVisits, f_nodeCount, f_sealed, f_verdictNow, f_copyCount, f_varCount, f_atSet, f_atNeg, f_visitCount, f_done, f_stuck, f_curNode, f_curEnv, f_resultValue, f_valueCount, f_envCount, f_depth, a_nKind, a_nPart, a_nParent, a_cNode, a_cUp, a_cChild, a_cInst, a_cParam, a_queue, a_rel, a_vKind, a_vWord, a_vEnv, a_vField, a_eName, a_eValue, a_eNext, a_fNode, a_fEnv, a_fPart, a_fValue) => f_maxVisits = nI mV ∧ mV ≤ 192 ∧ (f_sealed = 1 → ∃ M, i ≤ M ∧ M < 2 ^ 31 ∧ f_visitCount = nI M)
theorem zz_run1 {q mV' d i : Nat} (hq : q < 2 ^ 31) (hi : i + d = 193) (ih : ∀ d', d = d' + 1 → ∀ (u : SX) (v : SY), i_Rel 0 u v → zz_ok mV' (i + 1) u → ∃ (s : Int32) (u' : SX) (v' : SY), i_Rel 0 u' v' ∧ (∀ post : Int32 → SX → Prop, post s u' → zz_X19 post (nI (if mV' ≤ q then mV' else q)) (d' + 1) (nI (i + 1)) u) ∧ (∀ post : Int32 → SY → Prop, post s v' → zz_Y2 post (nI q) (d' + 1) (nI (i + 1)) v)) (u : SX) (v : SY) (I : i_Rel 0 u v) : zz_ok mV' i u → ∃ (s : Int32) (u' : SX) (v' : SY), i_Rel 0 u' v' ∧ (∀ post : Int32 → SX → Prop, post s u' → zz_X19 post (nI (if mV' ≤ q then mV' else q)) (d + 1) (nI i) u) ∧ (∀ post : Int32 → SY → Prop, post s v' → zz_Y2 post (nI q) (d + 1) (nI i) v) := by
  refine zz_el (P := fun u v => zz_ok mV' i u → ∃ (s : Int32) (u' : SX) (v' : SY), i_Rel 0 u' v' ∧ (∀ post : Int32 → SX → Prop, post s u' → zz_X19 post (nI (if mV' ≤ q then mV' else q)) (d + 1) (nI i) u) ∧ (∀ post : Int32 → SY → Prop, post s v' → zz_Y2 post (nI q) (d + 1) (nI i) v)) ?_ I
  intro f_maxNodes f_maxWeight f_maxVisits f_nodeCount f_sealed f_verdictNow f_copyCount f_varCount f_atSet f_atNeg f_visitCount f_done f_stuck f_curNode f_curEnv f_resultValue f_valueCount f_envCount f_depth a_nKind a_nPart a_nParent a_cNode a_cUp a_cChild a_cInst a_cParam a_queue a_rel a_vKind a_vWord a_vEnv a_vField a_eName a_eValue a_eNext a_fNode a_fEnv a_fPart a_fValue g_maxNodes g_maxWeight g_maxVisits g_count g_root g_nc g_weight g_grown g_neg g_made g_next g_nextPar g_nextSlot g_nextLex g_stuck b_kinds b_parts b_cNode b_cPar b_cSlot b_le b_saved b_cur b_nxt b_first b_vNode b_vPar b_vSlot b_vLex b_val b_num n kd cd pp par mN mW mV T U ok
  obtain ⟨k1, k2, k3⟩ := ok
  obtain ⟨s, hX, hY, h1, _⟩ := zz_stat T U
  have hL : (if mV' ≤ q then mV' else q) < 2 ^ 31 := by split <;> omega
  by_cases hs : s = 1
  · obtain ⟨n0, r, kd0, cd0, pp0, par0, len, cn, cu, cs, M, q1, q2, q3, q4, q5, q6, q7, q8, q9, q10, R⟩ := h1 hs
    obtain ⟨W, A1, A2, hpar, e1, e2, t1, t2, t3, t4, t5, t6, t7, l1, l2, l3, l4, l5, l6⟩ := id T
    obtain ⟨c1, W0, A10, A20, SS, cw, cc, c5⟩ := id q4
    obtain ⟨M', m1, m2, m3⟩ := k3 q2
    have hn0 := tm_n W0
    have eM : M' = M := by
      rw [q8] at m3
      exact ((nI_eq (by omega) m2).mp m3).symm
    have eV : mV = mV' := by
      rw [l5] at k1
      exact (nI_eq (by omega) (by omega)).mp k1
    subst eM eV
    by_cases hq' : q ≤ i
    · refine ⟨s, _, _, zz_in (k := 0) T U, fun post hp => br_t ?_ (hX _ hp), fun post hp => br_t ?_ (hY _ hp)⟩
      · rw [if_neg (by omega), nI_leI (by omega) (by omega)]; exact hq'
      · rw [nI_leI (by omega) (by omega)]; exact hq'
    · obtain ⟨d', rfl⟩ : ∃ d', d = d' + 1 := ⟨d - 1, by omega⟩
      have ag := rr_ag W0 A10 W A1 q1
      have hK : ∀ (f_done f_stuck f_curNode f_curEnv f_resultValue f_valueCount f_envCount f_depth : Int32) (a_vKind a_vWord a_vEnv a_vField a_eName a_eValue a_eNext a_fNode a_fEnv a_fPart a_fValue : Nat → Int32) (g_next g_nextPar g_nextSlot g_nextLex g_stuck : Int32) (b_vNode b_vPar b_vSlot b_vLex b_val b_num : Nat → Int32), es_R (M' + 1) r kd0 cd0 pp0 (rr_t cd0 r) f_done f_stuck f_curNode f_curEnv f_resultValue f_valueCount f_envCount f_depth a_vKind a_vWord a_vEnv a_vField a_eName a_eValue a_eNext a_fNode a_fEnv a_fPart a_fValue g_next g_nextPar g_nextSlot g_nextLex g_stuck b_vNode b_vPar b_vSlot b_vLex b_val b_num → (fun u v => i_Rel 0 u v ∧ zz_ok mV (i + 1) u) (f_maxNodes, f_maxWeight, f_maxVisits, f_nodeCount, f_sealed, f_verdictNow, f_copyCount, f_varCount, f_atSet, f_atNeg, nI (M' + 1), f_done, f_stuck, f_curNode, f_curEnv, f_resultValue, f_valueCount, f_envCount, f_depth, a_nKind, a_nPart, a_nParent, a_cNode, a_cUp, a_cChild, a_cInst, a_cParam, a_queue, a_rel, a_vKind, a_vWord, a_vEnv, a_vField, a_eName, a_eValue, a_eNext, a_fNode, a_fEnv, a_fPart, a_fValue) (g_maxNodes, g_maxWeight, g_maxVisits, nI n, nI r, g_nc, g_weight, g_grown, g_neg, nI (M' + 1), g_next, g_nextPar, g_nextSlot, g_nextLex, g_stuck, b_kinds, b_parts, b_cNode, b_cPar, b_cSlot, b_le, b_saved, b_cur, b_nxt, b_first, b_vNode, b_vPar, b_vSlot, b_vLex, b_val, b_num) := by
        intro f_done f_stuck f_curNode f_curEnv f_resultValue f_valueCount f_envCount f_depth a_vKind a_vWord a_vEnv a_vField a_eName a_eValue a_eNext a_fNode a_fEnv a_fPart a_fValue g_next g_nextPar g_nextSlot g_nextLex g_stuck b_vNode b_vPar b_vSlot b_vLex b_val b_num R'
        refine And.intro (zz_in (n := n) (kd := kd) (cd := cd) (pp := pp) (par := par) (mN := mN) (mW := mW) (mV := mV) ⟨W, A1, A2, hpar, e1, rfl, t1, t2, t3, t4, t5, t6, t7, l1, l2, l3, l4, l5, l6⟩ (Or.inr ⟨n0, r, kd0, cd0, pp0, par0, len, cn, cu, cs, M' + 1, q1, q2, rfl, q4, q5, q6, q7, rfl, rfl, by omega, R'⟩)) ?_
        exact ⟨k1, by omega, fun _ => ⟨M' + 1, by omega, by omega, rfl⟩⟩
      obtain ⟨u1, v1, ⟨hI, hok⟩, vX, vY⟩ := es_visit (K := fun u v => i_Rel 0 u v ∧ zz_ok mV (i + 1) u) W0 A10 A20 (fun m hm => by have := rr_tle W0 c1 hm; omega) (fun m i c => rr_tc) W A2 q1 (by omega) (fun m hm k2 => by
        cases e : bd_b kd0 cd0 pp0 par0 r m with
        | none => exact absurd e (cc m hm k2)
        | some b => exact ⟨b, rfl, rr_bd W0 ag (by have := rr_tle W0 c1 hm; omega) 48 m b e⟩) (by omega) hK R
      rw [q8]
      rw [e2, q3, q9]
      obtain ⟨f_maxNodes_2, f_maxWeight_2, f_maxVisits_2, f_nodeCount_2, f_sealed_2, f_verdictNow_2, f_copyCount_2, f_varCount_2, f_atSet_2, f_atNeg_2, f_visitCount_2, f_done_2, f_stuck_2, f_curNode_2, f_curEnv_2, f_resultValue_2, f_valueCount_2, f_envCount_2, f_depth_2, a_nKind_2, a_nPart_2, a_nParent_2, a_cNode_2, a_cUp_2, a_cChild_2, a_cInst_2, a_cParam_2, a_queue_2, a_rel_2, a_vKind_2, a_vWord_2, a_vEnv_2, a_vField_2, a_eName_2, a_eValue_2, a_eNext_2, a_fNode_2, a_fEnv_2, a_fPart_2, a_fValue_2⟩ := u1
      obtain ⟨g_maxNodes_2, g_maxWeight_2, g_maxVisits_2, g_count_2, g_root_2, g_nc_2, g_weight_2, g_grown_2, g_neg_2, g_made_2, g_next_2, g_nextPar_2, g_nextSlot_2, g_nextLex_2, g_stuck_2, b_kinds_2, b_parts_2, b_cNode_2, b_cPar_2, b_cSlot_2, b_le_2, b_saved_2, b_cur_2, b_nxt_2, b_first_2, b_vNode_2, b_vPar_2, b_vSlot_2, b_vLex_2, b_val_2, b_num_2⟩ := v1
      obtain ⟨s', u', v', hI', hX', hY'⟩ := ih d' rfl _ _ hI hok
      refine ⟨s', u', v', hI', fun post hp => ?_, fun post hp => ?_⟩
      · have H := hX' post hp
        rw [q8] at hX
        refine br_f ?_ (hX _ (br_t hs (vX _ (nm_r (nI_1 i) H))))
        rw [nI_leI hL (by omega)]
        split <;> omega
      · have H := hY' post hp
        rw [e2, q3, q9] at hY
        refine br_f ?_ (br_f ?_ (hY _ (br_t hs (vY _ (nm_r (nI_1 i) H)))))
        · rw [nI_leI (by omega) (by omega)]; exact hq'
        · show ¬ (192 : Int32) ≤ nI i
          rw [nu_g192 (by omega)]; omega
  · exact ⟨s, _, _, zz_in (k := 0) T U, fun post hp => br_c (fun _ => hX _ hp) (fun _ => hX _ (br_f hs (hX _ hp))), fun post hp => br_c (fun _ => hY _ hp) (fun _ => br_c (fun _ => hY _ hp) (fun _ => hY _ (br_f hs (hY _ hp))))⟩
theorem zz_run {q mV' : Nat} (hq : q < 2 ^ 31) : ∀ (d i : Nat), i + d = 193 → ∀ (u : SX) (v : SY), i_Rel 0 u v → zz_ok mV' i u → ∃ (s : Int32) (u' : SX) (v' : SY), i_Rel 0 u' v' ∧ (∀ post : Int32 → SX → Prop, post s u' → zz_X19 post (nI (if mV' ≤ q then mV' else q)) (d + 1) (nI i) u) ∧ (∀ post : Int32 → SY → Prop, post s v' → zz_Y2 post (nI q) (d + 1) (nI i) v) := by
  intro d
  induction d with
  | zero => intro i hi u v I; exact zz_run1 hq hi (fun d' e => by omega) u v I
  | succ d ih => intro i hi u v I; exact zz_run1 hq hi (fun d' e => by cases e; exact ih (i + 1) (by omega)) u v I
theorem i_vc_run {k : Nat} {u : SX} {v : SY} (I : i_Rel k u v) (hk : k + 5 ≤ 2563) (v1 : Int32) : wpX_run (fun r u' => wpY_run (fun r' v' => r' = r ∧ i_Rel (k + 5) u' v') v v1) u v1 := by
  refine zz_el (P := fun u v => wpX_run (fun r u' => wpY_run (fun r' v' => r' = r ∧ i_Rel (k + 5) u' v') v v1) u v1) ?_ I
  intro f_maxNodes f_maxWeight f_maxVisits f_nodeCount f_sealed f_verdictNow f_copyCount f_varCount f_atSet f_atNeg f_visitCount f_done f_stuck f_curNode f_curEnv f_resultValue f_valueCount f_envCount f_depth a_nKind a_nPart a_nParent a_cNode a_cUp a_cChild a_cInst a_cParam a_queue a_rel a_vKind a_vWord a_vEnv a_vField a_eName a_eValue a_eNext a_fNode a_fEnv a_fPart a_fValue g_maxNodes g_maxWeight g_maxVisits g_count g_root g_nc g_weight g_grown g_neg g_made g_next g_nextPar g_nextSlot g_nextLex g_stuck b_kinds b_parts b_cNode b_cPar b_cSlot b_le b_saved b_cur b_nxt b_first b_vNode b_vPar b_vSlot b_vLex b_val b_num n kd cd pp par mN mW mV T U
  obtain ⟨W, A1, A2, hpar, e1, e2, t1, t2, t3, t4, t5, t6, t7, l1, l2, l3, l4, l5, l6⟩ := id T
  by_cases hneg : v1 < 0
  · obtain ⟨s, hX, hY, _⟩ := zz_stat T U
    have h0 : v1 ≤ 0 := Int32.le_of_lt hneg
    refine br_f ?_ ⟨1, br_t h0 (hX _ ⟨1, br_t h0 (hY _ (And.intro rfl (zz_in T U)))⟩)⟩
    intro z
    rw [l5] at z
    have := Int32.le_trans (nI_pos' (show mV < 2 ^ 31 by omega)) z
    exact Int32.not_lt.mpr this hneg
  · obtain ⟨q, hq, rfl⟩ := nI_of hneg
    have ok : zz_ok mV 0 (f_maxNodes, f_maxWeight, f_maxVisits, f_nodeCount, f_sealed, f_verdictNow, f_copyCount, f_varCount, f_atSet, f_atNeg, f_visitCount, f_done, f_stuck, f_curNode, f_curEnv, f_resultValue, f_valueCount, f_envCount, f_depth, a_nKind, a_nPart, a_nParent, a_cNode, a_cUp, a_cChild, a_cInst, a_cParam, a_queue, a_rel, a_vKind, a_vWord, a_vEnv, a_vField, a_eName, a_eValue, a_eNext, a_fNode, a_fEnv, a_fPart, a_fValue) := ⟨l5, t7, fun z => by
      rcases U with U | U
      · rw [U.1] at z; exact absurd z (by decide)
      · obtain ⟨n0, r, kd0, cd0, pp0, par0, len, cn, cu, cs, M, q1, q2, q3, q4, q5, q6, q7, q8, q9, q10, _⟩ := U
        exact ⟨M, Nat.zero_le _, by omega, q8⟩⟩
    obtain ⟨s, u', v', hI, hX, hY⟩ := zz_run (mV' := mV) hq 193 0 rfl _ _ (zz_in (k := 0) T U) ok
    unfold wpX_run
    dsimp only
    rw [l5, nI_leI (by omega) hq]
    have Z : wpY_run (fun r' v' => r' = s ∧ i_Rel (k + 5) u' v') (g_maxNodes, g_maxWeight, g_maxVisits, g_count, g_root, g_nc, g_weight, g_grown, g_neg, g_made, g_next, g_nextPar, g_nextSlot, g_nextLex, g_stuck, b_kinds, b_parts, b_cNode, b_cPar, b_cSlot, b_le, b_saved, b_cur, b_nxt, b_first, b_vNode, b_vPar, b_vSlot, b_vLex, b_val, b_num) (nI q) := ⟨194, hY _ (And.intro rfl hI)⟩
    refine br_c (fun z => ⟨194, ?_⟩) (fun z => ⟨194, ?_⟩)
    · have H := hX (fun r u' => wpY_run (fun r' v' => r' = r ∧ i_Rel (k + 5) u' v') (g_maxNodes, g_maxWeight, g_maxVisits, g_count, g_root, g_nc, g_weight, g_grown, g_neg, g_made, g_next, g_nextPar, g_nextSlot, g_nextLex, g_stuck, b_kinds, b_parts, b_cNode, b_cPar, b_cSlot, b_le, b_saved, b_cur, b_nxt, b_first, b_vNode, b_vPar, b_vSlot, b_vLex, b_val, b_num) (nI q)) Z
      rw [if_pos z] at H
      have H2 : wX_run_19 _ (nI mV) 194 (nI 0) f_maxNodes f_maxWeight f_maxVisits f_nodeCount f_sealed f_verdictNow f_copyCount f_varCount f_atSet f_atNeg f_visitCount f_done f_stuck f_curNode f_curEnv f_resultValue f_valueCount f_envCount f_depth a_nKind a_nPart a_nParent a_cNode a_cUp a_cChild a_cInst a_cParam a_queue a_rel a_vKind a_vWord a_vEnv a_vField a_eName a_eValue a_eNext a_fNode a_fEnv a_fPart a_fValue := H
      rw [l5] at H2
      exact H2
    · have H := hX (fun r u' => wpY_run (fun r' v' => r' = r ∧ i_Rel (k + 5) u' v') (g_maxNodes, g_maxWeight, g_maxVisits, g_count, g_root, g_nc, g_weight, g_grown, g_neg, g_made, g_next, g_nextPar, g_nextSlot, g_nextLex, g_stuck, b_kinds, b_parts, b_cNode, b_cPar, b_cSlot, b_le, b_saved, b_cur, b_nxt, b_first, b_vNode, b_vPar, b_vSlot, b_vLex, b_val, b_num) (nI q)) Z
      rw [if_neg z] at H
      have H2 : wX_run_19 _ (nI q) 194 (nI 0) f_maxNodes f_maxWeight f_maxVisits f_nodeCount f_sealed f_verdictNow f_copyCount f_varCount f_atSet f_atNeg f_visitCount f_done f_stuck f_curNode f_curEnv f_resultValue f_valueCount f_envCount f_depth a_nKind a_nPart a_nParent a_cNode a_cUp a_cChild a_cInst a_cParam a_queue a_rel a_vKind a_vWord a_vEnv a_vField a_eName a_eValue a_eNext a_fNode a_fEnv a_fPart a_fValue := H
      rw [l5] at H2
      exact H2
end
section
/-! the final value's questions -/
section
variable {f_maxNodes f_maxWeight f_maxVisits f_nodeCount f_sealed f_verdictNow f_copyCount f_varCount : Int32} {f_atSet : Int64} {f_atNeg f_visitCount f_done f_stuck f_curNode f_curEnv f_resultValue f_valueCount f_envCount f_depth : Int32} {a_nKind a_nPart a_nParent a_cNode a_cUp a_cChild a_cInst a_cParam a_queue : Nat → Int32} {a_rel : Nat → Int64} {a_vKind a_vWord a_vEnv a_vField a_eName a_eValue a_eNext a_fNode a_fEnv a_fPart a_fValue : Nat → Int32} {g_maxNodes g_maxWeight g_maxVisits g_count g_root g_nc g_weight g_grown g_neg g_made g_next g_nextPar g_nextSlot g_nextLex g_stuck : Int32} {b_kinds b_parts b_cNode b_cPar b_cSlot b_le b_saved b_cur b_nxt b_first b_vNode b_vPar b_vSlot b_vLex b_val b_num : Nat → Int32} {k n : Nat} {kd : Nat → Nat} {cd : Nat → Nat → Option Nat} {pp : Nat → Int32} {par : Nat → Option Nat} {mN mW mV : Nat}
theorem zz_va (T : rr_T n kd cd pp par mN mW mV f_maxNodes f_maxWeight f_maxVisits f_nodeCount f_sealed f_verdictNow f_copyCount f_varCount f_atSet f_atNeg f_visitCount f_done f_stuck f_curNode f_curEnv f_resultValue f_valueCount f_envCount f_depth a_nKind a_nPart a_nParent a_cNode a_cUp a_cChild a_cInst a_cParam a_queue a_rel a_vKind a_vWord a_vEnv a_vField a_eName a_eValue a_eNext a_fNode a_fEnv a_fPart a_fValue g_maxNodes g_maxWeight g_maxVisits g_count g_root g_nc g_weight g_grown g_neg g_made g_next g_nextPar g_nextSlot g_nextLex g_stuck b_kinds b_parts b_cNode b_cPar b_cSlot b_le b_saved b_cur b_nxt b_first b_vNode b_vPar b_vSlot b_vLex b_val b_num) (U : rr_U f_maxNodes f_maxWeight f_maxVisits f_nodeCount f_sealed f_verdictNow f_copyCount f_varCount f_atSet f_atNeg f_visitCount f_done f_stuck f_curNode f_curEnv f_resultValue f_valueCount f_envCount f_depth a_nKind a_nPart a_nParent a_cNode a_cUp a_cChild a_cInst a_cParam a_queue a_rel a_vKind a_vWord a_vEnv a_vField a_eName a_eValue a_eNext a_fNode a_fEnv a_fPart a_fValue g_maxNodes g_maxWeight g_maxVisits g_count g_root g_nc g_weight g_grown g_neg g_made g_next g_nextPar g_nextSlot g_nextLex g_stuck b_kinds b_parts b_cNode b_cPar b_cSlot b_le b_saved b_cur b_nxt b_first b_vNode b_vPar b_vSlot b_vLex b_val b_num ∨ rr_S n mW mV f_maxNodes f_maxWeight f_maxVisits f_nodeCount f_sealed f_verdictNow f_copyCount f_varCount f_atSet f_atNeg f_visitCount f_done f_stuck f_curNode f_curEnv f_resultValue f_valueCount f_envCount f_depth a_nKind a_nPart a_nParent a_cNode a_cUp a_cChild a_cInst a_cParam a_queue a_rel a_vKind a_vWord a_vEnv a_vField a_eName a_eValue a_eNext a_fNode a_fEnv a_fPart a_fValue g_maxNodes g_maxWeight g_maxVisits g_count g_root g_nc g_weight g_grown g_neg g_made g_next g_nextPar g_nextSlot g_nextLex g_stuck b_kinds b_parts b_cNode b_cPar b_cSlot b_le b_saved b_cur b_nxt b_first b_vNode b_vPar b_vSlot b_vLex b_val b_num) (v1 : Int32) :
    ((∀ post : Int32 → Prop, post (-1) → wpX_valueAt post (f_maxNodes, f_maxWeight, f_maxVisits, f_nodeCount, f_sealed, f_verdictNow, f_copyCount, f_varCount, f_atSet, f_atNeg, f_visitCount, f_done, f_stuck, f_curNode, f_curEnv, f_resultValue, f_valueCount, f_envCount, f_depth, a_nKind, a_nPart, a_nParent, a_cNode, a_cUp, a_cChild, a_cInst, a_cParam, a_queue, a_rel, a_vKind, a_vWord, a_vEnv, a_vField, a_eName, a_eValue, a_eNext, a_fNode, a_fEnv, a_fPart, a_fValue) v1) ∧ (∀ post : Int32 → Prop, post (-1) → wpY_valueHead post (g_maxNodes, g_maxWeight, g_maxVisits, g_count, g_root, g_nc, g_weight, g_grown, g_neg, g_made, g_next, g_nextPar, g_nextSlot, g_nextLex, g_stuck, b_kinds, b_parts, b_cNode, b_cPar, b_cSlot, b_le, b_saved, b_cur, b_nxt, b_first, b_vNode, b_vPar, b_vSlot, b_vLex, b_val, b_num) v1)) ∨
    ((∀ post : Int32 → Prop, post (-2) → wpX_valueAt post (f_maxNodes, f_maxWeight, f_maxVisits, f_nodeCount, f_sealed, f_verdictNow, f_copyCount, f_varCount, f_atSet, f_atNeg, f_visitCount, f_done, f_stuck, f_curNode, f_curEnv, f_resultValue, f_valueCount, f_envCount, f_depth, a_nKind, a_nPart, a_nParent, a_cNode, a_cUp, a_cChild, a_cInst, a_cParam, a_queue, a_rel, a_vKind, a_vWord, a_vEnv, a_vField, a_eName, a_eValue, a_eNext, a_fNode, a_fEnv, a_fPart, a_fValue) v1) ∧ (∀ post : Int32 → Prop, post (-2) → wpY_valueHead post (g_maxNodes, g_maxWeight, g_maxVisits, g_count, g_root, g_nc, g_weight, g_grown, g_neg, g_made, g_next, g_nextPar, g_nextSlot, g_nextLex, g_stuck, b_kinds, b_parts, b_cNode, b_cPar, b_cSlot, b_le, b_saved, b_cur, b_nxt, b_first, b_vNode, b_vPar, b_vSlot, b_vLex, b_val, b_num) v1)) ∨
    (∃ (w x h : Nat) (z : Int32), w < 192 ∧ x < 192 ∧ (∀ post : Int32 → Prop, post (nI x) → wpX_valueAt post (f_maxNodes, f_maxWeight, f_maxVisits, f_nodeCount, f_sealed, f_verdictNow, f_copyCount, f_varCount, f_atSet, f_atNeg, f_visitCount, f_done, f_stuck, f_curNode, f_curEnv, f_resultValue, f_valueCount, f_envCount, f_depth, a_nKind, a_nPart, a_nParent, a_cNode, a_cUp, a_cChild, a_cInst, a_cParam, a_queue, a_rel, a_vKind, a_vWord, a_vEnv, a_vField, a_eName, a_eValue, a_eNext, a_fNode, a_fEnv, a_fPart, a_fValue) v1) ∧ (∀ post : Int32 → Prop, post (nI w) → wpY_arrive post (g_maxNodes, g_maxWeight, g_maxVisits, g_count, g_root, g_nc, g_weight, g_grown, g_neg, g_made, g_next, g_nextPar, g_nextSlot, g_nextLex, g_stuck, b_kinds, b_parts, b_cNode, b_cPar, b_cSlot, b_le, b_saved, b_cur, b_nxt, b_first, b_vNode, b_vPar, b_vSlot, b_vLex, b_val, b_num) v1) ∧ (∃ hv : Int32, 0 ≤ hv ∧ (∀ post : Int32 → Prop, post hv → wpX_valueHead post (f_maxNodes, f_maxWeight, f_maxVisits, f_nodeCount, f_sealed, f_verdictNow, f_copyCount, f_varCount, f_atSet, f_atNeg, f_visitCount, f_done, f_stuck, f_curNode, f_curEnv, f_resultValue, f_valueCount, f_envCount, f_depth, a_nKind, a_nPart, a_nParent, a_cNode, a_cUp, a_cChild, a_cInst, a_cParam, a_queue, a_rel, a_vKind, a_vWord, a_vEnv, a_vField, a_eName, a_eValue, a_eNext, a_fNode, a_fEnv, a_fPart, a_fValue) v1) ∧ (∀ post : Int32 → Prop, post hv → wpY_valueHead post (g_maxNodes, g_maxWeight, g_maxVisits, g_count, g_root, g_nc, g_weight, g_grown, g_neg, g_made, g_next, g_nextPar, g_nextSlot, g_nextLex, g_stuck, b_kinds, b_parts, b_cNode, b_cPar, b_cSlot, b_le, b_saved, b_cur, b_nxt, b_first, b_vNode, b_vPar, b_vSlot, b_vLex, b_val, b_num) v1) ∧ (hv = 1 → a_vWord x = b_num w) ∧ (¬ hv = 1 → a_vWord x = b_vNode w))) := by
  obtain ⟨s, hX, hY, _, h2⟩ := zz_stat T U
  by_cases hs : s = 2
  · by_cases hm : ps_mf v1 = true
    · refine Or.inl ⟨fun post hp => ?_, fun post hp => ?_⟩
      · unfold wpX_valueAt
        dsimp only
        refine hX _ (br_t hs (xw_mf ?_))
        rw [hm]; exact br_f (by decide) hp
      · unfold wpY_valueHead
        dsimp only
        refine hY _ (br_t hs (yw_mf ?_))
        rw [hm]; exact br_f (by decide) hp
    · have hm' := ts_nt hm
      have hv1 : ¬ v1 < 0 := fun z => by unfold ps_mf at hm'; rw [if_pos z] at hm'; cases hm'
      obtain ⟨P, hP, rfl⟩ := nI_of hv1
      have hmP : ps_m 11 P = false := by
        unfold ps_mf at hm'
        rw [if_neg hv1, nI_clamp hP] at hm'
        exact hm'
      obtain ⟨_, _, _, _, _, _, _, _, _, _, _, _, t7, _⟩ := T
      obtain ⟨n0, r, kd0, cd0, pp0, par0, M, c1, W0, A10, A20, hMV, em, hM0, ed, en, vn, vp, vs, vl, va, gt, dp, ev, xv, vc, o, S, V, A, ea, er⟩ := h2 hs
      have hn0 := tm_n W0
      have hT : ∀ j, j < M → vn j < n0 := fun j hj => by have := rr_tle W0 c1 (es_tt S hj); omega
      have ho := es_va S hM0 ea
      subst em er
      obtain ⟨q, h1, hqX, hqY⟩ := es_arr W0 A20 S V A hT (by omega) 11 0 P o rfl hP hmP ho.1 ho.2.1
      have EX : ∀ post : Int32 → Prop, post (es_rx xv q) → wpX_valueAt post (f_maxNodes, f_maxWeight, f_maxVisits, f_nodeCount, f_sealed, f_verdictNow, f_copyCount, f_varCount, f_atSet, f_atNeg, f_visitCount, f_done, f_stuck, f_curNode, f_curEnv, nI (xv o), f_valueCount, f_envCount, f_depth, a_nKind, a_nPart, a_nParent, a_cNode, a_cUp, a_cChild, a_cInst, a_cParam, a_queue, a_rel, a_vKind, a_vWord, a_vEnv, a_vField, a_eName, a_eValue, a_eNext, a_fNode, a_fEnv, a_fPart, a_fValue) (nI P) := fun post hp => by unfold wpX_valueAt; dsimp only; exact hX _ (br_t hs (xw_mf (by rw [hm']; exact br_t rfl ⟨12, hqX post hp⟩)))
      have EA : ∀ post : Int32 → Prop, post (nu_o q) → wpY_arrive post (g_maxNodes, g_maxWeight, g_maxVisits, g_count, g_root, g_nc, g_weight, g_grown, g_neg, nI M, g_next, g_nextPar, g_nextSlot, g_nextLex, g_stuck, b_kinds, b_parts, b_cNode, b_cPar, b_cSlot, b_le, b_saved, b_cur, b_nxt, b_first, b_vNode, b_vPar, b_vSlot, b_vLex, b_val, b_num) (nI P) := fun post hp => nm_r (e' := nI o) (by rw [(A 0 hM0).2.2.2.2, ea]; rfl) ⟨12, hqY post hp⟩
      have EY : ∀ post : Int32 → Prop, wpY_arrive (fun r_67 => (((0 ≤ r_67 → (vp_in r_67 192 ∧ (∀ x3_101 : Int32, x3_101 = b_vNode r_67.toNatClampNeg → (vp_in x3_101 48 ∧ ((((b_kinds x3_101.toNatClampNeg) = 6 → (∃ n71 : Nat, wY_valueHead_71 post x3_101 g_maxNodes g_maxWeight g_maxVisits g_count g_root g_nc g_weight g_grown g_neg (nI M) g_next g_nextPar g_nextSlot g_nextLex g_stuck b_kinds b_parts b_cNode b_cPar b_cSlot b_le b_saved b_cur b_nxt b_first b_vNode b_vPar b_vSlot b_vLex b_val b_num n71 4 0)) ∧ (¬ (b_kinds x3_101.toNatClampNeg) = 6 → (vp_in x3_101 48 ∧ ((((b_kinds x3_101.toNatClampNeg) = 3 → (post 2)) ∧ (¬ (b_kinds x3_101.toNatClampNeg) = 3 → (post 1)))))))))))) ∧ (¬ 0 ≤ r_67 → (post (-2)))))) (g_maxNodes, g_maxWeight, g_maxVisits, g_count, g_root, g_nc, g_weight, g_grown, g_neg, nI M, g_next, g_nextPar, g_nextSlot, g_nextLex, g_stuck, b_kinds, b_parts, b_cNode, b_cPar, b_cSlot, b_le, b_saved, b_cur, b_nxt, b_first, b_vNode, b_vPar, b_vSlot, b_vLex, b_val, b_num) (nI P) → wpY_valueHead post (g_maxNodes, g_maxWeight, g_maxVisits, g_count, g_root, g_nc, g_weight, g_grown, g_neg, nI M, g_next, g_nextPar, g_nextSlot, g_nextLex, g_stuck, b_kinds, b_parts, b_cNode, b_cPar, b_cSlot, b_le, b_saved, b_cur, b_nxt, b_first, b_vNode, b_vPar, b_vSlot, b_vLex, b_val, b_num) (nI P) := fun post H => by unfold wpY_valueHead; dsimp only; exact hY _ (br_t hs (yw_mf (by rw [hm']; exact br_t rfl H)))
      cases eq : q with
      | none =>
        rw [eq] at EX EA
        exact Or.inr (Or.inl ⟨EX, fun post hp => EY post (EA _ (br_f (by decide) hp))⟩)
      | some w =>
        rw [eq] at EX EA
        obtain ⟨hw, ew⟩ := h1 w eq
        have ww := es_w S V (by omega) hw ew
        have hmw := hT w hw
        have hkw := tm_k W0 hmw
        have kw := (es_va S hw ew).2.2
        have YE : ∀ post : Int32 → Prop, (kd0 (vn w) = 6 → post (ps_rb (ps_r cd0 (vn w)) 4)) → (kd0 (vn w) = 3 → post 2) → (kd0 (vn w) ≠ 6 → kd0 (vn w) ≠ 3 → post 1) → wpY_valueHead post (g_maxNodes, g_maxWeight, g_maxVisits, g_count, g_root, g_nc, g_weight, g_grown, g_neg, nI M, g_next, g_nextPar, g_nextSlot, g_nextLex, g_stuck, b_kinds, b_parts, b_cNode, b_cPar, b_cSlot, b_le, b_saved, b_cur, b_nxt, b_first, b_vNode, b_vPar, b_vSlot, b_vLex, b_val, b_num) (nI P) := fun post H6 H3 H1 => by
          refine EY post (EA _ (br_t (nI_pos' (by omega)) ⟨vp_in_nI (by omega) (by omega), nm_r (e' := nI (vn w)) (by rw [show nu_o (some w) = nI w from rfl, nI_clamp (by omega), (A w hw).1]) ⟨vp_in_nI (by omega) (by omega), ?_⟩⟩))
          rw [nI_clamp (by omega), A20.1 _ hmw, nu_e6 (by omega), nu_e3 (by omega)]
          exact br_c (fun k6 => yw_vh71 W0 A20 hmw k6 (H6 k6)) (fun k6 => ⟨vp_in_nI (by omega) (by omega), br_c H3 (fun k3 => H1 k6 k3)⟩)
        have XE : ∀ post : Int32 → Prop, (a_vKind (xv w) = 1 → post 1) → (¬ a_vKind (xv w) = 1 → a_vKind (xv w) = 3 → post 2) → (¬ a_vKind (xv w) = 1 → ¬ a_vKind (xv w) = 3 → wpX_recordBits (fun r_48 => post (4 ||| r_48)) (f_maxNodes, f_maxWeight, f_maxVisits, f_nodeCount, f_sealed, f_verdictNow, f_copyCount, f_varCount, f_atSet, f_atNeg, f_visitCount, f_done, f_stuck, f_curNode, f_curEnv, nI (xv o), f_valueCount, f_envCount, f_depth, a_nKind, a_nPart, a_nParent, a_cNode, a_cUp, a_cChild, a_cInst, a_cParam, a_queue, a_rel, a_vKind, a_vWord, a_vEnv, a_vField, a_eName, a_eValue, a_eNext, a_fNode, a_fEnv, a_fPart, a_fValue) (a_vWord (xv w))) → wpX_valueHead post (f_maxNodes, f_maxWeight, f_maxVisits, f_nodeCount, f_sealed, f_verdictNow, f_copyCount, f_varCount, f_atSet, f_atNeg, f_visitCount, f_done, f_stuck, f_curNode, f_curEnv, nI (xv o), f_valueCount, f_envCount, f_depth, a_nKind, a_nPart, a_nParent, a_cNode, a_cUp, a_cChild, a_cInst, a_cParam, a_queue, a_rel, a_vKind, a_vWord, a_vEnv, a_vField, a_eName, a_eValue, a_eNext, a_fNode, a_fEnv, a_fPart, a_fValue) (nI P) := fun post H1 H3 H6 => by
          unfold wpX_valueHead
          dsimp only
          refine EX _ (br_t (nI_pos' (by omega)) ⟨vp_in_nI (by omega) (by omega), ?_⟩)
          rw [show es_rx xv (some w) = nI (xv w) from rfl, nI_clamp (by omega)]
          exact br_c H1 (fun k1 => ⟨vp_in_nI (by omega) (by omega), br_c (fun k3 => H3 k1 k3) (fun k3 => ⟨vp_in_nI (by omega) (by omega), H6 k1 k3⟩)⟩)
        refine Or.inr (Or.inr ⟨w, xv w, 0, 0, by omega, by omega, EX, EA, ?_⟩)
        rcases kw with k' | k' | k' | k'
        · have z := ww.2.2.2.1 (Or.inl k')
          exact ⟨1, by decide, fun post hp => XE post (fun _ => hp) (fun y => absurd z.1 y) (fun y => absurd z.1 y), fun post hp => YE post (fun y => by omega) (fun y => by omega) (fun _ _ => hp), fun _ => z.2, fun y => absurd rfl y⟩
        · have z := ww.2.2.2.2.1 k'
          exact ⟨2, by decide, fun post hp => XE post (fun y => by rw [z.1] at y; exact absurd y (by decide)) (fun _ _ => hp) (fun _ y => absurd z.1 y), fun post hp => YE post (fun y => by omega) (fun _ => hp) (fun _ y => absurd k' y), fun y => absurd y (by decide), fun _ => by rw [z.2.1, (A w hw).1]⟩
        · have z := V.2.2.2.2 w hw k'
          have h4 := ps_h4e (ps_r cd0 (vn w))
          refine ⟨ps_rb (ps_r cd0 (vn w)) 4, h4.2.2, fun post hp => XE post (fun y => by rw [z.1] at y; exact absurd y (by decide)) (fun _ y => by rw [z.1] at y; exact absurd y (by decide)) (fun _ _ => ?_), fun post hp => YE post (fun _ => hp) (fun y => by omega) (fun y => absurd k' y), fun y => absurd y h4.2.1, fun _ => by rw [z.2.1, (A w hw).1]⟩
          rw [z.2.1]
          refine xw_rb W0 A10 hmw k' ?_
          rw [h4.1]; exact hp
        · have z := ww.2.2.2.1 (Or.inr k')
          exact ⟨1, by decide, fun post hp => XE post (fun _ => hp) (fun y => absurd z.1 y) (fun y => absurd z.1 y), fun post hp => YE post (fun y => by omega) (fun y => by omega) (fun _ _ => hp), fun _ => z.2, fun y => absurd rfl y⟩
  · exact Or.inl ⟨fun post hp => by unfold wpX_valueAt; dsimp only; exact hX _ (br_f hs hp), fun post hp => by unfold wpY_valueHead; dsimp only; exact hY _ (br_f hs hp)⟩
end
theorem i_vc_valueHead {k : Nat} {u : SX} {v : SY} (I : i_Rel k u v) (hk : k + 5 ≤ 2563) (v1 : Int32) : wpX_valueHead (fun r => wpY_valueHead (fun r' => r' = r ∧ i_Rel (k + 5) u v) v v1) u v1 := by
  have I' : i_Rel (k + 5) u v := I
  revert I'
  refine zz_el (P := fun u v => i_Rel (k + 5) u v → wpX_valueHead (fun r => wpY_valueHead (fun r' => r' = r ∧ i_Rel (k + 5) u v) v v1) u v1) ?_ I
  intro f_maxNodes f_maxWeight f_maxVisits f_nodeCount f_sealed f_verdictNow f_copyCount f_varCount f_atSet f_atNeg f_visitCount f_done f_stuck f_curNode f_curEnv f_resultValue f_valueCount f_envCount f_depth a_nKind a_nPart a_nParent a_cNode a_cUp a_cChild a_cInst a_cParam a_queue a_rel a_vKind a_vWord a_vEnv a_vField a_eName a_eValue a_eNext a_fNode a_fEnv a_fPart a_fValue g_maxNodes g_maxWeight g_maxVisits g_count g_root g_nc g_weight g_grown g_neg g_made g_next g_nextPar g_nextSlot g_nextLex g_stuck b_kinds b_parts b_cNode b_cPar b_cSlot b_le b_saved b_cur b_nxt b_first b_vNode b_vPar b_vSlot b_vLex b_val b_num n kd cd pp par mN mW mV T U I'
  rcases zz_va T U v1 with ⟨a, b⟩ | ⟨a, b⟩ | ⟨w, x, h, z, _, _, _, _, hv, _, a, b, _⟩
  · unfold wpX_valueHead
    dsimp only
    exact a _ (br_f (by decide) (b _ (And.intro rfl I')))
  · unfold wpX_valueHead
    dsimp only
    exact a _ (br_f (by decide) (b _ (And.intro rfl I')))
  · exact a _ (b _ (And.intro rfl I'))
theorem i_vc_valueWord {k : Nat} {u : SX} {v : SY} (I : i_Rel k u v) (hk : k + 5 ≤ 2563) (v1 : Int32) : wpX_valueWord (fun r => wpY_valueWord (fun r' => r' = r ∧ i_Rel (k + 5) u v) v v1) u v1 := by
  have I' : i_Rel (k + 5) u v := I
  revert I'
  refine zz_el (P := fun u v => i_Rel (k + 5) u v → wpX_valueWord (fun r => wpY_valueWord (fun r' => r' = r ∧ i_Rel (k + 5) u v) v v1) u v1) ?_ I
  intro f_maxNodes f_maxWeight f_maxVisits f_nodeCount f_sealed f_verdictNow f_copyCount f_varCount f_atSet f_atNeg f_visitCount f_done f_stuck f_curNode f_curEnv f_resultValue f_valueCount f_envCount f_depth a_nKind a_nPart a_nParent a_cNode a_cUp a_cChild a_cInst a_cParam a_queue a_rel a_vKind a_vWord a_vEnv a_vField a_eName a_eValue a_eNext a_fNode a_fEnv a_fPart a_fValue g_maxNodes g_maxWeight g_maxVisits g_count g_root g_nc g_weight g_grown g_neg g_made g_next g_nextPar g_nextSlot g_nextLex g_stuck b_kinds b_parts b_cNode b_cPar b_cSlot b_le b_saved b_cur b_nxt b_first b_vNode b_vPar b_vSlot b_vLex b_val b_num n kd cd pp par mN mW mV T U I'
  unfold wpX_valueWord wpY_valueWord
  dsimp only
  rcases zz_va T U v1 with ⟨a, b⟩ | ⟨a, b⟩ | ⟨w, x, h, z, hw, hx, a, b, hv, h0, _, d, e1, e2⟩
  · exact a _ (br_f (by decide) (b _ (br_f (by decide) (And.intro rfl I'))))
  · exact a _ (br_f (by decide) (b _ (br_f (by decide) (And.intro rfl I'))))
  · refine a _ (br_t (nI_pos' (by omega)) ⟨vp_in_nI (by omega) (by omega), d _ (br_t h0 (b _ (br_t (nI_pos' (by omega)) ?_)))⟩)
    rw [nI_clamp (by omega), nI_clamp (by omega)]
    exact br_c (fun y => ⟨vp_in_nI (by omega) (by omega), And.intro (e1 y).symm I'⟩) (fun y => ⟨vp_in_nI (by omega) (by omega), And.intro (e2 y).symm I'⟩)
end
section
/-! verdict, meetings, positions -/
section
variable {ki : Nat → Nat → Option Nat} {kd : Nat → Nat} {r mW : Nat} {len cn : Nat → Nat} {cu : Nat → Option Nat} {cs : Nat → Nat}
theorem rr_cT (S : un_S ki r len cn cu cs) (hw : un_w kd cn (len 320) ≤ 64) : cp_T (len 320) cu (un_sb ki len cn) := by
  have h := un_wl kd cn (len 320)
  have h64 : len 320 ≤ 64 := by omega
  exact ⟨h64, fun k hk => un_cu S hk, fun c s k hc hs e => (un_sbk S h64 hc hs e).2.1⟩
theorem rr_cP (hw : un_w kd cn (len 320) ≤ 64) : cl_pv (len 320) (un_w kd cn (len 320)) (fun c => kd (cn c)) (fun c => len 320 + un_l kd cn c) := by
  have h := un_wl kd cn (len 320)
  have st : ∀ c, kd (cn c) = 3 → un_l kd cn (c + 1) = un_l kd cn c + 1 := fun c k => by rw [un_l, if_pos k]
  refine ⟨by omega, by omega, hw, fun c hc k => ?_, fun c c' hc hc' k k' e => ?_⟩
  · have a := st c k
    have b := un_lm kd cn (show c + 1 ≤ len 320 by omega)
    dsimp only
    omega
  · dsimp only at e
    rcases Nat.lt_trichotomy c c' with z | z | z
    · have a := st c k
      have b := un_lm kd cn (show c + 1 ≤ c' by omega)
      omega
    · exact z
    · have a := st c' k'
      have b := un_lm kd cn (show c' + 1 ≤ c by omega)
      omega
end
section
variable {f_maxNodes f_maxWeight f_maxVisits f_nodeCount f_sealed f_verdictNow f_copyCount f_varCount : Int32} {f_atSet : Int64} {f_atNeg f_visitCount f_done f_stuck f_curNode f_curEnv f_resultValue f_valueCount f_envCount f_depth : Int32} {a_nKind a_nPart a_nParent a_cNode a_cUp a_cChild a_cInst a_cParam a_queue : Nat → Int32} {a_rel : Nat → Int64} {a_vKind a_vWord a_vEnv a_vField a_eName a_eValue a_eNext a_fNode a_fEnv a_fPart a_fValue : Nat → Int32} {g_maxNodes g_maxWeight g_maxVisits g_count g_root g_nc g_weight g_grown g_neg g_made g_next g_nextPar g_nextSlot g_nextLex g_stuck : Int32} {b_kinds b_parts b_cNode b_cPar b_cSlot b_le b_saved b_cur b_nxt b_first b_vNode b_vPar b_vSlot b_vLex b_val b_num : Nat → Int32} {k n : Nat} {kd : Nat → Nat} {cd : Nat → Nat → Option Nat} {pp : Nat → Int32} {par : Nat → Option Nat} {mN mW mV : Nat}
/-- the verdict: one answer -/
theorem zz_verd (T : rr_T n kd cd pp par mN mW mV f_maxNodes f_maxWeight f_maxVisits f_nodeCount f_sealed f_verdictNow f_copyCount f_varCount f_atSet f_atNeg f_visitCount f_done f_stuck f_curNode f_curEnv f_resultValue f_valueCount f_envCount f_depth a_nKind a_nPart a_nParent a_cNode a_cUp a_cChild a_cInst a_cParam a_queue a_rel a_vKind a_vWord a_vEnv a_vField a_eName a_eValue a_eNext a_fNode a_fEnv a_fPart a_fValue g_maxNodes g_maxWeight g_maxVisits g_count g_root g_nc g_weight g_grown g_neg g_made g_next g_nextPar g_nextSlot g_nextLex g_stuck b_kinds b_parts b_cNode b_cPar b_cSlot b_le b_saved b_cur b_nxt b_first b_vNode b_vPar b_vSlot b_vLex b_val b_num) (U : rr_U f_maxNodes f_maxWeight f_maxVisits f_nodeCount f_sealed f_verdictNow f_copyCount f_varCount f_atSet f_atNeg f_visitCount f_done f_stuck f_curNode f_curEnv f_resultValue f_valueCount f_envCount f_depth a_nKind a_nPart a_nParent a_cNode a_cUp a_cChild a_cInst a_cParam a_queue a_rel a_vKind a_vWord a_vEnv a_vField a_eName a_eValue a_eNext a_fNode a_fEnv a_fPart a_fValue g_maxNodes g_maxWeight g_maxVisits g_count g_root g_nc g_weight g_grown g_neg g_made g_next g_nextPar g_nextSlot g_nextLex g_stuck b_kinds b_parts b_cNode b_cPar b_cSlot b_le b_saved b_cur b_nxt b_first b_vNode b_vPar b_vSlot b_vLex b_val b_num ∨ rr_S n mW mV f_maxNodes f_maxWeight f_maxVisits f_nodeCount f_sealed f_verdictNow f_copyCount f_varCount f_atSet f_atNeg f_visitCount f_done f_stuck f_curNode f_curEnv f_resultValue f_valueCount f_envCount f_depth a_nKind a_nPart a_nParent a_cNode a_cUp a_cChild a_cInst a_cParam a_queue a_rel a_vKind a_vWord a_vEnv a_vField a_eName a_eValue a_eNext a_fNode a_fEnv a_fPart a_fValue g_maxNodes g_maxWeight g_maxVisits g_count g_root g_nc g_weight g_grown g_neg g_made g_next g_nextPar g_nextSlot g_nextLex g_stuck b_kinds b_parts b_cNode b_cPar b_cSlot b_le b_saved b_cur b_nxt b_first b_vNode b_vPar b_vSlot b_vLex b_val b_num) : ∃ s : Int32, (∀ post : Int32 → Prop, post s → wpX_verdict post (f_maxNodes, f_maxWeight, f_maxVisits, f_nodeCount, f_sealed, f_verdictNow, f_copyCount, f_varCount, f_atSet, f_atNeg, f_visitCount, f_done, f_stuck, f_curNode, f_curEnv, f_resultValue, f_valueCount, f_envCount, f_depth, a_nKind, a_nPart, a_nParent, a_cNode, a_cUp, a_cChild, a_cInst, a_cParam, a_queue, a_rel, a_vKind, a_vWord, a_vEnv, a_vField, a_eName, a_eValue, a_eNext, a_fNode, a_fEnv, a_fPart, a_fValue)) ∧ (∀ post : Int32 → Prop, post s → wpY_verdict post (g_maxNodes, g_maxWeight, g_maxVisits, g_count, g_root, g_nc, g_weight, g_grown, g_neg, g_made, g_next, g_nextPar, g_nextSlot, g_nextLex, g_stuck, b_kinds, b_parts, b_cNode, b_cPar, b_cSlot, b_le, b_saved, b_cur, b_nxt, b_first, b_vNode, b_vPar, b_vSlot, b_vLex, b_val, b_num)) ∧ (s = 1 → rr_S n mW mV f_maxNodes f_maxWeight f_maxVisits f_nodeCount f_sealed f_verdictNow f_copyCount f_varCount f_atSet f_atNeg f_visitCount f_done f_stuck f_curNode f_curEnv f_resultValue f_valueCount f_envCount f_depth a_nKind a_nPart a_nParent a_cNode a_cUp a_cChild a_cInst a_cParam a_queue a_rel a_vKind a_vWord a_vEnv a_vField a_eName a_eValue a_eNext a_fNode a_fEnv a_fPart a_fValue g_maxNodes g_maxWeight g_maxVisits g_count g_root g_nc g_weight g_grown g_neg g_made g_next g_nextPar g_nextSlot g_nextLex g_stuck b_kinds b_parts b_cNode b_cPar b_cSlot b_le b_saved b_cur b_nxt b_first b_vNode b_vPar b_vSlot b_vLex b_val b_num) := by
  obtain ⟨W, A1, A2, hpar, e1, e2, h1, h2, h3, h4, h5, h6, h7, l1, l2, l3, l4, l5, l6⟩ := T
  rcases U with U | U
  · exact ⟨0, fun post hp => br_t U.1 hp, fun post hp => br_f (by rw [U.2.1]; decide) hp, fun z => absurd z (by decide)⟩
  · have U' := U
    obtain ⟨n0, r, kd0, cd0, pp0, par0, len, cn, cu, cs, M, q1, q2, q3, ⟨c1, W0, A10, A20, SS, cw, cc, f1, f2, f3, X, Y⟩, q5, q6, q7, _⟩ := U
    have hn0 := tm_n W0
    have CT := rr_cT SS (show un_w kd0 cn (len 320) ≤ 64 by omega)
    subst f3 q3
    by_cases hc : ∃ c d, cl_ac (len 320) kd0 cn cd0 pp0 (un_sb (un_ki kd0 cd0 pp0 par0 r) len cn) (yl_a b_le) c d
    · refine ⟨2, fun post hp => br_f (by rw [q2]; decide) (by rw [q6 hc]; exact hp), fun post hp => br_t (nI_pos' (by omega)) (yw_ac W0 A20 Y CT (fun _ => br_f (by decide) hp) (fun z => absurd hc z)), fun z => absurd z (by decide)⟩
    · exact ⟨1, fun post hp => br_f (by rw [q2]; decide) (by rw [q7 hc]; exact hp), fun post hp => br_t (nI_pos' (by omega)) (yw_ac W0 A20 Y CT (fun z => absurd z hc) (fun _ => br_t rfl hp)), fun _ => U'⟩
end
theorem i_vc_verdict {k : Nat} {u : SX} {v : SY} (I : i_Rel k u v) (hk : k + 5 ≤ 2563) : wpX_verdict (fun r => wpY_verdict (fun r' => r' = r ∧ i_Rel (k + 5) u v) v) u := by
  have I' : i_Rel (k + 5) u v := I
  revert I'
  refine zz_el (P := fun u v => i_Rel (k + 5) u v → wpX_verdict (fun r => wpY_verdict (fun r' => r' = r ∧ i_Rel (k + 5) u v) v) u) ?_ I
  intro f_maxNodes f_maxWeight f_maxVisits f_nodeCount f_sealed f_verdictNow f_copyCount f_varCount f_atSet f_atNeg f_visitCount f_done f_stuck f_curNode f_curEnv f_resultValue f_valueCount f_envCount f_depth a_nKind a_nPart a_nParent a_cNode a_cUp a_cChild a_cInst a_cParam a_queue a_rel a_vKind a_vWord a_vEnv a_vField a_eName a_eValue a_eNext a_fNode a_fEnv a_fPart a_fValue g_maxNodes g_maxWeight g_maxVisits g_count g_root g_nc g_weight g_grown g_neg g_made g_next g_nextPar g_nextSlot g_nextLex g_stuck b_kinds b_parts b_cNode b_cPar b_cSlot b_le b_saved b_cur b_nxt b_first b_vNode b_vPar b_vSlot b_vLex b_val b_num n kd cd pp par mN mW mV T U I'
  obtain ⟨s, hX, hY, _⟩ := zz_verd T U
  exact hX _ (hY _ (And.intro rfl I'))
/-! meetings -/
section
variable {f_maxNodes f_maxWeight f_maxVisits f_nodeCount f_sealed f_verdictNow f_copyCount f_varCount : Int32} {f_atSet : Int64} {f_atNeg f_visitCount f_done f_stuck f_curNode f_curEnv f_resultValue f_valueCount f_envCount f_depth : Int32} {a_nKind a_nPart a_nParent a_cNode a_cUp a_cChild a_cInst a_cParam a_queue : Nat → Int32} {a_rel : Nat → Int64} {a_vKind a_vWord a_vEnv a_vField a_eName a_eValue a_eNext a_fNode a_fEnv a_fPart a_fValue : Nat → Int32} {g_maxNodes g_maxWeight g_maxVisits g_count g_root g_nc g_weight g_grown g_neg g_made g_next g_nextPar g_nextSlot g_nextLex g_stuck : Int32} {b_kinds b_parts b_cNode b_cPar b_cSlot b_le b_saved b_cur b_nxt b_first b_vNode b_vPar b_vSlot b_vLex b_val b_num : Nat → Int32} {n0 : Nat} {kd : Nat → Nat} {cd : Nat → Nat → Option Nat} {pp : Nat → Int32} {par : Nat → Option Nat} {nc vc : Nat} {cn : Nat → Nat} {cu : Nat → Option Nat} {cs : Nat → Nat} {sb : Nat → Nat → Option Nat} {pv : Nat → Nat}
theorem xw_nm {post : Int32 → Prop} (W : tm_WF n0 kd cd pp par) (A : tm_Ag n0 kd pp a_nKind a_nPart) (X : cp_X n0 nc kd cn cu sb pv a_cNode a_cUp a_cChild a_cInst a_cParam) (T : cp_T nc cu sb) {a b : Nat} (ha : a < 48) (hb : b < 48) (h1 : (∃ c d, c < nc ∧ d < nc ∧ cn c = a ∧ cn d = b ∧ cl_ur (fun c => kd (cn c)) sb (fun w => cl_tb (a_rel c) w = true) d) → post 1) (h0 : (¬ ∃ c d, c < nc ∧ d < nc ∧ cn c = a ∧ cn d = b ∧ cl_ur (fun c => kd (cn c)) sb (fun w => cl_tb (a_rel c) w = true) d) → post 0) : wpX_nodesMeet post (f_maxNodes, f_maxWeight, f_maxVisits, f_nodeCount, f_sealed, f_verdictNow, nI nc, f_varCount, f_atSet, f_atNeg, f_visitCount, f_done, f_stuck, f_curNode, f_curEnv, f_resultValue, f_valueCount, f_envCount, f_depth, a_nKind, a_nPart, a_nParent, a_cNode, a_cUp, a_cChild, a_cInst, a_cParam, a_queue, a_rel, a_vKind, a_vWord, a_vEnv, a_vField, a_eName, a_eValue, a_eNext, a_fNode, a_fEnv, a_fPart, a_fValue) (nI a) (nI b) := by
  have hn := tm_n W
  have hnc := T.1
  have k23 : ∀ (J : Int32 → Prop) (c : Nat), c < nc → cn c = a → ∀ m d, d + m = nc → ((∀ d', d ≤ d' → d' < nc → ¬ (cn d' = b ∧ cl_ur (fun c => kd (cn c)) sb (fun w => cl_tb (a_rel c) w = true) d')) → J (nI (c + 1))) → wX_nodesMeet_23 post J (nI a) (nI b) (nI c) f_maxNodes f_maxWeight f_maxVisits f_nodeCount f_sealed f_verdictNow (nI nc) f_varCount f_atSet f_atNeg f_visitCount f_done f_stuck f_curNode f_curEnv f_resultValue f_valueCount f_envCount f_depth a_nKind a_nPart a_nParent a_cNode a_cUp a_cChild a_cInst a_cParam a_queue a_rel a_vKind a_vWord a_vEnv a_vField a_eName a_eValue a_eNext a_fNode a_fEnv a_fPart a_fValue (m + 1) (nI d) := by
    intro J c hc ec m
    induction m with
    | zero =>
      intro d hd h
      refine br_t ?_ (nm_r (nI_1 c) (h fun d' x y => by omega))
      show nI nc ≤ nI d
      rw [nI_leI (by omega) (by omega)]; omega
    | succ m ih =>
      intro d hd h
      have q := X.1 d (by omega)
      have N : ¬ (cn d = b ∧ cl_ur (fun c => kd (cn c)) sb (fun w => cl_tb (a_rel c) w = true) d) → wX_nodesMeet_23 post J (nI a) (nI b) (nI c) f_maxNodes f_maxWeight f_maxVisits f_nodeCount f_sealed f_verdictNow (nI nc) f_varCount f_atSet f_atNeg f_visitCount f_done f_stuck f_curNode f_curEnv f_resultValue f_valueCount f_envCount f_depth a_nKind a_nPart a_nParent a_cNode a_cUp a_cChild a_cInst a_cParam a_queue a_rel a_vKind a_vWord a_vEnv a_vField a_eName a_eValue a_eNext a_fNode a_fEnv a_fPart a_fValue (m + 1) (nI (d + 1)) := fun z => ih (d + 1) (by omega) fun g => h fun d' x y => by
        rcases Nat.eq_or_lt_of_le x with e | e
        · subst e; exact z
        · exact g d' e y
      refine br_f ?_ ⟨vp_in_nI (by omega) (by omega), ?_⟩
      · show ¬ nI nc ≤ nI d
        rw [nI_leI (by omega) (by omega)]; omega
      rw [nI_clamp (show d < 2 ^ 31 by omega), q.1, nI_eq (by omega) (by omega), nI_clamp (show c < 2 ^ 31 by omega)]
      exact br_c (fun e => ⟨vp_in_nI (by omega) (by omega), xw_ur W A X T (by omega) (fun y => br_f (by decide) (h1 ⟨c, d, hc, by omega, ec, e, y⟩)) (fun y => br_t rfl (nm_r (nI_1 d) (N fun w => y w.2)))⟩) (fun e => nm_r (nI_1 d) (N fun w => e w.1))
  have k2 : ∀ m c, c + m = nc → ((∀ c' d, c ≤ c' → ¬ (c' < nc ∧ d < nc ∧ cn c' = a ∧ cn d = b ∧ cl_ur (fun c => kd (cn c)) sb (fun w => cl_tb (a_rel c') w = true) d)) → post 0) → wX_nodesMeet_2 post (nI a) (nI b) f_maxNodes f_maxWeight f_maxVisits f_nodeCount f_sealed f_verdictNow (nI nc) f_varCount f_atSet f_atNeg f_visitCount f_done f_stuck f_curNode f_curEnv f_resultValue f_valueCount f_envCount f_depth a_nKind a_nPart a_nParent a_cNode a_cUp a_cChild a_cInst a_cParam a_queue a_rel a_vKind a_vWord a_vEnv a_vField a_eName a_eValue a_eNext a_fNode a_fEnv a_fPart a_fValue (m + 1) (nI c) := by
    intro m
    induction m with
    | zero =>
      intro c hc h
      refine br_t ?_ (h fun c' d x y => by omega)
      show nI nc ≤ nI c
      rw [nI_leI (by omega) (by omega)]; omega
    | succ m ih =>
      intro c hc h
      have q := X.1 c (by omega)
      have N : (∀ d, ¬ (c < nc ∧ d < nc ∧ cn c = a ∧ cn d = b ∧ cl_ur (fun c => kd (cn c)) sb (fun w => cl_tb (a_rel c) w = true) d)) → wX_nodesMeet_2 post (nI a) (nI b) f_maxNodes f_maxWeight f_maxVisits f_nodeCount f_sealed f_verdictNow (nI nc) f_varCount f_atSet f_atNeg f_visitCount f_done f_stuck f_curNode f_curEnv f_resultValue f_valueCount f_envCount f_depth a_nKind a_nPart a_nParent a_cNode a_cUp a_cChild a_cInst a_cParam a_queue a_rel a_vKind a_vWord a_vEnv a_vField a_eName a_eValue a_eNext a_fNode a_fEnv a_fPart a_fValue (m + 1) (nI (c + 1)) := fun z => ih (c + 1) (by omega) fun g => h fun c' d x => by
        rcases Nat.eq_or_lt_of_le x with e | e
        · subst e; exact z d
        · exact g c' d e
      refine br_f ?_ ⟨vp_in_nI (by omega) (by omega), ?_⟩
      · show ¬ nI nc ≤ nI c
        rw [nI_leI (by omega) (by omega)]; omega
      rw [nI_clamp (show c < 2 ^ 31 by omega), q.1, nI_eq (by omega) (by omega)]
      exact br_c (fun e => ⟨nc + 1, k23 _ c (by omega) e nc 0 (by omega) fun g => N fun d w => g d (Nat.zero_le _) w.2.1 w.2.2.2⟩) (fun e => nm_r (nI_1 c) (N fun d w => e w.2.2.1))
  exact ⟨nc + 1, k2 nc 0 (by omega) fun g => h0 fun ⟨c, d, w⟩ => g c d (Nat.zero_le _) w⟩
theorem yw_nm {post : Int32 → Prop} {a b : Nat} {ck : Bool} (W : tm_WF n0 kd cd pp par) (A : tm_Ag n0 kd pp b_kinds b_parts) (Y : cp_Y n0 nc cn cu cs sb b_cNode b_cPar b_cSlot) (T : cp_T nc cu sb) (ha : a < 48) (hb : b < 48) (hsrc : ∀ c, c < nc → cn c = a → cl_src (kd (cn c)) = true) (hck : ∀ post : Int32 → Prop, post (nu_b ck) → wpY_clash post (g_maxNodes, g_maxWeight, g_maxVisits, g_count, g_root, nI nc, g_weight, g_grown, g_neg, g_made, g_next, g_nextPar, g_nextSlot, g_nextLex, g_stuck, b_kinds, b_parts, b_cNode, b_cPar, b_cSlot, b_le, b_saved, b_cur, b_nxt, b_first, b_vNode, b_vPar, b_vSlot, b_vLex, b_val, b_num) (nI a) (nI b))
    (h1 : (∃ c d, c < nc ∧ d < nc ∧ cn c = a ∧ cn d = b ∧ cl_ur (fun c => kd (cn c)) sb (yl_a b_le c) d) → post (if ck = true then 2 else 1)) (h0 : (¬ ∃ c d, c < nc ∧ d < nc ∧ cn c = a ∧ cn d = b ∧ cl_ur (fun c => kd (cn c)) sb (yl_a b_le c) d) → post 0) : ∃ f, wY_meets_64 post (nI a) (nI b) g_maxNodes g_maxWeight g_maxVisits g_count g_root (nI nc) g_weight g_grown g_neg g_made g_next g_nextPar g_nextSlot g_nextLex g_stuck b_kinds b_parts b_cNode b_cPar b_cSlot b_le b_saved b_cur b_nxt b_first b_vNode b_vPar b_vSlot b_vLex b_val b_num f 0 := by
  have hn := tm_n W
  have hnc := T.1
  have HK : ∀ d, d < nc → (fun c => kd (cn c)) d < 10 := fun d hd => by
    have := tm_k W (Y.1 d hd).2.2.2.1
    show kd (cn d) < 10
    omega
  have k107 : ∀ (J J75 : Int32 → Prop) (d s : Nat) (o : Option Nat), d < nc → s < 2 → nu_lt o nc → (∀ c w, c < nc → cn c = a → o = some w → yl_a b_le c w → post (if ck = true then 2 else 1)) → ∀ m c, c + m = nc → ((∀ c' w, c ≤ c' → c' < nc → ¬ (cn c' = a ∧ o = some w ∧ yl_a b_le c' w)) → J75 (nI (s + 1))) → wY_meets_107 post J J75 (nI a) (nI b) (nI d) (nI s) (nu_o o) g_maxNodes g_maxWeight g_maxVisits g_count g_root (nI nc) g_weight g_grown g_neg g_made g_next g_nextPar g_nextSlot g_nextLex g_stuck b_kinds b_parts b_cNode b_cPar b_cSlot b_le b_saved b_cur b_nxt b_first b_vNode b_vPar b_vSlot b_vLex b_val b_num (m + 1) (nI c) := by
    intro J J75 d s o hd hs ho hit m
    induction m with
    | zero =>
      intro c hc h
      refine br_t ?_ (nm_r (nI_1 s) (h fun c' w x y => by omega))
      show nI nc ≤ nI c
      rw [nI_leI (by omega) (by omega)]; omega
    | succ m ih =>
      intro c hc h
      have q := Y.1 c (by omega)
      have N : (∀ w, ¬ (cn c = a ∧ o = some w ∧ yl_a b_le c w)) → wY_meets_107 post J J75 (nI a) (nI b) (nI d) (nI s) (nu_o o) g_maxNodes g_maxWeight g_maxVisits g_count g_root (nI nc) g_weight g_grown g_neg g_made g_next g_nextPar g_nextSlot g_nextLex g_stuck b_kinds b_parts b_cNode b_cPar b_cSlot b_le b_saved b_cur b_nxt b_first b_vNode b_vPar b_vSlot b_vLex b_val b_num (m + 1) (nI (c + 1)) := fun z => ih (c + 1) (by omega) fun g => h fun c' w x y => by
        rcases Nat.eq_or_lt_of_le x with e | e
        · subst e; exact z w
        · exact g c' w e y
      refine br_f ?_ ⟨vp_in_nI (by omega) (by omega), ?_⟩
      · show ¬ nI nc ≤ nI c
        rw [nI_leI (by omega) (by omega)]; omega
      rw [nI_clamp (show c < 2 ^ 31 by omega), q.1, nI_eq (by omega) (by omega)]
      refine br_c (fun e => yw_met W A Y T (by omega) (nu_ltm ho (by omega)) (fun w ew _ y => br_f (by decide) (hck _ ?_)) (fun y => br_t rfl (nm_r (nI_1 c) (N fun w z => y w z.2.1 (hsrc c (by omega) e) z.2.2)))) (fun e => nm_r (nI_1 c) (N fun w z => e z.1))
      have H := hit c w (by omega) e ew y
      rw [nu_b0]
      refine br_c (fun z => ?_) (fun z => ?_)
      · rw [z] at H; exact H
      · rw [ts_nf z] at H; exact H
  have k75 : ∀ (J : Int32 → Prop) (d : Nat), d < nc → ∀ m s, s + m = 2 → ((∀ c s' w, s ≤ s' → s' < 2 → ¬ (c < nc ∧ cn c = a ∧ cn d = b ∧ cl_uv (fun c => kd (cn c)) sb d s' = some w ∧ yl_a b_le c w)) → J (nI (d + 1))) → wY_meets_75 post J (nI a) (nI b) (nI d) g_maxNodes g_maxWeight g_maxVisits g_count g_root (nI nc) g_weight g_grown g_neg g_made g_next g_nextPar g_nextSlot g_nextLex g_stuck b_kinds b_parts b_cNode b_cPar b_cSlot b_le b_saved b_cur b_nxt b_first b_vNode b_vPar b_vSlot b_vLex b_val b_num (m + 1) (nI s) := by
    intro J d hd m
    induction m with
    | zero =>
      intro s hs h
      have : s = 2 := by omega
      subst this
      exact br_t (by decide) (nm_r (nI_1 d) (h fun c s' w x y => by omega))
    | succ m ih =>
      intro s hs h
      have q := Y.1 d hd
      have N : (∀ c w, ¬ (c < nc ∧ cn c = a ∧ cn d = b ∧ cl_uv (fun c => kd (cn c)) sb d s = some w ∧ yl_a b_le c w)) → wY_meets_75 post J (nI a) (nI b) (nI d) g_maxNodes g_maxWeight g_maxVisits g_count g_root (nI nc) g_weight g_grown g_neg g_made g_next g_nextPar g_nextSlot g_nextLex g_stuck b_kinds b_parts b_cNode b_cPar b_cSlot b_le b_saved b_cur b_nxt b_first b_vNode b_vPar b_vSlot b_vLex b_val b_num (m + 1) (nI (s + 1)) := fun z => ih (s + 1) (by omega) fun g => h fun c s' w x y => by
        rcases Nat.eq_or_lt_of_le x with e | e
        · subst e; exact z c w
        · exact g c s' w e y
      refine br_f ?_ ⟨vp_in_nI (by omega) (by omega), ?_⟩
      · show ¬ (2 : Int32) ≤ nI s
        rw [nu_g2 (by omega)]; omega
      rw [nI_clamp (show d < 2 ^ 31 by omega), q.1, nI_eq (by omega) (by omega)]
      refine br_c (fun e => yw_uv W A Y T hd (by omega) ⟨nc + 1, k107 J _ d s _ hd (by omega) (cl_uvlt T hd (by omega)) (fun c w hc ea eo y => h1 ⟨c, d, hc, hd, ea, e, (cl_uvs HK hd).mpr ⟨s, w, by omega, eo, y⟩⟩) nc 0 (by omega) fun g => N fun c w z => g c w (Nat.zero_le _) z.1 ⟨z.2.1, z.2.2.2⟩⟩) (fun e => ⟨nc + 1, k107 J _ d s none hd (by omega) (fun k z => by cases z) (fun c w _ _ z => by cases z) nc 0 (by omega) fun g => N fun c w z => e z.2.2.1⟩)
  have k64 : ∀ m d, d + m = nc → ((∀ c d', d ≤ d' → ¬ (c < nc ∧ d' < nc ∧ cn c = a ∧ cn d' = b ∧ cl_ur (fun c => kd (cn c)) sb (yl_a b_le c) d')) → post 0) → wY_meets_64 post (nI a) (nI b) g_maxNodes g_maxWeight g_maxVisits g_count g_root (nI nc) g_weight g_grown g_neg g_made g_next g_nextPar g_nextSlot g_nextLex g_stuck b_kinds b_parts b_cNode b_cPar b_cSlot b_le b_saved b_cur b_nxt b_first b_vNode b_vPar b_vSlot b_vLex b_val b_num (m + 1) (nI d) := by
    intro m
    induction m with
    | zero =>
      intro d hd h
      refine br_t ?_ (h fun c d' x y => by omega)
      show nI nc ≤ nI d
      rw [nI_leI (by omega) (by omega)]; omega
    | succ m ih =>
      intro d hd h
      refine br_f ?_ ⟨3, k75 _ d (by omega) 2 0 rfl fun q => ih (d + 1) (by omega) fun g => h fun c d' x => ?_⟩
      · show ¬ nI nc ≤ nI d
        rw [nI_leI (by omega) (by omega)]; omega
      · rcases Nat.eq_or_lt_of_le x with e | e
        · subst e
          rintro ⟨y1, y2, y3, y4, y5⟩
          obtain ⟨s, w, b1, b2, b3⟩ := (cl_uvs HK y2).mp y5
          exact q c s w (Nat.zero_le _) b1 ⟨y1, y3, y4, b2, b3⟩
        · exact g c d' e
  exact ⟨nc + 1, k64 nc 0 (by omega) fun g => h0 fun ⟨c, d, w⟩ => g c d (Nat.zero_le _) w⟩
end
theorem zz_u0 : ∀ k, k < 10 → (cl_u k = 0 ↔ cl_iu k 0 = false) := by decide +kernel
theorem i_vc_meets {k : Nat} {u : SX} {v : SY} (I : i_Rel k u v) (hk : k + 5 ≤ 2563) (v1 : Int32) (v2 : Int32) : wpX_meets (fun r => wpY_meets (fun r' => r' = r ∧ i_Rel (k + 5) u v) v v1 v2) u v1 v2 := by
  have I' : i_Rel (k + 5) u v := I
  revert I'
  refine zz_el (P := fun u v => i_Rel (k + 5) u v → wpX_meets (fun r => wpY_meets (fun r' => r' = r ∧ i_Rel (k + 5) u v) v v1 v2) u v1 v2) ?_ I
  intro f_maxNodes f_maxWeight f_maxVisits f_nodeCount f_sealed f_verdictNow f_copyCount f_varCount f_atSet f_atNeg f_visitCount f_done f_stuck f_curNode f_curEnv f_resultValue f_valueCount f_envCount f_depth a_nKind a_nPart a_nParent a_cNode a_cUp a_cChild a_cInst a_cParam a_queue a_rel a_vKind a_vWord a_vEnv a_vField a_eName a_eValue a_eNext a_fNode a_fEnv a_fPart a_fValue g_maxNodes g_maxWeight g_maxVisits g_count g_root g_nc g_weight g_grown g_neg g_made g_next g_nextPar g_nextSlot g_nextLex g_stuck b_kinds b_parts b_cNode b_cPar b_cSlot b_le b_saved b_cur b_nxt b_first b_vNode b_vPar b_vSlot b_vLex b_val b_num n kd cd pp par mN mW mV T U I'
  rcases U with U | U
  · exact br_t U.1 (br_t (by rw [U.2.1]; decide) (And.intro rfl I'))
  · obtain ⟨n0, r, kd0, cd0, pp0, par0, len, cn, cu, cs, M, q1, q2, q3, ⟨c1, W0, A10, A20, SS, cw, cc, f1, f2, f3, X, Y⟩, q5, _⟩ := U
    obtain ⟨W, A1, A2, hpar, rfl, rfl, h1, h2, h3, h4, h5, h6, h7, l1⟩ := T
    have hn := tm_n W
    have hn0 := tm_n W0
    have CT := rr_cT SS (show un_w kd0 cn (len 320) ≤ 64 by omega)
    have ag := rr_ag W0 A10 W A1 q1
    subst f1 f3 q3
    have nf : ¬ nI r < 0 := nI_pos (by omega)
    -- Y's refusals
    have YR : ∀ rr : Int32, rr = -1 → (∀ a b, a < n → b < n → v1 = nI a → v2 = nI b → cl_src (kd a) = true → cl_iu (kd b) 0 = true → False) → wpY_meets (fun r' => r' = rr ∧ i_Rel (k + 5) (f_maxNodes, f_maxWeight, f_maxVisits, nI n, f_sealed, f_verdictNow, nI (len 320), f_varCount, f_atSet, f_atNeg, f_visitCount, f_done, f_stuck, f_curNode, f_curEnv, f_resultValue, f_valueCount, f_envCount, f_depth, a_nKind, a_nPart, a_nParent, a_cNode, a_cUp, a_cChild, a_cInst, a_cParam, a_queue, a_rel, a_vKind, a_vWord, a_vEnv, a_vField, a_eName, a_eValue, a_eNext, a_fNode, a_fEnv, a_fPart, a_fValue) (g_maxNodes, g_maxWeight, g_maxVisits, nI n, nI r, nI (len 320), g_weight, g_grown, g_neg, g_made, g_next, g_nextPar, g_nextSlot, g_nextLex, g_stuck, b_kinds, b_parts, b_cNode, b_cPar, b_cSlot, b_le, b_saved, b_cur, b_nxt, b_first, b_vNode, b_vPar, b_vSlot, b_vLex, b_val, b_num)) (g_maxNodes, g_maxWeight, g_maxVisits, nI n, nI r, nI (len 320), g_weight, g_grown, g_neg, g_made, g_next, g_nextPar, g_nextSlot, g_nextLex, g_stuck, b_kinds, b_parts, b_cNode, b_cPar, b_cSlot, b_le, b_saved, b_cur, b_nxt, b_first, b_vNode, b_vPar, b_vSlot, b_vLex, b_val, b_num) v1 v2 := fun rr err no => by
      have F : (-1 : Int32) = rr ∧ i_Rel (k + 5) (f_maxNodes, f_maxWeight, f_maxVisits, nI n, f_sealed, f_verdictNow, nI (len 320), f_varCount, f_atSet, f_atNeg, f_visitCount, f_done, f_stuck, f_curNode, f_curEnv, f_resultValue, f_valueCount, f_envCount, f_depth, a_nKind, a_nPart, a_nParent, a_cNode, a_cUp, a_cChild, a_cInst, a_cParam, a_queue, a_rel, a_vKind, a_vWord, a_vEnv, a_vField, a_eName, a_eValue, a_eNext, a_fNode, a_fEnv, a_fPart, a_fValue) (g_maxNodes, g_maxWeight, g_maxVisits, nI n, nI r, nI (len 320), g_weight, g_grown, g_neg, g_made, g_next, g_nextPar, g_nextSlot, g_nextLex, g_stuck, b_kinds, b_parts, b_cNode, b_cPar, b_cSlot, b_le, b_saved, b_cur, b_nxt, b_first, b_vNode, b_vPar, b_vSlot, b_vLex, b_val, b_num) := ⟨err.symm, I'⟩
      refine br_f nf (br_c (fun _ => F) (fun z1 => br_c (fun _ => F) (fun z2 => br_c (fun _ => F) (fun z3 => br_c (fun z4 => ?_) (fun _ => F)))))
      obtain ⟨a, ha, rfl⟩ := nI_of z1
      obtain ⟨b, hb, rfl⟩ := nI_of z3
      rw [nI_leI (by omega) ha] at z2
      rw [nI_ltI hb (by omega)] at z4
      have ka := tm_k W (show a < n by omega)
      have kb := tm_k W z4
      refine ⟨vp_in_nI (by omega) (by omega), ?_⟩
      rw [nI_clamp ha, A2.1 a (by omega)]
      refine yw_src (by omega) ?_
      rw [nu_b0]
      refine br_c (fun _ => F) (fun s1 => ⟨vp_in_nI (by omega) (by omega), ?_⟩)
      rw [nI_clamp hb, A2.1 b z4]
      refine yw_iu (s := 0) (by omega) (by omega) ?_
      rw [nu_b0]
      exact br_c (fun _ => F) (fun s2 => (no a b (by omega) z4 rfl rfl (ts_nf s1) (ts_nf s2)).elim)
    refine br_f (by rw [q2]; decide) (xw_ex (by omega) (fun no => br_t rfl (YR _ rfl fun a b ha hb e1 _ _ _ => no a ha e1)) (fun a ha ea => br_f (by decide) (xw_ex (by omega) (fun no => br_t rfl (YR _ rfl fun a b ha hb _ e2 _ _ => no b hb e2)) (fun b hb eb => br_f (by decide) ?_))))
    subst ea eb
    have ka := tm_k W ha
    have kb := tm_k W hb
    refine ⟨vp_in_nI (by omega) (by omega), ?_⟩
    rw [nI_clamp (show b < 2 ^ 31 by omega), A1.1 b hb]
    refine xw_uc (by omega) ⟨vp_in_nI (by omega) (by omega), ?_⟩
    rw [nI_clamp (show a < 2 ^ 31 by omega), A1.1 a ha]
    refine xw_src (by omega) ?_
    rw [nu_b0]
    have inj : ∀ x y, x < n → y < n → nI x = nI y → x = y := fun x y hx hy e => (nI_eq (by omega) (by omega)).mp e
    have u2 := cl_u2 (kd b)
    refine br_c (fun s1 => YR _ rfl fun a' b' ha' hb' e1 e2 x1 _ => ?_) (fun s1 => ?_)
    · rw [← inj _ _ ha ha' e1, s1] at x1; cases x1
    · rw [nu_e0 (by omega), zz_u0 _ (by omega)]
      refine br_c (fun s2 => YR _ rfl fun a' b' ha' hb' e1 e2 _ x2 => ?_) (fun s2 => ?_)
      · rw [← inj _ _ hb hb' e2, s2] at x2; cases x2
      · have YG : ∀ rr : Int32, (∃ f, wY_meets_64 (fun r' => r' = rr ∧ i_Rel (k + 5) (f_maxNodes, f_maxWeight, f_maxVisits, nI n, f_sealed, f_verdictNow, nI (len 320), f_varCount, f_atSet, f_atNeg, f_visitCount, f_done, f_stuck, f_curNode, f_curEnv, f_resultValue, f_valueCount, f_envCount, f_depth, a_nKind, a_nPart, a_nParent, a_cNode, a_cUp, a_cChild, a_cInst, a_cParam, a_queue, a_rel, a_vKind, a_vWord, a_vEnv, a_vField, a_eName, a_eValue, a_eNext, a_fNode, a_fEnv, a_fPart, a_fValue) (g_maxNodes, g_maxWeight, g_maxVisits, nI n, nI r, nI (len 320), g_weight, g_grown, g_neg, g_made, g_next, g_nextPar, g_nextSlot, g_nextLex, g_stuck, b_kinds, b_parts, b_cNode, b_cPar, b_cSlot, b_le, b_saved, b_cur, b_nxt, b_first, b_vNode, b_vPar, b_vSlot, b_vLex, b_val, b_num)) (nI a) (nI b) g_maxNodes g_maxWeight g_maxVisits (nI n) (nI r) (nI (len 320)) g_weight g_grown g_neg g_made g_next g_nextPar g_nextSlot g_nextLex g_stuck b_kinds b_parts b_cNode b_cPar b_cSlot b_le b_saved b_cur b_nxt b_first b_vNode b_vPar b_vSlot b_vLex b_val b_num f 0) → wpY_meets (fun r' => r' = rr ∧ i_Rel (k + 5) (f_maxNodes, f_maxWeight, f_maxVisits, nI n, f_sealed, f_verdictNow, nI (len 320), f_varCount, f_atSet, f_atNeg, f_visitCount, f_done, f_stuck, f_curNode, f_curEnv, f_resultValue, f_valueCount, f_envCount, f_depth, a_nKind, a_nPart, a_nParent, a_cNode, a_cUp, a_cChild, a_cInst, a_cParam, a_queue, a_rel, a_vKind, a_vWord, a_vEnv, a_vField, a_eName, a_eValue, a_eNext, a_fNode, a_fEnv, a_fPart, a_fValue) (g_maxNodes, g_maxWeight, g_maxVisits, nI n, nI r, nI (len 320), g_weight, g_grown, g_neg, g_made, g_next, g_nextPar, g_nextSlot, g_nextLex, g_stuck, b_kinds, b_parts, b_cNode, b_cPar, b_cSlot, b_le, b_saved, b_cur, b_nxt, b_first, b_vNode, b_vPar, b_vSlot, b_vLex, b_val, b_num)) (g_maxNodes, g_maxWeight, g_maxVisits, nI n, nI r, nI (len 320), g_weight, g_grown, g_neg, g_made, g_next, g_nextPar, g_nextSlot, g_nextLex, g_stuck, b_kinds, b_parts, b_cNode, b_cPar, b_cSlot, b_le, b_saved, b_cur, b_nxt, b_first, b_vNode, b_vPar, b_vSlot, b_vLex, b_val, b_num) (nI a) (nI b) := fun rr H => by
          refine br_f nf (br_f (nI_pos (by omega)) (br_f (by rw [nI_leI (by omega) (by omega)]; omega) (br_f (nI_pos (by omega)) (br_t (nI_lt hb (by omega)) ⟨vp_in_nI (by omega) (by omega), ?_⟩))))
          rw [nI_clamp (show a < 2 ^ 31 by omega), A2.1 a ha]
          refine yw_src (by omega) ?_
          rw [ts_nf s1]
          refine br_f (by decide) ⟨vp_in_nI (by omega) (by omega), ?_⟩
          rw [nI_clamp (show b < 2 ^ 31 by omega), A2.1 b hb]
          refine yw_iu (s := 0) (by omega) (by omega) ?_
          rw [ts_nf s2]
          exact br_f (by decide) H
        have hsrc : ∀ c, c < len 320 → cn c = a → cl_src (kd0 (cn c)) = true := fun c hc e => by
          rw [← ag.1 _ (X.1 c hc).2.2, e]; exact ts_nf s1
        have eqv : ∀ c d, c < len 320 → d < len 320 → (cl_ur (fun c => kd0 (cn c)) (un_sb (un_ki kd0 cd0 pp0 par0 r) len cn) (fun w => cl_tb (a_rel c) w = true) d ↔ cl_ur (fun c => kd0 (cn c)) (un_sb (un_ki kd0 cd0 pp0 par0 r) len cn) (yl_a b_le c) d) := fun c d hc hd => cl_urc CT (fun w hw => by
          have := q5.2.1 c w c w (cl_xc hc) (cl_xc hw)
          unfold cl_a at this
          rwa [Nat.zero_add] at this) hd
        refine xw_nm W0 A10 X CT (by omega) (by omega) (fun hm => br_f (by decide) ?_) (fun hm => br_t rfl (YG _ (yw_nm W0 A20 Y CT (by omega) (by omega) hsrc (fun post hp => yw_clash W A2 ha hb hp) (fun z => ?_) (fun _ => And.intro rfl I'))))
        · have hm' : ∃ c d, c < len 320 ∧ d < len 320 ∧ cn c = a ∧ cn d = b ∧ cl_ur (fun c => kd0 (cn c)) (un_sb (un_ki kd0 cd0 pp0 par0 r) len cn) (yl_a b_le c) d := by
            obtain ⟨c, d, x1, x2, x3, x4, x5⟩ := hm
            exact ⟨c, d, x1, x2, x3, x4, (eqv c d x1 x2).mp x5⟩
          refine xw_clash W A1 ha hb ?_
          rw [nu_b0]
          refine br_c (fun z => YG _ (yw_nm W0 A20 Y CT (by omega) (by omega) hsrc (fun post hp => yw_clash W A2 ha hb hp) (fun _ => ?_) (fun y => absurd hm' y))) (fun z => YG _ (yw_nm W0 A20 Y CT (by omega) (by omega) hsrc (fun post hp => yw_clash W A2 ha hb hp) (fun _ => ?_) (fun y => absurd hm' y)))
          · rw [z]; exact And.intro rfl I'
          · rw [ts_nf z]; exact And.intro rfl I'
        · obtain ⟨c, d, x1, x2, x3, x4, x5⟩ := z
          exact absurd ⟨c, d, x1, x2, x3, x4, (eqv c d x1 x2).mpr x5⟩ hm
end
section
/-! head, flow -/
theorem nu_binj {a b : Bool} : nu_b a = nu_b b ↔ a = b := by cases a <;> cases b <;> decide
section
variable {f_maxNodes f_maxWeight f_maxVisits f_nodeCount f_sealed f_verdictNow f_copyCount f_varCount : Int32} {f_atSet : Int64} {f_atNeg f_visitCount f_done f_stuck f_curNode f_curEnv f_resultValue f_valueCount f_envCount f_depth : Int32} {a_nKind a_nPart a_nParent a_cNode a_cUp a_cChild a_cInst a_cParam a_queue : Nat → Int32} {a_rel : Nat → Int64} {a_vKind a_vWord a_vEnv a_vField a_eName a_eValue a_eNext a_fNode a_fEnv a_fPart a_fValue : Nat → Int32} {g_maxNodes g_maxWeight g_maxVisits g_count g_root g_nc g_weight g_grown g_neg g_made g_next g_nextPar g_nextSlot g_nextLex g_stuck : Int32} {b_kinds b_parts b_cNode b_cPar b_cSlot b_le b_saved b_cur b_nxt b_first b_vNode b_vPar b_vSlot b_vLex b_val b_num : Nat → Int32} {n : Nat} {kd : Nat → Nat} {cd : Nat → Nat → Option Nat} {pp : Nat → Int32} {par : Nat → Option Nat} {nc vc : Nat} {cn : Nat → Nat} {cu : Nat → Option Nat} {cs : Nat → Nat} {sb : Nat → Nat → Option Nat} {pv : Nat → Nat}
theorem zz_loc (W : tm_WF n kd cd pp par) (A : tm_Ag n kd pp a_nKind a_nPart) (X : cp_X n nc kd cn cu sb pv a_cNode a_cUp a_cChild a_cInst a_cParam) (A' : tm_Ag n kd pp b_kinds b_parts) (Y : cp_Y n nc cn cu cs sb b_cNode b_cPar b_cSlot) (T : cp_T nc cu sb) (P : cl_pv nc vc (fun c => kd (cn c)) pv) (R : ps_R (cl_x nc (fun c => kd (cn c)) pv) a_rel b_le) (hnc : 0 < nc) {v1 : Int32} (hm : ps_mf v1 = false) :
    ∃ (ok : Bool) (Q : Nat → Prop) (ng : Bool) (h : Int32), ps_I (cl_x nc (fun c => kd (cn c)) pv) Q ∧ 0 ≤ h ∧ (∀ (s f1 : Int64) (f2 : Int32) (post : Int32 → Prop), ps_X (cl_x nc (fun c => kd (cn c)) pv) Q s → post h → wpX_headOf post (f_maxNodes, f_maxWeight, f_maxVisits, f_nodeCount, f_sealed, f_verdictNow, nI nc, nI vc, f1, f2, f_visitCount, f_done, f_stuck, f_curNode, f_curEnv, f_resultValue, f_valueCount, f_envCount, f_depth, a_nKind, a_nPart, a_nParent, a_cNode, a_cUp, a_cChild, a_cInst, a_cParam, a_queue, a_rel, a_vKind, a_vWord, a_vEnv, a_vField, a_eName, a_eValue, a_eNext, a_fNode, a_fEnv, a_fPart, a_fValue) s (nu_b ng)) ∧ (∀ (f1 : Int64) (f2 : Int32) (post : Int32 → SX → Prop), (∀ s', ps_X (cl_x nc (fun c => kd (cn c)) pv) Q s' → post (nu_b ok) (f_maxNodes, f_maxWeight, f_maxVisits, f_nodeCount, f_sealed, f_verdictNow, nI nc, nI vc, s', nu_b ng, f_visitCount, f_done, f_stuck, f_curNode, f_curEnv, f_resultValue, f_valueCount, f_envCount, f_depth, a_nKind, a_nPart, a_nParent, a_cNode, a_cUp, a_cChild, a_cInst, a_cParam, a_queue, a_rel, a_vKind, a_vWord, a_vEnv, a_vField, a_eName, a_eValue, a_eNext, a_fNode, a_fEnv, a_fPart, a_fValue)) → wpX_locate post (f_maxNodes, f_maxWeight, f_maxVisits, f_nodeCount, f_sealed, f_verdictNow, nI nc, nI vc, f1, f2, f_visitCount, f_done, f_stuck, f_curNode, f_curEnv, f_resultValue, f_valueCount, f_envCount, f_depth, a_nKind, a_nPart, a_nParent, a_cNode, a_cUp, a_cChild, a_cInst, a_cParam, a_queue, a_rel, a_vKind, a_vWord, a_vEnv, a_vField, a_eName, a_eValue, a_eNext, a_fNode, a_fEnv, a_fPart, a_fValue) v1) ∧ (∀ (gn : Int32) (bc bx bf : Nat → Int32) (post : Int32 → SY → Prop), (∀ bc' bx', ps_Y Q bc' → post (if ok = true then h else -2) (g_maxNodes, g_maxWeight, g_maxVisits, g_count, g_root, nI nc, g_weight, g_grown, nu_b ng, g_made, g_next, g_nextPar, g_nextSlot, g_nextLex, g_stuck, b_kinds, b_parts, b_cNode, b_cPar, b_cSlot, b_le, b_saved, bc', bx', bf, b_vNode, b_vPar, b_vSlot, b_vLex, b_val, b_num)) → wpY_walk post (g_maxNodes, g_maxWeight, g_maxVisits, g_count, g_root, nI nc, g_weight, g_grown, gn, g_made, g_next, g_nextPar, g_nextSlot, g_nextLex, g_stuck, b_kinds, b_parts, b_cNode, b_cPar, b_cSlot, b_le, b_saved, bc, bx, bf, b_vNode, b_vPar, b_vSlot, b_vLex, b_val, b_num) v1) := by
  have hv1 : ¬ v1 < 0 := fun z => by unfold ps_mf at hm; rw [if_pos z] at hm; cases hm
  obtain ⟨p, hp, rfl⟩ := nI_of hv1
  unfold ps_mf at hm
  rw [if_neg hv1, nI_clamp hp] at hm
  obtain ⟨ok, Q, ng, h, j1, j2, j3, j4, j5⟩ := @ps_loc f_maxNodes f_maxWeight f_maxVisits f_nodeCount f_sealed f_verdictNow f_visitCount f_done f_stuck f_curNode f_curEnv f_resultValue f_valueCount f_envCount f_depth a_nKind a_nPart a_nParent a_cNode a_cUp a_cChild a_cInst a_cParam a_queue a_rel a_vKind a_vWord a_vEnv a_vField a_eName a_eValue a_eNext a_fNode a_fEnv a_fPart a_fValue g_maxNodes g_maxWeight g_maxVisits g_count g_root g_weight g_grown g_made g_next g_nextPar g_nextSlot g_nextLex g_stuck b_kinds b_parts b_cNode b_cPar b_cSlot b_le b_saved b_vNode b_vPar b_vSlot b_vLex b_val b_num n kd cd pp par nc vc cn cu cs sb pv W A X A' Y T P R 11 0 p (fun y => y = 0) false rfl hp hm (fun y e => by rw [e, cl_xc hnc]; intro z; cases z)
  refine ⟨ok, Q, ng, h, j1, j2, j3, fun f1 f2 post H => ⟨12, j4 1 post (fun v => ?_) H⟩, fun gn bc bx bf post H => ?_⟩
  · have e1 : (1 : Int64) = (1 : Int64) <<< ((nI 0).toInt64 &&& 63) := by decide
    rw [e1, bi_1 (by omega)]
    constructor
    · intro e; rw [e]; exact ⟨0, cl_xc hnc, rfl⟩
    · rintro ⟨y, ey, e⟩
      rw [e, cl_xc hnc] at ey
      cases ey; rfl
  · have key : ∀ m i, i + m = 128 → ∀ b, (∀ y, y < i → b y = if y = 0 then 1 else 0) → wY_walk_2 post (nI p) g_maxNodes g_maxWeight g_maxVisits g_count g_root (nI nc) g_weight g_grown gn g_made g_next g_nextPar g_nextSlot g_nextLex g_stuck (m + 1) (nI i) b_kinds b_parts b_cNode b_cPar b_cSlot b_le b_saved b bx bf b_vNode b_vPar b_vSlot b_vLex b_val b_num := by
      intro m
      induction m with
      | zero =>
        intro i hi b D
        have : i = 128 := by omega
        subst this
        refine br_t (by decide) ⟨12, j5 b bx bf post (fun y hy => ?_) H⟩
        rw [D y hy]
        by_cases z : y = 0
        · rw [if_pos z]; exact ⟨Or.inr rfl, fun _ => z, fun _ => by decide⟩
        · rw [if_neg z]; exact ⟨Or.inl rfl, fun w => absurd rfl w, fun w => absurd w z⟩
      | succ m ih =>
        intro i hi b D
        refine br_f ?_ ?_
        · show ¬ (128 : Int32) ≤ nI i
          rw [nu_g128 (by omega)]; omega
        rw [nu_e0 (by omega)]
        refine br_c (fun z => ⟨vp_in_nI (by omega) (by omega), nm_r (e' := upd b i 1) (by rw [nI_clamp (by omega), nu_v1]; rfl) (nm_r (nI_1 i) (ih (i + 1) (by omega) _ fun y hy => ?_))⟩) (fun z => ⟨vp_in_nI (by omega) (by omega), nm_r (e' := upd b i 0) (by rw [nI_clamp (by omega), nu_v0]; rfl) (nm_r (nI_1 i) (ih (i + 1) (by omega) _ fun y hy => ?_))⟩)
        · by_cases e : y = i
          · rw [e, pk_us, if_pos z]
          · rw [pk_un e]; exact D y (by omega)
        · by_cases e : y = i
          · rw [e, pk_us, if_neg z]
          · rw [pk_un e]; exact D y (by omega)
    exact ⟨129, key 128 0 rfl bc fun y hy => by omega⟩
/-- Y's tests of flow and fits -/
theorem yw_pair {post : Int32 → SY → Prop} {pn : Bool} {s v1 v2 : Int32} (hv : ∀ post : Int32 → Prop, post s → wpY_verdict post (g_maxNodes, g_maxWeight, g_maxVisits, g_count, g_root, g_nc, g_weight, g_grown, g_neg, g_made, g_next, g_nextPar, g_nextSlot, g_nextLex, g_stuck, b_kinds, b_parts, b_cNode, b_cPar, b_cSlot, b_le, b_saved, b_cur, b_nxt, b_first, b_vNode, b_vPar, b_vSlot, b_vLex, b_val, b_num)) (hbad : (s ≠ 1 ∨ ps_mf v1 = true ∨ ps_mf v2 = true) → post (-1) (g_maxNodes, g_maxWeight, g_maxVisits, g_count, g_root, g_nc, g_weight, g_grown, g_neg, g_made, g_next, g_nextPar, g_nextSlot, g_nextLex, g_stuck, b_kinds, b_parts, b_cNode, b_cPar, b_cSlot, b_le, b_saved, b_cur, b_nxt, b_first, b_vNode, b_vPar, b_vSlot, b_vLex, b_val, b_num))
    (hgood : s = 1 → ps_mf v1 = false → ps_mf v2 = false → ∃ (ok1 : Bool) (Q1 : Nat → Prop) (ng1 : Bool) (h1 : Int32) (ok2 : Bool) (Q2 : Nat → Prop) (ng2 : Bool) (h2 : Int32), 0 ≤ h1 ∧ 0 ≤ h2 ∧
      (∀ (gn : Int32) (bc bx bf : Nat → Int32) (post : Int32 → SY → Prop), (∀ bc' bx', ps_Y Q1 bc' → post (if ok1 = true then h1 else -2) (g_maxNodes, g_maxWeight, g_maxVisits, g_count, g_root, g_nc, g_weight, g_grown, nu_b ng1, g_made, g_next, g_nextPar, g_nextSlot, g_nextLex, g_stuck, b_kinds, b_parts, b_cNode, b_cPar, b_cSlot, b_le, b_saved, bc', bx', bf, b_vNode, b_vPar, b_vSlot, b_vLex, b_val, b_num)) → wpY_walk post (g_maxNodes, g_maxWeight, g_maxVisits, g_count, g_root, g_nc, g_weight, g_grown, gn, g_made, g_next, g_nextPar, g_nextSlot, g_nextLex, g_stuck, b_kinds, b_parts, b_cNode, b_cPar, b_cSlot, b_le, b_saved, bc, bx, bf, b_vNode, b_vPar, b_vSlot, b_vLex, b_val, b_num) v1) ∧
      (∀ (gn : Int32) (bc bx bf : Nat → Int32) (post : Int32 → SY → Prop), (∀ bc' bx', ps_Y Q2 bc' → post (if ok2 = true then h2 else -2) (g_maxNodes, g_maxWeight, g_maxVisits, g_count, g_root, g_nc, g_weight, g_grown, nu_b ng2, g_made, g_next, g_nextPar, g_nextSlot, g_nextLex, g_stuck, b_kinds, b_parts, b_cNode, b_cPar, b_cSlot, b_le, b_saved, bc', bx', bf, b_vNode, b_vPar, b_vSlot, b_vLex, b_val, b_num)) → wpY_walk post (g_maxNodes, g_maxWeight, g_maxVisits, g_count, g_root, g_nc, g_weight, g_grown, gn, g_made, g_next, g_nextPar, g_nextSlot, g_nextLex, g_stuck, b_kinds, b_parts, b_cNode, b_cPar, b_cSlot, b_le, b_saved, bc, bx, bf, b_vNode, b_vPar, b_vSlot, b_vLex, b_val, b_num) v2) ∧
      ((ok1 = false ∨ ok2 = false) → ∀ (gn : Int32) (bc bx bf : Nat → Int32), post (-2) (g_maxNodes, g_maxWeight, g_maxVisits, g_count, g_root, g_nc, g_weight, g_grown, gn, g_made, g_next, g_nextPar, g_nextSlot, g_nextLex, g_stuck, b_kinds, b_parts, b_cNode, b_cPar, b_cSlot, b_le, b_saved, bc, bx, bf, b_vNode, b_vPar, b_vSlot, b_vLex, b_val, b_num)) ∧
      (ok1 = true → ok2 = true → ∀ (bc bx bf : Nat → Int32), ps_Y Q1 bf → ps_Y Q2 bc → post (if ng1 = pn ∧ ¬ ng2 = pn then 0 else -3) (g_maxNodes, g_maxWeight, g_maxVisits, g_count, g_root, g_nc, g_weight, g_grown, nu_b ng2, g_made, g_next, g_nextPar, g_nextSlot, g_nextLex, g_stuck, b_kinds, b_parts, b_cNode, b_cPar, b_cSlot, b_le, b_saved, bc, bx, bf, b_vNode, b_vPar, b_vSlot, b_vLex, b_val, b_num))) : wpY_pair post (g_maxNodes, g_maxWeight, g_maxVisits, g_count, g_root, g_nc, g_weight, g_grown, g_neg, g_made, g_next, g_nextPar, g_nextSlot, g_nextLex, g_stuck, b_kinds, b_parts, b_cNode, b_cPar, b_cSlot, b_le, b_saved, b_cur, b_nxt, b_first, b_vNode, b_vPar, b_vSlot, b_vLex, b_val, b_num) v1 v2 (nu_b pn) := by
  unfold wpY_pair
  dsimp only
  refine hv _ (br_c (fun e1 => yw_mf ?_) (fun e1 => hbad (Or.inl e1)))
  rw [nu_b0]
  refine br_c (fun m1 => yw_mf ?_) (fun m1 => hbad (Or.inr (Or.inl (ts_nf m1))))
  rw [nu_b0]
  refine br_c (fun m2 => ?_) (fun m2 => hbad (Or.inr (Or.inr (ts_nf m2))))
  obtain ⟨ok1, Q1, ng1, h1, ok2, Q2, ng2, h2, p1, p2, w1, w2, no, yes⟩ := hgood e1 m1 m2
  refine w1 _ _ _ _ _ fun bc1 bx1 D1 => ?_
  cases eo1 : ok1 with
  | false => exact br_f (by show ¬ (0 : Int32) ≤ -2; decide) (no (Or.inl eo1) _ _ _ _)
  | true =>
    refine br_t p1 ?_
    have key : ∀ m i, i + m = 128 → ∀ bf, (∀ y, y < i → bf y = bc1 y) → wY_pair_40 post v2 (nu_b pn) g_maxNodes g_maxWeight g_maxVisits g_count g_root g_nc g_weight g_grown (nu_b ng1) g_made g_next g_nextPar g_nextSlot g_nextLex g_stuck (m + 1) (nI i) b_kinds b_parts b_cNode b_cPar b_cSlot b_le b_saved bc1 bx1 bf b_vNode b_vPar b_vSlot b_vLex b_val b_num := by
      intro m
      induction m with
      | zero =>
        intro i hi bf D
        have : i = 128 := by omega
        subst this
        refine br_t (by decide) (w2 _ _ _ _ _ fun bc2 bx2 D2 => ?_)
        cases eo2 : ok2 with
        | false => exact br_f (by show ¬ (0 : Int32) ≤ -2; decide) (no (Or.inr eo2) _ _ _ _)
        | true =>
          have Z := yes eo1 eo2 bc2 bx2 bf (fun y hy => by rw [D y hy]; exact D1 y hy) D2
          refine br_t p2 ?_
          rw [nu_binj, nu_binj]
          refine br_c (fun a => br_c (fun b => ?_) (fun b => ?_)) (fun a => ?_)
          · rw [if_neg (fun w => w.2 b)] at Z; exact Z
          · rw [if_pos ⟨a, b⟩] at Z; exact Z
          · rw [if_neg (fun w => a w.1)] at Z; exact Z
      | succ m ih =>
        intro i hi bf D
        refine br_f ?_ ⟨vp_in_nI (by omega) (by omega), vp_in_nI (by omega) (by omega), nm_r (e' := upd bf i (bc1 i)) (by rw [nI_clamp (by omega), ps_Yn D1 (by omega)]) (nm_r (nI_1 i) (ih (i + 1) (by omega) _ fun y hy => ?_))⟩
        · show ¬ (128 : Int32) ≤ nI i
          rw [nu_g128 (by omega)]; omega
        · by_cases e : y = i
          · rw [e, pk_us]
          · rw [pk_un e]; exact D y (by omega)
    exact ⟨129, key 128 0 rfl _ fun y hy => by omega⟩
end
section
variable {f_maxNodes f_maxWeight f_maxVisits f_nodeCount f_sealed f_verdictNow f_copyCount f_varCount : Int32} {f_atSet : Int64} {f_atNeg f_visitCount f_done f_stuck f_curNode f_curEnv f_resultValue f_valueCount f_envCount f_depth : Int32} {a_nKind a_nPart a_nParent a_cNode a_cUp a_cChild a_cInst a_cParam a_queue : Nat → Int32} {a_rel : Nat → Int64} {a_vKind a_vWord a_vEnv a_vField a_eName a_eValue a_eNext a_fNode a_fEnv a_fPart a_fValue : Nat → Int32} {g_maxNodes g_maxWeight g_maxVisits g_count g_root g_nc g_weight g_grown g_neg g_made g_next g_nextPar g_nextSlot g_nextLex g_stuck : Int32} {b_kinds b_parts b_cNode b_cPar b_cSlot b_le b_saved b_cur b_nxt b_first b_vNode b_vPar b_vSlot b_vLex b_val b_num : Nat → Int32} {k n : Nat} {kd : Nat → Nat} {cd : Nat → Nat → Option Nat} {pp : Nat → Int32} {par : Nat → Option Nat} {mN mW mV : Nat}
theorem zz_pos {s1 : Int64} {s2 gn gg : Int32} {bc bx bf bs : Nat → Int32} (T : rr_T n kd cd pp par mN mW mV f_maxNodes f_maxWeight f_maxVisits f_nodeCount f_sealed f_verdictNow f_copyCount f_varCount f_atSet f_atNeg f_visitCount f_done f_stuck f_curNode f_curEnv f_resultValue f_valueCount f_envCount f_depth a_nKind a_nPart a_nParent a_cNode a_cUp a_cChild a_cInst a_cParam a_queue a_rel a_vKind a_vWord a_vEnv a_vField a_eName a_eValue a_eNext a_fNode a_fEnv a_fPart a_fValue g_maxNodes g_maxWeight g_maxVisits g_count g_root g_nc g_weight g_grown g_neg g_made g_next g_nextPar g_nextSlot g_nextLex g_stuck b_kinds b_parts b_cNode b_cPar b_cSlot b_le b_saved b_cur b_nxt b_first b_vNode b_vPar b_vSlot b_vLex b_val b_num) (U : rr_U f_maxNodes f_maxWeight f_maxVisits f_nodeCount f_sealed f_verdictNow f_copyCount f_varCount f_atSet f_atNeg f_visitCount f_done f_stuck f_curNode f_curEnv f_resultValue f_valueCount f_envCount f_depth a_nKind a_nPart a_nParent a_cNode a_cUp a_cChild a_cInst a_cParam a_queue a_rel a_vKind a_vWord a_vEnv a_vField a_eName a_eValue a_eNext a_fNode a_fEnv a_fPart a_fValue g_maxNodes g_maxWeight g_maxVisits g_count g_root g_nc g_weight g_grown g_neg g_made g_next g_nextPar g_nextSlot g_nextLex g_stuck b_kinds b_parts b_cNode b_cPar b_cSlot b_le b_saved b_cur b_nxt b_first b_vNode b_vPar b_vSlot b_vLex b_val b_num ∨ rr_S n mW mV f_maxNodes f_maxWeight f_maxVisits f_nodeCount f_sealed f_verdictNow f_copyCount f_varCount f_atSet f_atNeg f_visitCount f_done f_stuck f_curNode f_curEnv f_resultValue f_valueCount f_envCount f_depth a_nKind a_nPart a_nParent a_cNode a_cUp a_cChild a_cInst a_cParam a_queue a_rel a_vKind a_vWord a_vEnv a_vField a_eName a_eValue a_eNext a_fNode a_fEnv a_fPart a_fValue g_maxNodes g_maxWeight g_maxVisits g_count g_root g_nc g_weight g_grown g_neg g_made g_next g_nextPar g_nextSlot g_nextLex g_stuck b_kinds b_parts b_cNode b_cPar b_cSlot b_le b_saved b_cur b_nxt b_first b_vNode b_vPar b_vSlot b_vLex b_val b_num) : i_Rel k (f_maxNodes, f_maxWeight, f_maxVisits, f_nodeCount, f_sealed, f_verdictNow, f_copyCount, f_varCount, s1, s2, f_visitCount, f_done, f_stuck, f_curNode, f_curEnv, f_resultValue, f_valueCount, f_envCount, f_depth, a_nKind, a_nPart, a_nParent, a_cNode, a_cUp, a_cChild, a_cInst, a_cParam, a_queue, a_rel, a_vKind, a_vWord, a_vEnv, a_vField, a_eName, a_eValue, a_eNext, a_fNode, a_fEnv, a_fPart, a_fValue) (g_maxNodes, g_maxWeight, g_maxVisits, g_count, g_root, g_nc, g_weight, gg, gn, g_made, g_next, g_nextPar, g_nextSlot, g_nextLex, g_stuck, b_kinds, b_parts, b_cNode, b_cPar, b_cSlot, b_le, bs, bc, bx, bf, b_vNode, b_vPar, b_vSlot, b_vLex, b_val, b_num) := zz_in (n := n) (kd := kd) (cd := cd) (pp := pp) (par := par) (mN := mN) (mW := mW) (mV := mV) T U
end
theorem i_vc_head {k : Nat} {u : SX} {v : SY} (I : i_Rel k u v) (hk : k + 5 ≤ 2563) (v1 : Int32) : wpX_head (fun r u' => wpY_head (fun r' v' => r' = r ∧ i_Rel (k + 5) u' v') v v1) u v1 := by
  refine zz_el (P := fun u v => wpX_head (fun r u' => wpY_head (fun r' v' => r' = r ∧ i_Rel (k + 5) u' v') v v1) u v1) ?_ I
  intro f_maxNodes f_maxWeight f_maxVisits f_nodeCount f_sealed f_verdictNow f_copyCount f_varCount f_atSet f_atNeg f_visitCount f_done f_stuck f_curNode f_curEnv f_resultValue f_valueCount f_envCount f_depth a_nKind a_nPart a_nParent a_cNode a_cUp a_cChild a_cInst a_cParam a_queue a_rel a_vKind a_vWord a_vEnv a_vField a_eName a_eValue a_eNext a_fNode a_fEnv a_fPart a_fValue g_maxNodes g_maxWeight g_maxVisits g_count g_root g_nc g_weight g_grown g_neg g_made g_next g_nextPar g_nextSlot g_nextLex g_stuck b_kinds b_parts b_cNode b_cPar b_cSlot b_le b_saved b_cur b_nxt b_first b_vNode b_vPar b_vSlot b_vLex b_val b_num n kd cd pp par mN mW mV T U
  obtain ⟨s, hX, hY, hS⟩ := zz_verd T U
  unfold wpX_head wpY_head
  dsimp only
  refine hX _ (br_c (fun e1 => xw_mf ?_) (fun e1 => hY _ (br_f e1 (And.intro rfl (zz_in T U)))))
  rw [nu_b0]
  refine br_c (fun m1 => ?_) (fun m1 => hY _ (br_t e1 (yw_mf ?_)))
  · obtain ⟨n0, r, kd0, cd0, pp0, par0, len, cn, cu, cs, M, q1, q2, q3, ⟨c1, W0, A10, A20, SS, cw, cc, f1, f2, f3, X, Y⟩, q5, _⟩ := hS e1
    have h5 : mW ≤ 64 := T.2.2.2.2.2.2.2.2.2.2.1
    have CT := rr_cT SS (show un_w kd0 cn (len 320) ≤ 64 by omega)
    have CP := rr_cP (kd := kd0) (cn := cn) (len := len) (show un_w kd0 cn (len 320) ≤ 64 by omega)
    have hnc := un_p SS (t := 320) (by omega)
    subst f1 f2 f3
    obtain ⟨ok, Q, ng, h, j1, j2, j3, LX, LY⟩ := zz_loc W0 A10 X A20 Y CT CP q5.2.1 (by omega) m1
    have YW : ∀ post : Int32 → SY → Prop, (∀ bc bx, post (if ok = true then h else -2) (g_maxNodes, g_maxWeight, g_maxVisits, g_count, g_root, nI (len 320), g_weight, g_grown, nu_b ng, g_made, g_next, g_nextPar, g_nextSlot, g_nextLex, g_stuck, b_kinds, b_parts, b_cNode, b_cPar, b_cSlot, b_le, b_saved, bc, bx, b_first, b_vNode, b_vPar, b_vSlot, b_vLex, b_val, b_num)) → wpY_verdict (fun r_1 => (((r_1 = 1 → (wpY_malformed (fun r_34 => (((r_34 = 0 → (wpY_walk post (g_maxNodes, g_maxWeight, g_maxVisits, g_count, g_root, nI (len 320), g_weight, g_grown, g_neg, g_made, g_next, g_nextPar, g_nextSlot, g_nextLex, g_stuck, b_kinds, b_parts, b_cNode, b_cPar, b_cSlot, b_le, b_saved, b_cur, b_nxt, b_first, b_vNode, b_vPar, b_vSlot, b_vLex, b_val, b_num) v1)) ∧ (¬ r_34 = 0 → (post (-1) (g_maxNodes, g_maxWeight, g_maxVisits, g_count, g_root, nI (len 320), g_weight, g_grown, g_neg, g_made, g_next, g_nextPar, g_nextSlot, g_nextLex, g_stuck, b_kinds, b_parts, b_cNode, b_cPar, b_cSlot, b_le, b_saved, b_cur, b_nxt, b_first, b_vNode, b_vPar, b_vSlot, b_vLex, b_val, b_num)))))) (g_maxNodes, g_maxWeight, g_maxVisits, g_count, g_root, nI (len 320), g_weight, g_grown, g_neg, g_made, g_next, g_nextPar, g_nextSlot, g_nextLex, g_stuck, b_kinds, b_parts, b_cNode, b_cPar, b_cSlot, b_le, b_saved, b_cur, b_nxt, b_first, b_vNode, b_vPar, b_vSlot, b_vLex, b_val, b_num) v1)) ∧ (¬ r_1 = 1 → (post (-1) (g_maxNodes, g_maxWeight, g_maxVisits, g_count, g_root, nI (len 320), g_weight, g_grown, g_neg, g_made, g_next, g_nextPar, g_nextSlot, g_nextLex, g_stuck, b_kinds, b_parts, b_cNode, b_cPar, b_cSlot, b_le, b_saved, b_cur, b_nxt, b_first, b_vNode, b_vPar, b_vSlot, b_vLex, b_val, b_num)))))) (g_maxNodes, g_maxWeight, g_maxVisits, g_count, g_root, nI (len 320), g_weight, g_grown, g_neg, g_made, g_next, g_nextPar, g_nextSlot, g_nextLex, g_stuck, b_kinds, b_parts, b_cNode, b_cPar, b_cSlot, b_le, b_saved, b_cur, b_nxt, b_first, b_vNode, b_vPar, b_vSlot, b_vLex, b_val, b_num) := fun post H => hY _ (br_t e1 (yw_mf (by rw [nu_b0]; exact br_t m1 (LY _ _ _ _ post fun bc bx _ => H bc bx))))
    refine LX _ _ _ fun s' S' => ?_
    cases eo : ok with
    | false =>
      refine br_t rfl (YW _ fun bc bx => ?_)
      rw [eo]
      exact And.intro rfl (zz_pos (k := k + 5) T U)
    | true =>
      refine br_f (by decide) (j3 s' s' (nu_b ng) _ S' (YW _ fun bc bx => ?_))
      rw [eo]
      exact And.intro rfl (zz_pos (k := k + 5) T U)
  · rw [nu_b0]
    exact br_f m1 (And.intro rfl (zz_in T U))
theorem i_vc_flow {k : Nat} {u : SX} {v : SY} (I : i_Rel k u v) (hk : k + 5 ≤ 2563) (v1 : Int32) (v2 : Int32) : wpX_flow (fun r u' => wpY_flow (fun r' v' => r' = r ∧ i_Rel (k + 5) u' v') v v1 v2) u v1 v2 := by
  refine zz_el (P := fun u v => wpX_flow (fun r u' => wpY_flow (fun r' v' => r' = r ∧ i_Rel (k + 5) u' v') v v1 v2) u v1 v2) ?_ I
  intro f_maxNodes f_maxWeight f_maxVisits f_nodeCount f_sealed f_verdictNow f_copyCount f_varCount f_atSet f_atNeg f_visitCount f_done f_stuck f_curNode f_curEnv f_resultValue f_valueCount f_envCount f_depth a_nKind a_nPart a_nParent a_cNode a_cUp a_cChild a_cInst a_cParam a_queue a_rel a_vKind a_vWord a_vEnv a_vField a_eName a_eValue a_eNext a_fNode a_fEnv a_fPart a_fValue g_maxNodes g_maxWeight g_maxVisits g_count g_root g_nc g_weight g_grown g_neg g_made g_next g_nextPar g_nextSlot g_nextLex g_stuck b_kinds b_parts b_cNode b_cPar b_cSlot b_le b_saved b_cur b_nxt b_first b_vNode b_vPar b_vSlot b_vLex b_val b_num n kd cd pp par mN mW mV T U
  obtain ⟨s, hX, hY, hS⟩ := zz_verd T U
  unfold wpX_flow
  dsimp only
  have h5 : mW ≤ 64 := T.2.2.2.2.2.2.2.2.2.2.1
  -- refused
  have BAD : (s ≠ 1 ∨ ps_mf v1 = true ∨ ps_mf v2 = true) → wpY_flow (fun r' v' => r' = -1 ∧ i_Rel (k + 5) (f_maxNodes, f_maxWeight, f_maxVisits, f_nodeCount, f_sealed, f_verdictNow, f_copyCount, f_varCount, f_atSet, f_atNeg, f_visitCount, f_done, f_stuck, f_curNode, f_curEnv, f_resultValue, f_valueCount, f_envCount, f_depth, a_nKind, a_nPart, a_nParent, a_cNode, a_cUp, a_cChild, a_cInst, a_cParam, a_queue, a_rel, a_vKind, a_vWord, a_vEnv, a_vField, a_eName, a_eValue, a_eNext, a_fNode, a_fEnv, a_fPart, a_fValue) v') (g_maxNodes, g_maxWeight, g_maxVisits, g_count, g_root, g_nc, g_weight, g_grown, g_neg, g_made, g_next, g_nextPar, g_nextSlot, g_nextLex, g_stuck, b_kinds, b_parts, b_cNode, b_cPar, b_cSlot, b_le, b_saved, b_cur, b_nxt, b_first, b_vNode, b_vPar, b_vSlot, b_vLex, b_val, b_num) v1 v2 := fun hb => by
    unfold wpY_flow
    dsimp only
    refine yw_pair (pn := true) hY (fun _ => ⟨1, br_f (by decide) (And.intro rfl (zz_in T U))⟩) (fun a b c => ?_)
    rcases hb with z | z | z
    · exact absurd a z
    · rw [b] at z; cases z
    · rw [c] at z; cases z
  refine hX _ (br_c (fun e1 => xw_mf ?_) (fun e1 => BAD (Or.inl e1)))
  rw [nu_b0]
  refine br_c (fun m1 => xw_mf ?_) (fun m1 => BAD (Or.inr (Or.inl (ts_nf m1))))
  rw [nu_b0]
  refine br_c (fun m2 => ?_) (fun m2 => BAD (Or.inr (Or.inr (ts_nf m2))))
  obtain ⟨n0, r, kd0, cd0, pp0, par0, len, cn, cu, cs, M, q1, q2, q3, ⟨c1, W0, A10, A20, SS, cw, cc, f1, f2, f3, X, Y⟩, q5, _⟩ := hS e1
  have CT := rr_cT SS (show un_w kd0 cn (len 320) ≤ 64 by omega)
  have CP := rr_cP (kd := kd0) (cn := cn) (len := len) (show un_w kd0 cn (len 320) ≤ 64 by omega)
  have hnc := un_p SS (t := 320) (by omega)
  subst f1 f2 f3
  obtain ⟨ok1, Q1, ng1, h1, i1, p1, _, LX1, LY1⟩ := zz_loc W0 A10 X A20 Y CT CP q5.2.1 (by omega) m1
  obtain ⟨ok2, Q2, ng2, h2, i2, p2, _, LX2, LY2⟩ := zz_loc W0 A10 X A20 Y CT CP q5.2.1 (by omega) m2
  -- Y's whole
  have YF : ∀ (rr : Int32) (s1 : Int64) (s2 : Int32), ((ok1 = false ∨ ok2 = false) → rr = -2) → (ok1 = true → ok2 = true → ¬ (ng1 = true ∧ ¬ ng2 = true) → rr = -3) → (ok1 = true → ok2 = true → ng1 = true → ¬ ng2 = true → ((∃ y z, Q1 y ∧ Q2 z ∧ yl_a b_le y z) → rr = 1) ∧ ((¬ ∃ y z, Q1 y ∧ Q2 z ∧ yl_a b_le y z) → rr = 0)) → wpY_flow (fun r' v' => r' = rr ∧ i_Rel (k + 5) (f_maxNodes, f_maxWeight, f_maxVisits, f_nodeCount, f_sealed, f_verdictNow, nI (len 320), nI (un_w kd0 cn (len 320)), s1, s2, f_visitCount, f_done, f_stuck, f_curNode, f_curEnv, f_resultValue, f_valueCount, f_envCount, f_depth, a_nKind, a_nPart, a_nParent, a_cNode, a_cUp, a_cChild, a_cInst, a_cParam, a_queue, a_rel, a_vKind, a_vWord, a_vEnv, a_vField, a_eName, a_eValue, a_eNext, a_fNode, a_fEnv, a_fPart, a_fValue) v') (g_maxNodes, g_maxWeight, g_maxVisits, g_count, g_root, nI (len 320), g_weight, g_grown, g_neg, g_made, g_next, g_nextPar, g_nextSlot, g_nextLex, g_stuck, b_kinds, b_parts, b_cNode, b_cPar, b_cSlot, b_le, b_saved, b_cur, b_nxt, b_first, b_vNode, b_vPar, b_vSlot, b_vLex, b_val, b_num) v1 v2 := fun rr s1 s2 r2 r3 r1 => by
    unfold wpY_flow
    dsimp only
    refine yw_pair (pn := true) hY (fun hb => ?_) (fun _ _ _ => ⟨ok1, Q1, ng1, h1, ok2, Q2, ng2, h2, p1, p2, LY1, LY2, fun hno gn bc bx bf => ⟨1, br_f (by decide) (And.intro (r2 hno).symm (zz_pos (k := k + 5) T U))⟩, fun o1 o2 bc bx bf D1 D2 => ?_⟩)
    · rcases hb with z | z | z
      · exact absurd e1 z
      · rw [m1] at z; cases z
      · rw [m2] at z; cases z
    · by_cases hp : ng1 = true ∧ ¬ ng2 = true
      · rw [if_pos hp]
        have R1 := r1 o1 o2 hp.1 hp.2
        have key : ∀ m i, i + m = 128 → ((¬ ∃ y, i ≤ y ∧ y < 128 ∧ bf y ≠ 0 ∧ ∃ u, u < 128 ∧ bc u ≠ 0 ∧ yl_a b_le y u) → (0 : Int32) = rr) → wY_flow_11 (fun r' v' => r' = rr ∧ i_Rel (k + 5) (f_maxNodes, f_maxWeight, f_maxVisits, f_nodeCount, f_sealed, f_verdictNow, nI (len 320), nI (un_w kd0 cn (len 320)), s1, s2, f_visitCount, f_done, f_stuck, f_curNode, f_curEnv, f_resultValue, f_valueCount, f_envCount, f_depth, a_nKind, a_nPart, a_nParent, a_cNode, a_cUp, a_cChild, a_cInst, a_cParam, a_queue, a_rel, a_vKind, a_vWord, a_vEnv, a_vField, a_eName, a_eValue, a_eNext, a_fNode, a_fEnv, a_fPart, a_fValue) v') 0 g_maxNodes g_maxWeight g_maxVisits g_count g_root (nI (len 320)) g_weight g_grown (nu_b ng2) g_made g_next g_nextPar g_nextSlot g_nextLex g_stuck b_kinds b_parts b_cNode b_cPar b_cSlot b_le b_saved bc bx bf b_vNode b_vPar b_vSlot b_vLex b_val b_num (m + 1) (nI i) := by
          intro m
          induction m with
          | zero =>
            intro i hi H
            have : i = 128 := by omega
            subst this
            exact br_t rfl (br_t (by decide) (And.intro (H fun ⟨y, a, b, _⟩ => by omega) (zz_pos (k := k + 5) T U)))
          | succ m ih =>
            intro i hi H
            have N : ¬ (bf i ≠ 0 ∧ ∃ u, u < 128 ∧ bc u ≠ 0 ∧ yl_a b_le i u) → wY_flow_11 (fun r' v' => r' = rr ∧ i_Rel (k + 5) (f_maxNodes, f_maxWeight, f_maxVisits, f_nodeCount, f_sealed, f_verdictNow, nI (len 320), nI (un_w kd0 cn (len 320)), s1, s2, f_visitCount, f_done, f_stuck, f_curNode, f_curEnv, f_resultValue, f_valueCount, f_envCount, f_depth, a_nKind, a_nPart, a_nParent, a_cNode, a_cUp, a_cChild, a_cInst, a_cParam, a_queue, a_rel, a_vKind, a_vWord, a_vEnv, a_vField, a_eName, a_eValue, a_eNext, a_fNode, a_fEnv, a_fPart, a_fValue) v') 0 g_maxNodes g_maxWeight g_maxVisits g_count g_root (nI (len 320)) g_weight g_grown (nu_b ng2) g_made g_next g_nextPar g_nextSlot g_nextLex g_stuck b_kinds b_parts b_cNode b_cPar b_cSlot b_le b_saved bc bx bf b_vNode b_vPar b_vSlot b_vLex b_val b_num (m + 1) (nI (i + 1)) := fun z => ih (i + 1) (by omega) fun g => H fun ⟨y, a, b, c⟩ => by
              rcases Nat.eq_or_lt_of_le a with e | e
              · subst e; exact z c
              · exact g ⟨y, e, b, c⟩
            refine br_t rfl (br_f ?_ ⟨vp_in_nI (by omega) (by omega), ?_⟩)
            · show ¬ (128 : Int32) ≤ nI i
              rw [nu_g128 (by omega)]; omega
            rw [nI_clamp (show i < 2 ^ 31 by omega)]
            refine br_c (fun z => nm_r (nI_1 i) (N fun w => w.1 z)) (fun z => yw_above (by omega) (fun a => br_f (by decide) (And.intro ?_ (zz_pos (k := k + 5) T U))) (fun a => br_t rfl (nm_r (nI_1 i) (N fun w => a w.2))))
            obtain ⟨u, hu, hcu, hl⟩ := a
            exact (R1.1 ⟨i, u, (D1 i (by omega)).2.mp z, (D2 u hu).2.mp hcu, hl⟩).symm
        refine ⟨129, key 128 0 rfl fun no => (R1.2 fun ⟨y, z, a, b, c⟩ => no ?_).symm⟩
        have ly : y < 128 := by
          cases e : cl_x (len 320) (fun c => kd0 (cn c)) (fun c => len 320 + un_l kd0 cn c) y with
          | none => exact absurd e (i1 y a)
          | some v => exact (cl_xlt CP e).2
        have lz : z < 128 := by
          cases e : cl_x (len 320) (fun c => kd0 (cn c)) (fun c => len 320 + un_l kd0 cn c) z with
          | none => exact absurd e (i2 z b)
          | some v => exact (cl_xlt CP e).2
        exact ⟨y, Nat.zero_le _, ly, (D1 y ly).2.mpr a, z, lz, (D2 z lz).2.mpr b, c⟩
      · rw [if_neg hp]
        exact ⟨1, br_f (by decide) (And.intro (r3 o1 o2 hp).symm (zz_pos (k := k + 5) T U))⟩
  refine LX1 _ _ _ fun s1 S1 => ?_
  cases eo1 : ok1 with
  | false => exact br_t rfl (YF _ _ _ (fun _ => rfl) (fun z => by rw [eo1] at z; cases z) (fun z => by rw [eo1] at z; cases z))
  | true =>
    refine br_f (by decide) (LX2 _ _ _ fun s2 S2 => ?_)
    cases eo2 : ok2 with
    | false => exact br_t rfl (YF _ _ _ (fun _ => rfl) (fun _ z => by rw [eo2] at z; cases z) (fun _ z => by rw [eo2] at z; cases z))
    | true =>
      have ok12 : ¬ (ok1 = false ∨ ok2 = false) := fun z => by rw [eo1, eo2] at z; rcases z with z | z <;> cases z
      refine br_f (by decide) ?_
      rw [nu_b0, nu_b0]
      refine br_c (fun g1 => YF _ _ _ (fun z => absurd z ok12) (fun _ _ _ => rfl) (fun _ _ z => by rw [g1] at z; cases z)) (fun g1 => br_c (fun g2 => xw_above CP.2.2.1 fun t ht => ?_) (fun g2 => YF _ _ _ (fun z => absurd z ok12) (fun _ _ _ => rfl) (fun _ _ _ z => absurd (ts_nf g2) z)))
      have h4 := ps_h4 CP q5.2.1 i1 S1 ht
      have eqv : (∃ y z, Q1 y ∧ Q2 z ∧ yl_a b_le y z) ↔ ∃ j, cl_tb t j = true ∧ cl_tb s2 j = true := by
        constructor
        · rintro ⟨y, z, a, b, c⟩
          cases e : cl_x (len 320) (fun c => kd0 (cn c)) (fun c => len 320 + un_l kd0 cn c) z with
          | none => exact absurd e (i2 z b)
          | some w => exact ⟨w, (h4 z w e).mpr ⟨y, a, c⟩, (S2 w).mpr ⟨z, e, b⟩⟩
        · rintro ⟨j, a, b⟩
          obtain ⟨z, ez, bq⟩ := (S2 j).mp b
          obtain ⟨y, ay, cy⟩ := (h4 z j ez).mp a
          exact ⟨y, z, ay, bq, cy⟩
      rw [bi_an]
      refine br_c (fun no => YF _ _ _ (fun z => absurd z ok12) (fun _ _ z => absurd ⟨ts_nf g1, by rw [g2]; intro y; cases y⟩ z) (fun _ _ _ _ => ⟨fun z => absurd (eqv.mp z) no, fun _ => rfl⟩)) (fun yes => YF _ _ _ (fun z => absurd z ok12) (fun _ _ z => absurd ⟨ts_nf g1, by rw [g2]; intro y; cases y⟩ z) (fun _ _ _ _ => ⟨fun _ => rfl, fun z => absurd (fun y => z (eqv.mpr y)) yes⟩))
end
section
/-! sealing: what is needed -/
section
variable {n : Nat} {kd : Nat → Nat} {cd : Nat → Nat → Option Nat} {pp : Nat → Int32} {par : Nat → Option Nat} {r : Nat}
theorem rr_up (W : tm_WF n kd cd pp par) (hr : r < n) {v p : Nat} (h : rr_t cd r v) (hv : v ≠ r) (e : par v = some p) : rr_t cd r p := by
  have key : rr_t cd r v ∧ (v = r ∨ ∃ m i, rr_t cd r m ∧ cd m i = some v) := h (fun v => rr_t cd r v ∧ (v = r ∨ ∃ m i, rr_t cd r m ∧ cd m i = some v)) ⟨rr_tr, Or.inl rfl⟩ (fun m i c hm e => ⟨rr_tc hm.1 e, Or.inr ⟨m, i, hm.1, e⟩⟩)
  rcases key.2 with z | ⟨m, i, hm, ec⟩
  · exact absurd z hv
  · have hmn : m < n := by have := rr_tle W hr hm; omega
    have := (tm_c W hmn ec).2
    rw [e] at this
    cases this
    exact hm
theorem rr_in (W : tm_WF n kd cd pp par) (hr : r < n) {v : Nat} (h : rr_t cd r v) : ∀ f, r - v ≤ f → bd_in par r f v = true := by
  have key : v ≤ r ∧ ∀ f, r - v ≤ f → bd_in par r f v = true := by
    refine h (fun v => v ≤ r ∧ ∀ f, r - v ≤ f → bd_in par r f v = true) ⟨Nat.le_refl _, fun f _ => bd_in_r⟩ (fun m i c hm e => ?_)
    have q := tm_c W (show m < n by omega) e
    refine ⟨by omega, fun f hf => ?_⟩
    obtain ⟨f', rfl⟩ : ∃ f', f = f' + 1 := ⟨f - 1, by omega⟩
    rw [bd_in_s (by omega) q.2]
    exact hm.2 f' (by omega)
  exact key.2
theorem rr_bw (W : tm_WF n kd cd pp par) (hr : r < n) {v : Nat} : ∀ f a b, rr_t cd r a → bd_w kd cd pp par r v f a = some b → rr_t cd r b ∧ (kd b = 3 ∨ kd b = 5) := by
  intro f
  induction f with
  | zero => intro a b _ e; cases e
  | succ f ih =>
    intro a b ha e
    by_cases z : a = r
    · subst z; rw [bd_w_r] at e; cases e
    · cases ep : par a with
      | none => rw [bd_w_n z ep] at e; cases e
      | some c =>
        rw [bd_w_s z ep] at e
        have hc := rr_up W hr ha z ep
        split at e
        · next y =>
          cases e
          exact ⟨hc, y.1.elim Or.inl (fun y => Or.inr y.1)⟩
        · exact ih c b hc e
theorem rr_ki (W : tm_WF n kd cd pp par) (hr : r < n) {m i x : Nat} (hm : rr_t cd r m) (e : un_ki kd cd pp par r m i = some x) : rr_t cd r x := by
  unfold un_ki at e
  split at e
  · exact rr_tc hm e
  · by_cases k2 : kd m = 2
    · cases eb : bd_b kd cd pp par r m with
      | none => rw [bd_i_2 k2, eb] at e; cases e
      | some b =>
        rw [bd_i_s k2 eb] at e
        split at e
        · exact rr_tc (rr_bw W hr 48 m b hm eb).1 e
        · cases e
    · rw [bd_i_n k2] at e; cases e
theorem rr_nt (W : tm_WF n kd cd pp par) (hr : r < n) {len cn : Nat → Nat} {cu : Nat → Option Nat} {cs : Nat → Nat} (S : un_S (un_ki kd cd pp par r) r len cn cu cs) : ∀ t, t ≤ 320 → ∀ k, k < len t → rr_t cd r (cn k) := by
  intro t
  induction t with
  | zero =>
    intro _ k hk
    rw [S.1] at hk
    rw [show k = 0 by omega, S.2.1]; exact rr_tr
  | succ t ih =>
    intro ht k h
    by_cases q : k < len t
    · exact ih (by omega) k q
    · by_cases w : t / 5 < len t
      · cases e : un_ki kd cd pp par r (cn (t / 5)) (t % 5) with
        | none => rw [S.2.2.2.2.2.1 t (by omega) w e] at h; omega
        | some x =>
          have z := S.2.2.2.2.1 t x (by omega) w e
          rw [show k = len t by omega, z.2.1]
          exact rr_ki W hr (ih (by omega) _ w) e
      · rw [S.2.2.2.2.2.2 t (by omega) (by omega)] at h; omega
/-- a variable's binder, at a copy -/
theorem rr_hcl (W : tm_WF n kd cd pp par) (hr : r < n) (hcl : ∀ m, rr_t cd r m → kd m = 2 → bd_b kd cd pp par r m ≠ none) {len cn : Nat → Nat} {d : Nat} (hd : rr_t cd r (cn d)) (k2 : kd (cn d) = 2) : ∃ l, bd_b kd cd pp par r (cn d) = some l ∧ (un_sb (un_ki kd cd pp par r) len cn d 4 = none → kd l = 3) ∧ (un_sb (un_ki kd cd pp par r) len cn d 4 ≠ none → kd l ≠ 3) := by
  cases e : bd_b kd cd pp par r (cn d) with
  | none => exact absurd e (hcl _ hd k2)
  | some l =>
    have q := rr_bw W hr 48 _ l hd e
    have hl := bd_blt W l e
    have hi := bd_i_s k2 e
    refine ⟨l, rfl, fun z => ?_, fun z k3 => z ?_⟩
    · rw [un_sbn, un_k5, hi] at z
      rcases q.2 with y | y
      · exact y
      · rw [if_pos y] at z
        exact absurd z (tm_nn W hl (by omega) (by rw [y]; rfl) (by omega))
    · rw [un_sbn, un_k5, hi, if_neg (by omega)]
end
/-- the two closures agree -/
theorem rr_clo {nc vc b : Nat} {kc pv : Nat → Nat} {sb : Nat → Nat → Option Nat} {lb : Nat → Nat} {E : Nat → Nat → Prop} {a : Nat → Int64} {bl : Nat → Int32} (P : cl_pv nc vc kc pv) (hsb : ∀ c s k, c < nc → s < 5 → sb c s = some k → k < nc) (hlb : ∀ d, d < nc → kc d = 7 → lb d < 4) (I : cl_I vc (cl_x nc kc pv) (cl_C nc kc sb lb E) b a) (hE : ∀ y z, E y z → cl_S (cl_x nc kc pv) b a y z) (hR : cl_R nc kc sb lb (cl_S (cl_x nc kc pv) b a))
    (J : yl_I (cl_C nc kc sb lb E) bl) (hEy : ∀ y z, E y z → y < 128 ∧ z < 128 ∧ yl_a bl y z) (hr : ∀ x, x < 128 → yl_a bl x x) (ht : ∀ i j k, i < 128 → j < 128 → k < 128 → yl_a bl i k → yl_a bl k j → yl_a bl i j) (h1 : ∀ c d, c < nc → d < nc → cl_r1 kc sb lb (yl_a bl) c d) :
    (∀ y z v w, cl_x nc kc pv y = some v → cl_x nc kc pv z = some w → (cl_a a b v w ↔ yl_a bl y z)) ∧ (∀ y z, y < 128 → z < 128 → yl_a bl y z → y = z ∨ (cl_x nc kc pv y ≠ none ∧ cl_x nc kc pv z ≠ none)) := by
  have T : ∀ y z, y < 128 → z < 128 → yl_a bl y z → cl_S (cl_x nc kc pv) b a y z := fun y z hy hz h => cl_X P I.1 I.2 hE hR (J.2 y z hy hz h)
  refine ⟨fun y z v w ey ez => ⟨fun h => (cl_Y P.1 hsb hlb hEy hr ht h1 (I.2 y z v w ey ez h)).2.2, fun h => ?_⟩, fun y z hy hz h => ?_⟩
  · rcases T y z (cl_xlt P ey).2 (cl_xlt P ez).2 h with e | ⟨v', w', e1, e2, e3⟩
    · subst e
      rw [ey] at ez
      cases ez
      exact I.1.1 v (cl_xlt P ey).1
    · rw [ey] at e1
      rw [ez] at e2
      cases e1
      cases e2
      exact e3
  · rcases T y z hy hz h with e | ⟨v', w', e1, e2, _⟩
    · exact Or.inl e
    · exact Or.inr ⟨(by rw [e1]; intro q; cases q), by rw [e2]; intro q; cases q⟩
/-- the same clashes -/
theorem rr_acq {nc : Nat} {kd cn : Nat → Nat} {cd : Nat → Nat → Option Nat} {pp : Nat → Int32} {cu : Nat → Option Nat} {sb : Nat → Nat → Option Nat} {Q Q' : Nat → Nat → Prop} (T : cp_T nc cu sb) (h : ∀ c w, c < nc → w < nc → (Q c w ↔ Q' c w)) : (∃ c d, cl_ac nc kd cn cd pp sb Q c d) ↔ ∃ c d, cl_ac nc kd cn cd pp sb Q' c d := by
  constructor
  · rintro ⟨c, d, h1, h2, h3, h4, h5⟩
    exact ⟨c, d, h1, h2, h3, (cl_urc T (fun w hw => h c w h1 hw) h2).mp h4, h5⟩
  · rintro ⟨c, d, h1, h2, h3, h4, h5⟩
    exact ⟨c, d, h1, h2, h3, (cl_urc T (fun w hw => h c w h1 hw) h2).mpr h4, h5⟩
theorem cl_Blt {nc : Nat} {kd cn : Nat → Nat} {sb : Nat → Nat → Option Nat} {bb cu : Nat → Option Nat} (T : cp_T nc cu sb) {x y : Nat} (h : cl_B nc kd cn sb (cl_bp kd bb cu cn) x y) : x < 128 ∧ y < 128 := by
  have hnc := T.1
  obtain ⟨hy, z⟩ := h
  refine ⟨?_, by omega⟩
  have k128 : ∀ s, s < 5 → sb y s = some x → x < 128 := fun s hs e => by
    have := T.2.2 y s x hy hs e; omega
  rcases z with ⟨z1, z | z⟩ | ⟨z1, z⟩ | ⟨z1, z | ⟨c, z, zx⟩⟩
  · exact k128 _ (by omega) z
  · exact k128 _ (by omega) z
  · exact k128 _ (by omega) z
  · exact k128 _ (by omega) z
  · unfold cl_bp at z
    split at z
    · cases z
    · split at z
      · have := (un_bcs T.2.1 64 y c hy z).1; omega
      · cases z
/-- the first state of an evaluation -/
theorem es_init {r : Nat} {kd : Nat → Nat} {cd : Nat → Nat → Option Nat} {pp : Nat → Int32} {rv : Int32} {vK vW vE vF eN eV eX fN fE fP fV bN bP bS bL bV num : Nat → Int32} : es_R 0 r kd cd pp (rr_t cd r) 0 0 (nI r) (-1) rv 0 0 0 vK vW vE vF eN eV eX fN fE fP fV (nI r) (-1) 0 (-1) 0 bN bP bS bL bV num := by
  refine Or.inl ⟨fun _ => r, fun _ => none, fun _ => 0, fun _ => none, fun _ => none, fun _ _ => none, fun _ => 0, fun _ => none, fun _ => 0, 0, 0, ⟨⟨by omega, rfl, rfl, rfl, rfl⟩, fun j h0 h => by omega, fun j j' i _ _ e => (by cases e), fun j o _ e => (by cases e), fun j i _ e => (by cases e), fun i s h => absurd rfl h, fun o _ e => (by cases e), fun p hp _ => ⟨fun q hq => by omega, fun i e => (by cases e), fun j i _ e => (by cases e)⟩, fun j _ => rr_tr⟩, rfl, rfl, ⟨fun j _ k e => (by cases e), fun _ _ _ => rfl, fun j u _ e => (by cases e)⟩, ⟨Nat.zero_le _, fun o h => by omega, fun o o' h => by omega, fun o h => by omega, fun o h => by omega⟩, fun j i _ _ e => (by cases e), fun j h => by omega, Nat.le_refl _, rfl, rfl, rfl, rfl, rfl, rfl, rfl, rfl, rfl, rfl, rfl, rfl⟩
end
section
/-! sealing -/
section
variable {n : Nat} {kd : Nat → Nat} {cd : Nat → Nat → Option Nat} {pp : Nat → Int32} {par : Nat → Option Nat} {r : Nat} {len cn : Nat → Nat} {cu : Nat → Option Nat} {cs : Nat → Nat}
theorem rr_mkX {aN aU aC aI aP : Nat → Int32} (W : tm_WF n kd cd pp par) (hr : r < n) (S : un_S (un_ki kd cd pp par r) r len cn cu cs) (I : un_XI (un_ki kd cd pp par r) len cn cu (len 320) (len 320) 0 aN aU aC aI) (P : un_P kd cn (len 320) (len 320) aP) : cp_X n (len 320) kd cn cu (un_sb (un_ki kd cd pp par r) len cn) (fun c => len 320 + un_l kd cn c) aN aU aC aI aP :=
  ⟨fun k hk => ⟨(I.1 k hk).1, (I.1 k hk).2, un_nt S hr (fun m i x a b => un_klt W a b) 320 (by omega) k hk⟩, fun c s hc hs => I.2.1 c s hc hs, fun c hc => I.2.2.2 c hc, fun c hc => P c hc⟩
theorem rr_mkY {bN bP bS : Nat → Int32} (W : tm_WF n kd cd pp par) (hr : r < n) (S : un_S (un_ki kd cd pp par r) r len cn cu cs) (h64 : len 320 ≤ 64) (I : un_YI cn cu cs (len 320) bN bP bS) : cp_Y n (len 320) cn cu cs (un_sb (un_ki kd cd pp par r) len cn) bN bP bS := by
  refine ⟨fun k hk => ⟨(I k hk).1, (I k hk).2.1, (I k hk).2.2, un_nt S hr (fun m i x a b => un_klt W a b) 320 (by omega) k hk, un_cs S hk⟩, fun c s k hc hs => ⟨fun e => ?_, fun e => un_sbi S e.1 e.2.1 e.2.2⟩⟩
  have q := un_sbk S h64 hc hs e
  exact ⟨q.2.1, q.2.2.2.1, q.2.2.2.2⟩
end
theorem un_wc {kd kd' cn : Nat → Nat} : ∀ k, (∀ j, j < k → kd' (cn j) = kd (cn j)) → un_w kd' cn k = un_w kd cn k
  | 0, _ => rfl
  | k + 1, h => by
    rw [un_w, un_w, un_wc k (fun j hj => h j (by omega)), h k (by omega)]
section
variable {f_maxNodes f_maxWeight f_maxVisits f_nodeCount f_sealed f_verdictNow f_copyCount f_varCount : Int32} {f_atSet : Int64} {f_atNeg f_visitCount f_done f_stuck f_curNode f_curEnv f_resultValue f_valueCount f_envCount f_depth : Int32} {a_nKind a_nPart a_nParent a_cNode a_cUp a_cChild a_cInst a_cParam a_queue : Nat → Int32} {a_rel : Nat → Int64} {a_vKind a_vWord a_vEnv a_vField a_eName a_eValue a_eNext a_fNode a_fEnv a_fPart a_fValue : Nat → Int32} {g_maxNodes g_maxWeight g_maxVisits g_count g_root g_nc g_weight g_grown g_neg g_made g_next g_nextPar g_nextSlot g_nextLex g_stuck : Int32} {b_kinds b_parts b_cNode b_cPar b_cSlot b_le b_saved b_cur b_nxt b_first b_vNode b_vPar b_vSlot b_vLex b_val b_num : Nat → Int32} {k n : Nat} {kd : Nat → Nat} {cd : Nat → Nat → Option Nat} {pp : Nat → Int32} {par : Nat → Option Nat} {mN mW mV : Nat}
/-- too big: Y has its old copies again -/
theorem zz_big {r : Nat} {len cn : Nat → Nat} {cu : Nat → Option Nat} {cs : Nat → Nat} {qx : Nat → Int32} {post : Int32 → SY → Prop} (T : rr_T n kd cd pp par mN mW mV f_maxNodes f_maxWeight f_maxVisits f_nodeCount f_sealed f_verdictNow f_copyCount f_varCount f_atSet f_atNeg f_visitCount f_done f_stuck f_curNode f_curEnv f_resultValue f_valueCount f_envCount f_depth a_nKind a_nPart a_nParent a_cNode a_cUp a_cChild a_cInst a_cParam a_queue a_rel a_vKind a_vWord a_vEnv a_vField a_eName a_eValue a_eNext a_fNode a_fEnv a_fPart a_fValue g_maxNodes g_maxWeight g_maxVisits g_count g_root g_nc g_weight g_grown g_neg g_made g_next g_nextPar g_nextSlot g_nextLex g_stuck b_kinds b_parts b_cNode b_cPar b_cSlot b_le b_saved b_cur b_nxt b_first b_vNode b_vPar b_vSlot b_vLex b_val b_num) (U : rr_U f_maxNodes f_maxWeight f_maxVisits f_nodeCount f_sealed f_verdictNow f_copyCount f_varCount f_atSet f_atNeg f_visitCount f_done f_stuck f_curNode f_curEnv f_resultValue f_valueCount f_envCount f_depth a_nKind a_nPart a_nParent a_cNode a_cUp a_cChild a_cInst a_cParam a_queue a_rel a_vKind a_vWord a_vEnv a_vField a_eName a_eValue a_eNext a_fNode a_fEnv a_fPart a_fValue g_maxNodes g_maxWeight g_maxVisits g_count g_root g_nc g_weight g_grown g_neg g_made g_next g_nextPar g_nextSlot g_nextLex g_stuck b_kinds b_parts b_cNode b_cPar b_cSlot b_le b_saved b_cur b_nxt b_first b_vNode b_vPar b_vSlot b_vLex b_val b_num ∨ rr_S n mW mV f_maxNodes f_maxWeight f_maxVisits f_nodeCount f_sealed f_verdictNow f_copyCount f_varCount f_atSet f_atNeg f_visitCount f_done f_stuck f_curNode f_curEnv f_resultValue f_valueCount f_envCount f_depth a_nKind a_nPart a_nParent a_cNode a_cUp a_cChild a_cInst a_cParam a_queue a_rel a_vKind a_vWord a_vEnv a_vField a_eName a_eValue a_eNext a_fNode a_fEnv a_fPart a_fValue g_maxNodes g_maxWeight g_maxVisits g_count g_root g_nc g_weight g_grown g_neg g_made g_next g_nextPar g_nextSlot g_nextLex g_stuck b_kinds b_parts b_cNode b_cPar b_cSlot b_le b_saved b_cur b_nxt b_first b_vNode b_vPar b_vSlot b_vLex b_val b_num) (hr : r < n) (hcl : ∀ w, bd_cl n kd cd pp par r w) (SS : un_S (un_ki kd cd pp par r) r len cn cu cs) (hw : mW < un_w kd cn (len 320))
    (h : ∀ v', i_Rel k (f_maxNodes, f_maxWeight, f_maxVisits, f_nodeCount, f_sealed, f_verdictNow, f_copyCount, f_varCount, f_atSet, f_atNeg, f_visitCount, f_done, f_stuck, f_curNode, f_curEnv, f_resultValue, f_valueCount, f_envCount, f_depth, a_nKind, a_nPart, a_nParent, a_cNode, a_cUp, a_cChild, a_cInst, a_cParam, qx, a_rel, a_vKind, a_vWord, a_vEnv, a_vField, a_eName, a_eValue, a_eNext, a_fNode, a_fEnv, a_fPart, a_fValue) v' → post (-3) v') : wpY_seal post (g_maxNodes, g_maxWeight, g_maxVisits, g_count, g_root, g_nc, g_weight, g_grown, g_neg, g_made, g_next, g_nextPar, g_nextSlot, g_nextLex, g_stuck, b_kinds, b_parts, b_cNode, b_cPar, b_cSlot, b_le, b_saved, b_cur, b_nxt, b_first, b_vNode, b_vPar, b_vSlot, b_vLex, b_val, b_num) (nI r) := by
  have T' := T
  obtain ⟨W, A1, A2, hpar, e1, rfl, h1, h2, h3, h4, h5, h6, h7, l1, l2, l3, rfl, l5, l6⟩ := T
  have hn := tm_n W
  refine br_f (nI_pos (by omega)) (br_t (nI_lt hr (by omega)) ⟨n + 1, yw_op W A2 hr n 0 (by omega) (fun _ => br_t (by rw [nI_leI (by omega) (by omega)]; omega) ?_) (fun z => absurd (fun w _ => hcl w) z)⟩)
  refine yw_unfold W A2 SS hr h5 h4 (fun z => by omega) (fun _ bN bP bS q w hw1 hw2 => br_f (by rw [nI_leI (by omega) (by omega)]; omega) ?_)
  rcases U with U | U
  · refine br_t (by rw [U.2.1]; decide) (h _ ?_)
    exact zz_in (n := n) (kd := kd) (cd := cd) (pp := pp) (par := par) (mN := mN) (mW := mW) (mV := mV) T' (Or.inl U)
  · obtain ⟨n0, r0, kd0, cd0, pp0, par0, len0, cn0, cu0, cs0, M, q1, q2, q3, ⟨c1, W0, A10, A20, SS0, cw, cc, f1, f2, f3, X, Y⟩, qr⟩ := U
    have hn0 := tm_n W0
    have ag := rr_ag W0 A10 W A1 q1
    have tn : ∀ c, c < len0 320 → rr_t cd0 r0 (cn0 c) := rr_nt W0 c1 SS0 320 (by omega)
    have SC : un_S (un_ki kd cd pp par r0) r0 len0 cn0 cu0 cs0 := un_eqS SS0 fun c i hc hi => by
      have hm := (X.1 c hc).2.2
      unfold un_ki
      by_cases z : i < 4
      · rw [if_pos z, if_pos z, ag.2.2.1 _ _ hm]
      · rw [if_neg z, if_neg z]
        by_cases k2 : kd0 (cn0 c) = 2
        · cases e : bd_b kd0 cd0 pp0 par0 r0 (cn0 c) with
          | none => exact absurd e (cc _ (tn c hc) k2)
          | some b =>
            have hb := bd_blt W0 b e
            rw [bd_i_s k2 e, bd_i_s (b := b) (by rw [ag.1 _ hm]; exact k2) (rr_bd W0 ag hm 48 _ b e), ag.1 _ hb, ag.2.2.1 _ _ hb]
        · rw [bd_i_n k2, bd_i_n (by rw [ag.1 _ hm]; exact k2)]
    have ew : un_w kd cn0 (len0 320) = un_w kd0 cn0 (len0 320) := un_wc _ fun j hj => ag.1 _ (X.1 j hj).2.2
    have q3' := q3
    subst q3'
    refine br_f (nI_pos (by omega)) (yw_unfold W A2 SC (by omega) h5 h4 (fun _ bN' bP' bS' I => h _ ?_) (fun z => by omega))
    have h64 : len0 320 ≤ 64 := by have := un_wl kd0 cn0 (len0 320); omega
    refine zz_in (n := n) (kd := kd) (cd := cd) (pp := pp) (par := par) (mN := mN) (mW := mW) (mV := mV) T' (Or.inr ⟨n0, r0, kd0, cd0, pp0, par0, len0, cn0, cu0, cs0, M, q1, q2, rfl, ⟨c1, W0, A10, A20, SS0, cw, cc, f1, f2, rfl, X, rr_mkY W0 c1 SS0 h64 I⟩, qr⟩)
/-- sealed, both -/
theorem zz_seal {r : Nat} {len cn : Nat → Nat} {cu : Nat → Option Nat} {cs : Nat → Nat} {post : Int32 → SX → Prop} (T : rr_T n kd cd pp par mN mW mV f_maxNodes f_maxWeight f_maxVisits f_nodeCount f_sealed f_verdictNow f_copyCount f_varCount f_atSet f_atNeg f_visitCount f_done f_stuck f_curNode f_curEnv f_resultValue f_valueCount f_envCount f_depth a_nKind a_nPart a_nParent a_cNode a_cUp a_cChild a_cInst a_cParam a_queue a_rel a_vKind a_vWord a_vEnv a_vField a_eName a_eValue a_eNext a_fNode a_fEnv a_fPart a_fValue g_maxNodes g_maxWeight g_maxVisits g_count g_root g_nc g_weight g_grown g_neg g_made g_next g_nextPar g_nextSlot g_nextLex g_stuck b_kinds b_parts b_cNode b_cPar b_cSlot b_le b_saved b_cur b_nxt b_first b_vNode b_vPar b_vSlot b_vLex b_val b_num) (hr : r < n) (hcl : ∀ w, bd_cl n kd cd pp par r w) (SS : un_S (un_ki kd cd pp par r) r len cn cu cs) (hw : un_w kd cn (len 320) ≤ mW)
    (h : ∀ (vd : Int32) (aN aU aC aI aP : Nat → Int32) (ar : Nat → Int64), (∀ postY : Int32 → SY → Prop, (∀ v', i_Rel k (f_maxNodes, f_maxWeight, f_maxVisits, f_nodeCount, 1, vd, nI (len 320), nI (un_w kd cn (len 320)), f_atSet, f_atNeg, 0, 0, 0, nI r, -1, 0, 0, 0, 0, a_nKind, a_nPart, a_nParent, aN, aU, aC, aI, aP, a_queue, ar, a_vKind, a_vWord, a_vEnv, a_vField, a_eName, a_eValue, a_eNext, a_fNode, a_fEnv, a_fPart, a_fValue) v' → postY (nI (un_w kd cn (len 320))) v') → wpY_seal postY (g_maxNodes, g_maxWeight, g_maxVisits, g_count, g_root, g_nc, g_weight, g_grown, g_neg, g_made, g_next, g_nextPar, g_nextSlot, g_nextLex, g_stuck, b_kinds, b_parts, b_cNode, b_cPar, b_cSlot, b_le, b_saved, b_cur, b_nxt, b_first, b_vNode, b_vPar, b_vSlot, b_vLex, b_val, b_num) (nI r)) → post (nI (un_w kd cn (len 320))) (f_maxNodes, f_maxWeight, f_maxVisits, f_nodeCount, 1, vd, nI (len 320), nI (un_w kd cn (len 320)), f_atSet, f_atNeg, 0, 0, 0, nI r, -1, 0, 0, 0, 0, a_nKind, a_nPart, a_nParent, aN, aU, aC, aI, aP, a_queue, ar, a_vKind, a_vWord, a_vEnv, a_vField, a_eName, a_eValue, a_eNext, a_fNode, a_fEnv, a_fPart, a_fValue)) :
    wpX_unfold (fun u => match u with
      | (f_maxNodes_1, f_maxWeight_1, f_maxVisits_1, f_nodeCount_1, f_sealed_1, f_verdictNow_1, f_copyCount_1, f_varCount_1, f_atSet_1, f_atNeg_1, f_visitCount_1, f_done_1, f_stuck_1, f_curNode_1, f_curEnv_1, f_resultValue_1, f_valueCount_1, f_envCount_1, f_depth_1, a_nKind_1, a_nPart_1, a_nParent_1, a_cNode_1, a_cUp_1, a_cChild_1, a_cInst_1, a_cParam_1, a_queue_1, a_rel_1, a_vKind_1, a_vWord_1, a_vEnv_1, a_vField_1, a_eName_1, a_eValue_1, a_eNext_1, a_fNode_1, a_fEnv_1, a_fPart_1, a_fValue_1) => wpX_relate (fun u => match u with
        | (f_maxNodes_2, f_maxWeight_2, f_maxVisits_2, f_nodeCount_2, f_sealed_2, f_verdictNow_2, f_copyCount_2, f_varCount_2, f_atSet_2, f_atNeg_2, f_visitCount_2, f_done_2, f_stuck_2, f_curNode_2, f_curEnv_2, f_resultValue_2, f_valueCount_2, f_envCount_2, f_depth_2, a_nKind_2, a_nPart_2, a_nParent_2, a_cNode_2, a_cUp_2, a_cChild_2, a_cInst_2, a_cParam_2, a_queue_2, a_rel_2, a_vKind_2, a_vWord_2, a_vEnv_2, a_vField_2, a_eName_2, a_eValue_2, a_eNext_2, a_fNode_2, a_fEnv_2, a_fPart_2, a_fValue_2) => wpX_saturate (fun u => match u with
          | (f_maxNodes_3, f_maxWeight_3, f_maxVisits_3, f_nodeCount_3, f_sealed_3, f_verdictNow_3, f_copyCount_3, f_varCount_3, f_atSet_3, f_atNeg_3, f_visitCount_3, f_done_3, f_stuck_3, f_curNode_3, f_curEnv_3, f_resultValue_3, f_valueCount_3, f_envCount_3, f_depth_3, a_nKind_3, a_nPart_3, a_nParent_3, a_cNode_3, a_cUp_3, a_cChild_3, a_cInst_3, a_cParam_3, a_queue_3, a_rel_3, a_vKind_3, a_vWord_3, a_vEnv_3, a_vField_3, a_eName_3, a_eValue_3, a_eNext_3, a_fNode_3, a_fEnv_3, a_fPart_3, a_fValue_3) => wpX_anyClash (fun q => (q = 0 → wX_seal_68 post (nI r) (nI (un_w kd cn (len 320))) 1 f_maxNodes_3 f_maxWeight_3 f_maxVisits_3 f_nodeCount_3 f_sealed_3 f_verdictNow_3 f_copyCount_3 f_varCount_3 f_atSet_3 f_atNeg_3 f_visitCount_3 f_done_3 f_stuck_3 f_curNode_3 f_curEnv_3 f_resultValue_3 f_valueCount_3 f_envCount_3 f_depth_3 a_nKind_3 a_nPart_3 a_nParent_3 a_cNode_3 a_cUp_3 a_cChild_3 a_cInst_3 a_cParam_3 a_queue_3 a_rel_3 a_vKind_3 a_vWord_3 a_vEnv_3 a_vField_3 a_eName_3 a_eValue_3 a_eNext_3 a_fNode_3 a_fEnv_3 a_fPart_3 a_fValue_3) ∧ (¬ q = 0 → wX_seal_68 post (nI r) (nI (un_w kd cn (len 320))) 2 f_maxNodes_3 f_maxWeight_3 f_maxVisits_3 f_nodeCount_3 f_sealed_3 f_verdictNow_3 f_copyCount_3 f_varCount_3 f_atSet_3 f_atNeg_3 f_visitCount_3 f_done_3 f_stuck_3 f_curNode_3 f_curEnv_3 f_resultValue_3 f_valueCount_3 f_envCount_3 f_depth_3 a_nKind_3 a_nPart_3 a_nParent_3 a_cNode_3 a_cUp_3 a_cChild_3 a_cInst_3 a_cParam_3 a_queue_3 a_rel_3 a_vKind_3 a_vWord_3 a_vEnv_3 a_vField_3 a_eName_3 a_eValue_3 a_eNext_3 a_fNode_3 a_fEnv_3 a_fPart_3 a_fValue_3)) (f_maxNodes_3, f_maxWeight_3, f_maxVisits_3, f_nodeCount_3, f_sealed_3, f_verdictNow_3, f_copyCount_3, f_varCount_3, f_atSet_3, f_atNeg_3, f_visitCount_3, f_done_3, f_stuck_3, f_curNode_3, f_curEnv_3, f_resultValue_3, f_valueCount_3, f_envCount_3, f_depth_3, a_nKind_3, a_nPart_3, a_nParent_3, a_cNode_3, a_cUp_3, a_cChild_3, a_cInst_3, a_cParam_3, a_queue_3, a_rel_3, a_vKind_3, a_vWord_3, a_vEnv_3, a_vField_3, a_eName_3, a_eValue_3, a_eNext_3, a_fNode_3, a_fEnv_3, a_fPart_3, a_fValue_3) 0) (f_maxNodes_2, f_maxWeight_2, f_maxVisits_2, f_nodeCount_2, f_sealed_2, f_verdictNow_2, f_copyCount_2, f_varCount_2, f_atSet_2, f_atNeg_2, f_visitCount_2, f_done_2, f_stuck_2, f_curNode_2, f_curEnv_2, f_resultValue_2, f_valueCount_2, f_envCount_2, f_depth_2, a_nKind_2, a_nPart_2, a_nParent_2, a_cNode_2, a_cUp_2, a_cChild_2, a_cInst_2, a_cParam_2, a_queue_2, a_rel_2, a_vKind_2, a_vWord_2, a_vEnv_2, a_vField_2, a_eName_2, a_eValue_2, a_eNext_2, a_fNode_2, a_fEnv_2, a_fPart_2, a_fValue_2) 0) (f_maxNodes_1, f_maxWeight_1, f_maxVisits_1, f_nodeCount_1, f_sealed_1, f_verdictNow_1, f_copyCount_1, f_varCount_1, f_atSet_1, f_atNeg_1, f_visitCount_1, f_done_1, f_stuck_1, f_curNode_1, f_curEnv_1, f_resultValue_1, f_valueCount_1, f_envCount_1, f_depth_1, a_nKind_1, a_nPart_1, a_nParent_1, a_cNode_1, a_cUp_1, a_cChild_1, a_cInst_1, a_cParam_1, a_queue_1, a_rel_1, a_vKind_1, a_vWord_1, a_vEnv_1, a_vField_1, a_eName_1, a_eValue_1, a_eNext_1, a_fNode_1, a_fEnv_1, a_fPart_1, a_fValue_1) (nI r)) (f_maxNodes, f_maxWeight, f_maxVisits, f_nodeCount, 1, f_verdictNow, f_copyCount, f_varCount, f_atSet, f_atNeg, f_visitCount, f_done, f_stuck, f_curNode, f_curEnv, f_resultValue, f_valueCount, f_envCount, f_depth, a_nKind, a_nPart, a_nParent, a_cNode, a_cUp, a_cChild, a_cInst, a_cParam, a_queue, a_rel, a_vKind, a_vWord, a_vEnv, a_vField, a_eName, a_eValue, a_eNext, a_fNode, a_fEnv, a_fPart, a_fValue) (nI r) := by
  have T' := T
  obtain ⟨W, A1, A2, hpar, e1, rfl, h1, h2, h3, h4, h5, h6, h7, l1, l2, l3, rfl, l5, l6⟩ := T
  have hn := tm_n W
  have hwl := un_wl kd cn (len 320)
  have h64 : len 320 ≤ 64 := by omega
  have CT := rr_cT SS (show un_w kd cn (len 320) ≤ 64 by omega)
  have CP := rr_cP (kd := kd) (cn := cn) (len := len) (show un_w kd cn (len 320) ≤ 64 by omega)
  have tn := rr_nt W hr SS 320 (by omega)
  have cls : ∀ m, rr_t cd r m → kd m = 2 → bd_b kd cd pp par r m ≠ none := fun m hm k2 => hcl m (by have := rr_tle W hr hm; omega) k2 (rr_in W hr hm 48 (by omega))
  have hlb : ∀ d, d < (len 320) → (fun c => kd (cn c)) d = 7 → (fun c => tm_l pp (cn c)) d < 4 := fun d hd k7 => by
    have := (tm_l7 W (un_nt SS hr (fun m i x a b => un_klt W a b) 320 (by omega) d hd) k7).2
    show tm_l pp (cn d) < 4
    omega
  have C3 : ∀ p q s, (cl_C (len 320) (fun c => kd (cn c)) (un_sb (un_ki kd cd pp par r) len cn) (fun c => tm_l pp (cn c)) (cl_B (len 320) kd cn (un_sb (un_ki kd cd pp par r) len cn) (cl_bp kd (bd_b kd cd pp par r) cu cn))) p q → (cl_C (len 320) (fun c => kd (cn c)) (un_sb (un_ki kd cd pp par r) len cn) (fun c => tm_l pp (cn c)) (cl_B (len 320) kd cn (un_sb (un_ki kd cd pp par r) len cn) (cl_bp kd (bd_b kd cd pp par r) cu cn))) q s → (cl_C (len 320) (fun c => kd (cn c)) (un_sb (un_ki kd cd pp par r) len cn) (fun c => tm_l pp (cn c)) (cl_B (len 320) kd cn (un_sb (un_ki kd cd pp par r) len cn) (cl_bp kd (bd_b kd cd pp par r) cu cn))) p s := fun p q s => cl_t
  refine xw_unfold W A1 hpar SS hr h64 fun aN aU aC aI aP XI XP => ?_
  have X := rr_mkX W hr SS XI XP
  refine xw_relate (C := (cl_C (len 320) (fun c => kd (cn c)) (un_sb (un_ki kd cd pp par r) len cn) (fun c => tm_l pp (cn c)) (cl_B (len 320) kd cn (un_sb (un_ki kd cd pp par r) len cn) (cl_bp kd (bd_b kd cd pp par r) cu cn)))) W A1 hpar hr X CT CP C3 (fun p hp => cl_r hp) (fun d hd k2 => rr_hcl W hr cls (tn d hd) k2) (fun x d e => cl_e e) fun a1 I1 comp1 => ?_
  refine xw_sat (b := 0) W A1 X CT CP (by omega) I1 fun a2 I2 le2 rest2 R2 => ?_
  have comp2 : ∀ y z, (cl_B (len 320) kd cn (un_sb (un_ki kd cd pp par r) len cn) (cl_bp kd (bd_b kd cd pp par r) cu cn)) y z → cl_S (cl_x (len 320) (fun c => kd (cn c)) (fun c => len 320 + un_l kd cn c)) 0 a2 y z := fun y z e => cl_Sm le2 (comp1 y z e)
  -- Y's side, for each verdict
  have FIN : ∀ vd : Int32, ((∃ c d, cl_ac (len 320) kd cn cd pp (un_sb (un_ki kd cd pp par r) len cn) (cl_a a2 0) c d) → vd = 2) → ((¬ ∃ c d, cl_ac (len 320) kd cn cd pp (un_sb (un_ki kd cd pp par r) len cn) (cl_a a2 0) c d) → vd = 1) → wX_seal_68 post (nI r) (nI (un_w kd cn (len 320))) vd f_maxNodes f_maxWeight f_maxVisits f_nodeCount 1 f_verdictNow (nI (len 320)) (nI (un_w kd cn (len 320))) f_atSet f_atNeg f_visitCount f_done f_stuck f_curNode f_curEnv f_resultValue f_valueCount f_envCount f_depth a_nKind a_nPart a_nParent aN aU aC aI aP a_queue a2 a_vKind a_vWord a_vEnv a_vField a_eName a_eValue a_eNext a_fNode a_fEnv a_fPart a_fValue := fun vd v1 v2 => by
    unfold wX_seal_68 wpX_startEvaluation
    dsimp only
    refine h vd aN aU aC aI aP a2 fun postY HY => ?_
    refine br_f (nI_pos (by omega)) (br_t (nI_lt hr (by omega)) ⟨n + 1, yw_op W A2 hr n 0 (by omega) (fun _ => br_t (by rw [nI_leI (by omega) (by omega)]; omega) ?_) (fun z => absurd (fun w _ => hcl w) z)⟩)
    refine yw_unfold W A2 SS hr h5 h4 (fun _ bN bP bS YI => br_t (nI_le hw (by omega)) ?_) (fun z => by omega)
    have Y := rr_mkY W hr SS h64 YI
    refine yw_base (C := (cl_C (len 320) (fun c => kd (cn c)) (un_sb (un_ki kd cd pp par r) len cn) (fun c => tm_l pp (cn c)) (cl_B (len 320) kd cn (un_sb (un_ki kd cd pp par r) len cn) (cl_bp kd (bd_b kd cd pp par r) cu cn)))) W A2 Y CT hr (fun p hp => cl_r hp) (fun x d e => cl_e e) fun g b1 J1 rf1 be1 => ?_
    refine yw_grow W A2 Y CT J1 fun g' b2 J2 lb2 tr2 r12 => HY _ ?_
    have rf2 : ∀ x, x < 128 → yl_a b2 x x := fun x hx => yl_aa lb2 hx hx (rf1 x hx)
    have be2 : ∀ y z, (cl_B (len 320) kd cn (un_sb (un_ki kd cd pp par r) len cn) (cl_bp kd (bd_b kd cd pp par r) cu cn)) y z → y < 128 ∧ z < 128 ∧ yl_a b2 y z := fun y z e => by
      have q := cl_Blt CT e
      exact ⟨q.1, q.2, yl_aa lb2 q.1 q.2 (be1 y z e)⟩
    have K := rr_clo CP CT.2.2 hlb I2 comp2 R2 J2 be2 rf2 tr2 r12
    have ac := rr_acq (kd := kd) (cn := cn) (cd := cd) (pp := pp) CT (Q := cl_a a2 0) (Q' := yl_a b2) fun c w hc hw => K.1 c w c w (cl_xc hc) (cl_xc hw)
    exact zz_in (n := n) (kd := kd) (cd := cd) (pp := pp) (par := par) (mN := mN) (mW := mW) (mV := mV) T' (Or.inr ⟨n, r, kd, cd, pp, par, len, cn, cu, cs, 0, Nat.le_refl _, rfl, rfl, ⟨hr, W, A1, A2, SS, hw, cls, rfl, rfl, rfl, X, Y⟩, ⟨I2.1, K.1, J2.1, K.2, rf2⟩, fun z => v1 (ac.mpr z), fun z => v2 fun y => z (ac.mp y), rfl, rfl, Nat.zero_le _, es_init⟩)
  exact xw_ac (b := 0) W A1 X CT (by omega) (fun z => br_f (by decide) (FIN 2 (fun _ => rfl) (fun y => absurd z y))) (fun z => br_t rfl (FIN 1 (fun y => absurd y z) (fun _ => rfl)))
end
theorem i_vc_seal {k : Nat} {u : SX} {v : SY} (I : i_Rel k u v) (hk : k + 5 ≤ 2563) (v1 : Int32) : wpX_seal (fun r u' => wpY_seal (fun r' v' => r' = r ∧ i_Rel (k + 5) u' v') v v1) u v1 := by
  refine zz_el (P := fun u v => wpX_seal (fun r u' => wpY_seal (fun r' v' => r' = r ∧ i_Rel (k + 5) u' v') v v1) u v1) ?_ I
  intro f_maxNodes f_maxWeight f_maxVisits f_nodeCount f_sealed f_verdictNow f_copyCount f_varCount f_atSet f_atNeg f_visitCount f_done f_stuck f_curNode f_curEnv f_resultValue f_valueCount f_envCount f_depth a_nKind a_nPart a_nParent a_cNode a_cUp a_cChild a_cInst a_cParam a_queue a_rel a_vKind a_vWord a_vEnv a_vField a_eName a_eValue a_eNext a_fNode a_fEnv a_fPart a_fValue g_maxNodes g_maxWeight g_maxVisits g_count g_root g_nc g_weight g_grown g_neg g_made g_next g_nextPar g_nextSlot g_nextLex g_stuck b_kinds b_parts b_cNode b_cPar b_cSlot b_le b_saved b_cur b_nxt b_first b_vNode b_vPar b_vSlot b_vLex b_val b_num n kd cd pp par mN mW mV T U
  have T' := T
  obtain ⟨W, A1, A2, hpar, rfl, rfl, h1, h2, h3, h4, h5, h6, h7, l1, l2, rfl, rfl, l5, l6⟩ := T
  have hn := tm_n W
  unfold wpX_seal
  dsimp only
  refine xw_ex (by omega) (fun no => br_t rfl ?_) (fun r hr er => br_f (by decide) ?_)
  · refine br_c (fun _ => And.intro rfl (zz_in (k := k + 5) T' U)) (fun z => br_c (fun y => ?_) (fun _ => And.intro rfl (zz_in (k := k + 5) T' U)))
    obtain ⟨j, hj, e⟩ := nI_of z
    rw [e, nI_ltI hj (by omega)] at y
    exact absurd e (no j y)
  · subst er
    refine xw_op W A1 hpar hr (fun hcl => br_t rfl ?_) (fun hcl => br_f (by decide) ?_)
    · obtain ⟨len, cn, cu, cs, SS⟩ := un_ex (un_ki kd cd pp par r) r
      refine xw_weigh W A1 hpar SS hr h5 h4 (fun hw qx => br_t (nI_pos' (by omega)) ?_) (fun hw qx => br_f (by decide) ?_)
      · have T2 : rr_T n kd cd pp par mN mW mV f_maxNodes (nI mW) f_maxVisits (nI n) f_sealed f_verdictNow f_copyCount f_varCount f_atSet f_atNeg f_visitCount f_done f_stuck f_curNode f_curEnv f_resultValue f_valueCount f_envCount f_depth a_nKind a_nPart a_nParent a_cNode a_cUp a_cChild a_cInst a_cParam qx a_rel a_vKind a_vWord a_vEnv a_vField a_eName a_eValue a_eNext a_fNode a_fEnv a_fPart a_fValue g_maxNodes (nI mW) g_maxVisits (nI n) g_root g_nc g_weight g_grown g_neg g_made g_next g_nextPar g_nextSlot g_nextLex g_stuck b_kinds b_parts b_cNode b_cPar b_cSlot b_le b_saved b_cur b_nxt b_first b_vNode b_vPar b_vSlot b_vLex b_val b_num := T'
        exact zz_seal (k := k + 5) T2 hr hcl SS hw fun vd aN aU aC aI aP ar H => H _ fun v' hv => And.intro rfl hv
      · exact zz_big (k := k + 5) (qx := qx) T' U hr hcl SS hw fun v' hv => And.intro rfl hv
    · refine br_f (nI_pos (by omega)) (br_t (nI_lt hr (by omega)) ⟨n + 1, yw_op W A2 hr n 0 (by omega) (fun z => absurd (fun w => z w (Nat.zero_le _)) hcl) (fun _ => And.intro rfl (zz_in (k := k + 5) T' U))⟩)
end
section
/-! fits -/
section
variable {f_maxNodes f_maxWeight f_maxVisits f_nodeCount f_sealed f_verdictNow f_copyCount f_varCount : Int32} {f_atSet : Int64} {f_atNeg f_visitCount f_done f_stuck f_curNode f_curEnv f_resultValue f_valueCount f_envCount f_depth : Int32} {a_nKind a_nPart a_nParent a_cNode a_cUp a_cChild a_cInst a_cParam a_queue : Nat → Int32} {a_rel : Nat → Int64} {a_vKind a_vWord a_vEnv a_vField a_eName a_eValue a_eNext a_fNode a_fEnv a_fPart a_fValue : Nat → Int32} {vc : Nat} {x : Nat → Option Nat} {C : Nat → Nat → Prop}
theorem xw_trial {post : SX → Prop} {Q1 Q2 : Nat → Prop} {s1 s2 : Int64} (hvc : vc ≤ 64) (hx : ∀ y v, x y = some v → v < vc) (hC : ∀ p q s, C p q → C q s → C p s) (S1 : ps_X x Q1 s1) (S2 : ps_X x Q2 s2) (hQ : ∀ y z, Q1 y → Q2 z → C y z) (G : cl_G vc 0 a_rel) (Dd : cl_Sd x C 0 a_rel)
    (h : ∀ a', cl_I vc x C 64 a' → (∀ v w, v < vc → cl_a a_rel 0 v w → cl_a a' 64 v w) → (∀ v w, v < vc → w < vc → cl_tb s1 v = true → cl_tb s2 w = true → cl_a a' 64 v w) → (∀ i, i < 64 → a' i = a_rel i) → post (f_maxNodes, f_maxWeight, f_maxVisits, f_nodeCount, f_sealed, f_verdictNow, f_copyCount, nI vc, f_atSet, f_atNeg, f_visitCount, f_done, f_stuck, f_curNode, f_curEnv, f_resultValue, f_valueCount, f_envCount, f_depth, a_nKind, a_nPart, a_nParent, a_cNode, a_cUp, a_cChild, a_cInst, a_cParam, a_queue, a', a_vKind, a_vWord, a_vEnv, a_vField, a_eName, a_eValue, a_eNext, a_fNode, a_fEnv, a_fPart, a_fValue)) : wpX_startTrial post (f_maxNodes, f_maxWeight, f_maxVisits, f_nodeCount, f_sealed, f_verdictNow, f_copyCount, nI vc, f_atSet, f_atNeg, f_visitCount, f_done, f_stuck, f_curNode, f_curEnv, f_resultValue, f_valueCount, f_envCount, f_depth, a_nKind, a_nPart, a_nParent, a_cNode, a_cUp, a_cChild, a_cInst, a_cParam, a_queue, a_rel, a_vKind, a_vWord, a_vEnv, a_vField, a_eName, a_eValue, a_eNext, a_fNode, a_fEnv, a_fPart, a_fValue) s1 s2 := by
  have k61 : ∀ (J : Int32 → Int32 → Int32 → Int32 → Int32 → Int32 → Int32 → Int32 → Int32 → Int64 → Int32 → Int32 → Int32 → Int32 → Int32 → Int32 → Int32 → Int32 → Int32 → Int32 → (Nat → Int32) → (Nat → Int32) → (Nat → Int32) → (Nat → Int32) → (Nat → Int32) → (Nat → Int32) → (Nat → Int32) → (Nat → Int32) → (Nat → Int32) → (Nat → Int64) → (Nat → Int32) → (Nat → Int32) → (Nat → Int32) → (Nat → Int32) → (Nat → Int32) → (Nat → Int32) → (Nat → Int32) → (Nat → Int32) → (Nat → Int32) → (Nat → Int32) → (Nat → Int32) → Prop) (v : Nat), v < vc → cl_tb s1 v = true → ∀ a0 : Nat → Int64, (∀ a, cl_I vc x C 64 a → cl_le a0 a → (∀ i, i < 64 → a i = a_rel i) → (∀ w, w < vc → cl_tb s2 w = true → cl_a a 64 v w) → J (nI (v + 1)) f_maxNodes f_maxWeight f_maxVisits f_nodeCount f_sealed f_verdictNow f_copyCount (nI vc) f_atSet f_atNeg f_visitCount f_done f_stuck f_curNode f_curEnv f_resultValue f_valueCount f_envCount f_depth a_nKind a_nPart a_nParent a_cNode a_cUp a_cChild a_cInst a_cParam a_queue a a_vKind a_vWord a_vEnv a_vField a_eName a_eValue a_eNext a_fNode a_fEnv a_fPart a_fValue) → ∀ m w, w + m = vc → ∀ a, cl_I vc x C 64 a → cl_le a0 a → (∀ i, i < 64 → a i = a_rel i) → (∀ w', w' < w → cl_tb s2 w' = true → cl_a a 64 v w') → wX_startTrial_61 post J s1 s2 (nI v) (m + 1) (nI w) f_maxNodes f_maxWeight f_maxVisits f_nodeCount f_sealed f_verdictNow f_copyCount (nI vc) f_atSet f_atNeg f_visitCount f_done f_stuck f_curNode f_curEnv f_resultValue f_valueCount f_envCount f_depth a_nKind a_nPart a_nParent a_cNode a_cUp a_cChild a_cInst a_cParam a_queue a a_vKind a_vWord a_vEnv a_vField a_eName a_eValue a_eNext a_fNode a_fEnv a_fPart a_fValue := by
    intro J v hv b1 a0 hJ m
    induction m with
    | zero =>
      intro w hw a I le rs D
      have : w = vc := by omega
      subst this
      refine br_t ?_ (nm_r (nI_1 v) (hJ a I le rs D))
      show nI w ≤ nI w
      rw [nI_leI (by omega) (by omega)]; omega
    | succ m ih =>
      intro w hw a I le rs D
      refine br_f ?_ ?_
      · show ¬ nI vc ≤ nI w
        rw [nI_leI (by omega) (by omega)]; omega
      rw [bi_t (by omega)]
      refine br_c (fun z => nm_r (nI_1 w) (ih (w + 1) (by omega) a I le rs fun w' h' b' => ?_)) (fun z => ?_)
      · rcases Nat.lt_or_ge w' w with y | y
        · exact D w' y b'
        · have : w' = w := by omega
          subst this
          exact absurd b' z
      · obtain ⟨y, ey, q1⟩ := (S1 v).mp b1
        obtain ⟨y', ey', q2⟩ := (S2 w).mp (Classical.not_not.mp z)
        refine xw_edge (b := 64) (y := y) (z := y') hvc (by omega) hx hC ey ey' (hQ y y' q1 q2) I fun g a' I' le' S' rs' _ _ => nm_r (nI_1 w) (ih (w + 1) (by omega) a' I' (fun i j t => le' i j (le i j t)) (fun i hi => by rw [rs' i (Or.inl hi)]; exact rs i hi) fun w' h' b' => ?_)
        rcases Nat.lt_or_ge w' w with t | t
        · exact le' _ _ (D w' t b')
        · have : w' = w := by omega
          subst this
          rcases S' with e | ⟨v1, w1, e1, e2, e3⟩
          · subst e
            rw [ey] at ey'
            cases ey'
            exact I'.1.1 v hv
          · rw [ey] at e1
            rw [ey'] at e2
            cases e1
            cases e2
            exact e3
  have k38 : ∀ m v, v + m = vc → ∀ a, cl_I vc x C 64 a → (∀ u w, u < vc → cl_a a_rel 0 u w → cl_a a 64 u w) → (∀ i, i < 64 → a i = a_rel i) → (∀ v' w, v' < v → w < vc → cl_tb s1 v' = true → cl_tb s2 w = true → cl_a a 64 v' w) → wX_startTrial_38 post s1 s2 (m + 1) (nI v) f_maxNodes f_maxWeight f_maxVisits f_nodeCount f_sealed f_verdictNow f_copyCount (nI vc) f_atSet f_atNeg f_visitCount f_done f_stuck f_curNode f_curEnv f_resultValue f_valueCount f_envCount f_depth a_nKind a_nPart a_nParent a_cNode a_cUp a_cChild a_cInst a_cParam a_queue a a_vKind a_vWord a_vEnv a_vField a_eName a_eValue a_eNext a_fNode a_fEnv a_fPart a_fValue := by
    intro m
    induction m with
    | zero =>
      intro v hv a I le rs D
      have : v = vc := by omega
      subst this
      refine br_t ?_ (h a I le D rs)
      show nI v ≤ nI v
      rw [nI_leI (by omega) (by omega)]; omega
    | succ m ih =>
      intro v hv a I le rs D
      refine br_f ?_ ?_
      · show ¬ nI vc ≤ nI v
        rw [nI_leI (by omega) (by omega)]; omega
      rw [bi_t (by omega)]
      refine br_c (fun z => nm_r (nI_1 v) (ih (v + 1) (by omega) a I le rs fun v' w hv' hw b1 b2 => ?_)) (fun z => ⟨vc + 1, k61 _ v (by omega) (Classical.not_not.mp z) a (fun a' I' le' rs' D' => ih (v + 1) (by omega) a' I' (fun u w hu t => le' _ _ (le u w hu t)) rs' fun v' w hv' hw b1 b2 => ?_) vc 0 (by omega) a I (fun _ _ t => t) rs (fun w' h' => by omega)⟩)
      · rcases Nat.lt_or_ge v' v with y | y
        · exact D v' w y hw b1 b2
        · have : v' = v := by omega
          subst this
          exact absurd b1 z
      · rcases Nat.lt_or_ge v' v with y | y
        · exact le' _ _ (D v' w y hw b1 b2)
        · have : v' = v := by omega
          subst this
          exact D' w hw b2
  have k3 : ∀ m v, v + m = vc → ∀ a : Nat → Int64, (∀ i, i < 64 → a i = a_rel i) → (∀ u, u < v → a (64 + u) = a_rel u) → wX_startTrial_3 post s1 s2 f_maxNodes f_maxWeight f_maxVisits f_nodeCount f_sealed f_verdictNow f_copyCount (nI vc) f_atSet f_atNeg f_visitCount f_done f_stuck f_curNode f_curEnv f_resultValue f_valueCount f_envCount f_depth (m + 1) (nI v) a_nKind a_nPart a_nParent a_cNode a_cUp a_cChild a_cInst a_cParam a_queue a a_vKind a_vWord a_vEnv a_vField a_eName a_eValue a_eNext a_fNode a_fEnv a_fPart a_fValue := by
    intro m
    induction m with
    | zero =>
      intro v hv a rs D
      have : v = vc := by omega
      subst this
      have E : ∀ u w, u < v → (cl_a a 64 u w ↔ cl_a a_rel 0 u w) := fun u w hu => by
        unfold cl_a
        rw [D u hu, Nat.zero_add]
      refine br_t ?_ ⟨v + 1, k38 v 0 (by omega) a ⟨⟨fun u hu => (E u u hu).mpr (G.1 u hu), fun u p w hu hp i j => (E u w hu).mpr (G.2 u p w hu hp ((E u p hu).mp i) ((E p w hp).mp j))⟩, fun y z p w ey ez i => Dd y z p w ey ez ((E p w (hx y p ey)).mp i)⟩ (fun u w hu i => (E u w hu).mpr i) rs (fun v' w hv' => by omega)⟩
      show nI v ≤ nI v
      rw [nI_leI (by omega) (by omega)]; omega
    | succ m ih =>
      intro v hv a rs D
      refine br_f ?_ ⟨vp_in_nI (by omega) (by omega), ?_, nm_r (e' := vp_updL a (64 + v) (a_rel v)) (by rw [show (64 : Int32) + nI v = nI (64 + v) from nI_add 64 v, nI_clamp (show 64 + v < 2 ^ 31 by omega), nI_clamp (show v < 2 ^ 31 by omega), rs v (by omega)]) (nm_r (nI_1 v) (ih (v + 1) (by omega) _ (fun i hi => ?_) fun u hu => ?_))⟩
      · show ¬ nI vc ≤ nI v
        rw [nI_leI (by omega) (by omega)]; omega
      · rw [show (64 : Int32) + nI v = nI (64 + v) from nI_add 64 v]
        exact vp_in_nI (by omega) (by omega)
      · rw [pk_uLn (by omega)]; exact rs i hi
      · by_cases e : u = v
        · rw [e, pk_uLs]
        · rw [pk_uLn (by omega)]; exact D u (by omega)
  exact ⟨vc + 1, k3 vc 0 (by omega) a_rel (fun _ _ => rfl) (fun u hu => by omega)⟩
end
theorem nu_nar {x : Int32} (h : x = 0 ∨ x = 1) : vp_nar .boolean x = x := by
  rcases h with e | e
  · rw [e, nu_v0]; rfl
  · rw [e, nu_v1]; rfl
theorem nu_g14 {a : Nat} (h : a < 2 ^ 31) : 16384 ≤ nI a ↔ 16384 ≤ a := nI_leI (a := 16384) (by decide) h
section
variable {g_maxNodes g_maxWeight g_maxVisits g_count g_root g_nc g_weight g_grown g_neg g_made g_next g_nextPar g_nextSlot g_nextLex g_stuck : Int32} {b_kinds b_parts b_cNode b_cPar b_cSlot b_le b_saved b_cur b_nxt b_first b_vNode b_vPar b_vSlot b_vLex b_val b_num : Nat → Int32} {post : Int32 → SY → Prop} {C : Nat → Nat → Prop}
theorem yw_save (hb : ∀ i, i < 16384 → b_le i = 0 ∨ b_le i = 1) (h : ∀ bs, (∀ i, i < 16384 → bs i = b_le i) → ∃ n48 : Nat, wY_fits_48 post n48 0 g_maxNodes g_maxWeight g_maxVisits g_count g_root g_nc g_weight g_grown g_neg g_made g_next g_nextPar g_nextSlot g_nextLex g_stuck b_kinds b_parts b_cNode b_cPar b_cSlot b_le bs b_cur b_nxt b_first b_vNode b_vPar b_vSlot b_vLex b_val b_num) : ∃ n : Nat, wY_fits_17 post g_maxNodes g_maxWeight g_maxVisits g_count g_root g_nc g_weight g_grown g_neg g_made g_next g_nextPar g_nextSlot g_nextLex g_stuck n 0 b_kinds b_parts b_cNode b_cPar b_cSlot b_le b_saved b_cur b_nxt b_first b_vNode b_vPar b_vSlot b_vLex b_val b_num := by
  have key : ∀ m i, i + m = 16384 → ∀ bs, (∀ j, j < i → bs j = b_le j) → wY_fits_17 post g_maxNodes g_maxWeight g_maxVisits g_count g_root g_nc g_weight g_grown g_neg g_made g_next g_nextPar g_nextSlot g_nextLex g_stuck (m + 1) (nI i) b_kinds b_parts b_cNode b_cPar b_cSlot b_le bs b_cur b_nxt b_first b_vNode b_vPar b_vSlot b_vLex b_val b_num := by
    intro m
    induction m with
    | zero =>
      intro i hi bs D
      have : i = 16384 := by omega
      subst this
      exact br_t (by decide) (h bs D)
    | succ m ih =>
      intro i hi bs D
      refine br_f ?_ ⟨vp_in_nI (by omega) (by omega), vp_in_nI (by omega) (by omega), nm_r (e' := upd bs i (b_le i)) (by rw [nI_clamp (by omega), nu_nar (hb i (by omega))]) (nm_r (nI_1 i) (ih (i + 1) (by omega) _ fun y hy => ?_))⟩
      · show ¬ (16384 : Int32) ≤ nI i
        rw [nu_g14 (by omega)]; omega
      · by_cases e : y = i
        · rw [e, pk_us]
        · rw [pk_un e]; exact D y (by omega)
  exact ⟨16385, key 16384 0 rfl b_saved fun y hy => by omega⟩
theorem yw_rest {x3 : Int32} (hb : ∀ i, i < 16384 → b_saved i = 0 ∨ b_saved i = 1) (h : ∀ bl, (∀ i, i < 16384 → bl i = b_saved i) → post x3 (g_maxNodes, g_maxWeight, g_maxVisits, g_count, g_root, g_nc, g_weight, g_grown, g_neg, g_made, g_next, g_nextPar, g_nextSlot, g_nextLex, g_stuck, b_kinds, b_parts, b_cNode, b_cPar, b_cSlot, bl, b_saved, b_cur, b_nxt, b_first, b_vNode, b_vPar, b_vSlot, b_vLex, b_val, b_num)) : ∃ n : Nat, wY_fits_127 post x3 g_maxNodes g_maxWeight g_maxVisits g_count g_root g_nc g_weight g_grown g_neg g_made g_next g_nextPar g_nextSlot g_nextLex g_stuck n 0 b_kinds b_parts b_cNode b_cPar b_cSlot b_le b_saved b_cur b_nxt b_first b_vNode b_vPar b_vSlot b_vLex b_val b_num := by
  have key : ∀ m i, i + m = 16384 → ∀ bl, (∀ j, j < i → bl j = b_saved j) → wY_fits_127 post x3 g_maxNodes g_maxWeight g_maxVisits g_count g_root g_nc g_weight g_grown g_neg g_made g_next g_nextPar g_nextSlot g_nextLex g_stuck (m + 1) (nI i) b_kinds b_parts b_cNode b_cPar b_cSlot bl b_saved b_cur b_nxt b_first b_vNode b_vPar b_vSlot b_vLex b_val b_num := by
    intro m
    induction m with
    | zero =>
      intro i hi bl D
      have : i = 16384 := by omega
      subst this
      exact br_t (by decide) (h bl D)
    | succ m ih =>
      intro i hi bl D
      refine br_f ?_ ⟨vp_in_nI (by omega) (by omega), vp_in_nI (by omega) (by omega), nm_r (e' := upd bl i (b_saved i)) (by rw [nI_clamp (by omega), nu_nar (hb i (by omega))]) (nm_r (nI_1 i) (ih (i + 1) (by omega) _ fun y hy => ?_))⟩
      · show ¬ (16384 : Int32) ≤ nI i
        rw [nu_g14 (by omega)]; omega
      · by_cases e : y = i
        · rw [e, pk_us]
        · rw [pk_un e]; exact D y (by omega)
  exact ⟨16385, key 16384 0 rfl b_le fun y hy => by omega⟩
theorem yw_trial {Q1 Q2 : Nat → Prop} (D1 : ps_Y Q1 b_first) (D2 : ps_Y Q2 b_cur) (hQ : ∀ y z, y < 128 → z < 128 → Q1 y → Q2 z → C y z) (I : yl_I C b_le)
    (h : ∀ g b, yl_I C b → yl_le b_le b → (∀ y z, y < 128 → z < 128 → Q1 y → Q2 z → yl_a b y z) → wpY_grow (fun u => match u with
      | (g_maxNodes_1, g_maxWeight_1, g_maxVisits_1, g_count_1, g_root_1, g_nc_1, g_weight_1, g_grown_1, g_neg_1, g_made_1, g_next_1, g_nextPar_1, g_nextSlot_1, g_nextLex_1, g_stuck_1, b_kinds_1, b_parts_1, b_cNode_1, b_cPar_1, b_cSlot_1, b_le_1, b_saved_1, b_cur_1, b_nxt_1, b_first_1, b_vNode_1, b_vPar_1, b_vSlot_1, b_vLex_1, b_val_1, b_num_1) => wpY_anyClash (fun q => (q = 0 → ∃ n127 : Nat, wY_fits_127 post 1 g_maxNodes_1 g_maxWeight_1 g_maxVisits_1 g_count_1 g_root_1 g_nc_1 g_weight_1 g_grown_1 g_neg_1 g_made_1 g_next_1 g_nextPar_1 g_nextSlot_1 g_nextLex_1 g_stuck_1 n127 0 b_kinds_1 b_parts_1 b_cNode_1 b_cPar_1 b_cSlot_1 b_le_1 b_saved_1 b_cur_1 b_nxt_1 b_first_1 b_vNode_1 b_vPar_1 b_vSlot_1 b_vLex_1 b_val_1 b_num_1) ∧ (¬ q = 0 → ∃ n127 : Nat, wY_fits_127 post 0 g_maxNodes_1 g_maxWeight_1 g_maxVisits_1 g_count_1 g_root_1 g_nc_1 g_weight_1 g_grown_1 g_neg_1 g_made_1 g_next_1 g_nextPar_1 g_nextSlot_1 g_nextLex_1 g_stuck_1 n127 0 b_kinds_1 b_parts_1 b_cNode_1 b_cPar_1 b_cSlot_1 b_le_1 b_saved_1 b_cur_1 b_nxt_1 b_first_1 b_vNode_1 b_vPar_1 b_vSlot_1 b_vLex_1 b_val_1 b_num_1)) (g_maxNodes_1, g_maxWeight_1, g_maxVisits_1, g_count_1, g_root_1, g_nc_1, g_weight_1, g_grown_1, g_neg_1, g_made_1, g_next_1, g_nextPar_1, g_nextSlot_1, g_nextLex_1, g_stuck_1, b_kinds_1, b_parts_1, b_cNode_1, b_cPar_1, b_cSlot_1, b_le_1, b_saved_1, b_cur_1, b_nxt_1, b_first_1, b_vNode_1, b_vPar_1, b_vSlot_1, b_vLex_1, b_val_1, b_num_1)) (g_maxNodes, g_maxWeight, g_maxVisits, g_count, g_root, g_nc, g_weight, g, g_neg, g_made, g_next, g_nextPar, g_nextSlot, g_nextLex, g_stuck, b_kinds, b_parts, b_cNode, b_cPar, b_cSlot, b, b_saved, b_cur, b_nxt, b_first, b_vNode, b_vPar, b_vSlot, b_vLex, b_val, b_num)) : ∃ n : Nat, wY_fits_48 post n 0 g_maxNodes g_maxWeight g_maxVisits g_count g_root g_nc g_weight g_grown g_neg g_made g_next g_nextPar g_nextSlot g_nextLex g_stuck b_kinds b_parts b_cNode b_cPar b_cSlot b_le b_saved b_cur b_nxt b_first b_vNode b_vPar b_vSlot b_vLex b_val b_num := by
  have k59 : ∀ (J : Int32 → Int32 → Int32 → Int32 → Int32 → Int32 → Int32 → Int32 → Int32 → Int32 → Int32 → Int32 → Int32 → Int32 → Int32 → Int32 → (Nat → Int32) → (Nat → Int32) → (Nat → Int32) → (Nat → Int32) → (Nat → Int32) → (Nat → Int32) → (Nat → Int32) → (Nat → Int32) → (Nat → Int32) → (Nat → Int32) → (Nat → Int32) → (Nat → Int32) → (Nat → Int32) → (Nat → Int32) → (Nat → Int32) → (Nat → Int32) → Prop) (v : Nat), v < 128 → ∀ b0 : Nat → Int32, (∀ g b, yl_I C b → yl_le b0 b → (∀ z, z < 128 → Q1 v → Q2 z → yl_a b v z) → J (nI (v + 1)) g_maxNodes g_maxWeight g_maxVisits g_count g_root g_nc g_weight g g_neg g_made g_next g_nextPar g_nextSlot g_nextLex g_stuck b_kinds b_parts b_cNode b_cPar b_cSlot b b_saved b_cur b_nxt b_first b_vNode b_vPar b_vSlot b_vLex b_val b_num) → ∀ m w, w + m = 128 → ∀ g b, yl_I C b → yl_le b0 b → (∀ z, z < w → Q1 v → Q2 z → yl_a b v z) → wY_fits_59 post J (nI v) (m + 1) (nI w) g_maxNodes g_maxWeight g_maxVisits g_count g_root g_nc g_weight g g_neg g_made g_next g_nextPar g_nextSlot g_nextLex g_stuck b_kinds b_parts b_cNode b_cPar b_cSlot b b_saved b_cur b_nxt b_first b_vNode b_vPar b_vSlot b_vLex b_val b_num := by
    intro J v hv b0 hJ m
    induction m with
    | zero =>
      intro w hw g b I le D
      have : w = 128 := by omega
      subst this
      exact br_t (by decide) (nm_r (nI_1 v) (hJ g b I le D))
    | succ m ih =>
      intro w hw g b I le D
      have N : ¬ (Q1 v ∧ Q2 w) → wY_fits_59 post J (nI v) (m + 1) (nI (w + 1)) g_maxNodes g_maxWeight g_maxVisits g_count g_root g_nc g_weight g g_neg g_made g_next g_nextPar g_nextSlot g_nextLex g_stuck b_kinds b_parts b_cNode b_cPar b_cSlot b b_saved b_cur b_nxt b_first b_vNode b_vPar b_vSlot b_vLex b_val b_num := fun z => ih (w + 1) (by omega) g b I le fun z' hz' q1 q2 => by
        rcases Nat.lt_or_ge z' w with t | t
        · exact D z' t q1 q2
        · have : z' = w := by omega
          subst this
          exact absurd ⟨q1, q2⟩ z
      refine br_f ?_ ⟨vp_in_nI (by omega) (by omega), ?_⟩
      · show ¬ (128 : Int32) ≤ nI w
        rw [nu_g128 (by omega)]; omega
      rw [nI_clamp (show v < 2 ^ 31 by omega)]
      refine br_c (fun z => nm_r (nI_1 w) (N fun q => (D1 v hv).2.mpr q.1 z)) (fun z => ⟨vp_in_nI (by omega) (by omega), ?_⟩)
      rw [nI_clamp (show w < 2 ^ 31 by omega)]
      refine br_c (fun y => nm_r (nI_1 w) (N fun q => (D2 w (by omega)).2.mpr q.2 y)) (fun y => ?_)
      refine yw_put (C := C) hv (by omega) (hQ v w hv (by omega) ((D1 v hv).2.mp z) ((D2 w (by omega)).2.mp y)) I fun g' b' I' le' a' _ => nm_r (nI_1 w) (ih (w + 1) (by omega) g' b' I' (fun i hi t => le' i hi (le i hi t)) fun z' hz' q1 q2 => ?_)
      rcases Nat.lt_or_ge z' w with t | t
      · exact yl_aa le' hv (by omega) (D z' t q1 q2)
      · have : z' = w := by omega
        subst this
        exact a'
  have k48 : ∀ m v, v + m = 128 → ∀ g b, yl_I C b → yl_le b_le b → (∀ y z, y < v → z < 128 → Q1 y → Q2 z → yl_a b y z) → wY_fits_48 post (m + 1) (nI v) g_maxNodes g_maxWeight g_maxVisits g_count g_root g_nc g_weight g g_neg g_made g_next g_nextPar g_nextSlot g_nextLex g_stuck b_kinds b_parts b_cNode b_cPar b_cSlot b b_saved b_cur b_nxt b_first b_vNode b_vPar b_vSlot b_vLex b_val b_num := by
    intro m
    induction m with
    | zero =>
      intro v hv g b I le D
      have : v = 128 := by omega
      subst this
      exact br_t (by decide) (h g b I le D)
    | succ m ih =>
      intro v hv g b I le D
      refine br_f ?_ ⟨129, k59 _ v (by omega) b (fun g' b' I' le' D' => ih (v + 1) (by omega) g' b' I' (fun i hi t => le' i hi (le i hi t)) fun y z hy hz q1 q2 => ?_) 128 0 rfl g b I (fun _ _ t => t) (fun z hz => by omega)⟩
      · show ¬ (128 : Int32) ≤ nI v
        rw [nu_g128 (by omega)]; omega
      · rcases Nat.lt_or_ge y v with t | t
        · exact yl_aa le' (by omega) hz (D y z t hz q1 q2)
        · have : y = v := by omega
          subst this
          exact D' z hz q1 q2
  exact ⟨129, k48 128 0 rfl g_grown b_le I (fun _ _ t => t) (fun y z hy => by omega)⟩
end
section
variable {f_maxNodes f_maxWeight f_maxVisits f_nodeCount f_sealed f_verdictNow f_copyCount f_varCount : Int32} {f_atSet : Int64} {f_atNeg f_visitCount f_done f_stuck f_curNode f_curEnv f_resultValue f_valueCount f_envCount f_depth : Int32} {a_nKind a_nPart a_nParent a_cNode a_cUp a_cChild a_cInst a_cParam a_queue : Nat → Int32} {a_rel : Nat → Int64} {a_vKind a_vWord a_vEnv a_vField a_eName a_eValue a_eNext a_fNode a_fEnv a_fPart a_fValue : Nat → Int32} {g_maxNodes g_maxWeight g_maxVisits g_count g_root g_nc g_weight g_grown g_neg g_made g_next g_nextPar g_nextSlot g_nextLex g_stuck : Int32} {b_kinds b_parts b_cNode b_cPar b_cSlot b_le b_saved b_cur b_nxt b_first b_vNode b_vPar b_vSlot b_vLex b_val b_num : Nat → Int32} {k n : Nat} {kd : Nat → Nat} {cd : Nat → Nat → Option Nat} {pp : Nat → Int32} {par : Nat → Option Nat} {mN mW mV : Nat}
/-- after a trial -/
theorem zz_tr {s1 : Int64} {s2 gn gg : Int32} {bc bx bf bs bl : Nat → Int32} {ar : Nat → Int64} (T : rr_T n kd cd pp par mN mW mV f_maxNodes f_maxWeight f_maxVisits f_nodeCount f_sealed f_verdictNow f_copyCount f_varCount f_atSet f_atNeg f_visitCount f_done f_stuck f_curNode f_curEnv f_resultValue f_valueCount f_envCount f_depth a_nKind a_nPart a_nParent a_cNode a_cUp a_cChild a_cInst a_cParam a_queue a_rel a_vKind a_vWord a_vEnv a_vField a_eName a_eValue a_eNext a_fNode a_fEnv a_fPart a_fValue g_maxNodes g_maxWeight g_maxVisits g_count g_root g_nc g_weight g_grown g_neg g_made g_next g_nextPar g_nextSlot g_nextLex g_stuck b_kinds b_parts b_cNode b_cPar b_cSlot b_le b_saved b_cur b_nxt b_first b_vNode b_vPar b_vSlot b_vLex b_val b_num) (U : rr_S n mW mV f_maxNodes f_maxWeight f_maxVisits f_nodeCount f_sealed f_verdictNow f_copyCount f_varCount f_atSet f_atNeg f_visitCount f_done f_stuck f_curNode f_curEnv f_resultValue f_valueCount f_envCount f_depth a_nKind a_nPart a_nParent a_cNode a_cUp a_cChild a_cInst a_cParam a_queue a_rel a_vKind a_vWord a_vEnv a_vField a_eName a_eValue a_eNext a_fNode a_fEnv a_fPart a_fValue g_maxNodes g_maxWeight g_maxVisits g_count g_root g_nc g_weight g_grown g_neg g_made g_next g_nextPar g_nextSlot g_nextLex g_stuck b_kinds b_parts b_cNode b_cPar b_cSlot b_le b_saved b_cur b_nxt b_first b_vNode b_vPar b_vSlot b_vLex b_val b_num) (ha : ∀ i, i < 64 → ar i = a_rel i) (hb : ∀ i, i < 16384 → bl i = b_le i) : i_Rel k (f_maxNodes, f_maxWeight, f_maxVisits, f_nodeCount, f_sealed, f_verdictNow, f_copyCount, f_varCount, s1, s2, f_visitCount, f_done, f_stuck, f_curNode, f_curEnv, f_resultValue, f_valueCount, f_envCount, f_depth, a_nKind, a_nPart, a_nParent, a_cNode, a_cUp, a_cChild, a_cInst, a_cParam, a_queue, ar, a_vKind, a_vWord, a_vEnv, a_vField, a_eName, a_eValue, a_eNext, a_fNode, a_fEnv, a_fPart, a_fValue) (g_maxNodes, g_maxWeight, g_maxVisits, g_count, g_root, g_nc, g_weight, gg, gn, g_made, g_next, g_nextPar, g_nextSlot, g_nextLex, g_stuck, b_kinds, b_parts, b_cNode, b_cPar, b_cSlot, bl, bs, bc, bx, bf, b_vNode, b_vPar, b_vSlot, b_vLex, b_val, b_num) := by
  have h5 : mW ≤ 64 := T.2.2.2.2.2.2.2.2.2.2.1
  obtain ⟨n0, r, kd0, cd0, pp0, par0, len, cn, cu, cs, M, q1, q2, q3, ⟨c1, W0, A10, A20, SS, cw, cc, f1, f2, f3, X, Y⟩, ⟨l1, l2, l3, l4, l5⟩, v1, v2, qr⟩ := U
  have CT := rr_cT SS (show un_w kd0 cn (len 320) ≤ 64 by omega)
  have CP := rr_cP (kd := kd0) (cn := cn) (len := len) (show un_w kd0 cn (len 320) ≤ 64 by omega)
  have hnc := CT.1
  have EX : ∀ v w, v < 64 → (cl_a ar 0 v w ↔ cl_a a_rel 0 v w) := fun v w hv => by
    unfold cl_a
    rw [ha _ (by omega)]
  have EY : ∀ y z, y < 128 → z < 128 → (yl_a bl y z ↔ yl_a b_le y z) := fun y z hy hz => by
    unfold yl_a
    rw [hb _ (by omega)]
  have ac := rr_acq (kd := kd0) (cn := cn) (cd := cd0) (pp := pp0) CT (Q := yl_a bl) (Q' := yl_a b_le) fun c w hc hw => EY c w (by omega) (by omega)
  refine zz_in (n := n) (kd := kd) (cd := cd) (pp := pp) (par := par) (mN := mN) (mW := mW) (mV := mV) T (Or.inr ⟨n0, r, kd0, cd0, pp0, par0, len, cn, cu, cs, M, q1, q2, q3, ⟨c1, W0, A10, A20, SS, cw, cc, f1, f2, f3, X, Y⟩, ⟨⟨fun v hv => (EX v v (by omega)).mpr (l1.1 v hv), fun u v w hu hv p q => (EX u w (by omega)).mpr (l1.2 u v w hu hv ((EX u v (by omega)).mp p) ((EX v w (by omega)).mp q))⟩, fun y z v w ey ez => ?_, fun i hi => (by rw [hb i hi]; exact l3 i hi), fun y z hy hz p => l4 y z hy hz ((EY y z hy hz).mp p), fun y hy => (EY y y hy hy).mpr (l5 y hy)⟩, fun z => v1 (ac.mp z), fun z => v2 fun y => z (ac.mpr y), qr⟩)
  have a := cl_xlt CP ey
  have b := cl_xlt CP ez
  rw [EX v w (by omega), EY y z a.2 b.2]
  exact l2 y z v w ey ez
end
theorem i_vc_fits {k : Nat} {u : SX} {v : SY} (I : i_Rel k u v) (hk : k + 5 ≤ 2563) (v1 : Int32) (v2 : Int32) : wpX_fits (fun r u' => wpY_fits (fun r' v' => r' = r ∧ i_Rel (k + 5) u' v') v v1 v2) u v1 v2 := by
  refine zz_el (P := fun u v => wpX_fits (fun r u' => wpY_fits (fun r' v' => r' = r ∧ i_Rel (k + 5) u' v') v v1 v2) u v1 v2) ?_ I
  intro f_maxNodes f_maxWeight f_maxVisits f_nodeCount f_sealed f_verdictNow f_copyCount f_varCount f_atSet f_atNeg f_visitCount f_done f_stuck f_curNode f_curEnv f_resultValue f_valueCount f_envCount f_depth a_nKind a_nPart a_nParent a_cNode a_cUp a_cChild a_cInst a_cParam a_queue a_rel a_vKind a_vWord a_vEnv a_vField a_eName a_eValue a_eNext a_fNode a_fEnv a_fPart a_fValue g_maxNodes g_maxWeight g_maxVisits g_count g_root g_nc g_weight g_grown g_neg g_made g_next g_nextPar g_nextSlot g_nextLex g_stuck b_kinds b_parts b_cNode b_cPar b_cSlot b_le b_saved b_cur b_nxt b_first b_vNode b_vPar b_vSlot b_vLex b_val b_num n kd cd pp par mN mW mV T U
  obtain ⟨s, hX, hY, hS⟩ := zz_verd T U
  unfold wpX_fits
  dsimp only
  have h5 : mW ≤ 64 := T.2.2.2.2.2.2.2.2.2.2.1
  -- refused
  have BAD : (s ≠ 1 ∨ ps_mf v1 = true ∨ ps_mf v2 = true) → wpY_fits (fun r' v' => r' = -1 ∧ i_Rel (k + 5) (f_maxNodes, f_maxWeight, f_maxVisits, f_nodeCount, f_sealed, f_verdictNow, f_copyCount, f_varCount, f_atSet, f_atNeg, f_visitCount, f_done, f_stuck, f_curNode, f_curEnv, f_resultValue, f_valueCount, f_envCount, f_depth, a_nKind, a_nPart, a_nParent, a_cNode, a_cUp, a_cChild, a_cInst, a_cParam, a_queue, a_rel, a_vKind, a_vWord, a_vEnv, a_vField, a_eName, a_eValue, a_eNext, a_fNode, a_fEnv, a_fPart, a_fValue) v') (g_maxNodes, g_maxWeight, g_maxVisits, g_count, g_root, g_nc, g_weight, g_grown, g_neg, g_made, g_next, g_nextPar, g_nextSlot, g_nextLex, g_stuck, b_kinds, b_parts, b_cNode, b_cPar, b_cSlot, b_le, b_saved, b_cur, b_nxt, b_first, b_vNode, b_vPar, b_vSlot, b_vLex, b_val, b_num) v1 v2 := fun hb => by
    unfold wpY_fits
    dsimp only
    refine yw_pair (pn := false) hY (fun _ => br_f (by decide) (And.intro rfl (zz_in T U))) (fun a b c => ?_)
    rcases hb with z | z | z
    · exact absurd a z
    · rw [b] at z; cases z
    · rw [c] at z; cases z
  refine hX _ (br_c (fun e1 => xw_mf ?_) (fun e1 => BAD (Or.inl e1)))
  rw [nu_b0]
  refine br_c (fun m1 => xw_mf ?_) (fun m1 => BAD (Or.inr (Or.inl (ts_nf m1))))
  rw [nu_b0]
  refine br_c (fun m2 => ?_) (fun m2 => BAD (Or.inr (Or.inr (ts_nf m2))))
  have US := hS e1
  obtain ⟨n0, r, kd0, cd0, pp0, par0, len, cn, cu, cs, M, q1, q2, q3, ⟨c1, W0, A10, A20, SS, cw, cc, f1, f2, f3, X, Y⟩, q5, _⟩ := hS e1
  have CT := rr_cT SS (show un_w kd0 cn (len 320) ≤ 64 by omega)
  have CP := rr_cP (kd := kd0) (cn := cn) (len := len) (show un_w kd0 cn (len 320) ≤ 64 by omega)
  have hnc := un_p SS (t := 320) (by omega)
  subst f1 f2 f3
  obtain ⟨ok1, Q1, ng1, h1, i1, p1, _, LX1, LY1⟩ := zz_loc W0 A10 X A20 Y CT CP q5.2.1 (by omega) m1
  obtain ⟨ok2, Q2, ng2, h2, i2, p2, _, LX2, LY2⟩ := zz_loc W0 A10 X A20 Y CT CP q5.2.1 (by omega) m2
  have hlb : ∀ d, d < len 320 → (fun c => kd0 (cn c)) d = 7 → (fun c => tm_l pp0 (cn c)) d < 4 := fun d hd k7 => by
    have := (tm_l7 W0 (un_nt SS c1 (fun m i x a b => un_klt W0 a b) 320 (by omega) d hd) k7).2
    show tm_l pp0 (cn d) < 4
    omega
  have lt1 : ∀ y, Q1 y → ∃ v, (cl_x (len 320) (fun c => kd0 (cn c)) (fun c => len 320 + un_l kd0 cn c)) y = some v := fun y a => by
    cases e : (cl_x (len 320) (fun c => kd0 (cn c)) (fun c => len 320 + un_l kd0 cn c)) y with
    | none => exact absurd e (i1 y a)
    | some v => exact ⟨v, rfl⟩
  have lt2 : ∀ y, Q2 y → ∃ v, (cl_x (len 320) (fun c => kd0 (cn c)) (fun c => len 320 + un_l kd0 cn c)) y = some v := fun y a => by
    cases e : (cl_x (len 320) (fun c => kd0 (cn c)) (fun c => len 320 + un_l kd0 cn c)) y with
    | none => exact absurd e (i2 y a)
    | some v => exact ⟨v, rfl⟩
  -- Y's whole
  have YF : ∀ (rr : Int32) (s1 : Int64) (s2 : Int32) (ar : Nat → Int64), (∀ i, i < 64 → ar i = a_rel i) → ((ok1 = false ∨ ok2 = false) → rr = -2) → (ok1 = true → ok2 = true → ¬ (ng1 = false ∧ ¬ ng2 = false) → rr = -3) → (ok1 = true → ok2 = true → ng1 = false → ¬ ng2 = false → ∀ bl, yl_I (cl_C (len 320) (fun c => kd0 (cn c)) (un_sb (un_ki kd0 cd0 pp0 par0 r) len cn) (fun c => tm_l pp0 (cn c)) (fun y z => (y < 128 ∧ z < 128 ∧ yl_a b_le y z) ∨ (Q1 y ∧ Q2 z))) bl → (∀ y z, (fun y z => (y < 128 ∧ z < 128 ∧ yl_a b_le y z) ∨ (Q1 y ∧ Q2 z)) y z → y < 128 ∧ z < 128 ∧ yl_a bl y z) → (∀ y, y < 128 → yl_a bl y y) → (∀ i j k, i < 128 → j < 128 → k < 128 → yl_a bl i k → yl_a bl k j → yl_a bl i j) → (∀ c d, c < len 320 → d < len 320 → cl_r1 (fun c => kd0 (cn c)) (un_sb (un_ki kd0 cd0 pp0 par0 r) len cn) (fun c => tm_l pp0 (cn c)) (yl_a bl) c d) → ((∃ c d, cl_ac (len 320) kd0 cn cd0 pp0 (un_sb (un_ki kd0 cd0 pp0 par0 r) len cn) (yl_a bl) c d) → rr = 0) ∧ ((¬ ∃ c d, cl_ac (len 320) kd0 cn cd0 pp0 (un_sb (un_ki kd0 cd0 pp0 par0 r) len cn) (yl_a bl) c d) → rr = 1)) → wpY_fits (fun r' v' => r' = rr ∧ i_Rel (k + 5) (f_maxNodes, f_maxWeight, f_maxVisits, f_nodeCount, f_sealed, f_verdictNow, nI (len 320), nI (un_w kd0 cn (len 320)), s1, s2, f_visitCount, f_done, f_stuck, f_curNode, f_curEnv, f_resultValue, f_valueCount, f_envCount, f_depth, a_nKind, a_nPart, a_nParent, a_cNode, a_cUp, a_cChild, a_cInst, a_cParam, a_queue, ar, a_vKind, a_vWord, a_vEnv, a_vField, a_eName, a_eValue, a_eNext, a_fNode, a_fEnv, a_fPart, a_fValue) v') (g_maxNodes, g_maxWeight, g_maxVisits, g_count, g_root, nI (len 320), g_weight, g_grown, g_neg, g_made, g_next, g_nextPar, g_nextSlot, g_nextLex, g_stuck, b_kinds, b_parts, b_cNode, b_cPar, b_cSlot, b_le, b_saved, b_cur, b_nxt, b_first, b_vNode, b_vPar, b_vSlot, b_vLex, b_val, b_num) v1 v2 := fun rr s1 s2 ar har r2 r3 r1 => by
    unfold wpY_fits
    dsimp only
    refine yw_pair (pn := false) hY (fun hb => ?_) (fun _ _ _ => ⟨ok1, Q1, ng1, h1, ok2, Q2, ng2, h2, p1, p2, LY1, LY2, fun hno gn bc bx bf => br_f (by decide) (And.intro (r2 hno).symm (zz_tr (k := k + 5) T US har (fun _ _ => rfl))), fun o1 o2 bc bx bf D1 D2 => ?_⟩)
    · rcases hb with z | z | z
      · exact absurd e1 z
      · rw [m1] at z; cases z
      · rw [m2] at z; cases z
    · by_cases hp : ng1 = false ∧ ¬ ng2 = false
      · rw [if_pos hp]
        have I0 : yl_I (cl_C (len 320) (fun c => kd0 (cn c)) (un_sb (un_ki kd0 cd0 pp0 par0 r) len cn) (fun c => tm_l pp0 (cn c)) (fun y z => (y < 128 ∧ z < 128 ∧ yl_a b_le y z) ∨ (Q1 y ∧ Q2 z))) b_le := ⟨q5.2.2.1, fun y z hy hz a => cl_e (Or.inl ⟨hy, hz, a⟩)⟩
        refine br_t (by decide) (yw_save q5.2.2.1 fun bs hbs => yw_trial (C := (cl_C (len 320) (fun c => kd0 (cn c)) (un_sb (un_ki kd0 cd0 pp0 par0 r) len cn) (fun c => tm_l pp0 (cn c)) (fun y z => (y < 128 ∧ z < 128 ∧ yl_a b_le y z) ∨ (Q1 y ∧ Q2 z)))) D1 D2 (fun y z _ _ a b => cl_e (Or.inr ⟨a, b⟩)) I0 fun g b I1 le1 a1 => yw_grow W0 A20 Y CT I1 fun g' b2 J2 le2 tr2 r12 => ?_)
        have be2 : ∀ y z, (fun y z => (y < 128 ∧ z < 128 ∧ yl_a b_le y z) ∨ (Q1 y ∧ Q2 z)) y z → y < 128 ∧ z < 128 ∧ yl_a b2 y z := by
          rintro y z (⟨hy, hz, a⟩ | ⟨a, b⟩)
          · exact ⟨hy, hz, yl_aa le2 hy hz (yl_aa le1 hy hz a)⟩
          · obtain ⟨v, ev⟩ := lt1 y a
            obtain ⟨w, ew⟩ := lt2 z b
            have hy := (cl_xlt CP ev).2
            have hz := (cl_xlt CP ew).2
            exact ⟨hy, hz, yl_aa le2 hy hz (a1 y z hy hz a b)⟩
        have R1 := r1 o1 o2 hp.1 hp.2 b2 J2 be2 (fun y hy => yl_aa le2 hy hy (yl_aa le1 hy hy (q5.2.2.2.2 y hy))) tr2 r12
        have hs : ∀ i, i < 16384 → bs i = 0 ∨ bs i = 1 := fun i hi => by rw [hbs i hi]; exact q5.2.2.1 i hi
        exact yw_ac W0 A20 Y CT (fun z => br_f (by decide) (yw_rest hs fun bl hbl => And.intro (R1.1 z).symm (zz_tr (k := k + 5) T US har (fun i hi => by rw [hbl i hi, hbs i hi])))) (fun z => br_t rfl (yw_rest hs fun bl hbl => And.intro (R1.2 z).symm (zz_tr (k := k + 5) T US har (fun i hi => by rw [hbl i hi, hbs i hi]))))
      · rw [if_neg hp]
        exact br_f (by decide) (And.intro (r3 o1 o2 hp).symm (zz_tr (k := k + 5) T US har (fun _ _ => rfl)))
  refine LX1 _ _ _ fun s1 S1 => ?_
  cases eo1 : ok1 with
  | false => exact br_t rfl (YF _ _ _ _ (fun _ _ => rfl) (fun _ => rfl) (fun z => by rw [eo1] at z; cases z) (fun z => by rw [eo1] at z; cases z))
  | true =>
    refine br_f (by decide) (LX2 _ _ _ fun s2 S2 => ?_)
    cases eo2 : ok2 with
    | false => exact br_t rfl (YF _ _ _ _ (fun _ _ => rfl) (fun _ => rfl) (fun _ z => by rw [eo2] at z; cases z) (fun _ z => by rw [eo2] at z; cases z))
    | true =>
      have ok12 : ¬ (ok1 = false ∨ ok2 = false) := fun z => by rw [eo1, eo2] at z; rcases z with z | z <;> cases z
      refine br_f (by decide) ?_
      rw [nu_b0, nu_b0]
      refine br_c (fun g1 => br_c (fun g2 => YF _ _ _ _ (fun _ _ => rfl) (fun z => absurd z ok12) (fun _ _ _ => rfl) (fun _ _ _ z => absurd g2 z)) (fun g2 => ?_)) (fun g1 => YF _ _ _ _ (fun _ _ => rfl) (fun z => absurd z ok12) (fun _ _ _ => rfl) (fun _ _ z => absurd z g1))
      refine xw_trial (C := (cl_C (len 320) (fun c => kd0 (cn c)) (un_sb (un_ki kd0 cd0 pp0 par0 r) len cn) (fun c => tm_l pp0 (cn c)) (fun y z => (y < 128 ∧ z < 128 ∧ yl_a b_le y z) ∨ (Q1 y ∧ Q2 z)))) (x := (cl_x (len 320) (fun c => kd0 (cn c)) (fun c => len 320 + un_l kd0 cn c))) CP.2.2.1 (fun y v e => (cl_xlt CP e).1) (fun p q s => cl_t) S1 S2 (fun y z a b => cl_e (Or.inr ⟨a, b⟩)) q5.1 (fun y z v w ey ez p => cl_e (Or.inl ⟨(cl_xlt CP ey).2, (cl_xlt CP ez).2, (q5.2.1 y z v w ey ez).mp p⟩)) fun a1 I1 cp1 cq1 rs1 => ?_
      refine xw_sat (b := 64) W0 A10 X CT CP (by omega) I1 fun a2 I2 le2 rest2 R2 => ?_
      have rs2 : ∀ i, i < 64 → a2 i = a_rel i := fun i hi => by rw [rest2 i (Or.inl hi)]; exact rs1 i hi
      have comp2 : ∀ y z, (fun y z => (y < 128 ∧ z < 128 ∧ yl_a b_le y z) ∨ (Q1 y ∧ Q2 z)) y z → cl_S (cl_x (len 320) (fun c => kd0 (cn c)) (fun c => len 320 + un_l kd0 cn c)) 64 a2 y z := by
        rintro y z (⟨hy, hz, p⟩ | ⟨a, b⟩)
        · rcases q5.2.2.2.1 y z hy hz p with e | ⟨ny, nz⟩
          · exact Or.inl e
          · cases ey : (cl_x (len 320) (fun c => kd0 (cn c)) (fun c => len 320 + un_l kd0 cn c)) y with
            | none => exact absurd ey ny
            | some v =>
              cases ez : (cl_x (len 320) (fun c => kd0 (cn c)) (fun c => len 320 + un_l kd0 cn c)) z with
              | none => exact absurd ez nz
              | some w => exact Or.inr ⟨v, w, ey, ez, le2 _ _ (cp1 v w (cl_xlt CP ey).1 ((q5.2.1 y z v w ey ez).mpr p))⟩
        · obtain ⟨v, ey⟩ := lt1 y a
          obtain ⟨w, ez⟩ := lt2 z b
          exact Or.inr ⟨v, w, ey, ez, le2 _ _ (cq1 v w (cl_xlt CP ey).1 (cl_xlt CP ez).1 ((S1 v).mpr ⟨y, ey, a⟩) ((S2 w).mpr ⟨z, ez, b⟩))⟩
      have KK : ∀ bl, yl_I (cl_C (len 320) (fun c => kd0 (cn c)) (un_sb (un_ki kd0 cd0 pp0 par0 r) len cn) (fun c => tm_l pp0 (cn c)) (fun y z => (y < 128 ∧ z < 128 ∧ yl_a b_le y z) ∨ (Q1 y ∧ Q2 z))) bl → (∀ y z, (fun y z => (y < 128 ∧ z < 128 ∧ yl_a b_le y z) ∨ (Q1 y ∧ Q2 z)) y z → y < 128 ∧ z < 128 ∧ yl_a bl y z) → (∀ y, y < 128 → yl_a bl y y) → (∀ i j k, i < 128 → j < 128 → k < 128 → yl_a bl i k → yl_a bl k j → yl_a bl i j) → (∀ c d, c < len 320 → d < len 320 → cl_r1 (fun c => kd0 (cn c)) (un_sb (un_ki kd0 cd0 pp0 par0 r) len cn) (fun c => tm_l pp0 (cn c)) (yl_a bl) c d) → ((∃ c d, cl_ac (len 320) kd0 cn cd0 pp0 (un_sb (un_ki kd0 cd0 pp0 par0 r) len cn) (cl_a a2 64) c d) ↔ ∃ c d, cl_ac (len 320) kd0 cn cd0 pp0 (un_sb (un_ki kd0 cd0 pp0 par0 r) len cn) (yl_a bl) c d) := fun bl j1 j2 j3 j4 j5 => by
        have K := rr_clo CP CT.2.2 hlb I2 comp2 R2 j1 j2 j3 j4 j5
        exact rr_acq (kd := kd0) (cn := cn) (cd := cd0) (pp := pp0) CT (Q := cl_a a2 64) (Q' := yl_a bl) fun c w hc hw => K.1 c w c w (cl_xc hc) (cl_xc hw)
      exact xw_ac (b := 64) W0 A10 X CT (by omega) (fun z => br_f (by decide) (YF _ _ _ _ rs2 (fun y => absurd y ok12) (fun _ _ y => absurd ⟨g1, g2⟩ y) (fun _ _ _ _ bl j1 j2 j3 j4 j5 => ⟨fun _ => rfl, fun y => absurd ((KK bl j1 j2 j3 j4 j5).mp z) y⟩))) (fun z => br_t rfl (YF _ _ _ _ rs2 (fun y => absurd y ok12) (fun _ _ y => absurd ⟨g1, g2⟩ y) (fun _ _ _ _ bl j1 j2 j3 j4 j5 => ⟨fun y => absurd ((KK bl j1 j2 j3 j4 j5).mpr y) z, fun _ => rfl⟩)))
end
