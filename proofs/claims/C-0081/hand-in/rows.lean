section
/-! pure rows to paste: stores, nI and lN arithmetic, masks, shifts, narrowing, branches by naturals (pk_le, pk_lt, pk_eq), loops (lp1 .. lp16: the measure of the state; rp1 ..: recursion), negatives. Take what you need -/
theorem pk_us {f : Nat → Int32} {k : Nat} {x : Int32} : upd f k x k = x := if_pos rfl
theorem pk_un {f : Nat → Int32} {k j : Nat} {x : Int32} (h : j ≠ k) : upd f k x j = f j := if_neg h
theorem pk_uLs {f : Nat → Int64} {k : Nat} {x : Int64} : vp_updL f k x k = x := if_pos rfl
theorem pk_uLn {f : Nat → Int64} {k j : Nat} {x : Int64} (h : j ≠ k) : vp_updL f k x j = f j := if_neg h
theorem pk_sub {a b : Nat} (h : b ≤ a) : nI a - nI b = nI (a - b) := by
  obtain ⟨c, rfl⟩ : ∃ c, a = c + b := ⟨a - b, by omega⟩
  rw [← nI_add, Int32.add_sub_cancel, Nat.add_sub_cancel]
theorem pk_m1 (n : Nat) : nI (n + 1) + (-1) = nI n := by
  rw [← nI_1, Int32.add_assoc, show (1 : Int32) + (-1) = 0 from rfl, Int32.add_zero]
theorem pk_mul (a b : Nat) : nI a * nI b = nI (a * b) := (Int32.ofNat_mul a b).symm
theorem pk_div {a d : Nat} (ha : a < 2 ^ 31) (h0 : 0 < d) (hd : d < 2 ^ 31) : nI a / nI d = nI (a / d) := by
  apply Int32.toInt_inj.mp
  rw [lg_idiv_nonneg (by rw [nI_toInt ha]; omega) (by rw [nI_toInt hd]; omega), nI_toInt ha, nI_toInt hd, nI_toInt (Nat.lt_of_le_of_lt (Nat.div_le_self a d) ha)]
  first | rfl | exact (Int.natCast_ediv _ _).symm
theorem pk_rem {a d : Nat} (ha : a < 2 ^ 31) (h0 : 0 < d) (hd : d < 2 ^ 31) : nI a - nI a / nI d * nI d = nI (a % d) := by
  rw [pk_div ha h0 hd, pk_mul, pk_sub (Nat.div_mul_le_self a d)]
  exact congrArg nI (by have := Nat.div_add_mod' a d; omega)
theorem pk_sub_toInt {a b : Nat} (ha : a < 2 ^ 30) (hb : b < 2 ^ 30) : (nI a - nI b).toInt = (a : Int) - b := by
  rw [Int32.toInt_sub, nI_toInt (by omega), nI_toInt (by omega)]
  exact Int.bmod_eq_of_le (by omega) (by omega)
theorem pk_sneg {a b : Nat} (hb : b < 2 ^ 30) (h : a < b) : nI a - nI b < 0 := by
  rw [Int32.lt_iff_toInt_lt, pk_sub_toInt (by omega) hb, show (0 : Int32).toInt = 0 from by decide]
  omega
theorem pk_ix (x : Int32) {n : Nat} (hn : n < 2 ^ 31) : x < 0 ∨ nI n ≤ x ∨ ∃ j : Nat, j < n ∧ x = nI j := by
  by_cases h : x < 0
  · exact Or.inl h
  · obtain ⟨j, hj, rfl⟩ := nI_of h
    by_cases h2 : j < n
    · exact Or.inr (Or.inr ⟨j, h2, rfl⟩)
    · exact Or.inr (Or.inl (nI_le (by omega) hj))
theorem pk_le {x y : Int32} {A B : Prop} (a b : Nat) (f : a ≤ b → A) (g : b < a → B) (hx : x = nI a := by rfl) (hy : y = nI b := by rfl) (ha : a < 2 ^ 31 := by omega) (hb : b < 2 ^ 31 := by omega) : (x ≤ y → A) ∧ (¬ x ≤ y → B) := by
  subst hx hy
  rw [nI_leI ha hb]
  exact ⟨f, fun z => g (by omega)⟩
theorem pk_lt {x y : Int32} {A B : Prop} (a b : Nat) (f : a < b → A) (g : b ≤ a → B) (hx : x = nI a := by rfl) (hy : y = nI b := by rfl) (ha : a < 2 ^ 31 := by omega) (hb : b < 2 ^ 31 := by omega) : (x < y → A) ∧ (¬ x < y → B) := by
  subst hx hy
  rw [nI_ltI ha hb]
  exact ⟨f, fun z => g (by omega)⟩
theorem pk_eq {x y : Int32} {A B : Prop} (a b : Nat) (f : a = b → A) (g : a ≠ b → B) (hx : x = nI a := by rfl) (hy : y = nI b := by rfl) (ha : a < 2 ^ 31 := by omega) (hb : b < 2 ^ 31 := by omega) : (x = y → A) ∧ (¬ x = y → B) := by
  subst hx hy
  rw [nI_eq ha hb]
  exact ⟨f, g⟩
theorem pk_in {x : Int32} (n N : Nat) (h : n < N) (hx : x = nI n := by rfl) (hN : N < 2 ^ 31 := by omega) : vp_in x N := by
  subst hx
  exact vp_in_nI h hN
theorem pk_cl {x : Int32} (n : Nat) (hx : x = nI n := by rfl) (h : n < 2 ^ 31 := by omega) : x.toNatClampNeg = n := by
  subst hx
  exact nI_clamp h
theorem pk_tn {n : Nat} (h : n < 2 ^ 32) : (nI n).toBitVec.toNat = n := Nat.mod_eq_of_lt h
theorem pk_and (x : Int32) {m : Int32} (k : Nat) (hm : m.toBitVec.toNat = 2 ^ k - 1) : x &&& m = nI (x.toBitVec.toNat % 2 ^ k) := by
  apply Int32.toBitVec_inj.mp
  apply BitVec.eq_of_toNat_eq
  rw [Int32.toBitVec_and, BitVec.toNat_and, hm, Nat.and_two_pow_sub_one_eq_mod]
  show _ = (BitVec.ofNat 32 _).toNat
  rw [BitVec.toNat_ofNat]
  exact (Nat.mod_eq_of_lt (Nat.lt_of_le_of_lt (Nat.mod_le _ _) x.toBitVec.isLt)).symm
theorem pk_andN {n : Nat} (h : n < 2 ^ 32) {m : Int32} (k : Nat) (hm : m.toBitVec.toNat = 2 ^ k - 1) : nI n &&& m = nI (n % 2 ^ k) := by
  rw [pk_and _ k hm, pk_tn h]
theorem pk_andE (x : Int32) {m : Int32} (k : Nat) (hm : m.toBitVec.toNat = 2 ^ k - 1) : ∃ j : Nat, j < 2 ^ k ∧ x &&& m = nI j := ⟨_, Nat.mod_lt _ (Nat.two_pow_pos k), pk_and x k hm⟩
theorem pk_andIn (x : Int32) {m : Int32} (k : Nat) (hm : m.toBitVec.toNat = 2 ^ k - 1) (hk : k ≤ 30) : vp_in (x &&& m) (2 ^ k) := by
  obtain ⟨j, hj, e⟩ := pk_andE x k hm
  rw [e]
  exact vp_in_nI hj (Nat.lt_of_le_of_lt (Nat.pow_le_pow_right (by decide) hk) (by decide))
theorem pk_shl (a s : Int32) (k : Nat) (hs : (s.toBitVec.smod 32).toNat = k) : (a <<< s).toBitVec.toNat = a.toBitVec.toNat * 2 ^ k % 2 ^ 32 := by
  show (a.toBitVec <<< (s.toBitVec.smod 32).toNat).toNat = _
  rw [hs, BitVec.toNat_shiftLeft, Nat.shiftLeft_eq]
theorem pk_shlN {n : Nat} (s : Int32) (k : Nat) (hs : (s.toBitVec.smod 32).toNat = k) (h : n * 2 ^ k < 2 ^ 32) : nI n <<< s = nI (n * 2 ^ k) := by
  apply Int32.toBitVec_inj.mp
  apply BitVec.eq_of_toNat_eq
  have hn : n < 2 ^ 32 := Nat.lt_of_le_of_lt (Nat.le_mul_of_pos_right n (Nat.two_pow_pos k)) h
  rw [pk_shl _ _ k hs, pk_tn hn, pk_tn h, Nat.mod_eq_of_lt h]
theorem pk_shr (a s : Int32) (k : Nat) (hs : (s.toBitVec.smod 32).toNat = k) : (a >>> s).toInt = a.toInt >>> k := by
  show (a.toBitVec.sshiftRight (s.toBitVec.smod 32).toNat).toInt = _
  rw [hs, BitVec.toInt_sshiftRight]
  rfl
theorem pk_shrN {n : Nat} (h : n < 2 ^ 31) (s : Int32) (k : Nat) (hs : (s.toBitVec.smod 32).toNat = k) : nI n >>> s = nI (n / 2 ^ k) := by
  apply Int32.toInt_inj.mp
  have h2 : n / 2 ^ k ≤ n := Nat.div_le_self _ _
  rw [pk_shr _ _ k hs, nI_toInt h, nI_toInt (by omega), Int.shiftRight_eq_div_pow]
  rfl
theorem pk_ushr (x s : Int32) (k : Nat) (hs : ((s.toUInt32 &&& Int32.toUInt32 31).toBitVec % 32).toNat = k) : (x.toUInt32 >>> (s.toUInt32 &&& Int32.toUInt32 31)).toInt32.toBitVec.toNat = x.toBitVec.toNat / 2 ^ k := by
  have e : (x.toUInt32 >>> (s.toUInt32 &&& Int32.toUInt32 31)).toInt32.toBitVec = x.toBitVec >>> k := by
    rw [← hs]
    exact UInt32.toBitVec_shiftRight _ _
  rw [e, BitVec.toNat_ushiftRight, Nat.shiftRight_eq_div_pow]
theorem pk_ushrN {n : Nat} (hn : n < 2 ^ 32) (s : Int32) (k : Nat) (hs : ((s.toUInt32 &&& Int32.toUInt32 31).toBitVec % 32).toNat = k) : ((nI n).toUInt32 >>> (s.toUInt32 &&& Int32.toUInt32 31)).toInt32 = nI (n / 2 ^ k) := by
  apply Int32.toBitVec_inj.mp
  apply BitVec.eq_of_toNat_eq
  rw [pk_ushr _ s k hs, pk_tn hn, pk_tn (Nat.lt_of_le_of_lt (Nat.div_le_self _ _) hn)]
theorem pk_nb (z : Int32) : narrow .byte (.int z.toInt8.toInt32) = .int z.toInt8.toInt32 := congrArg Value.int (by simp)
theorem pk_ns (z : Int32) : narrow .short (.int z.toInt16.toInt32) = .int z.toInt16.toInt32 := congrArg Value.int (by simp)
theorem pk_fb (r : Int32) : fits .byte (.int r.toInt8.toInt32) = true := by
  have ⟨a, b⟩ := lg_i2b_range r
  have h1 : (-128 : Int32).toInt = -128 := by decide
  have h2 : (127 : Int32).toInt = 127 := by decide
  simp only [fits, Bool.and_eq_true, decide_eq_true_eq, Int32.le_iff_toInt_le, h1, h2]
  omega
theorem pk_fs (r : Int32) : fits .short (.int r.toInt16.toInt32) = true := by
  have ⟨a, b⟩ := lg_i2s_range r
  have h1 : (-32768 : Int32).toInt = -32768 := by decide
  have h2 : (32767 : Int32).toInt = 32767 := by decide
  simp only [fits, Bool.and_eq_true, decide_eq_true_eq, Int32.le_iff_toInt_le, h1, h2]
  omega
theorem pk_charN {q : Nat} (hq : q < 65536) : narrow .char (.int (nI q)) = .int (nI q) ∧ fits .char (.int (nI q)) = true := by
  constructor
  · have e : (nI q).toUInt32.toUInt16.toUInt32.toInt32 = nI q := by
      apply Int32.toBitVec_inj.mp
      apply BitVec.eq_of_toNat_eq
      show (nI q).toUInt32.toUInt16.toUInt32.toNat = q % 2 ^ 32
      rw [UInt16.toNat_toUInt32, UInt32.toNat_toUInt16, show (nI q).toUInt32.toNat = q % 2 ^ 32 from rfl]
      omega
    exact congrArg Value.int e
  · have a : (0 : Int32) ≤ nI q := nI_pos' (by omega)
    have b : nI q ≤ 65535 := nI_le (b := 65535) (by omega) (by decide)
    show (decide ((0 : Int32) ≤ nI q) && decide (nI q ≤ 65535)) = true
    rw [decide_eq_true a, decide_eq_true b]
    rfl
theorem pk_char (x : Int32) : (x.toUInt32 % 65536).toInt32 = nI (x.toBitVec.toNat % 65536) := by
  apply Int32.toBitVec_inj.mp
  apply BitVec.eq_of_toNat_eq
  rw [pk_tn (by omega)]
  show (x.toUInt32 % 65536).toNat = _
  rw [UInt32.toNat_mod]
  rfl
theorem pk_nc (x : Int32) : narrow .char (.int (x.toUInt32 % 65536).toInt32) = .int (x.toUInt32 % 65536).toInt32 := by
  rw [pk_char]
  exact (pk_charN (Nat.mod_lt _ (by decide))).1
theorem pk_fc (x : Int32) : fits .char (.int (x.toUInt32 % 65536).toInt32) = true := by
  rw [pk_char]
  exact (pk_charN (Nat.mod_lt _ (by decide))).2
theorem pk_vb (z : Int32) : vp_nar .byte z.toInt8.toInt32 = z.toInt8.toInt32 := by rw [vp_nar_byte]; simp
theorem pk_vs (z : Int32) : vp_nar .short z.toInt16.toInt32 = z.toInt16.toInt32 := by rw [vp_nar_short]; simp
theorem pk_vc (z : Int32) : vp_nar .char (z.toUInt32 % 65536).toInt32 = (z.toUInt32 % 65536).toInt32 := Value.int.inj (pk_nc z)
theorem pk_lT {n : Nat} (h : n < 2 ^ 63) : (lN n).toInt = (n : Int) := lg_ofNat_toInt h
theorem pk_lLT {a b : Nat} (ha : a < 2 ^ 63) (hb : b < 2 ^ 63) : lN a < lN b ↔ a < b := by
  rw [Int64.lt_iff_toInt_lt, pk_lT ha, pk_lT hb]; omega
theorem pk_lLE {a b : Nat} (ha : a < 2 ^ 63) (hb : b < 2 ^ 63) : lN a ≤ lN b ↔ a ≤ b := by
  rw [Int64.le_iff_toInt_le, pk_lT ha, pk_lT hb]; omega
theorem pk_lEQ {a b : Nat} (ha : a < 2 ^ 63) (hb : b < 2 ^ 63) : lN a = lN b ↔ a = b := by
  rw [← Int64.toInt_inj, pk_lT ha, pk_lT hb]; omega
theorem pk_lOf {x : Int64} (h : ¬ x < 0) : ∃ k : Nat, k < 2 ^ 63 ∧ x = lN k := by
  rw [Int64.lt_iff_toInt_lt] at h
  have h0 : (0 : Int64).toInt = 0 := by decide
  have hx := Int64.toInt_lt x
  refine ⟨x.toInt.toNat, by omega, Int64.toInt_inj.mp ?_⟩
  rw [pk_lT (by omega)]
  omega
theorem pk_lDiv {a b : Nat} (ha : a < 2 ^ 63) (h0 : 0 < b) (hb : b < 2 ^ 63) : lN a / lN b = lN (a / b) := by
  apply Int64.toInt_inj.mp
  rw [lg_ldiv_nonneg (by rw [pk_lT ha]; omega) (by rw [pk_lT hb]; omega), pk_lT ha, pk_lT hb, pk_lT (Nat.lt_of_le_of_lt (Nat.div_le_self a b) ha)]
  rfl
theorem pk_lRem {a b : Nat} (ha : a < 2 ^ 63) (h0 : 0 < b) (hb : b < 2 ^ 63) : lN a - lN a / lN b * lN b = lN (a % b) := by
  rw [pk_lDiv ha h0 hb, lN_mul, lN_sub (Nat.div_mul_le_self a b)]
  exact congrArg lN (by have := Nat.div_add_mod' a b; omega)
theorem pk_loop {σ : Type} (W : Nat → Nat → σ → Prop) (I : Nat → σ → Prop) (e i0 : Nat) (s : σ) (hi : i0 ≤ e) (h0 : I i0 s) (hx : ∀ n s, I e s → W (n + 1) e s)
    (hs : ∀ n i s, i < e → I i s → (∀ s', I (i + 1) s' → W n (i + 1) s') → W (n + 1) i s) : ∃ n, W n i0 s :=
  ⟨e + 1, loop_i W I e hx hs (e + 1) i0 s hi (by omega) h0⟩
theorem pk_loopD {σ : Type} (W : Nat → Nat → σ → Prop) (I : Nat → σ → Prop) (hx : ∀ n s, I 0 s → W (n + 1) 0 s)
    (hs : ∀ n i s, I (i + 1) s → (∀ s', I i s' → W n i s') → W (n + 1) (i + 1) s) : ∀ (e : Nat) (s : σ), I e s → W (e + 1) e s := by
  intro e
  induction e with
  | zero => exact fun s h => hx 0 s h
  | succ e ih => exact fun s h => hs (e + 1) e s h (fun s' h' => ih s' h')
theorem lp1 {A1 : Type} (W : Nat → A1 → Prop) (I : A1 → Prop) (μ : A1 → Nat) (hs : ∀ (n : Nat) (a1 : A1), I a1 → (∀ (b1 : A1), I b1 → μ b1 < μ a1 → W n b1) → W (n + 1) a1) (a1 : A1) (h : I a1) : ∃ n, W n a1 :=
  loop_m (σ := A1) (fun n s => W n s) (fun s => I s) (fun s => μ s) (fun n s hI hk => hs n s hI (fun b1 h9 hm => hk b1 h9 hm)) a1 h
theorem lp2 {A1 A2 : Type} (W : Nat → A1 → A2 → Prop) (I : A1 → A2 → Prop) (μ : A1 → A2 → Nat) (hs : ∀ (n : Nat) (a1 : A1) (a2 : A2), I a1 a2 → (∀ (b1 : A1) (b2 : A2), I b1 b2 → μ b1 b2 < μ a1 a2 → W n b1 b2) → W (n + 1) a1 a2) (a1 : A1) (a2 : A2) (h : I a1 a2) : ∃ n, W n a1 a2 :=
  loop_m (σ := A1 × A2) (fun n s => W n s.1 s.2) (fun s => I s.1 s.2) (fun s => μ s.1 s.2) (fun n s hI hk => hs n s.1 s.2 hI (fun b1 b2 h9 hm => hk (b1, b2) h9 hm)) (a1, a2) h
theorem lp3 {A1 A2 A3 : Type} (W : Nat → A1 → A2 → A3 → Prop) (I : A1 → A2 → A3 → Prop) (μ : A1 → A2 → A3 → Nat) (hs : ∀ (n : Nat) (a1 : A1) (a2 : A2) (a3 : A3), I a1 a2 a3 → (∀ (b1 : A1) (b2 : A2) (b3 : A3), I b1 b2 b3 → μ b1 b2 b3 < μ a1 a2 a3 → W n b1 b2 b3) → W (n + 1) a1 a2 a3) (a1 : A1) (a2 : A2) (a3 : A3) (h : I a1 a2 a3) : ∃ n, W n a1 a2 a3 :=
  loop_m (σ := A1 × A2 × A3) (fun n s => W n s.1 s.2.1 s.2.2) (fun s => I s.1 s.2.1 s.2.2) (fun s => μ s.1 s.2.1 s.2.2) (fun n s hI hk => hs n s.1 s.2.1 s.2.2 hI (fun b1 b2 b3 h9 hm => hk (b1, b2, b3) h9 hm)) (a1, a2, a3) h
theorem lp4 {A1 A2 A3 A4 : Type} (W : Nat → A1 → A2 → A3 → A4 → Prop) (I : A1 → A2 → A3 → A4 → Prop) (μ : A1 → A2 → A3 → A4 → Nat) (hs : ∀ (n : Nat) (a1 : A1) (a2 : A2) (a3 : A3) (a4 : A4), I a1 a2 a3 a4 → (∀ (b1 : A1) (b2 : A2) (b3 : A3) (b4 : A4), I b1 b2 b3 b4 → μ b1 b2 b3 b4 < μ a1 a2 a3 a4 → W n b1 b2 b3 b4) → W (n + 1) a1 a2 a3 a4) (a1 : A1) (a2 : A2) (a3 : A3) (a4 : A4) (h : I a1 a2 a3 a4) : ∃ n, W n a1 a2 a3 a4 :=
  loop_m (σ := A1 × A2 × A3 × A4) (fun n s => W n s.1 s.2.1 s.2.2.1 s.2.2.2) (fun s => I s.1 s.2.1 s.2.2.1 s.2.2.2) (fun s => μ s.1 s.2.1 s.2.2.1 s.2.2.2) (fun n s hI hk => hs n s.1 s.2.1 s.2.2.1 s.2.2.2 hI (fun b1 b2 b3 b4 h9 hm => hk (b1, b2, b3, b4) h9 hm)) (a1, a2, a3, a4) h
theorem lp5 {A1 A2 A3 A4 A5 : Type} (W : Nat → A1 → A2 → A3 → A4 → A5 → Prop) (I : A1 → A2 → A3 → A4 → A5 → Prop) (μ : A1 → A2 → A3 → A4 → A5 → Nat) (hs : ∀ (n : Nat) (a1 : A1) (a2 : A2) (a3 : A3) (a4 : A4) (a5 : A5), I a1 a2 a3 a4 a5 → (∀ (b1 : A1) (b2 : A2) (b3 : A3) (b4 : A4) (b5 : A5), I b1 b2 b3 b4 b5 → μ b1 b2 b3 b4 b5 < μ a1 a2 a3 a4 a5 → W n b1 b2 b3 b4 b5) → W (n + 1) a1 a2 a3 a4 a5) (a1 : A1) (a2 : A2) (a3 : A3) (a4 : A4) (a5 : A5) (h : I a1 a2 a3 a4 a5) : ∃ n, W n a1 a2 a3 a4 a5 :=
  loop_m (σ := A1 × A2 × A3 × A4 × A5) (fun n s => W n s.1 s.2.1 s.2.2.1 s.2.2.2.1 s.2.2.2.2) (fun s => I s.1 s.2.1 s.2.2.1 s.2.2.2.1 s.2.2.2.2) (fun s => μ s.1 s.2.1 s.2.2.1 s.2.2.2.1 s.2.2.2.2) (fun n s hI hk => hs n s.1 s.2.1 s.2.2.1 s.2.2.2.1 s.2.2.2.2 hI (fun b1 b2 b3 b4 b5 h9 hm => hk (b1, b2, b3, b4, b5) h9 hm)) (a1, a2, a3, a4, a5) h
theorem lp6 {A1 A2 A3 A4 A5 A6 : Type} (W : Nat → A1 → A2 → A3 → A4 → A5 → A6 → Prop) (I : A1 → A2 → A3 → A4 → A5 → A6 → Prop) (μ : A1 → A2 → A3 → A4 → A5 → A6 → Nat) (hs : ∀ (n : Nat) (a1 : A1) (a2 : A2) (a3 : A3) (a4 : A4) (a5 : A5) (a6 : A6), I a1 a2 a3 a4 a5 a6 → (∀ (b1 : A1) (b2 : A2) (b3 : A3) (b4 : A4) (b5 : A5) (b6 : A6), I b1 b2 b3 b4 b5 b6 → μ b1 b2 b3 b4 b5 b6 < μ a1 a2 a3 a4 a5 a6 → W n b1 b2 b3 b4 b5 b6) → W (n + 1) a1 a2 a3 a4 a5 a6) (a1 : A1) (a2 : A2) (a3 : A3) (a4 : A4) (a5 : A5) (a6 : A6) (h : I a1 a2 a3 a4 a5 a6) : ∃ n, W n a1 a2 a3 a4 a5 a6 :=
  loop_m (σ := A1 × A2 × A3 × A4 × A5 × A6) (fun n s => W n s.1 s.2.1 s.2.2.1 s.2.2.2.1 s.2.2.2.2.1 s.2.2.2.2.2) (fun s => I s.1 s.2.1 s.2.2.1 s.2.2.2.1 s.2.2.2.2.1 s.2.2.2.2.2) (fun s => μ s.1 s.2.1 s.2.2.1 s.2.2.2.1 s.2.2.2.2.1 s.2.2.2.2.2) (fun n s hI hk => hs n s.1 s.2.1 s.2.2.1 s.2.2.2.1 s.2.2.2.2.1 s.2.2.2.2.2 hI (fun b1 b2 b3 b4 b5 b6 h9 hm => hk (b1, b2, b3, b4, b5, b6) h9 hm)) (a1, a2, a3, a4, a5, a6) h
theorem lp7 {A1 A2 A3 A4 A5 A6 A7 : Type} (W : Nat → A1 → A2 → A3 → A4 → A5 → A6 → A7 → Prop) (I : A1 → A2 → A3 → A4 → A5 → A6 → A7 → Prop) (μ : A1 → A2 → A3 → A4 → A5 → A6 → A7 → Nat) (hs : ∀ (n : Nat) (a1 : A1) (a2 : A2) (a3 : A3) (a4 : A4) (a5 : A5) (a6 : A6) (a7 : A7), I a1 a2 a3 a4 a5 a6 a7 → (∀ (b1 : A1) (b2 : A2) (b3 : A3) (b4 : A4) (b5 : A5) (b6 : A6) (b7 : A7), I b1 b2 b3 b4 b5 b6 b7 → μ b1 b2 b3 b4 b5 b6 b7 < μ a1 a2 a3 a4 a5 a6 a7 → W n b1 b2 b3 b4 b5 b6 b7) → W (n + 1) a1 a2 a3 a4 a5 a6 a7) (a1 : A1) (a2 : A2) (a3 : A3) (a4 : A4) (a5 : A5) (a6 : A6) (a7 : A7) (h : I a1 a2 a3 a4 a5 a6 a7) : ∃ n, W n a1 a2 a3 a4 a5 a6 a7 :=
  loop_m (σ := A1 × A2 × A3 × A4 × A5 × A6 × A7) (fun n s => W n s.1 s.2.1 s.2.2.1 s.2.2.2.1 s.2.2.2.2.1 s.2.2.2.2.2.1 s.2.2.2.2.2.2) (fun s => I s.1 s.2.1 s.2.2.1 s.2.2.2.1 s.2.2.2.2.1 s.2.2.2.2.2.1 s.2.2.2.2.2.2) (fun s => μ s.1 s.2.1 s.2.2.1 s.2.2.2.1 s.2.2.2.2.1 s.2.2.2.2.2.1 s.2.2.2.2.2.2) (fun n s hI hk => hs n s.1 s.2.1 s.2.2.1 s.2.2.2.1 s.2.2.2.2.1 s.2.2.2.2.2.1 s.2.2.2.2.2.2 hI (fun b1 b2 b3 b4 b5 b6 b7 h9 hm => hk (b1, b2, b3, b4, b5, b6, b7) h9 hm)) (a1, a2, a3, a4, a5, a6, a7) h
theorem lp8 {A1 A2 A3 A4 A5 A6 A7 A8 : Type} (W : Nat → A1 → A2 → A3 → A4 → A5 → A6 → A7 → A8 → Prop) (I : A1 → A2 → A3 → A4 → A5 → A6 → A7 → A8 → Prop) (μ : A1 → A2 → A3 → A4 → A5 → A6 → A7 → A8 → Nat) (hs : ∀ (n : Nat) (a1 : A1) (a2 : A2) (a3 : A3) (a4 : A4) (a5 : A5) (a6 : A6) (a7 : A7) (a8 : A8), I a1 a2 a3 a4 a5 a6 a7 a8 → (∀ (b1 : A1) (b2 : A2) (b3 : A3) (b4 : A4) (b5 : A5) (b6 : A6) (b7 : A7) (b8 : A8), I b1 b2 b3 b4 b5 b6 b7 b8 → μ b1 b2 b3 b4 b5 b6 b7 b8 < μ a1 a2 a3 a4 a5 a6 a7 a8 → W n b1 b2 b3 b4 b5 b6 b7 b8) → W (n + 1) a1 a2 a3 a4 a5 a6 a7 a8) (a1 : A1) (a2 : A2) (a3 : A3) (a4 : A4) (a5 : A5) (a6 : A6) (a7 : A7) (a8 : A8) (h : I a1 a2 a3 a4 a5 a6 a7 a8) : ∃ n, W n a1 a2 a3 a4 a5 a6 a7 a8 :=
  loop_m (σ := A1 × A2 × A3 × A4 × A5 × A6 × A7 × A8) (fun n s => W n s.1 s.2.1 s.2.2.1 s.2.2.2.1 s.2.2.2.2.1 s.2.2.2.2.2.1 s.2.2.2.2.2.2.1 s.2.2.2.2.2.2.2) (fun s => I s.1 s.2.1 s.2.2.1 s.2.2.2.1 s.2.2.2.2.1 s.2.2.2.2.2.1 s.2.2.2.2.2.2.1 s.2.2.2.2.2.2.2) (fun s => μ s.1 s.2.1 s.2.2.1 s.2.2.2.1 s.2.2.2.2.1 s.2.2.2.2.2.1 s.2.2.2.2.2.2.1 s.2.2.2.2.2.2.2) (fun n s hI hk => hs n s.1 s.2.1 s.2.2.1 s.2.2.2.1 s.2.2.2.2.1 s.2.2.2.2.2.1 s.2.2.2.2.2.2.1 s.2.2.2.2.2.2.2 hI (fun b1 b2 b3 b4 b5 b6 b7 b8 h9 hm => hk (b1, b2, b3, b4, b5, b6, b7, b8) h9 hm)) (a1, a2, a3, a4, a5, a6, a7, a8) h
theorem lp9 {A1 A2 A3 A4 A5 A6 A7 A8 A9 : Type} (W : Nat → A1 → A2 → A3 → A4 → A5 → A6 → A7 → A8 → A9 → Prop) (I : A1 → A2 → A3 → A4 → A5 → A6 → A7 → A8 → A9 → Prop) (μ : A1 → A2 → A3 → A4 → A5 → A6 → A7 → A8 → A9 → Nat) (hs : ∀ (n : Nat) (a1 : A1) (a2 : A2) (a3 : A3) (a4 : A4) (a5 : A5) (a6 : A6) (a7 : A7) (a8 : A8) (a9 : A9), I a1 a2 a3 a4 a5 a6 a7 a8 a9 → (∀ (b1 : A1) (b2 : A2) (b3 : A3) (b4 : A4) (b5 : A5) (b6 : A6) (b7 : A7) (b8 : A8) (b9 : A9), I b1 b2 b3 b4 b5 b6 b7 b8 b9 → μ b1 b2 b3 b4 b5 b6 b7 b8 b9 < μ a1 a2 a3 a4 a5 a6 a7 a8 a9 → W n b1 b2 b3 b4 b5 b6 b7 b8 b9) → W (n + 1) a1 a2 a3 a4 a5 a6 a7 a8 a9) (a1 : A1) (a2 : A2) (a3 : A3) (a4 : A4) (a5 : A5) (a6 : A6) (a7 : A7) (a8 : A8) (a9 : A9) (h : I a1 a2 a3 a4 a5 a6 a7 a8 a9) : ∃ n, W n a1 a2 a3 a4 a5 a6 a7 a8 a9 :=
  loop_m (σ := A1 × A2 × A3 × A4 × A5 × A6 × A7 × A8 × A9) (fun n s => W n s.1 s.2.1 s.2.2.1 s.2.2.2.1 s.2.2.2.2.1 s.2.2.2.2.2.1 s.2.2.2.2.2.2.1 s.2.2.2.2.2.2.2.1 s.2.2.2.2.2.2.2.2) (fun s => I s.1 s.2.1 s.2.2.1 s.2.2.2.1 s.2.2.2.2.1 s.2.2.2.2.2.1 s.2.2.2.2.2.2.1 s.2.2.2.2.2.2.2.1 s.2.2.2.2.2.2.2.2) (fun s => μ s.1 s.2.1 s.2.2.1 s.2.2.2.1 s.2.2.2.2.1 s.2.2.2.2.2.1 s.2.2.2.2.2.2.1 s.2.2.2.2.2.2.2.1 s.2.2.2.2.2.2.2.2) (fun n s hI hk => hs n s.1 s.2.1 s.2.2.1 s.2.2.2.1 s.2.2.2.2.1 s.2.2.2.2.2.1 s.2.2.2.2.2.2.1 s.2.2.2.2.2.2.2.1 s.2.2.2.2.2.2.2.2 hI (fun b1 b2 b3 b4 b5 b6 b7 b8 b9 h9 hm => hk (b1, b2, b3, b4, b5, b6, b7, b8, b9) h9 hm)) (a1, a2, a3, a4, a5, a6, a7, a8, a9) h
theorem lp10 {A1 A2 A3 A4 A5 A6 A7 A8 A9 A10 : Type} (W : Nat → A1 → A2 → A3 → A4 → A5 → A6 → A7 → A8 → A9 → A10 → Prop) (I : A1 → A2 → A3 → A4 → A5 → A6 → A7 → A8 → A9 → A10 → Prop) (μ : A1 → A2 → A3 → A4 → A5 → A6 → A7 → A8 → A9 → A10 → Nat) (hs : ∀ (n : Nat) (a1 : A1) (a2 : A2) (a3 : A3) (a4 : A4) (a5 : A5) (a6 : A6) (a7 : A7) (a8 : A8) (a9 : A9) (a10 : A10), I a1 a2 a3 a4 a5 a6 a7 a8 a9 a10 → (∀ (b1 : A1) (b2 : A2) (b3 : A3) (b4 : A4) (b5 : A5) (b6 : A6) (b7 : A7) (b8 : A8) (b9 : A9) (b10 : A10), I b1 b2 b3 b4 b5 b6 b7 b8 b9 b10 → μ b1 b2 b3 b4 b5 b6 b7 b8 b9 b10 < μ a1 a2 a3 a4 a5 a6 a7 a8 a9 a10 → W n b1 b2 b3 b4 b5 b6 b7 b8 b9 b10) → W (n + 1) a1 a2 a3 a4 a5 a6 a7 a8 a9 a10) (a1 : A1) (a2 : A2) (a3 : A3) (a4 : A4) (a5 : A5) (a6 : A6) (a7 : A7) (a8 : A8) (a9 : A9) (a10 : A10) (h : I a1 a2 a3 a4 a5 a6 a7 a8 a9 a10) : ∃ n, W n a1 a2 a3 a4 a5 a6 a7 a8 a9 a10 :=
  loop_m (σ := A1 × A2 × A3 × A4 × A5 × A6 × A7 × A8 × A9 × A10) (fun n s => W n s.1 s.2.1 s.2.2.1 s.2.2.2.1 s.2.2.2.2.1 s.2.2.2.2.2.1 s.2.2.2.2.2.2.1 s.2.2.2.2.2.2.2.1 s.2.2.2.2.2.2.2.2.1 s.2.2.2.2.2.2.2.2.2) (fun s => I s.1 s.2.1 s.2.2.1 s.2.2.2.1 s.2.2.2.2.1 s.2.2.2.2.2.1 s.2.2.2.2.2.2.1 s.2.2.2.2.2.2.2.1 s.2.2.2.2.2.2.2.2.1 s.2.2.2.2.2.2.2.2.2) (fun s => μ s.1 s.2.1 s.2.2.1 s.2.2.2.1 s.2.2.2.2.1 s.2.2.2.2.2.1 s.2.2.2.2.2.2.1 s.2.2.2.2.2.2.2.1 s.2.2.2.2.2.2.2.2.1 s.2.2.2.2.2.2.2.2.2) (fun n s hI hk => hs n s.1 s.2.1 s.2.2.1 s.2.2.2.1 s.2.2.2.2.1 s.2.2.2.2.2.1 s.2.2.2.2.2.2.1 s.2.2.2.2.2.2.2.1 s.2.2.2.2.2.2.2.2.1 s.2.2.2.2.2.2.2.2.2 hI (fun b1 b2 b3 b4 b5 b6 b7 b8 b9 b10 h9 hm => hk (b1, b2, b3, b4, b5, b6, b7, b8, b9, b10) h9 hm)) (a1, a2, a3, a4, a5, a6, a7, a8, a9, a10) h
theorem lp11 {A1 A2 A3 A4 A5 A6 A7 A8 A9 A10 A11 : Type} (W : Nat → A1 → A2 → A3 → A4 → A5 → A6 → A7 → A8 → A9 → A10 → A11 → Prop) (I : A1 → A2 → A3 → A4 → A5 → A6 → A7 → A8 → A9 → A10 → A11 → Prop) (μ : A1 → A2 → A3 → A4 → A5 → A6 → A7 → A8 → A9 → A10 → A11 → Nat) (hs : ∀ (n : Nat) (a1 : A1) (a2 : A2) (a3 : A3) (a4 : A4) (a5 : A5) (a6 : A6) (a7 : A7) (a8 : A8) (a9 : A9) (a10 : A10) (a11 : A11), I a1 a2 a3 a4 a5 a6 a7 a8 a9 a10 a11 → (∀ (b1 : A1) (b2 : A2) (b3 : A3) (b4 : A4) (b5 : A5) (b6 : A6) (b7 : A7) (b8 : A8) (b9 : A9) (b10 : A10) (b11 : A11), I b1 b2 b3 b4 b5 b6 b7 b8 b9 b10 b11 → μ b1 b2 b3 b4 b5 b6 b7 b8 b9 b10 b11 < μ a1 a2 a3 a4 a5 a6 a7 a8 a9 a10 a11 → W n b1 b2 b3 b4 b5 b6 b7 b8 b9 b10 b11) → W (n + 1) a1 a2 a3 a4 a5 a6 a7 a8 a9 a10 a11) (a1 : A1) (a2 : A2) (a3 : A3) (a4 : A4) (a5 : A5) (a6 : A6) (a7 : A7) (a8 : A8) (a9 : A9) (a10 : A10) (a11 : A11) (h : I a1 a2 a3 a4 a5 a6 a7 a8 a9 a10 a11) : ∃ n, W n a1 a2 a3 a4 a5 a6 a7 a8 a9 a10 a11 :=
  loop_m (σ := A1 × A2 × A3 × A4 × A5 × A6 × A7 × A8 × A9 × A10 × A11) (fun n s => W n s.1 s.2.1 s.2.2.1 s.2.2.2.1 s.2.2.2.2.1 s.2.2.2.2.2.1 s.2.2.2.2.2.2.1 s.2.2.2.2.2.2.2.1 s.2.2.2.2.2.2.2.2.1 s.2.2.2.2.2.2.2.2.2.1 s.2.2.2.2.2.2.2.2.2.2) (fun s => I s.1 s.2.1 s.2.2.1 s.2.2.2.1 s.2.2.2.2.1 s.2.2.2.2.2.1 s.2.2.2.2.2.2.1 s.2.2.2.2.2.2.2.1 s.2.2.2.2.2.2.2.2.1 s.2.2.2.2.2.2.2.2.2.1 s.2.2.2.2.2.2.2.2.2.2) (fun s => μ s.1 s.2.1 s.2.2.1 s.2.2.2.1 s.2.2.2.2.1 s.2.2.2.2.2.1 s.2.2.2.2.2.2.1 s.2.2.2.2.2.2.2.1 s.2.2.2.2.2.2.2.2.1 s.2.2.2.2.2.2.2.2.2.1 s.2.2.2.2.2.2.2.2.2.2) (fun n s hI hk => hs n s.1 s.2.1 s.2.2.1 s.2.2.2.1 s.2.2.2.2.1 s.2.2.2.2.2.1 s.2.2.2.2.2.2.1 s.2.2.2.2.2.2.2.1 s.2.2.2.2.2.2.2.2.1 s.2.2.2.2.2.2.2.2.2.1 s.2.2.2.2.2.2.2.2.2.2 hI (fun b1 b2 b3 b4 b5 b6 b7 b8 b9 b10 b11 h9 hm => hk (b1, b2, b3, b4, b5, b6, b7, b8, b9, b10, b11) h9 hm)) (a1, a2, a3, a4, a5, a6, a7, a8, a9, a10, a11) h
theorem lp12 {A1 A2 A3 A4 A5 A6 A7 A8 A9 A10 A11 A12 : Type} (W : Nat → A1 → A2 → A3 → A4 → A5 → A6 → A7 → A8 → A9 → A10 → A11 → A12 → Prop) (I : A1 → A2 → A3 → A4 → A5 → A6 → A7 → A8 → A9 → A10 → A11 → A12 → Prop) (μ : A1 → A2 → A3 → A4 → A5 → A6 → A7 → A8 → A9 → A10 → A11 → A12 → Nat) (hs : ∀ (n : Nat) (a1 : A1) (a2 : A2) (a3 : A3) (a4 : A4) (a5 : A5) (a6 : A6) (a7 : A7) (a8 : A8) (a9 : A9) (a10 : A10) (a11 : A11) (a12 : A12), I a1 a2 a3 a4 a5 a6 a7 a8 a9 a10 a11 a12 → (∀ (b1 : A1) (b2 : A2) (b3 : A3) (b4 : A4) (b5 : A5) (b6 : A6) (b7 : A7) (b8 : A8) (b9 : A9) (b10 : A10) (b11 : A11) (b12 : A12), I b1 b2 b3 b4 b5 b6 b7 b8 b9 b10 b11 b12 → μ b1 b2 b3 b4 b5 b6 b7 b8 b9 b10 b11 b12 < μ a1 a2 a3 a4 a5 a6 a7 a8 a9 a10 a11 a12 → W n b1 b2 b3 b4 b5 b6 b7 b8 b9 b10 b11 b12) → W (n + 1) a1 a2 a3 a4 a5 a6 a7 a8 a9 a10 a11 a12) (a1 : A1) (a2 : A2) (a3 : A3) (a4 : A4) (a5 : A5) (a6 : A6) (a7 : A7) (a8 : A8) (a9 : A9) (a10 : A10) (a11 : A11) (a12 : A12) (h : I a1 a2 a3 a4 a5 a6 a7 a8 a9 a10 a11 a12) : ∃ n, W n a1 a2 a3 a4 a5 a6 a7 a8 a9 a10 a11 a12 :=
  loop_m (σ := A1 × A2 × A3 × A4 × A5 × A6 × A7 × A8 × A9 × A10 × A11 × A12) (fun n s => W n s.1 s.2.1 s.2.2.1 s.2.2.2.1 s.2.2.2.2.1 s.2.2.2.2.2.1 s.2.2.2.2.2.2.1 s.2.2.2.2.2.2.2.1 s.2.2.2.2.2.2.2.2.1 s.2.2.2.2.2.2.2.2.2.1 s.2.2.2.2.2.2.2.2.2.2.1 s.2.2.2.2.2.2.2.2.2.2.2) (fun s => I s.1 s.2.1 s.2.2.1 s.2.2.2.1 s.2.2.2.2.1 s.2.2.2.2.2.1 s.2.2.2.2.2.2.1 s.2.2.2.2.2.2.2.1 s.2.2.2.2.2.2.2.2.1 s.2.2.2.2.2.2.2.2.2.1 s.2.2.2.2.2.2.2.2.2.2.1 s.2.2.2.2.2.2.2.2.2.2.2) (fun s => μ s.1 s.2.1 s.2.2.1 s.2.2.2.1 s.2.2.2.2.1 s.2.2.2.2.2.1 s.2.2.2.2.2.2.1 s.2.2.2.2.2.2.2.1 s.2.2.2.2.2.2.2.2.1 s.2.2.2.2.2.2.2.2.2.1 s.2.2.2.2.2.2.2.2.2.2.1 s.2.2.2.2.2.2.2.2.2.2.2) (fun n s hI hk => hs n s.1 s.2.1 s.2.2.1 s.2.2.2.1 s.2.2.2.2.1 s.2.2.2.2.2.1 s.2.2.2.2.2.2.1 s.2.2.2.2.2.2.2.1 s.2.2.2.2.2.2.2.2.1 s.2.2.2.2.2.2.2.2.2.1 s.2.2.2.2.2.2.2.2.2.2.1 s.2.2.2.2.2.2.2.2.2.2.2 hI (fun b1 b2 b3 b4 b5 b6 b7 b8 b9 b10 b11 b12 h9 hm => hk (b1, b2, b3, b4, b5, b6, b7, b8, b9, b10, b11, b12) h9 hm)) (a1, a2, a3, a4, a5, a6, a7, a8, a9, a10, a11, a12) h
theorem lp13 {A1 A2 A3 A4 A5 A6 A7 A8 A9 A10 A11 A12 A13 : Type} (W : Nat → A1 → A2 → A3 → A4 → A5 → A6 → A7 → A8 → A9 → A10 → A11 → A12 → A13 → Prop) (I : A1 → A2 → A3 → A4 → A5 → A6 → A7 → A8 → A9 → A10 → A11 → A12 → A13 → Prop) (μ : A1 → A2 → A3 → A4 → A5 → A6 → A7 → A8 → A9 → A10 → A11 → A12 → A13 → Nat) (hs : ∀ (n : Nat) (a1 : A1) (a2 : A2) (a3 : A3) (a4 : A4) (a5 : A5) (a6 : A6) (a7 : A7) (a8 : A8) (a9 : A9) (a10 : A10) (a11 : A11) (a12 : A12) (a13 : A13), I a1 a2 a3 a4 a5 a6 a7 a8 a9 a10 a11 a12 a13 → (∀ (b1 : A1) (b2 : A2) (b3 : A3) (b4 : A4) (b5 : A5) (b6 : A6) (b7 : A7) (b8 : A8) (b9 : A9) (b10 : A10) (b11 : A11) (b12 : A12) (b13 : A13), I b1 b2 b3 b4 b5 b6 b7 b8 b9 b10 b11 b12 b13 → μ b1 b2 b3 b4 b5 b6 b7 b8 b9 b10 b11 b12 b13 < μ a1 a2 a3 a4 a5 a6 a7 a8 a9 a10 a11 a12 a13 → W n b1 b2 b3 b4 b5 b6 b7 b8 b9 b10 b11 b12 b13) → W (n + 1) a1 a2 a3 a4 a5 a6 a7 a8 a9 a10 a11 a12 a13) (a1 : A1) (a2 : A2) (a3 : A3) (a4 : A4) (a5 : A5) (a6 : A6) (a7 : A7) (a8 : A8) (a9 : A9) (a10 : A10) (a11 : A11) (a12 : A12) (a13 : A13) (h : I a1 a2 a3 a4 a5 a6 a7 a8 a9 a10 a11 a12 a13) : ∃ n, W n a1 a2 a3 a4 a5 a6 a7 a8 a9 a10 a11 a12 a13 :=
  loop_m (σ := A1 × A2 × A3 × A4 × A5 × A6 × A7 × A8 × A9 × A10 × A11 × A12 × A13) (fun n s => W n s.1 s.2.1 s.2.2.1 s.2.2.2.1 s.2.2.2.2.1 s.2.2.2.2.2.1 s.2.2.2.2.2.2.1 s.2.2.2.2.2.2.2.1 s.2.2.2.2.2.2.2.2.1 s.2.2.2.2.2.2.2.2.2.1 s.2.2.2.2.2.2.2.2.2.2.1 s.2.2.2.2.2.2.2.2.2.2.2.1 s.2.2.2.2.2.2.2.2.2.2.2.2) (fun s => I s.1 s.2.1 s.2.2.1 s.2.2.2.1 s.2.2.2.2.1 s.2.2.2.2.2.1 s.2.2.2.2.2.2.1 s.2.2.2.2.2.2.2.1 s.2.2.2.2.2.2.2.2.1 s.2.2.2.2.2.2.2.2.2.1 s.2.2.2.2.2.2.2.2.2.2.1 s.2.2.2.2.2.2.2.2.2.2.2.1 s.2.2.2.2.2.2.2.2.2.2.2.2) (fun s => μ s.1 s.2.1 s.2.2.1 s.2.2.2.1 s.2.2.2.2.1 s.2.2.2.2.2.1 s.2.2.2.2.2.2.1 s.2.2.2.2.2.2.2.1 s.2.2.2.2.2.2.2.2.1 s.2.2.2.2.2.2.2.2.2.1 s.2.2.2.2.2.2.2.2.2.2.1 s.2.2.2.2.2.2.2.2.2.2.2.1 s.2.2.2.2.2.2.2.2.2.2.2.2) (fun n s hI hk => hs n s.1 s.2.1 s.2.2.1 s.2.2.2.1 s.2.2.2.2.1 s.2.2.2.2.2.1 s.2.2.2.2.2.2.1 s.2.2.2.2.2.2.2.1 s.2.2.2.2.2.2.2.2.1 s.2.2.2.2.2.2.2.2.2.1 s.2.2.2.2.2.2.2.2.2.2.1 s.2.2.2.2.2.2.2.2.2.2.2.1 s.2.2.2.2.2.2.2.2.2.2.2.2 hI (fun b1 b2 b3 b4 b5 b6 b7 b8 b9 b10 b11 b12 b13 h9 hm => hk (b1, b2, b3, b4, b5, b6, b7, b8, b9, b10, b11, b12, b13) h9 hm)) (a1, a2, a3, a4, a5, a6, a7, a8, a9, a10, a11, a12, a13) h
theorem lp14 {A1 A2 A3 A4 A5 A6 A7 A8 A9 A10 A11 A12 A13 A14 : Type} (W : Nat → A1 → A2 → A3 → A4 → A5 → A6 → A7 → A8 → A9 → A10 → A11 → A12 → A13 → A14 → Prop) (I : A1 → A2 → A3 → A4 → A5 → A6 → A7 → A8 → A9 → A10 → A11 → A12 → A13 → A14 → Prop) (μ : A1 → A2 → A3 → A4 → A5 → A6 → A7 → A8 → A9 → A10 → A11 → A12 → A13 → A14 → Nat) (hs : ∀ (n : Nat) (a1 : A1) (a2 : A2) (a3 : A3) (a4 : A4) (a5 : A5) (a6 : A6) (a7 : A7) (a8 : A8) (a9 : A9) (a10 : A10) (a11 : A11) (a12 : A12) (a13 : A13) (a14 : A14), I a1 a2 a3 a4 a5 a6 a7 a8 a9 a10 a11 a12 a13 a14 → (∀ (b1 : A1) (b2 : A2) (b3 : A3) (b4 : A4) (b5 : A5) (b6 : A6) (b7 : A7) (b8 : A8) (b9 : A9) (b10 : A10) (b11 : A11) (b12 : A12) (b13 : A13) (b14 : A14), I b1 b2 b3 b4 b5 b6 b7 b8 b9 b10 b11 b12 b13 b14 → μ b1 b2 b3 b4 b5 b6 b7 b8 b9 b10 b11 b12 b13 b14 < μ a1 a2 a3 a4 a5 a6 a7 a8 a9 a10 a11 a12 a13 a14 → W n b1 b2 b3 b4 b5 b6 b7 b8 b9 b10 b11 b12 b13 b14) → W (n + 1) a1 a2 a3 a4 a5 a6 a7 a8 a9 a10 a11 a12 a13 a14) (a1 : A1) (a2 : A2) (a3 : A3) (a4 : A4) (a5 : A5) (a6 : A6) (a7 : A7) (a8 : A8) (a9 : A9) (a10 : A10) (a11 : A11) (a12 : A12) (a13 : A13) (a14 : A14) (h : I a1 a2 a3 a4 a5 a6 a7 a8 a9 a10 a11 a12 a13 a14) : ∃ n, W n a1 a2 a3 a4 a5 a6 a7 a8 a9 a10 a11 a12 a13 a14 :=
  loop_m (σ := A1 × A2 × A3 × A4 × A5 × A6 × A7 × A8 × A9 × A10 × A11 × A12 × A13 × A14) (fun n s => W n s.1 s.2.1 s.2.2.1 s.2.2.2.1 s.2.2.2.2.1 s.2.2.2.2.2.1 s.2.2.2.2.2.2.1 s.2.2.2.2.2.2.2.1 s.2.2.2.2.2.2.2.2.1 s.2.2.2.2.2.2.2.2.2.1 s.2.2.2.2.2.2.2.2.2.2.1 s.2.2.2.2.2.2.2.2.2.2.2.1 s.2.2.2.2.2.2.2.2.2.2.2.2.1 s.2.2.2.2.2.2.2.2.2.2.2.2.2) (fun s => I s.1 s.2.1 s.2.2.1 s.2.2.2.1 s.2.2.2.2.1 s.2.2.2.2.2.1 s.2.2.2.2.2.2.1 s.2.2.2.2.2.2.2.1 s.2.2.2.2.2.2.2.2.1 s.2.2.2.2.2.2.2.2.2.1 s.2.2.2.2.2.2.2.2.2.2.1 s.2.2.2.2.2.2.2.2.2.2.2.1 s.2.2.2.2.2.2.2.2.2.2.2.2.1 s.2.2.2.2.2.2.2.2.2.2.2.2.2) (fun s => μ s.1 s.2.1 s.2.2.1 s.2.2.2.1 s.2.2.2.2.1 s.2.2.2.2.2.1 s.2.2.2.2.2.2.1 s.2.2.2.2.2.2.2.1 s.2.2.2.2.2.2.2.2.1 s.2.2.2.2.2.2.2.2.2.1 s.2.2.2.2.2.2.2.2.2.2.1 s.2.2.2.2.2.2.2.2.2.2.2.1 s.2.2.2.2.2.2.2.2.2.2.2.2.1 s.2.2.2.2.2.2.2.2.2.2.2.2.2) (fun n s hI hk => hs n s.1 s.2.1 s.2.2.1 s.2.2.2.1 s.2.2.2.2.1 s.2.2.2.2.2.1 s.2.2.2.2.2.2.1 s.2.2.2.2.2.2.2.1 s.2.2.2.2.2.2.2.2.1 s.2.2.2.2.2.2.2.2.2.1 s.2.2.2.2.2.2.2.2.2.2.1 s.2.2.2.2.2.2.2.2.2.2.2.1 s.2.2.2.2.2.2.2.2.2.2.2.2.1 s.2.2.2.2.2.2.2.2.2.2.2.2.2 hI (fun b1 b2 b3 b4 b5 b6 b7 b8 b9 b10 b11 b12 b13 b14 h9 hm => hk (b1, b2, b3, b4, b5, b6, b7, b8, b9, b10, b11, b12, b13, b14) h9 hm)) (a1, a2, a3, a4, a5, a6, a7, a8, a9, a10, a11, a12, a13, a14) h
theorem lp15 {A1 A2 A3 A4 A5 A6 A7 A8 A9 A10 A11 A12 A13 A14 A15 : Type} (W : Nat → A1 → A2 → A3 → A4 → A5 → A6 → A7 → A8 → A9 → A10 → A11 → A12 → A13 → A14 → A15 → Prop) (I : A1 → A2 → A3 → A4 → A5 → A6 → A7 → A8 → A9 → A10 → A11 → A12 → A13 → A14 → A15 → Prop) (μ : A1 → A2 → A3 → A4 → A5 → A6 → A7 → A8 → A9 → A10 → A11 → A12 → A13 → A14 → A15 → Nat) (hs : ∀ (n : Nat) (a1 : A1) (a2 : A2) (a3 : A3) (a4 : A4) (a5 : A5) (a6 : A6) (a7 : A7) (a8 : A8) (a9 : A9) (a10 : A10) (a11 : A11) (a12 : A12) (a13 : A13) (a14 : A14) (a15 : A15), I a1 a2 a3 a4 a5 a6 a7 a8 a9 a10 a11 a12 a13 a14 a15 → (∀ (b1 : A1) (b2 : A2) (b3 : A3) (b4 : A4) (b5 : A5) (b6 : A6) (b7 : A7) (b8 : A8) (b9 : A9) (b10 : A10) (b11 : A11) (b12 : A12) (b13 : A13) (b14 : A14) (b15 : A15), I b1 b2 b3 b4 b5 b6 b7 b8 b9 b10 b11 b12 b13 b14 b15 → μ b1 b2 b3 b4 b5 b6 b7 b8 b9 b10 b11 b12 b13 b14 b15 < μ a1 a2 a3 a4 a5 a6 a7 a8 a9 a10 a11 a12 a13 a14 a15 → W n b1 b2 b3 b4 b5 b6 b7 b8 b9 b10 b11 b12 b13 b14 b15) → W (n + 1) a1 a2 a3 a4 a5 a6 a7 a8 a9 a10 a11 a12 a13 a14 a15) (a1 : A1) (a2 : A2) (a3 : A3) (a4 : A4) (a5 : A5) (a6 : A6) (a7 : A7) (a8 : A8) (a9 : A9) (a10 : A10) (a11 : A11) (a12 : A12) (a13 : A13) (a14 : A14) (a15 : A15) (h : I a1 a2 a3 a4 a5 a6 a7 a8 a9 a10 a11 a12 a13 a14 a15) : ∃ n, W n a1 a2 a3 a4 a5 a6 a7 a8 a9 a10 a11 a12 a13 a14 a15 :=
  loop_m (σ := A1 × A2 × A3 × A4 × A5 × A6 × A7 × A8 × A9 × A10 × A11 × A12 × A13 × A14 × A15) (fun n s => W n s.1 s.2.1 s.2.2.1 s.2.2.2.1 s.2.2.2.2.1 s.2.2.2.2.2.1 s.2.2.2.2.2.2.1 s.2.2.2.2.2.2.2.1 s.2.2.2.2.2.2.2.2.1 s.2.2.2.2.2.2.2.2.2.1 s.2.2.2.2.2.2.2.2.2.2.1 s.2.2.2.2.2.2.2.2.2.2.2.1 s.2.2.2.2.2.2.2.2.2.2.2.2.1 s.2.2.2.2.2.2.2.2.2.2.2.2.2.1 s.2.2.2.2.2.2.2.2.2.2.2.2.2.2) (fun s => I s.1 s.2.1 s.2.2.1 s.2.2.2.1 s.2.2.2.2.1 s.2.2.2.2.2.1 s.2.2.2.2.2.2.1 s.2.2.2.2.2.2.2.1 s.2.2.2.2.2.2.2.2.1 s.2.2.2.2.2.2.2.2.2.1 s.2.2.2.2.2.2.2.2.2.2.1 s.2.2.2.2.2.2.2.2.2.2.2.1 s.2.2.2.2.2.2.2.2.2.2.2.2.1 s.2.2.2.2.2.2.2.2.2.2.2.2.2.1 s.2.2.2.2.2.2.2.2.2.2.2.2.2.2) (fun s => μ s.1 s.2.1 s.2.2.1 s.2.2.2.1 s.2.2.2.2.1 s.2.2.2.2.2.1 s.2.2.2.2.2.2.1 s.2.2.2.2.2.2.2.1 s.2.2.2.2.2.2.2.2.1 s.2.2.2.2.2.2.2.2.2.1 s.2.2.2.2.2.2.2.2.2.2.1 s.2.2.2.2.2.2.2.2.2.2.2.1 s.2.2.2.2.2.2.2.2.2.2.2.2.1 s.2.2.2.2.2.2.2.2.2.2.2.2.2.1 s.2.2.2.2.2.2.2.2.2.2.2.2.2.2) (fun n s hI hk => hs n s.1 s.2.1 s.2.2.1 s.2.2.2.1 s.2.2.2.2.1 s.2.2.2.2.2.1 s.2.2.2.2.2.2.1 s.2.2.2.2.2.2.2.1 s.2.2.2.2.2.2.2.2.1 s.2.2.2.2.2.2.2.2.2.1 s.2.2.2.2.2.2.2.2.2.2.1 s.2.2.2.2.2.2.2.2.2.2.2.1 s.2.2.2.2.2.2.2.2.2.2.2.2.1 s.2.2.2.2.2.2.2.2.2.2.2.2.2.1 s.2.2.2.2.2.2.2.2.2.2.2.2.2.2 hI (fun b1 b2 b3 b4 b5 b6 b7 b8 b9 b10 b11 b12 b13 b14 b15 h9 hm => hk (b1, b2, b3, b4, b5, b6, b7, b8, b9, b10, b11, b12, b13, b14, b15) h9 hm)) (a1, a2, a3, a4, a5, a6, a7, a8, a9, a10, a11, a12, a13, a14, a15) h
theorem lp16 {A1 A2 A3 A4 A5 A6 A7 A8 A9 A10 A11 A12 A13 A14 A15 A16 : Type} (W : Nat → A1 → A2 → A3 → A4 → A5 → A6 → A7 → A8 → A9 → A10 → A11 → A12 → A13 → A14 → A15 → A16 → Prop) (I : A1 → A2 → A3 → A4 → A5 → A6 → A7 → A8 → A9 → A10 → A11 → A12 → A13 → A14 → A15 → A16 → Prop) (μ : A1 → A2 → A3 → A4 → A5 → A6 → A7 → A8 → A9 → A10 → A11 → A12 → A13 → A14 → A15 → A16 → Nat) (hs : ∀ (n : Nat) (a1 : A1) (a2 : A2) (a3 : A3) (a4 : A4) (a5 : A5) (a6 : A6) (a7 : A7) (a8 : A8) (a9 : A9) (a10 : A10) (a11 : A11) (a12 : A12) (a13 : A13) (a14 : A14) (a15 : A15) (a16 : A16), I a1 a2 a3 a4 a5 a6 a7 a8 a9 a10 a11 a12 a13 a14 a15 a16 → (∀ (b1 : A1) (b2 : A2) (b3 : A3) (b4 : A4) (b5 : A5) (b6 : A6) (b7 : A7) (b8 : A8) (b9 : A9) (b10 : A10) (b11 : A11) (b12 : A12) (b13 : A13) (b14 : A14) (b15 : A15) (b16 : A16), I b1 b2 b3 b4 b5 b6 b7 b8 b9 b10 b11 b12 b13 b14 b15 b16 → μ b1 b2 b3 b4 b5 b6 b7 b8 b9 b10 b11 b12 b13 b14 b15 b16 < μ a1 a2 a3 a4 a5 a6 a7 a8 a9 a10 a11 a12 a13 a14 a15 a16 → W n b1 b2 b3 b4 b5 b6 b7 b8 b9 b10 b11 b12 b13 b14 b15 b16) → W (n + 1) a1 a2 a3 a4 a5 a6 a7 a8 a9 a10 a11 a12 a13 a14 a15 a16) (a1 : A1) (a2 : A2) (a3 : A3) (a4 : A4) (a5 : A5) (a6 : A6) (a7 : A7) (a8 : A8) (a9 : A9) (a10 : A10) (a11 : A11) (a12 : A12) (a13 : A13) (a14 : A14) (a15 : A15) (a16 : A16) (h : I a1 a2 a3 a4 a5 a6 a7 a8 a9 a10 a11 a12 a13 a14 a15 a16) : ∃ n, W n a1 a2 a3 a4 a5 a6 a7 a8 a9 a10 a11 a12 a13 a14 a15 a16 :=
  loop_m (σ := A1 × A2 × A3 × A4 × A5 × A6 × A7 × A8 × A9 × A10 × A11 × A12 × A13 × A14 × A15 × A16) (fun n s => W n s.1 s.2.1 s.2.2.1 s.2.2.2.1 s.2.2.2.2.1 s.2.2.2.2.2.1 s.2.2.2.2.2.2.1 s.2.2.2.2.2.2.2.1 s.2.2.2.2.2.2.2.2.1 s.2.2.2.2.2.2.2.2.2.1 s.2.2.2.2.2.2.2.2.2.2.1 s.2.2.2.2.2.2.2.2.2.2.2.1 s.2.2.2.2.2.2.2.2.2.2.2.2.1 s.2.2.2.2.2.2.2.2.2.2.2.2.2.1 s.2.2.2.2.2.2.2.2.2.2.2.2.2.2.1 s.2.2.2.2.2.2.2.2.2.2.2.2.2.2.2) (fun s => I s.1 s.2.1 s.2.2.1 s.2.2.2.1 s.2.2.2.2.1 s.2.2.2.2.2.1 s.2.2.2.2.2.2.1 s.2.2.2.2.2.2.2.1 s.2.2.2.2.2.2.2.2.1 s.2.2.2.2.2.2.2.2.2.1 s.2.2.2.2.2.2.2.2.2.2.1 s.2.2.2.2.2.2.2.2.2.2.2.1 s.2.2.2.2.2.2.2.2.2.2.2.2.1 s.2.2.2.2.2.2.2.2.2.2.2.2.2.1 s.2.2.2.2.2.2.2.2.2.2.2.2.2.2.1 s.2.2.2.2.2.2.2.2.2.2.2.2.2.2.2) (fun s => μ s.1 s.2.1 s.2.2.1 s.2.2.2.1 s.2.2.2.2.1 s.2.2.2.2.2.1 s.2.2.2.2.2.2.1 s.2.2.2.2.2.2.2.1 s.2.2.2.2.2.2.2.2.1 s.2.2.2.2.2.2.2.2.2.1 s.2.2.2.2.2.2.2.2.2.2.1 s.2.2.2.2.2.2.2.2.2.2.2.1 s.2.2.2.2.2.2.2.2.2.2.2.2.1 s.2.2.2.2.2.2.2.2.2.2.2.2.2.1 s.2.2.2.2.2.2.2.2.2.2.2.2.2.2.1 s.2.2.2.2.2.2.2.2.2.2.2.2.2.2.2) (fun n s hI hk => hs n s.1 s.2.1 s.2.2.1 s.2.2.2.1 s.2.2.2.2.1 s.2.2.2.2.2.1 s.2.2.2.2.2.2.1 s.2.2.2.2.2.2.2.1 s.2.2.2.2.2.2.2.2.1 s.2.2.2.2.2.2.2.2.2.1 s.2.2.2.2.2.2.2.2.2.2.1 s.2.2.2.2.2.2.2.2.2.2.2.1 s.2.2.2.2.2.2.2.2.2.2.2.2.1 s.2.2.2.2.2.2.2.2.2.2.2.2.2.1 s.2.2.2.2.2.2.2.2.2.2.2.2.2.2.1 s.2.2.2.2.2.2.2.2.2.2.2.2.2.2.2 hI (fun b1 b2 b3 b4 b5 b6 b7 b8 b9 b10 b11 b12 b13 b14 b15 b16 h9 hm => hk (b1, b2, b3, b4, b5, b6, b7, b8, b9, b10, b11, b12, b13, b14, b15, b16) h9 hm)) (a1, a2, a3, a4, a5, a6, a7, a8, a9, a10, a11, a12, a13, a14, a15, a16) h
theorem pk_least (P : Nat → Prop) (h : ∃ k, P k) : ∃ k, P k ∧ ∀ j, j < k → ¬ P j := by
  obtain ⟨k, hk⟩ := h
  induction k using Nat.strongRecOn with
  | ind k ih =>
    by_cases e : ∃ j, j < k ∧ P j
    · obtain ⟨j, hj, pj⟩ := e
      exact ih j hj pj
    · exact ⟨k, hk, fun j hj pj => e ⟨j, hj, pj⟩⟩
theorem rp1 {ρ A1 : Type} (W : Nat → (ρ → Prop) → A1 → Prop) (ok : A1 → Prop) (μ : A1 → Nat) (val : A1 → ρ)
    (hs : ∀ (d : Nat) (post : ρ → Prop) (a1 : A1), ok a1 → post (val a1) → (∀ (post' : ρ → Prop) (b1 : A1), ok b1 → μ b1 < μ a1 → post' (val b1) → W d post' b1) → W (d + 1) post a1) :
    ∀ (d : Nat) (post : ρ → Prop) (a1 : A1), ok a1 → μ a1 < d → post (val a1) → W d post a1 := by
  intro d
  induction d with
  | zero => intro post a1 _ h; omega
  | succ d ih =>
    intro post a1 ho hm hp
    exact hs d post a1 ho hp (fun post' b1 ho' hm' hp' => ih post' b1 ho' (by omega) hp')
theorem rp2 {ρ A1 A2 : Type} (W : Nat → (ρ → Prop) → A1 → A2 → Prop) (ok : A1 → A2 → Prop) (μ : A1 → A2 → Nat) (val : A1 → A2 → ρ)
    (hs : ∀ (d : Nat) (post : ρ → Prop) (a1 : A1) (a2 : A2), ok a1 a2 → post (val a1 a2) → (∀ (post' : ρ → Prop) (b1 : A1) (b2 : A2), ok b1 b2 → μ b1 b2 < μ a1 a2 → post' (val b1 b2) → W d post' b1 b2) → W (d + 1) post a1 a2) :
    ∀ (d : Nat) (post : ρ → Prop) (a1 : A1) (a2 : A2), ok a1 a2 → μ a1 a2 < d → post (val a1 a2) → W d post a1 a2 := by
  intro d
  induction d with
  | zero => intro post a1 a2 _ h; omega
  | succ d ih =>
    intro post a1 a2 ho hm hp
    exact hs d post a1 a2 ho hp (fun post' b1 b2 ho' hm' hp' => ih post' b1 b2 ho' (by omega) hp')
theorem rp3 {ρ A1 A2 A3 : Type} (W : Nat → (ρ → Prop) → A1 → A2 → A3 → Prop) (ok : A1 → A2 → A3 → Prop) (μ : A1 → A2 → A3 → Nat) (val : A1 → A2 → A3 → ρ)
    (hs : ∀ (d : Nat) (post : ρ → Prop) (a1 : A1) (a2 : A2) (a3 : A3), ok a1 a2 a3 → post (val a1 a2 a3) → (∀ (post' : ρ → Prop) (b1 : A1) (b2 : A2) (b3 : A3), ok b1 b2 b3 → μ b1 b2 b3 < μ a1 a2 a3 → post' (val b1 b2 b3) → W d post' b1 b2 b3) → W (d + 1) post a1 a2 a3) :
    ∀ (d : Nat) (post : ρ → Prop) (a1 : A1) (a2 : A2) (a3 : A3), ok a1 a2 a3 → μ a1 a2 a3 < d → post (val a1 a2 a3) → W d post a1 a2 a3 := by
  intro d
  induction d with
  | zero => intro post a1 a2 a3 _ h; omega
  | succ d ih =>
    intro post a1 a2 a3 ho hm hp
    exact hs d post a1 a2 a3 ho hp (fun post' b1 b2 b3 ho' hm' hp' => ih post' b1 b2 b3 ho' (by omega) hp')
theorem rp4 {ρ A1 A2 A3 A4 : Type} (W : Nat → (ρ → Prop) → A1 → A2 → A3 → A4 → Prop) (ok : A1 → A2 → A3 → A4 → Prop) (μ : A1 → A2 → A3 → A4 → Nat) (val : A1 → A2 → A3 → A4 → ρ)
    (hs : ∀ (d : Nat) (post : ρ → Prop) (a1 : A1) (a2 : A2) (a3 : A3) (a4 : A4), ok a1 a2 a3 a4 → post (val a1 a2 a3 a4) → (∀ (post' : ρ → Prop) (b1 : A1) (b2 : A2) (b3 : A3) (b4 : A4), ok b1 b2 b3 b4 → μ b1 b2 b3 b4 < μ a1 a2 a3 a4 → post' (val b1 b2 b3 b4) → W d post' b1 b2 b3 b4) → W (d + 1) post a1 a2 a3 a4) :
    ∀ (d : Nat) (post : ρ → Prop) (a1 : A1) (a2 : A2) (a3 : A3) (a4 : A4), ok a1 a2 a3 a4 → μ a1 a2 a3 a4 < d → post (val a1 a2 a3 a4) → W d post a1 a2 a3 a4 := by
  intro d
  induction d with
  | zero => intro post a1 a2 a3 a4 _ h; omega
  | succ d ih =>
    intro post a1 a2 a3 a4 ho hm hp
    exact hs d post a1 a2 a3 a4 ho hp (fun post' b1 b2 b3 b4 ho' hm' hp' => ih post' b1 b2 b3 b4 ho' (by omega) hp')
theorem rp5 {ρ A1 A2 A3 A4 A5 : Type} (W : Nat → (ρ → Prop) → A1 → A2 → A3 → A4 → A5 → Prop) (ok : A1 → A2 → A3 → A4 → A5 → Prop) (μ : A1 → A2 → A3 → A4 → A5 → Nat) (val : A1 → A2 → A3 → A4 → A5 → ρ)
    (hs : ∀ (d : Nat) (post : ρ → Prop) (a1 : A1) (a2 : A2) (a3 : A3) (a4 : A4) (a5 : A5), ok a1 a2 a3 a4 a5 → post (val a1 a2 a3 a4 a5) → (∀ (post' : ρ → Prop) (b1 : A1) (b2 : A2) (b3 : A3) (b4 : A4) (b5 : A5), ok b1 b2 b3 b4 b5 → μ b1 b2 b3 b4 b5 < μ a1 a2 a3 a4 a5 → post' (val b1 b2 b3 b4 b5) → W d post' b1 b2 b3 b4 b5) → W (d + 1) post a1 a2 a3 a4 a5) :
    ∀ (d : Nat) (post : ρ → Prop) (a1 : A1) (a2 : A2) (a3 : A3) (a4 : A4) (a5 : A5), ok a1 a2 a3 a4 a5 → μ a1 a2 a3 a4 a5 < d → post (val a1 a2 a3 a4 a5) → W d post a1 a2 a3 a4 a5 := by
  intro d
  induction d with
  | zero => intro post a1 a2 a3 a4 a5 _ h; omega
  | succ d ih =>
    intro post a1 a2 a3 a4 a5 ho hm hp
    exact hs d post a1 a2 a3 a4 a5 ho hp (fun post' b1 b2 b3 b4 b5 ho' hm' hp' => ih post' b1 b2 b3 b4 b5 ho' (by omega) hp')
theorem rp6 {ρ A1 A2 A3 A4 A5 A6 : Type} (W : Nat → (ρ → Prop) → A1 → A2 → A3 → A4 → A5 → A6 → Prop) (ok : A1 → A2 → A3 → A4 → A5 → A6 → Prop) (μ : A1 → A2 → A3 → A4 → A5 → A6 → Nat) (val : A1 → A2 → A3 → A4 → A5 → A6 → ρ)
    (hs : ∀ (d : Nat) (post : ρ → Prop) (a1 : A1) (a2 : A2) (a3 : A3) (a4 : A4) (a5 : A5) (a6 : A6), ok a1 a2 a3 a4 a5 a6 → post (val a1 a2 a3 a4 a5 a6) → (∀ (post' : ρ → Prop) (b1 : A1) (b2 : A2) (b3 : A3) (b4 : A4) (b5 : A5) (b6 : A6), ok b1 b2 b3 b4 b5 b6 → μ b1 b2 b3 b4 b5 b6 < μ a1 a2 a3 a4 a5 a6 → post' (val b1 b2 b3 b4 b5 b6) → W d post' b1 b2 b3 b4 b5 b6) → W (d + 1) post a1 a2 a3 a4 a5 a6) :
    ∀ (d : Nat) (post : ρ → Prop) (a1 : A1) (a2 : A2) (a3 : A3) (a4 : A4) (a5 : A5) (a6 : A6), ok a1 a2 a3 a4 a5 a6 → μ a1 a2 a3 a4 a5 a6 < d → post (val a1 a2 a3 a4 a5 a6) → W d post a1 a2 a3 a4 a5 a6 := by
  intro d
  induction d with
  | zero => intro post a1 a2 a3 a4 a5 a6 _ h; omega
  | succ d ih =>
    intro post a1 a2 a3 a4 a5 a6 ho hm hp
    exact hs d post a1 a2 a3 a4 a5 a6 ho hp (fun post' b1 b2 b3 b4 b5 b6 ho' hm' hp' => ih post' b1 b2 b3 b4 b5 b6 ho' (by omega) hp')
theorem rec_p {σ ρ : Type} (W : Nat → (ρ → Prop) → σ → Prop) (ok : σ → Prop) (μ : σ → Nat) (val : σ → ρ)
    (hs : ∀ d s post, ok s → post (val s) → (∀ s' post', ok s' → μ s' < μ s → post' (val s') → W d post' s') → W (d + 1) post s) :
    ∀ d s post, ok s → μ s < d → post (val s) → W d post s := by
  intro d
  induction d with
  | zero => intro s post _ h; omega
  | succ d ih =>
    intro s post ho hm hp
    exact hs d s post ho hp (fun s' post' ho' hm' hp' => ih s' post' ho' (by omega) hp')
theorem rec_q {σ ρ : Type} (W : Nat → (ρ → Prop) → σ → Prop) (ok : σ → Prop) (μ : σ → Nat) (Q : σ → ρ → Prop)
    (hs : ∀ d s post, ok s → (∀ r, Q s r → post r) → (∀ s' post', ok s' → μ s' < μ s → (∀ r, Q s' r → post' r) → W d post' s') → W (d + 1) post s) :
    ∀ d s post, ok s → μ s < d → (∀ r, Q s r → post r) → W d post s := by
  intro d
  induction d with
  | zero => intro s post _ h; omega
  | succ d ih =>
    intro s post ho hm hp
    exact hs d s post ho hp (fun s' post' ho' hm' hp' => ih s' post' ho' (by omega) hp')
def bx_sum (f : Nat → Int32) : Nat → Int32
  | 0 => 0
  | n + 1 => bx_sum f n + f n
theorem ek_u {A : Prop} {B : Nat → Prop} {k N : Nat} (hk : k < N) (h : B k) : (some k = none → A) ∧ (∀ y : Nat, some k = some y → (y < N ∧ B y)) :=
  ⟨fun z => absurd z (Option.some_ne_none k), fun _ e => (by cases e; exact ⟨hk, h⟩)⟩
theorem ek_nu {A : Prop} {B : Nat → Prop} (h : A) : ((none : Option Nat) = none → A) ∧ (∀ y : Nat, (none : Option Nat) = some y → B y) :=
  ⟨fun _ => h, fun _ e => (by cases e)⟩
theorem ek_if {c d A B : Prop} (e : c ↔ d) (f : d → A) (g : ¬ d → B) : (c → A) ∧ (¬ c → B) :=
  ⟨fun z => f (e.mp z), fun z => g (fun y => z (e.mpr y))⟩
theorem ek_v {α : Sort _} {P : α → Prop} {a b : α} (e : a = b) (h : P b) : P a := e ▸ h
theorem co_some {x : Option Nat} {A : Prop} {B : Nat → Prop} (i : Nat) (h : B i) (hx : x = some i := by rfl) : (x = none → A) ∧ (∀ y : Nat, x = some y → B y) := by
  subst hx
  exact ⟨fun e => (nomatch e), fun y e => Option.some.inj e ▸ h⟩
theorem co_none {x : Option Nat} {A : Prop} {B : Nat → Prop} (h : A) (hx : x = none := by rfl) : (x = none → A) ∧ (∀ y : Nat, x = some y → B y) := by
  subst hx
  exact ⟨fun _ => h, fun y e => (nomatch e)⟩
theorem co_any {x : Option Nat} {A : Prop} {B : Nat → Prop} (hn : x = none → A) (hs : ∀ i : Nat, x = some i → B i) : (x = none → A) ∧ (∀ y : Nat, x = some y → B y) := ⟨hn, hs⟩
theorem co_2 {P : Nat → Prop} (h0 : P 0) (h1 : P 1) {i : Nat} (hi : i < 2) : P i :=
  match i, hi with
  | 0, _ => h0
  | 1, _ => h1
theorem co_3 {P : Nat → Prop} (h0 : P 0) (h1 : P 1) (h2 : P 2) {i : Nat} (hi : i < 3) : P i :=
  match i, hi with
  | 0, _ => h0
  | 1, _ => h1
  | 2, _ => h2
theorem co_4 {P : Nat → Prop} (h0 : P 0) (h1 : P 1) (h2 : P 2) (h3 : P 3) {i : Nat} (hi : i < 4) : P i :=
  match i, hi with
  | 0, _ => h0
  | 1, _ => h1
  | 2, _ => h2
  | 3, _ => h3
theorem co_dec {N : Nat} {P : Nat → Prop} [DecidablePred P] (h : (List.range N).all (fun i => decide (P i)) = true) {i : Nat} (hi : i < N) : P i := by
  have := List.all_eq_true.mp h i (List.mem_range.mpr hi)
  exact of_decide_eq_true this
theorem co_tab {α : Type} {l : List α} {d : α} {P : α → Prop} (h : ∀ a, a ∈ l → P a) {i : Nat} (hi : i < l.length) : P (l.getD i d) := by
  rw [List.getD_eq_getElem?_getD, List.getElem?_eq_getElem hi]
  exact h _ (List.getElem_mem hi)
theorem pk_mu {x : Int32} {L : Nat} (h0 : ¬ x < 0) (h : ¬ nI L ≤ x) (hL : L < 2 ^ 31) : ∃ j : Nat, j < L ∧ x = nI j ∧ x + 1 = nI (j + 1) ∧ x.toNatClampNeg = j ∧ L - (x + 1).toNatClampNeg < L - x.toNatClampNeg := by
  obtain ⟨j, hj, rfl⟩ := nI_of h0
  have hl : j < L := Nat.not_le.mp fun q => h (nI_le q hj)
  refine ⟨j, hl, rfl, nI_1 j, nI_clamp hj, ?_⟩
  rw [nI_1, nI_clamp (by omega), nI_clamp hj]
  omega
theorem op_s {α : Type} {r : Option α} {A : Prop} {B : α → Prop} {y : α} (h : r = some y) (b : B y) : (r = none → A) ∧ ∀ z, r = some z → B z :=
  ⟨fun e => (by rw [h] at e; cases e), fun z e => (by rw [h] at e; cases e; exact b)⟩
def l_holds {α : Type} (a : Nat → Option Nat) (LP : List Nat) (p : Nat → α) (c : Nat) (b : Nat → α) : Prop :=
  ∀ j, j < c → ∃ y, a j = some y ∧ y ∈ LP ∧ p y = b j
theorem l_holds_0 {α : Type} {a : Nat → Option Nat} {LP : List Nat} {p b : Nat → α} : l_holds a LP p 0 b := fun j h => absurd h (Nat.not_lt_zero j)
theorem l_in_new (LP : List Nat) (q : Nat) : q ∈ LP ++ [q] := List.mem_append.mpr (Or.inr (List.mem_singleton.mpr rfl))
def l_sum (b : Nat → Int32) : Nat → Int32
  | 0 => 0
  | k + 1 => l_sum b k + b k
theorem sb_shr0 (x : Int32) : x >>> ((0 : Int32) &&& 31) = x := by
  rw [show ((0 : Int32) &&& 31) = 0 by decide]
  simp
theorem sb_shl0 (x : Int32) : x <<< ((0 : Int32) &&& 31) = x := by
  rw [show ((0 : Int32) &&& 31) = 0 by decide]
  simp
theorem sb_cl0 : (0 : Int32).toNatClampNeg = 0 := by decide
theorem sb_m1 {p : Nat} (h : 0 < p) : nI p + (-1) = nI (p - 1) := by
  obtain ⟨q, rfl⟩ : ∃ q, p = q + 1 := ⟨p - 1, by omega⟩
  exact pk_m1 q
def sb_b (c : Nat) : Int32 := (nI c).toInt8.toInt32
theorem sb_byte : ∀ c, c < 256 → sb_b c &&& 255 = nI c ∧ ((nI c).toUInt32 % 65536).toInt32 = nI c ∧ nI c ≤ 255 := by decide +kernel
def sb_Fit (a : Nat → Int32) : Prop := ∀ j, fits .byte (.int (a j)) = true
def sb_Lat (t : Nat → Nat) (n : Nat) (a : Nat → Int32) : Prop := ∀ j, j < n → t j < 256 ∧ a j = sb_b (t j)
theorem sb_fitB (c : Nat) : fits .byte (.int (sb_b c)) = true := pk_fb _
theorem sb_fit0 : sb_Fit (fun _ => 0) := fun _ => by
  show fits .byte (.int 0) = true
  decide
theorem sb_fitU {a : Nat → Int32} {k : Nat} {x : Int32} (h : sb_Fit a) (hx : fits .byte (.int x) = true) : sb_Fit (upd a k x) := by
  intro j
  by_cases e : j = k
  · subst e
    rw [pk_us]
    exact hx
  · rw [pk_un e]
    exact h j
def sb_cat (t : Nat → Nat) (n : Nat) (s : Nat → Nat) : Nat → Nat := fun j => if j < n then t j else s (j - n)
theorem sb_cat_lo {t s : Nat → Nat} {n j : Nat} (h : j < n) : sb_cat t n s j = t j := if_pos h
theorem sb_cat_hi {t s : Nat → Nat} {n j : Nat} : sb_cat t n s (n + j) = s j := by
  show (if n + j < n then t (n + j) else s (n + j - n)) = s j
  rw [if_neg (by omega), Nat.add_sub_cancel_left]
theorem sb_latPut {t s : Nat → Nat} {n w : Nat} {a a' : Nat → Int32} (h : sb_Lat t n a) (hk : ∀ j, j < n → a' j = a j) (hs : ∀ i, i < w → s i < 256 ∧ a' (n + i) = sb_b (s i)) : sb_Lat (sb_cat t n s) (n + w) a' := by
  intro j hj
  by_cases e : j < n
  · rw [sb_cat_lo e, hk j e]
    exact h j e
  · obtain ⟨i, rfl⟩ : ∃ i, j = n + i := ⟨j - n, by omega⟩
    rw [sb_cat_hi]
    exact hs i (by omega)
theorem sb_latKeep {t : Nat → Nat} {n : Nat} {a a' : Nat → Int32} (h : sb_Lat t n a) (hk : ∀ j, j < n → a' j = a j) : sb_Lat t n a' := fun j hj => by
  rw [hk j hj]
  exact h j hj
def sb_cap (q m : Nat) : Nat := if q ≤ m then m else if 2 * m + 2 < q then q else 2 * m + 2
def sb_Room (q m mc ms : Nat) : Prop := q ≤ m ∨ (1 ≤ mc ∧ sb_cap q m ≤ ms ∧ sb_cap q m ≤ 65536)
theorem sb_cap_ge (q m : Nat) : q ≤ sb_cap q m := by
  unfold sb_cap
  split
  · omega
  · split <;> omega
theorem sb_cap_gem (q m : Nat) : m ≤ sb_cap q m := by
  unfold sb_cap
  split
  · omega
  · split <;> omega
theorem sb_cap_le {q m mc ms : Nat} (hm : m ≤ 65536) (hr : sb_Room q m mc ms) : sb_cap q m ≤ 65536 := by
  rcases hr with h | h
  · rw [sb_cap, if_pos h]
    exact hm
  · exact h.2.2
theorem sb_at {P : Int32 → Prop} {x y : Int32} (e : x = y) (h : P y) : P x := e ▸ h
def sb_dg (w : Nat) : Nat := if w < 10 then 1 else if w < 100 then 2 else if w < 1000 then 3 else if w < 10000 then 4 else if w < 100000 then 5 else if w < 1000000 then 6 else if w < 10000000 then 7 else if w < 100000000 then 8 else if w < 1000000000 then 9 else 10
def sb_dec (v : Nat) : Nat → Nat := fun i => 48 + v / 10 ^ (sb_dg v - 1 - i) % 10
theorem sb_dg_in (w : Nat) : 1 ≤ sb_dg w ∧ sb_dg w ≤ 10 := by
  unfold sb_dg
  constructor <;> (repeat' split) <;> omega
theorem sb_dg100 {w : Nat} (h : 100 ≤ w) (hw : w < 2 ^ 31) : sb_dg w = sb_dg (w / 100) + 2 := by
  rw [sb_dg, sb_dg, if_neg (show ¬ w < 10 by omega), if_neg (show ¬ w < 100 by omega)]
  by_cases h3 : w < 1000
  · rw [if_pos h3, if_pos (show w / 100 < 10 by omega)]
  rw [if_neg h3, if_neg (show ¬ w / 100 < 10 by omega)]
  by_cases h4 : w < 10000
  · rw [if_pos h4, if_pos (show w / 100 < 100 by omega)]
  rw [if_neg h4, if_neg (show ¬ w / 100 < 100 by omega)]
  by_cases h5 : w < 100000
  · rw [if_pos h5, if_pos (show w / 100 < 1000 by omega)]
  rw [if_neg h5, if_neg (show ¬ w / 100 < 1000 by omega)]
  by_cases h6 : w < 1000000
  · rw [if_pos h6, if_pos (show w / 100 < 10000 by omega)]
  rw [if_neg h6, if_neg (show ¬ w / 100 < 10000 by omega)]
  by_cases h7 : w < 10000000
  · rw [if_pos h7, if_pos (show w / 100 < 100000 by omega)]
  rw [if_neg h7, if_neg (show ¬ w / 100 < 100000 by omega)]
  by_cases h8 : w < 100000000
  · rw [if_pos h8, if_pos (show w / 100 < 1000000 by omega)]
  rw [if_neg h8, if_neg (show ¬ w / 100 < 1000000 by omega)]
  by_cases h9 : w < 1000000000
  · rw [if_pos h9, if_pos (show w / 100 < 10000000 by omega)]
  rw [if_neg h9, if_neg (show ¬ w / 100 < 10000000 by omega)]
  rw [if_pos (show w / 100 < 100000000 by omega)]
theorem sb_negT {w : Nat} (h : w < 2 ^ 31) : (-nI w).toInt = -(w : Int) := by
  rw [Int32.toInt_neg, nI_toInt h]
  exact Int.bmod_eq_of_le (by omega) (by omega)
theorem sb_nle {a b : Nat} (ha : a < 2 ^ 31) (hb : b < 2 ^ 31) : -nI a ≤ -nI b ↔ b ≤ a := by
  rw [Int32.le_iff_toInt_le, sb_negT ha, sb_negT hb]
  omega
theorem sb_nlt {a b : Nat} (ha : a < 2 ^ 31) (hb : b < 2 ^ 31) : -nI a < -nI b ↔ b < a := by
  rw [Int32.lt_iff_toInt_lt, sb_negT ha, sb_negT hb]
  omega
theorem sb_cmp {A B : Prop} {x : Int32} (v c : Nat) (f : c ≤ v → A) (g : v < c → B) (hv : v < 2 ^ 31) (hx : x = -nI c := by rfl) (hc : c < 2 ^ 31 := by omega) : (-nI v ≤ x → A) ∧ (¬ -nI v ≤ x → B) := by
  subst hx
  rw [sb_nle hv hc]
  exact ⟨f, fun z => g (by omega)⟩
theorem sb_ndiv {w : Nat} (hw : w < 2 ^ 31) : (-nI w) / 100 = -nI (w / 100) := by
  apply Int32.toInt_inj.mp
  have h100 : (100 : Int32).toInt = 100 := by decide
  rw [Int32.toInt_div, sb_negT hw, h100, sb_negT (by omega), Int.neg_tdiv, Int.tdiv_eq_ediv_of_nonneg (by omega), Int.bmod_eq_of_le (by omega) (by omega)]
  omega
theorem sb_nrem {w : Nat} (hw : w < 2 ^ 31) : (-nI (w / 100)) * 100 - (-nI w) = nI (w % 100) := by
  have h := pk_rem (a := w) (d := 100) hw (by decide) (by decide)
  rw [pk_div hw (by decide) (by decide)] at h
  rw [← h]
  show (-nI (w / 100)) * nI 100 - (-nI w) = nI w - nI (w / 100) * nI 100
  rw [Int32.neg_mul, Int32.sub_neg, Int32.add_comm, ← Int32.sub_eq_add_neg]
/-! rows on bits, shifts and unsigned numbers, to paste: each family out of a closed proof of our own, whole with what it rests on; each by itself clean at Lean in its own claim (generation 39, form 5). Take a family whole -/
/-! ===== Int32 by its bits: bt x i ===== -/
def bt (x : Int32) (i : Nat) : Bool := x.toBitVec.getLsbD i
theorem b_ext {x y : Int32} (h : ∀ i, i < 32 → bt x i = bt y i) : x = y := Int32.toBitVec_inj.mp (BitVec.eq_of_getLsbD_eq (fun i hi => h i hi))
theorem b_or (x y : Int32) (i : Nat) : bt (x ||| y) i = (bt x i || bt y i) := by unfold bt; rw [Int32.toBitVec_or, BitVec.getLsbD_or]
theorem b_and (x y : Int32) (i : Nat) : bt (x &&& y) i = (bt x i && bt y i) := by unfold bt; rw [Int32.toBitVec_and, BitVec.getLsbD_and]
theorem b_xor (x y : Int32) (i : Nat) : bt (x ^^^ y) i = (bt x i ^^ bt y i) := by unfold bt; rw [Int32.toBitVec_xor, BitVec.getLsbD_xor]
theorem b_big {x : Int32} {i : Nat} (h : 32 ≤ i) : bt x i = false := BitVec.getLsbD_of_ge _ _ h
theorem b_255 (i : Nat) : bt 255 i = decide (i < 8) := by
  rcases Nat.lt_or_ge i 32 with h | h
  · exact (by decide +kernel : ∀ i, i < 32 → bt 255 i = decide (i < 8)) i h
  · rw [b_big h, decide_eq_false (by omega)]
theorem b_65535 (i : Nat) : bt 65535 i = decide (i < 16) := by
  rcases Nat.lt_or_ge i 32 with h | h
  · exact (by decide +kernel : ∀ i, i < 32 → bt 65535 i = decide (i < 16)) i h
  · rw [b_big h, decide_eq_false (by omega)]
theorem b_m1 : ∀ i, i < 32 → bt (-1) i = true := by decide +kernel
theorem b_0 (i : Nat) : bt 0 i = false := BitVec.getLsbD_zero
theorem s_l : ∀ n, n < 32 → ((nI n &&& 31).toBitVec.smod 32).toNat = n := by decide +kernel
theorem s_u : ∀ n, n < 32 → (((nI n).toUInt32 &&& Int32.toUInt32 31).toBitVec % 32).toNat = n := by decide +kernel
theorem b_shl (n : Nat) (hn : n < 32) (x : Int32) {i : Nat} (hi : i < 32) : bt (x <<< (nI n &&& 31)) i = (decide (n ≤ i) && bt x (i - n)) := by
  unfold bt
  rw [Int32.toBitVec_shiftLeft]
  show (x.toBitVec <<< ((nI n &&& 31).toBitVec.smod 32).toNat).getLsbD i = _
  rw [s_l n hn, BitVec.getLsbD_shiftLeft]
  rcases Nat.lt_or_ge i n with h | h
  · simp [h, Nat.not_le.mpr h]
  · simp [hi, h, Nat.not_lt.mpr h]
theorem b_ushr (n : Nat) (hn : n < 32) (x : Int32) (i : Nat) : bt ((x.toUInt32 >>> ((nI n).toUInt32 &&& Int32.toUInt32 31)).toInt32) i = bt x (n + i) := by
  show (x.toUInt32 >>> ((nI n).toUInt32 &&& Int32.toUInt32 31)).toBitVec.getLsbD i = x.toUInt32.toBitVec.getLsbD (n + i)
  rw [UInt32.toBitVec_shiftRight]
  show (x.toUInt32.toBitVec >>> (((nI n).toUInt32 &&& Int32.toUInt32 31).toBitVec % 32).toNat).getLsbD i = _
  rw [s_u n hn, BitVec.getLsbD_ushiftRight]
theorem b_sshr (n : Nat) (hn : n < 32) (x : Int32) {i : Nat} (hi : i < 32) : bt (x >>> (nI n &&& 31)) i = if n + i < 32 then bt x (n + i) else bt x 31 := by
  unfold bt
  rw [Int32.toBitVec_shiftRight]
  show (x.toBitVec.sshiftRight ((nI n &&& 31).toBitVec.smod 32).toNat).getLsbD i = _
  rw [s_l n hn, BitVec.getLsbD_sshiftRight, BitVec.msb_eq_getLsbD_last]
  simp [hi]
theorem b_shl8 (x : Int32) {i : Nat} (hi : i < 32) : bt (x <<< ((8 : Int32) &&& 31)) i = (decide (8 ≤ i) && bt x (i - 8)) := b_shl 8 (by omega) x hi
theorem b_shl16 (x : Int32) {i : Nat} (hi : i < 32) : bt (x <<< ((16 : Int32) &&& 31)) i = (decide (16 ≤ i) && bt x (i - 16)) := b_shl 16 (by omega) x hi
theorem b_shl24 (x : Int32) {i : Nat} (hi : i < 32) : bt (x <<< ((24 : Int32) &&& 31)) i = (decide (24 ≤ i) && bt x (i - 24)) := b_shl 24 (by omega) x hi
theorem b_sshr8 (x : Int32) {i : Nat} (hi : i < 32) : bt (x >>> ((8 : Int32) &&& 31)) i = if 8 + i < 32 then bt x (8 + i) else bt x 31 := b_sshr 8 (by omega) x hi
/-! ===== nI under and, xor, >>>, one bit, 65535 ===== -/
theorem nx_and (a b : Nat) : nI a &&& nI b = nI (a &&& b) := by
  apply Int32.toBitVec_inj.1
  show BitVec.ofNat 32 a &&& BitVec.ofNat 32 b = BitVec.ofNat 32 (a &&& b)
  apply BitVec.eq_of_getLsbD_eq
  intro i hi
  simp [hi]
theorem nx_xor (a b : Nat) : nI a ^^^ nI b = nI (a ^^^ b) := by
  apply Int32.toBitVec_inj.1
  show BitVec.ofNat 32 a ^^^ BitVec.ofNat 32 b = BitVec.ofNat 32 (a ^^^ b)
  apply BitVec.eq_of_getLsbD_eq
  intro i hi
  simp [hi]
theorem nx_cnt : ∀ j : Fin 32, (UInt32.ofNat j.val &&& Int32.toUInt32 31).toNat % 32 = j.val := by decide +kernel
theorem nx_ush {k j : Nat} (hk : k < 65536) (hj : j < 32) : ((nI k).toUInt32 >>> ((nI j).toUInt32 &&& Int32.toUInt32 31)).toInt32 = nI (k >>> j) := by
  have hs : k >>> j ≤ k := by
    rw [Nat.shiftRight_eq_div_pow]
    exact Nat.div_le_self _ _
  have e2 : UInt32.ofNat k >>> (UInt32.ofNat j &&& Int32.toUInt32 31) = UInt32.ofNat (k >>> j) := by
    apply UInt32.toNat_inj.1
    have h1 : (UInt32.ofNat k).toNat = k := Nat.mod_eq_of_lt (by omega)
    have h2 : (UInt32.ofNat (k >>> j)).toNat = k >>> j := Nat.mod_eq_of_lt (by omega)
    rw [UInt32.toNat_shiftRight, nx_cnt ⟨j, hj⟩, h1, h2]
  show (UInt32.ofNat k >>> (UInt32.ofNat j &&& Int32.toUInt32 31)).toInt32 = _
  rw [e2]
  rfl
theorem nx_bit {k j : Nat} (hk : k < 65536) (hj : j < 16) : (((nI k).toUInt32 >>> ((nI j).toUInt32 &&& Int32.toUInt32 31)).toInt32 &&& 1) = 0 ↔ k.testBit j = false := by
  rw [nx_ush hk (by omega)]
  show nI (k >>> j) &&& nI 1 = 0 ↔ _
  rw [nx_and, Nat.and_one_is_mod, ← nI_0, nI_eq (by omega) (by omega), Nat.testBit_eq_decide_div_mod_eq, Nat.shiftRight_eq_div_pow, decide_eq_false_iff_not]
  generalize k / 2 ^ j = z
  omega
theorem nx_mod (k : Nat) : nI k &&& 65535 = nI (k % 65536) := by
  show nI k &&& nI 65535 = _
  rw [nx_and, show (65535 : Nat) = 2 ^ 16 - 1 from rfl, Nat.and_two_pow_sub_one_eq_mod]
theorem nx_m16 {k : Nat} (h : k < 65536) : nI k &&& 65535 = nI k := by rw [nx_mod, Nat.mod_eq_of_lt h]
theorem nx_mask (x : Int32) : ∃ k, k < 65536 ∧ x &&& 65535 = nI k := by
  have e : x = nI x.toBitVec.toNat := by
    apply Int32.toBitVec_inj.1
    show x.toBitVec = BitVec.ofNat 32 x.toBitVec.toNat
    simp
  refine ⟨x.toBitVec.toNat % 65536, Nat.mod_lt _ (by omega), ?_⟩
  rw [← nx_mod, ← e]
/-! ===== Int32 as a set of bits: test, set ===== -/
def nf_M (m : Int32) : Nat := 4294967296 - m.toBitVec.toNat
theorem nf_sh : ∀ l, l < 32 → ((1 : Int32) <<< (nI l &&& 31)).toBitVec = BitVec.twoPow 32 l := by decide +kernel
theorem nf_sl : ∀ l, l < 32 → (((nI l).toUInt32 &&& Int32.toUInt32 31).toBitVec % 32).toNat = l := by decide +kernel
theorem nf_tp : ∀ l, l < 32 → BitVec.twoPow 32 l ≠ 0#32 := by decide +kernel
theorem nf_bit (m : Int32) (l : Nat) (hl : l < 32) : ((m.toUInt32 >>> ((nI l).toUInt32 &&& Int32.toUInt32 31)).toInt32 &&& 1) = 0 ↔ (m &&& ((1 : Int32) <<< (nI l &&& 31))) = 0 := by
  have e : ((m.toUInt32 >>> ((nI l).toUInt32 &&& Int32.toUInt32 31)).toInt32).toBitVec = m.toBitVec >>> l := by
    show m.toBitVec >>> (((nI l).toUInt32 &&& Int32.toUInt32 31).toBitVec % 32) = m.toBitVec >>> l
    rw [BitVec.ushiftRight_eq', nf_sl l hl]
  rw [← Int32.toBitVec_inj, ← Int32.toBitVec_inj, Int32.toBitVec_and, Int32.toBitVec_and, nf_sh l hl, e, BitVec.and_twoPow]
  show (m.toBitVec >>> l &&& 1#32) = 0#32 ↔ _ = 0#32
  rw [BitVec.and_one_eq_setWidth_ofBool_getLsbD, BitVec.getLsbD_ushiftRight, Nat.add_zero]
  cases hb : m.toBitVec.getLsbD l
  · exact ⟨fun _ => by simp, fun _ => by decide⟩
  · exact ⟨fun z => absurd z (by decide), fun z => absurd ((if_pos rfl).symm.trans z) (nf_tp l hl)⟩
theorem nf_gr (m k : Int32) (h : m &&& k = 0) (hk : k ≠ 0) : nf_M (m ||| k) < nf_M m := by
  have hm := m.toBitVec.isLt
  have hm' := (m ||| k).toBitVec.isLt
  have h1 : m.toBitVec.toNat ≤ (m ||| k).toBitVec.toNat := by
    rw [Int32.toBitVec_or, BitVec.toNat_or]
    exact Nat.left_le_or
  have h2 : m.toBitVec.toNat ≠ (m ||| k).toBitVec.toNat := by
    intro e
    have e2 : m = m ||| k := Int32.toBitVec_inj.mp (BitVec.eq_of_toNat_eq e)
    apply hk
    apply Int32.toBitVec_inj.mp
    show k.toBitVec = 0#32
    apply BitVec.eq_of_getLsbD_eq
    intro i hi
    have a : m.toBitVec.getLsbD i = (m.toBitVec.getLsbD i || k.toBitVec.getLsbD i) := by rw [← BitVec.getLsbD_or, ← Int32.toBitVec_or, ← e2]
    have b : (m.toBitVec.getLsbD i && k.toBitVec.getLsbD i) = false := by
      rw [← BitVec.getLsbD_and, ← Int32.toBitVec_and, h]
      exact BitVec.getLsbD_zero
    rw [BitVec.getLsbD_zero]
    revert a b
    cases m.toBitVec.getLsbD i <;> cases k.toBitVec.getLsbD i <;> simp
  unfold nf_M
  omega
/-! ===== a byte read unsigned ===== -/
theorem bp_b (x : Int32) : x.toInt8.toInt32 &&& 255 = x &&& 255 := by
  apply Int32.toBitVec_inj.mp
  rw [Int32.toBitVec_and, Int32.toBitVec_and, Int8.toBitVec_toInt32, Int32.toBitVec_toInt8]
  apply BitVec.eq_of_getLsbD_eq
  intro i hi
  rw [BitVec.getLsbD_and, BitVec.getLsbD_and]
  have hm : ∀ i < 32, 8 ≤ i → (255 : Int32).toBitVec.getLsbD i = false := by decide
  rcases Nat.lt_or_ge i 8 with z | z
  · rw [BitVec.getLsbD_signExtend, BitVec.getLsbD_signExtend, if_pos z, if_pos hi]
    simp only [z, hi, decide_true, Bool.true_and]
  · rw [hm i hi z]; simp
/-! ===== the char cast and 65535 ===== -/
theorem em_w (v : Int32) : ∃ w : Nat, w < 65536 ∧ (v.toUInt32 % 65536).toInt32 = nI w ∧ v &&& 65535 = nI w := by
  have hr := lw_u16_r v
  have h0 : (0 : Int32).toInt = 0 := by decide
  obtain ⟨w, h1, h2⟩ := nI_of (x := lw_u16 v) (by rw [Int32.lt_iff_toInt_lt]; omega)
  have h3 : (v.toUInt32 % 65536).toInt32 = nI w := h2
  rw [h2, nI_toInt h1] at hr
  exact ⟨w, by omega, h3, by rw [← lg_i2c_mask, ← lg_i2c_nf, h3]⟩
/-! ===== Int64 as a set of bits: test, set, clear ===== -/
theorem ts_nf {x : Bool} (h : ¬ x = false) : x = true := by cases x <;> first | rfl | exact absurd rfl h
theorem ts_nt {x : Bool} (h : ¬ x = true) : x = false := by cases x <;> first | rfl | exact absurd rfl h
theorem ts_bit {w : Int64} {s : UInt64} {j : Nat} (hj : j < 64) (hs : s.toNat = j) : ((w.toUInt64 >>> s).toInt64 &&& 1) = 0 ↔ w.toBitVec.getLsbD j = false := by
  have e : (w.toUInt64 >>> s).toInt64.toBitVec = w.toBitVec >>> j := by
    apply BitVec.eq_of_toNat_eq
    show (w.toUInt64 >>> s).toNat = _
    rw [UInt64.toNat_shiftRight, hs, Nat.mod_eq_of_lt hj, BitVec.toNat_ushiftRight]
    rfl
  rw [← Int64.toBitVec_inj, Int64.toBitVec_and, e]
  show w.toBitVec >>> j &&& 1#64 = 0#64 ↔ _
  constructor
  · intro h
    have t := congrArg (fun x => x.getLsbD 0) h
    simpa using t
  · intro h
    apply BitVec.eq_of_getLsbD_eq
    intro i hi
    cases i with
    | zero => simp [h]
    | succ i => simp
theorem ts_or {w m : Int64} {j : Nat} (hj : j < 64) (hm : m.toBitVec = BitVec.twoPow 64 j) : (w ||| m) = w ↔ w.toBitVec.getLsbD j = true := by
  rw [← Int64.toBitVec_inj, Int64.toBitVec_or, hm]
  constructor
  · intro h
    have t := congrArg (fun x => x.getLsbD j) h
    simp only [BitVec.getLsbD_or, BitVec.getLsbD_twoPow] at t
    simpa [hj] using t.symm
  · intro h
    apply BitVec.eq_of_getLsbD_eq
    intro i hi
    rw [BitVec.getLsbD_or, BitVec.getLsbD_twoPow]
    by_cases e : j = i
    · subst e; rw [h, Bool.true_or]
    · simp [e]
theorem ts_and {w m : Int64} {j : Nat} (hj : j < 64) (hm : m.toBitVec = BitVec.twoPow 64 j) : (w &&& (m ^^^ (-1))) = w ↔ w.toBitVec.getLsbD j = false := by
  have ha : (-1 : Int64).toBitVec = BitVec.allOnes 64 := by decide
  rw [← Int64.toBitVec_inj, Int64.toBitVec_and, Int64.toBitVec_xor, hm, ha]
  constructor
  · intro h
    have t := congrArg (fun x => x.getLsbD j) h
    simp only [BitVec.getLsbD_and, BitVec.getLsbD_xor, BitVec.getLsbD_twoPow, BitVec.getLsbD_allOnes] at t
    simpa [hj] using t.symm
  · intro h
    apply BitVec.eq_of_getLsbD_eq
    intro i hi
    rw [BitVec.getLsbD_and, BitVec.getLsbD_xor, BitVec.getLsbD_twoPow, BitVec.getLsbD_allOnes]
    by_cases e : j = i
    · subst e; rw [h, Bool.false_and]
    · simp [e, hi]
/-! ===== lN n to 2^64: shifts, and, or, masks, one bit ===== -/
theorem wb_tb (n : Nat) : (lN n).toBitVec = BitVec.ofNat 64 n := rfl
theorem wb_inj {a b : Int64} (h : a.toBitVec = b.toBitVec) : a = b := Int64.toBitVec_inj.mp h
theorem wb_tn {n : Nat} (h : n < 2 ^ 64) : (lN n).toBitVec.toNat = n := by rw [wb_tb, BitVec.toNat_ofNat, Nat.mod_eq_of_lt h]
theorem wb_of (x : Int64) : ∃ n, n < 2 ^ 64 ∧ x = lN n := ⟨x.toBitVec.toNat, x.toBitVec.isLt, wb_inj (by rw [wb_tb]; simp)⟩
theorem wb_of32 (x : Int32) : ∃ n, n < 2 ^ 32 ∧ x = nI n := ⟨x.toBitVec.toNat, x.toBitVec.isLt, Int32.toBitVec_inj.mp (by show _ = BitVec.ofNat 32 _; simp)⟩
theorem wb_c : ∀ k, k < 64 → ((nI k).toInt64 &&& 63) = lN k := by decide +kernel
theorem wb_cu : ∀ k, k < 64 → ((nI k).toInt64.toUInt64 &&& Int64.toUInt64 63) = UInt64.ofNat k := by decide +kernel
theorem wb_sm : ∀ k, k < 64 → (BitVec.ofNat 64 k).smod 64 = BitVec.ofNat 64 k := by decide +kernel
theorem wb_pw {a b : Nat} (h : a ≤ b) : 2 ^ b = 2 ^ a * 2 ^ (b - a) := by rw [← Nat.pow_add]; congr 1; omega
theorem wb_lt2 {a b : Nat} (h : a < b) : 2 ^ a < 2 ^ b := Nat.pow_lt_pow_right (by decide) h
theorem wb_mod (n : Nat) : lN n = lN (n % 2 ^ 64) := wb_inj (by rw [wb_tb, wb_tb]; apply BitVec.eq_of_toNat_eq; rw [BitVec.toNat_ofNat, BitVec.toNat_ofNat, Nat.mod_mod])
theorem wb_shr {n k : Nat} (hn : n < 2 ^ 64) (hk : k < 64) : ((lN n).toUInt64 >>> ((nI k).toInt64.toUInt64 &&& Int64.toUInt64 63)).toInt64 = lN (n / 2 ^ k) := by
  rw [wb_cu k hk]
  apply wb_inj
  apply BitVec.eq_of_toNat_eq
  show ((lN n).toUInt64 >>> UInt64.ofNat k).toNat = (BitVec.ofNat 64 _).toNat
  have h1 : (UInt64.ofNat k).toNat = k := by
    show (BitVec.ofNat 64 k).toNat = k
    rw [BitVec.toNat_ofNat, Nat.mod_eq_of_lt (by omega)]
  have h2 : (lN n).toUInt64.toNat = n := wb_tn hn
  rw [UInt64.toNat_shiftRight, h1, h2, Nat.mod_eq_of_lt hk, Nat.shiftRight_eq_div_pow, BitVec.toNat_ofNat, Nat.mod_eq_of_lt (Nat.lt_of_le_of_lt (Nat.div_le_self _ _) hn)]
theorem wb_shl (n : Nat) {k : Nat} (hk : k < 64) : lN n <<< ((nI k).toInt64 &&& 63) = lN (n * 2 ^ k) := by
  rw [wb_c k hk]
  apply wb_inj
  rw [Int64.toBitVec_shiftLeft, wb_tb, wb_tb, wb_tb, wb_sm k hk]
  apply BitVec.eq_of_toNat_eq
  rw [BitVec.shiftLeft_eq', BitVec.toNat_shiftLeft, BitVec.toNat_ofNat, BitVec.toNat_ofNat, BitVec.toNat_ofNat, Nat.mod_eq_of_lt (show k < 2 ^ 64 by omega), Nat.shiftLeft_eq, Nat.mul_mod, Nat.mod_mod, ← Nat.mul_mod]
theorem wb_and {a b : Nat} (ha : a < 2 ^ 64) (hb : b < 2 ^ 64) : lN a &&& lN b = lN (a &&& b) := by
  apply wb_inj
  rw [Int64.toBitVec_and, wb_tb, wb_tb, wb_tb]
  apply BitVec.eq_of_toNat_eq
  rw [BitVec.toNat_and, BitVec.toNat_ofNat, BitVec.toNat_ofNat, BitVec.toNat_ofNat, Nat.mod_eq_of_lt ha, Nat.mod_eq_of_lt hb, Nat.mod_eq_of_lt (Nat.and_lt_two_pow _ hb)]
theorem wb_or {a b : Nat} (ha : a < 2 ^ 64) (hb : b < 2 ^ 64) : lN a ||| lN b = lN (a ||| b) := by
  apply wb_inj
  rw [Int64.toBitVec_or, wb_tb, wb_tb, wb_tb]
  apply BitVec.eq_of_toNat_eq
  rw [BitVec.toNat_or, BitVec.toNat_ofNat, BitVec.toNat_ofNat, BitVec.toNat_ofNat, Nat.mod_eq_of_lt ha, Nat.mod_eq_of_lt hb, Nat.mod_eq_of_lt (Nat.or_lt_two_pow ha hb)]
theorem wb_mask {n k : Nat} (hn : n < 2 ^ 64) (hk : k < 64) : lN n &&& lN (2 ^ k - 1) = lN (n % 2 ^ k) := by
  rw [wb_and hn (by have := wb_lt2 hk; omega), Nat.and_two_pow_sub_one_eq_mod]
theorem wb_a1 {n : Nat} (hn : n < 2 ^ 64) : lN n &&& 1 = lN (n % 2) := wb_mask (k := 1) hn (by decide)
theorem wb_bit {n k : Nat} (hn : n < 2 ^ 64) (hk : k < 64) : ((lN n).toUInt64 >>> ((nI k).toInt64.toUInt64 &&& Int64.toUInt64 63)).toInt64 &&& 1 = lN (n / 2 ^ k % 2) := by
  rw [wb_shr hn hk, wb_a1 (Nat.lt_of_le_of_lt (Nat.div_le_self _ _) hn)]
theorem wb_xor {q k : Nat} (hk : k < 63) (h : 2 ^ k ≤ q) (h2 : q < 2 ^ (k + 1)) : lN q ^^^ lN (2 ^ k) = lN (q - 2 ^ k) := by
  obtain ⟨r, rfl⟩ : ∃ r, q = 2 ^ k + r := ⟨q - 2 ^ k, by omega⟩
  have hr : r < 2 ^ k := by rw [Nat.pow_succ] at h2; omega
  have hx : (2 ^ k + r) ^^^ 2 ^ k = r := by
    apply Nat.eq_of_testBit_eq
    intro i
    rw [Nat.testBit_xor, Nat.testBit_two_pow]
    rcases Nat.lt_trichotomy i k with h | h | h
    · rw [Nat.testBit_two_pow_add_gt h]
      simp [show ¬ k = i by omega]
    · subst h
      rw [Nat.testBit_two_pow_add_eq]
      simp
    · have a1 : 2 ^ (k + 1) ≤ 2 ^ i := Nat.pow_le_pow_right (by decide) h
      rw [Nat.testBit_lt_two_pow (show 2 ^ k + r < 2 ^ i by omega), Nat.testBit_lt_two_pow (show r < 2 ^ i by omega)]
      simp [show ¬ k = i by omega]
  have b1 := wb_lt2 (show k + 1 < 64 by omega)
  have b2 := wb_lt2 (show k < 64 by omega)
  apply wb_inj
  rw [Int64.toBitVec_xor, wb_tb, wb_tb, wb_tb]
  apply BitVec.eq_of_toNat_eq
  rw [BitVec.toNat_xor, BitVec.toNat_ofNat, BitVec.toNat_ofNat, BitVec.toNat_ofNat, Nat.mod_eq_of_lt (by omega : 2 ^ k + r < 2 ^ 64), Nat.mod_eq_of_lt b2, hx, Nat.add_sub_cancel_left, Nat.mod_eq_of_lt (by omega)]
/-! ===== lN: masks, 'or' of parts that don't overlap is a sum ===== -/
theorem u_tn {n : Nat} (h : n < 2 ^ 64) : (UInt64.ofNat n).toNat = n := Nat.mod_eq_of_lt h
theorem g_and {a b c : Nat} (ha : a < 2 ^ 64) (hb : b < 2 ^ 64) (hc : a &&& b = c) : lN a &&& lN b = lN c := by
  subst hc
  have h : UInt64.ofNat a &&& UInt64.ofNat b = UInt64.ofNat (a &&& b) := UInt64.toNat_inj.mp (by rw [UInt64.toNat_and, u_tn ha, u_tn hb, u_tn (Nat.and_lt_two_pow a hb)])
  have h2 := congrArg UInt64.toInt64 h
  exact h2
theorem g_and1 {a : Nat} (ha : a < 2 ^ 64) : lN a &&& 1 = lN (a % 2) := g_and (b := 1) ha (by decide) (Nat.and_two_pow_sub_one_eq_mod a 1)
theorem g_mask {a s p : Nat} (hp : 2 ^ s = p) (hs : s < 64) (ha : a < 2 ^ 64) : lN a &&& lN (p - 1) = lN (a % p) := by
  subst hp
  have := Nat.pow_lt_pow_right (show 1 < 2 by decide) hs
  exact g_and ha (by omega) (Nat.and_two_pow_sub_one_eq_mod a s)
theorem g_or {k p a b : Nat} (hp : 2 ^ k = p) (ha : a < p) (h : b * p + a < 2 ^ 64) : lN (b * p) ||| lN a = lN (b * p + a) := by
  subst hp
  have h1 : b * 2 ^ k ||| a = b * 2 ^ k + a := by rw [← Nat.shiftLeft_eq, Nat.shiftLeft_add_eq_or_of_lt ha]
  have h3 : UInt64.ofNat (b * 2 ^ k) ||| UInt64.ofNat a = UInt64.ofNat (b * 2 ^ k + a) := UInt64.toNat_inj.mp (by rw [UInt64.toNat_or, u_tn (by omega), u_tn (by omega), u_tn h, h1])
  have h2 := congrArg UInt64.toInt64 h3
  exact h2
theorem g_or' {k p a b : Nat} (hp : 2 ^ k = p) (ha : a < p) (h : a + b * p < 2 ^ 64) : lN a ||| lN (b * p) = lN (a + b * p) := by
  rw [Int64.or_comm, g_or hp ha (by omega), Nat.add_comm]
theorem g_ushr {a k p : Nat} {y : UInt64} (hy : y = UInt64.ofNat k) (hk : k < 64) (hp : 2 ^ k = p) (ha : a < 2 ^ 64) : ((lN a).toUInt64 >>> y).toInt64 = lN (a / p) := by
  subst hy hp
  have h : UInt64.ofNat a >>> UInt64.ofNat k = UInt64.ofNat (a / 2 ^ k) := UInt64.toNat_inj.mp (by rw [UInt64.toNat_shiftRight, u_tn ha, u_tn (by omega), u_tn (Nat.lt_of_le_of_lt (Nat.div_le_self _ _) ha), Nat.mod_eq_of_lt hk, Nat.shiftRight_eq_div_pow])
  have h2 := congrArg UInt64.toInt64 h
  exact h2
theorem g_shl {a k p : Nat} {y : Int64} (hy : y.toBitVec.smod 64 = BitVec.ofNat 64 k) (hk : k < 64) (hp : 2 ^ k = p) (ha : a < 2 ^ 64) : lN a <<< y = lN (a * p) := by
  subst hp
  apply Int64.toBitVec_inj.mp
  rw [Int64.toBitVec_shiftLeft, hy]
  apply BitVec.eq_of_toNat_eq
  have hb : (lN a).toBitVec.toNat = a := Nat.mod_eq_of_lt ha
  have hk' : (BitVec.ofNat 64 k).toNat = k := Nat.mod_eq_of_lt (by omega)
  have h : ((lN a).toBitVec <<< BitVec.ofNat 64 k).toNat = (a * 2 ^ k) % 2 ^ 64 := by simp only [BitVec.shiftLeft_eq', BitVec.toNat_shiftLeft, hb, hk', Nat.shiftLeft_eq]
  exact h
/-! ===== lN to 2^62 under >> and >>> ===== -/
theorem pf_lI {a : Nat} (h : a < 2 ^ 63) : (lN a).toInt = (a : Int) := lg_ofNat_toInt h
theorem pf_shr {a d : Nat} {D : Int64} (hD : (D.toBitVec.smod 64).toNat = d) (h : a < 2 ^ 62) : lN a >>> D = lN (a / 2 ^ d) := by
  have hd : a / 2 ^ d ≤ a := Nat.div_le_self _ _
  apply Int64.toInt_inj.mp
  have e : (lN a >>> D).toInt = (lN a).toInt >>> d := by
    rw [← hD]
    exact BitVec.toInt_sshiftRight ..
  rw [e, Int.shiftRight_eq_div_pow, pf_lI (by omega), pf_lI (by omega)]
  rfl
theorem pf_ushr {a d : Nat} {D : UInt64} (hD : D.toNat % 64 = d) (h : a < 2 ^ 62) : ((lN a).toUInt64 >>> D).toInt64 = lN (a / 2 ^ d) := by
  have hd : a / 2 ^ d ≤ a := Nat.div_le_self _ _
  have e : (lN a).toUInt64 >>> D = UInt64.ofNat (a / 2 ^ d) := UInt64.toNat_inj.mp (by
    rw [UInt64.toNat_shiftRight, hD, Nat.shiftRight_eq_div_pow, UInt64.toNat_ofNat']
    show (UInt64.ofNat a).toNat / 2 ^ d = _
    rw [UInt64.toNat_ofNat', Nat.mod_eq_of_lt (by omega), Nat.mod_eq_of_lt (by omega)])
  rw [e]
  rfl
theorem pf_andw (x : Int64) : ∃ m, m < 2 ^ 32 ∧ x &&& 4294967295 = lN m := ⟨x.toBitVec.toNat % 2 ^ 32, Nat.mod_lt _ (by decide), Int64.toBitVec_inj.mp (BitVec.eq_of_toNat_eq (by
  show (x.toBitVec &&& 4294967295#64).toNat = (BitVec.ofNat 64 (x.toBitVec.toNat % 2 ^ 32)).toNat
  rw [BitVec.toNat_and, show (4294967295#64).toNat = 2 ^ 32 - 1 from by decide, Nat.and_two_pow_sub_one_eq_mod, BitVec.toNat_ofNat]
  omega))⟩
/-! ===== Int64 as an unsigned number: uN x ===== -/
def uN (x : Int64) : Nat := x.toUInt64.toNat
theorem uN_lt (x : Int64) : uN x < 18446744073709551616 := x.toUInt64.toNat_lt
theorem uN_inj {x y : Int64} (h : uN x = uN y) : x = y := congrArg UInt64.toInt64 (UInt64.toNat_inj.mp h)
theorem uN_add (x y : Int64) : uN (x + y) = (uN x + uN y) % 18446744073709551616 := by
  show (x.toUInt64 + y.toUInt64).toNat = _
  exact UInt64.toNat_add _ _
theorem uN_mul (x y : Int64) : uN (x * y) = (uN x * uN y) % 18446744073709551616 := by
  show (x.toUInt64 * y.toUInt64).toNat = _
  exact UInt64.toNat_mul _ _
theorem uN_shl (x : Int64) : uN (x <<< ((1 : Int32).toInt64 &&& 63)) = (2 * uN x) % 18446744073709551616 := by
  have h : (((1 : Int32).toInt64 &&& 63).toBitVec.smod 64).toNat = 1 := by decide
  show (x.toBitVec <<< (((1 : Int32).toInt64 &&& 63).toBitVec.smod 64).toNat).toNat = _
  rw [h, BitVec.toNat_shiftLeft, Nat.shiftLeft_eq, Nat.mul_comm]
  rfl
theorem uN_shr (x : Int64) (s : UInt64) : uN (x.toUInt64 >>> s).toInt64 = uN x / 2 ^ (s.toNat % 64) := by
  show (x.toUInt64 >>> s).toNat = _
  rw [UInt64.toNat_shiftRight, Nat.shiftRight_eq_div_pow]
  rfl
theorem uN_s32 (x : Int64) : uN (x.toUInt64 >>> ((32 : Int32).toInt64.toUInt64 &&& Int64.toUInt64 63)).toInt64 = uN x / 4294967296 := by
  have h : ((32 : Int32).toInt64.toUInt64 &&& Int64.toUInt64 63).toNat % 64 = 32 := by decide
  rw [uN_shr, h]
theorem uN_s63 (x : Int64) : uN (x.toUInt64 >>> ((63 : Int32).toInt64.toUInt64 &&& Int64.toUInt64 63)).toInt64 = uN x / 9223372036854775808 := by
  have h : ((63 : Int32).toInt64.toUInt64 &&& Int64.toUInt64 63).toNat % 64 = 63 := by decide
  rw [uN_shr, h]
theorem uN_lo (x : Int64) : uN (x &&& 4294967295) = uN x % 4294967296 := by
  show (x.toUInt64 &&& Int64.toUInt64 4294967295).toNat = _
  rw [UInt64.toNat_and]
  exact Nat.and_two_pow_sub_one_eq_mod _ 32
theorem uN_bit (x : Int64) : (x &&& 1) = 0 ↔ uN x % 2 = 0 := by
  have h : uN (x &&& 1) = uN x % 2 := by
    show (x.toUInt64 &&& Int64.toUInt64 1).toNat = _
    rw [UInt64.toNat_and]
    exact Nat.and_two_pow_sub_one_eq_mod _ 1
  rw [← h]
  exact ⟨fun z => by rw [z]; rfl, fun z => uN_inj (z.trans rfl)⟩
theorem uN_or {x y : Int64} (hy : uN y < 2) : uN ((x <<< ((1 : Int32).toInt64 &&& 63)) ||| y) = (2 * uN x) % 18446744073709551616 + uN y := by
  have h1 : uN ((x <<< ((1 : Int32).toInt64 &&& 63)) ||| y) = uN (x <<< ((1 : Int32).toInt64 &&& 63)) ||| uN y := UInt64.toNat_or _ _
  have h2 : (2 * uN x) % 18446744073709551616 = 2 ^ 1 * (uN x % 9223372036854775808) := by omega
  rw [h1, uN_shl, h2]
  exact (Nat.two_pow_add_eq_or_of_lt (i := 1) hy _).symm
theorem nat_xor {a : Nat} (h : a < 18446744073709551616) : a ^^^ 2 ^ 63 = (a + 9223372036854775808) % 18446744073709551616 := by
  have h1 : (a ^^^ 2 ^ 63) % 2 ^ 63 = a % 2 ^ 63 := by rw [Nat.xor_mod_two_pow, Nat.mod_self, Nat.xor_zero]
  have h2 : (a ^^^ 2 ^ 63) / 2 ^ 63 = (a / 2 ^ 63) ^^^ 1 := by rw [Nat.xor_div_two_pow, Nat.div_self (Nat.two_pow_pos 63)]
  have h3 : a / 2 ^ 63 = 0 ∨ a / 2 ^ 63 = 1 := by omega
  generalize a ^^^ 2 ^ 63 = t at h1 h2
  rcases h3 with h3 | h3
  · rw [h3] at h2
    have h2 : t / 2 ^ 63 = 1 := h2
    omega
  · rw [h3] at h2
    have h2 : t / 2 ^ 63 = 0 := h2
    omega
theorem uN_xor (x : Int64) : uN (x ^^^ (-9223372036854775808)) = (uN x + 9223372036854775808) % 18446744073709551616 := by
  rw [← nat_xor (uN_lt x)]
  exact UInt64.toNat_xor _ _
theorem uN_int (x : Int64) : x.toInt = if 2 * uN x < 18446744073709551616 then (uN x : Int) else (uN x : Int) - 18446744073709551616 := BitVec.toInt_eq_toNat_cond _
theorem uN_le (x y : Int64) : (x ^^^ (-9223372036854775808)) ≤ (y ^^^ (-9223372036854775808)) ↔ uN x ≤ uN y := by
  have hx := uN_lt x
  have hy := uN_lt y
  rw [Int64.le_iff_toInt_le, uN_int, uN_int, uN_xor, uN_xor]
  omega
theorem uN_sk (x : Int64) {k : Nat} (hk : k < 64) : uN (x.toUInt64 >>> ((nI k).toInt64.toUInt64 &&& Int64.toUInt64 63)).toInt64 = uN x / 2 ^ k := by
  have h : ((nI k).toInt64.toUInt64 &&& Int64.toUInt64 63).toNat % 64 = k := by
    rw [nI_l (by omega), UInt64.toNat_and]
    have e : (lN k).toUInt64.toNat = k % 2 ^ 64 := rfl
    have e2 : (Int64.toUInt64 63).toNat = 2 ^ 6 - 1 := by decide
    rw [e, e2, Nat.and_two_pow_sub_one_eq_mod]
    omega
  rw [uN_shr, h]
/-! ===== unsigned comparison by xor with the least ===== -/
theorem lN_bv (n : Nat) : (lN n).toBitVec = BitVec.ofNat 64 n := rfl
theorem lN_nat {n : Nat} (h : n < 2 ^ 64) : (lN n).toBitVec.toNat = n := by rw [lN_bv, BitVec.toNat_ofNat]; exact Nat.mod_eq_of_lt h
theorem lN_xor (a b : Nat) : lN a ^^^ lN b = lN (a ^^^ b) := by
  apply Int64.toBitVec_inj.mp; rw [Int64.toBitVec_xor, lN_bv, lN_bv, lN_bv]; apply BitVec.eq_of_getLsbD_eq; intro i hi; simp [BitVec.getLsbD_ofNat, Nat.testBit_xor, hi]
theorem lN_ti {m : Nat} (h : m < 2 ^ 64) : (lN m).toInt = if m < 2 ^ 63 then (m : Int) else (m : Int) - 2 ^ 64 := by
  have c := BitVec.toInt_eq_toNat_cond (lN m).toBitVec
  rw [lN_nat h] at c
  show (lN m).toBitVec.toInt = _
  rw [c]
  split <;> split <;> omega
theorem xor63 {x : Nat} (h : x < 2 ^ 63) : x ^^^ 2 ^ 63 = 2 ^ 63 + x := by
  apply Nat.eq_of_testBit_eq
  intro i
  rw [Nat.testBit_xor, Nat.testBit_two_pow]
  rcases Nat.lt_trichotomy i 63 with z | z | z
  · rw [Nat.testBit_two_pow_add_gt z, decide_eq_false (by omega)]; simp
  · subst z; rw [Nat.testBit_two_pow_add_eq]; simp
  · have hp : 2 ^ 64 ≤ 2 ^ i := Nat.pow_le_pow_right (by decide) z
    rw [Nat.testBit_lt_two_pow (show x < 2 ^ i by omega), Nat.testBit_lt_two_pow (show 2 ^ 63 + x < 2 ^ i by omega), decide_eq_false (by omega)]; rfl
theorem xorS {a : Nat} (h : a < 2 ^ 64) : (lN a ^^^ (-9223372036854775808)).toInt = (a : Int) - 2 ^ 63 := by
  rw [show (-9223372036854775808 : Int64) = lN (2 ^ 63) from by decide +kernel, lN_xor]
  rcases Nat.lt_or_ge a (2 ^ 63) with z | z
  · rw [xor63 z, lN_ti (by omega), if_neg (by omega)]; omega
  · obtain ⟨x, rfl⟩ : ∃ x, a = 2 ^ 63 + x := ⟨a - 2 ^ 63, by omega⟩
    rw [← xor63 (by omega), Nat.xor_assoc, Nat.xor_self, Nat.xor_zero, lN_ti (by omega), if_pos (by omega), xor63 (by omega)]; omega
theorem ultL {a b : Nat} (ha : a < 2 ^ 64) (hb : b < 2 ^ 64) : ((lN b ^^^ (-9223372036854775808)) ≤ (lN a ^^^ (-9223372036854775808))) ↔ b ≤ a := by
  rw [Int64.le_iff_toInt_le, xorS ha, xorS hb]; omega
/-! ===== Int64 masks of n low bits ===== -/
theorem cr_bits (W U M : BitVec 64) : ((W &&& U) &&& (U &&& (M ^^^ BitVec.allOnes 64))) = 0#64 ↔ (W &&& U) &&& M = W &&& U := by
  constructor
  · intro h
    apply BitVec.eq_of_getLsbD_eq
    intro i hi
    have e := congrArg (fun x => BitVec.getLsbD x i) h
    simp only [BitVec.getLsbD_and, BitVec.getLsbD_xor, BitVec.getLsbD_allOnes, BitVec.getLsbD_zero, hi, decide_true] at e ⊢
    revert e
    cases W.getLsbD i <;> cases U.getLsbD i <;> cases M.getLsbD i <;> decide
  · intro h
    apply BitVec.eq_of_getLsbD_eq
    intro i hi
    have e := congrArg (fun x => BitVec.getLsbD x i) h
    simp only [BitVec.getLsbD_and, BitVec.getLsbD_xor, BitVec.getLsbD_allOnes, BitVec.getLsbD_zero, hi, decide_true] at e ⊢
    revert e
    cases W.getLsbD i <;> cases U.getLsbD i <;> cases M.getLsbD i <;> decide
theorem cr_mask (w U m : Int64) (n : Nat) (hm : m.toBitVec.toNat = 2 ^ n - 1) : ((w &&& U) &&& (U &&& (m ^^^ (-1)))) = 0 ↔ (w &&& U).toBitVec.toNat < 2 ^ n := by
  have e0 : (-1 : Int64).toBitVec = BitVec.allOnes 64 := by decide
  have z0 : (0 : Int64).toBitVec = 0#64 := by decide
  rw [← Int64.toBitVec_inj, z0, Int64.toBitVec_and, Int64.toBitVec_and, Int64.toBitVec_and, Int64.toBitVec_xor, e0, cr_bits]
  generalize w.toBitVec &&& U.toBitVec = T
  rw [← BitVec.toNat_inj, BitVec.toNat_and, hm, Nat.and_two_pow_sub_one_eq_mod]
  constructor
  · intro h
    have t := Nat.mod_lt T.toNat (Nat.two_pow_pos n)
    rw [h] at t
    exact t
  · exact Nat.mod_eq_of_lt
theorem cr_shr (t : Int64) (x : UInt64) (n : Nat) (hx : x.toNat % 64 = n) : (t.toUInt64 >>> x).toInt64 = 0 ↔ t.toBitVec.toNat < 2 ^ n := by
  rw [← Int64.toBitVec_inj, ← BitVec.toNat_inj]
  show (t.toUInt64 >>> x).toNat = 0 ↔ t.toUInt64.toNat < 2 ^ n
  rw [UInt64.toNat_shiftRight, hx, Nat.shiftRight_eq_div_pow]
  constructor
  · intro h
    have d : t.toUInt64.toNat / 2 ^ n < 1 := by
      rw [h]
      decide
    have e := (Nat.div_lt_iff_lt_mul (Nat.two_pow_pos n)).mp d
    rw [Nat.one_mul] at e
    exact e
  · exact Nat.div_eq_of_lt
theorem cr_amt (s : Int64) : ∃ n, n < 64 ∧ s &&& 63 = lN n ∧ (s.toUInt64 &&& Int64.toUInt64 63).toNat % 64 = n := by
  have e : (s.toUInt64 &&& Int64.toUInt64 63).toNat = s.toUInt64.toNat % 2 ^ 6 := by
    rw [UInt64.toNat_and, show (Int64.toUInt64 63).toNat = 2 ^ 6 - 1 from by decide, Nat.and_two_pow_sub_one_eq_mod]
  refine ⟨s.toUInt64.toNat % 2 ^ 6, by omega, ?_, by omega⟩
  rw [← Int64.toBitVec_inj, ← BitVec.toNat_inj]
  show (s.toUInt64 &&& Int64.toUInt64 63).toNat = (BitVec.ofNat 64 (s.toUInt64.toNat % 2 ^ 6)).toNat
  rw [e, BitVec.toNat_ofNat]
  omega
end
section
/-! the pure formula: kinds of tokens, the unfilled places, what stands around a token -/
def qd_mo (t : Nat) : Nat := if t = 0 then 1 else if t ≤ 3 then 2 else if t ≤ 5 then 1 else 0
def qd_iq (t : Nat) : Bool := decide (t = 4) || decide (t = 5)
theorem qd_iq_iff (t : Nat) : qd_iq t = true ↔ t = 4 ∨ t = 5 := by unfold qd_iq; simp
theorem qd_iq_f {t : Nat} (h : qd_iq t = false) : t ≠ 4 ∧ t ≠ 5 := by
  refine ⟨fun e => ?_, fun e => ?_⟩ <;> (subst e; revert h; decide)
theorem qd_mo0 {t : Nat} : qd_mo t = 0 ↔ 6 ≤ t := by
  unfold qd_mo
  split
  · omega
  · split
    · omega
    · split <;> omega
theorem qd_mo1 {t : Nat} : qd_mo t = 1 ↔ t = 0 ∨ t = 4 ∨ t = 5 := by
  unfold qd_mo
  split
  · omega
  · split
    · omega
    · split <;> omega
theorem qd_mo2 {t : Nat} : qd_mo t = 2 ↔ t = 1 ∨ t = 2 ∨ t = 3 := by
  unfold qd_mo
  split
  · omega
  · split
    · omega
    · split <;> omega
theorem qd_mo_le (t : Nat) : qd_mo t = 0 ∨ qd_mo t = 1 ∨ qd_mo t = 2 := by
  unfold qd_mo
  split
  · omega
  · split
    · omega
    · split <;> omega
abbrev qd_E : Type := Nat × Bool × List Nat
def qd_kids (t p : Nat) (s : Bool) (l : List Nat) : List qd_E :=
  if t = 0 then [(p, !s, l)] else if t = 3 then [(p, !s, l), (p, s, l)] else if t ≤ 2 then [(p, s, l), (p, s, l)] else if t ≤ 5 then [(p, s, l ++ [p])] else []
def qd_rt : qd_E := (13, true, [])
def qd_ps (T : Nat → Nat) : Nat → List qd_E
  | 0 => [qd_rt]
  | m + 1 => qd_kids (T m) m ((qd_ps T m).headD qd_rt).2.1 ((qd_ps T m).headD qd_rt).2.2 ++ (qd_ps T m).tail
def qd_hd (T : Nat → Nat) (m : Nat) : qd_E := (qd_ps T m).headD qd_rt
def qd_ow (T : Nat → Nat) (m : Nat) : Nat := (qd_hd T m).1
def qd_st (T : Nat → Nat) (m : Nat) : Bool := (qd_hd T m).2.1
def qd_al (T : Nat → Nat) (m : Nat) : List Nat := (qd_hd T m).2.2
def qd_kd (T : Nat → Nat) (m : Nat) : List qd_E := qd_kids (T m) m (qd_st T m) (qd_al T m)
theorem qd_ps_s (T : Nat → Nat) (m : Nat) : qd_ps T (m + 1) = qd_kd T m ++ (qd_ps T m).tail := rfl
theorem qd_kids_len (t p : Nat) (s : Bool) (l : List Nat) : (qd_kids t p s l).length = qd_mo t := by
  unfold qd_kids qd_mo
  by_cases h0 : t = 0
  · rw [if_pos h0, if_pos h0]; rfl
  · by_cases h3 : t = 3
    · subst h3; rfl
    · by_cases h2 : t ≤ 2
      · rw [if_neg h0, if_neg h3, if_pos h2, if_neg h0, if_pos (show t ≤ 3 by omega)]; rfl
      · by_cases h5 : t ≤ 5
        · rw [if_neg h0, if_neg h3, if_neg h2, if_pos h5, if_neg h0, if_neg (show ¬ t ≤ 3 by omega), if_pos h5]; rfl
        · rw [if_neg h0, if_neg h3, if_neg h2, if_neg h5, if_neg h0, if_neg (show ¬ t ≤ 3 by omega), if_neg h5]; rfl
theorem qd_kd_len (T : Nat → Nat) (m : Nat) : (qd_kd T m).length = qd_mo (T m) := qd_kids_len _ _ _ _
theorem qd_kids_own {t p : Nat} {s : Bool} {l : List Nat} {e : qd_E} (h : e ∈ qd_kids t p s l) : e.1 = p := by
  unfold qd_kids at h
  split at h
  · simp at h; rw [h]
  · split at h
    · simp at h; rcases h with h | h <;> rw [h]
    · split at h
      · simp at h; rw [h]
      · split at h
        · simp at h; rw [h]
        · simp at h
theorem qd_kd_own {T : Nat → Nat} {p : Nat} {e : qd_E} (h : e ∈ qd_kd T p) : e.1 = p := qd_kids_own h
theorem qd_ps_congr {T T' : Nat → Nat} : ∀ m, (∀ j, j < m → T' j = T j) → qd_ps T' m = qd_ps T m
  | 0, _ => rfl
  | m + 1, h => by
    have ih := qd_ps_congr m (fun j hj => h j (by omega))
    show qd_kids (T' m) m _ _ ++ _ = qd_kids (T m) m _ _ ++ _
    rw [ih, h m (by omega)]
theorem qd_hd_congr {T T' : Nat → Nat} {m : Nat} (h : ∀ j, j < m → T' j = T j) : qd_hd T' m = qd_hd T m := by
  unfold qd_hd; rw [qd_ps_congr m h]
def qd_W (T : Nat → Nat) (n : Nat) : Prop := ∀ m, m < n → qd_ps T m ≠ []
def qd_C (T : Nat → Nat) (n : Nat) : Prop := qd_W T n ∧ qd_ps T n = []
theorem qd_ps_cons {T : Nat → Nat} {m : Nat} (h : qd_ps T m ≠ []) : qd_ps T m = qd_hd T m :: (qd_ps T m).tail := by
  unfold qd_hd
  cases e : qd_ps T m with
  | nil => exact absurd e h
  | cons a r => rfl
theorem qd_hd_mem {T : Nat → Nat} {m : Nat} (h : qd_ps T m ≠ []) : qd_hd T m ∈ qd_ps T m := by
  rw [qd_ps_cons h]; exact List.mem_cons_self
theorem qd_hd_kd {T : Nat → Nat} {m : Nat} {a : qd_E} {r : List qd_E} (h : qd_kd T m = a :: r) : qd_hd T (m + 1) = a := by
  unfold qd_hd; rw [qd_ps_s, h]; rfl
/-- every place of a stack is a part of a token before it; if the token isn't the last one, its first part is filled -/
theorem qd_ent {T : Nat → Nat} : ∀ m e, e ∈ qd_ps T (m + 1) → ∃ p, p < m + 1 ∧ e ∈ qd_kd T p ∧ (p < m → e ∈ (qd_kd T p).tail)
  | 0, e, h => by
    rw [qd_ps_s] at h
    rcases List.mem_append.mp h with h | h
    · exact ⟨0, by omega, h, fun z => by omega⟩
    · exact absurd h (by show e ∉ ([] : List qd_E); simp)
  | m + 1, e, h => by
    rw [qd_ps_s] at h
    rcases List.mem_append.mp h with h | h
    · exact ⟨m + 1, by omega, h, fun z => by omega⟩
    · obtain ⟨p, hp, he, ht⟩ := qd_ent m e (List.mem_of_mem_tail h)
      refine ⟨p, by omega, he, fun _ => ?_⟩
      rcases Nat.lt_or_ge p m with z | z
      · exact ht z
      · have e1 : p = m := by omega
        subst e1
        rw [qd_ps_s] at h
        have key : ∀ x, x ∈ (qd_ps T p).tail → x.1 ≠ p := by
          intro x hx
          cases p with
          | zero => exact absurd hx (by show x ∉ ([] : List qd_E); simp)
          | succ q =>
            obtain ⟨p', hp', hx', _⟩ := qd_ent q x (List.mem_of_mem_tail hx)
            rw [qd_kd_own hx']; omega
        cases hk : qd_kd T p with
        | nil =>
          rw [hk] at he
          exact absurd he (by simp)
        | cons a r =>
          rw [hk, List.cons_append, List.tail_cons] at h
          rcases List.mem_append.mp h with h | h
          · exact h
          · exact absurd (qd_kd_own he) (key e h)
theorem qd_own_lt {T : Nat → Nat} {m : Nat} {e : qd_E} (hm : 0 < m) (h : e ∈ qd_ps T m) : e.1 < m := by
  obtain ⟨q, rfl⟩ : ∃ q, m = q + 1 := ⟨m - 1, by omega⟩
  obtain ⟨p, hp, he, _⟩ := qd_ent q e h
  rw [qd_kd_own he]; exact hp
theorem qd_own_tl {T : Nat → Nat} {m : Nat} {e : qd_E} (h : e ∈ (qd_ps T m).tail) : e.1 < m := by
  cases m with
  | zero => exact absurd h (by show e ∉ ([] : List qd_E); simp)
  | succ q => exact qd_own_lt (by omega) (List.mem_of_mem_tail h)
theorem qd_own2 {T : Nat → Nat} {j : Nat} {e : qd_E} : ∀ m, j ≤ m → e ∈ qd_ps T m → e ∈ qd_ps T j ∨ j ≤ e.1
  | 0, hj, h => by
    have : j = 0 := by omega
    subst this; exact Or.inl h
  | m + 1, hj, h => by
    rcases Nat.lt_or_ge m j with z | z
    · have : j = m + 1 := by omega
      subst this; exact Or.inl h
    · rw [qd_ps_s] at h
      rcases List.mem_append.mp h with h | h
      · right; rw [qd_kd_own h]; exact z
      · exact qd_own2 m z (List.mem_of_mem_tail h)
def qd_qc (T : Nat → Nat) : Nat → Nat
  | 0 => 0
  | m + 1 => qd_qc T m + (qd_iq (T m)).toNat
theorem qd_qc_mono (T : Nat → Nat) {a b : Nat} (h : a ≤ b) : qd_qc T a ≤ qd_qc T b := by
  induction b with
  | zero => have : a = 0 := by omega
            subst this; exact Nat.le_refl _
  | succ b ih =>
    rcases Nat.lt_or_ge b a with z | z
    · have : a = b + 1 := by omega
      subst this; exact Nat.le_refl _
    · have := ih z; show _ ≤ qd_qc T b + _; omega
theorem qd_qc_congr {T T' : Nat → Nat} : ∀ m, (∀ j, j < m → T' j = T j) → qd_qc T' m = qd_qc T m
  | 0, _ => rfl
  | m + 1, h => by
    show qd_qc T' m + _ = qd_qc T m + _
    rw [qd_qc_congr m (fun j hj => h j (by omega)), h m (by omega)]
/-- what stands around a part: as around its token, and the token if it is a quantifier -/
theorem qd_kids_al {t p : Nat} {s : Bool} {l : List Nat} {e : qd_E} (h : e ∈ qd_kids t p s l) : e.2.2 = if qd_iq t then l ++ [p] else l := by
  unfold qd_kids at h
  split at h
  · rename_i h0; subst h0; simp at h; rw [h]; rfl
  · split at h
    · rename_i h3; subst h3; simp at h; rcases h with h | h <;> (rw [h]; rfl)
    · split at h
      · rw [if_neg (by rw [qd_iq_iff]; omega)]; simp at h; rw [h]
      · split at h
        · rw [if_pos (by rw [qd_iq_iff]; omega)]; simp at h; rw [h]
        · simp at h
theorem qd_al_len {T : Nat → Nat} : ∀ m e, e ∈ qd_ps T m → e.2.2.length ≤ qd_qc T m
  | 0, e, h => by
    have : e = qd_rt := by simpa [qd_ps] using h
    subst this; exact Nat.le_refl _
  | m + 1, e, h => by
    rw [qd_ps_s] at h
    show _ ≤ qd_qc T m + _
    rcases List.mem_append.mp h with h | h
    · have h2 : (qd_al T m).length ≤ qd_qc T m := by
        by_cases z : qd_ps T m = []
        · unfold qd_al qd_hd; rw [z]; exact Nat.zero_le _
        · exact qd_al_len m _ (qd_hd_mem z)
      rw [qd_kids_al h]
      cases qd_iq (T m) with
      | false => simpa using h2
      | true => simpa using h2
    · have := qd_al_len m e (List.mem_of_mem_tail h); omega
theorem qd_al_le (T : Nat → Nat) (m : Nat) : (qd_al T m).length ≤ qd_qc T m := by
  by_cases z : qd_ps T m = []
  · unfold qd_al qd_hd; rw [z]; exact Nat.zero_le _
  · exact qd_al_len m _ (qd_hd_mem z)
/-- the quantifiers around: before the place, each with the ones before it around itself -/
theorem qd_al_ent {T : Nat → Nat} : ∀ m e, e ∈ qd_ps T m → ∀ v q, e.2.2[v]? = some q → q < m ∧ qd_iq (T q) = true ∧ qd_al T q = e.2.2.take v
  | 0, e, h, v, q, hv => by
    have : e = qd_rt := by simpa [qd_ps] using h
    subst this; exact absurd hv (by show ([] : List Nat)[v]? ≠ some q; simp)
  | m + 1, e, h, v, q, hv => by
    rw [qd_ps_s] at h
    rcases List.mem_append.mp h with h | h
    · have ih : ∀ v q, (qd_al T m)[v]? = some q → q < m ∧ qd_iq (T q) = true ∧ qd_al T q = (qd_al T m).take v := by
        intro v q hv
        by_cases z : qd_ps T m = []
        · exact absurd hv (by unfold qd_al qd_hd; rw [z]; show ([] : List Nat)[v]? ≠ some q; simp)
        · exact qd_al_ent m _ (qd_hd_mem z) v q hv
      have ea := qd_kids_al h
      rw [ea] at hv ⊢
      cases z : qd_iq (T m) with
      | false =>
        rw [z] at hv
        have := ih v q (by simpa using hv)
        exact ⟨by omega, this.2.1, by simpa using this.2.2⟩
      | true =>
        rw [z] at hv
        simp only [if_true] at hv ⊢
        rcases Nat.lt_or_ge v (qd_al T m).length with y | y
        · rw [List.getElem?_append_left y] at hv
          have := ih v q hv
          refine ⟨by omega, this.2.1, ?_⟩
          rw [List.take_append_of_le_length (by omega)]
          exact this.2.2
        · rw [List.getElem?_append_right y] at hv
          have hv0 : v - (qd_al T m).length = 0 := by
            rcases Nat.eq_zero_or_pos (v - (qd_al T m).length) with w | w
            · exact w
            · exact absurd hv (by rw [List.getElem?_eq_none (by simp; omega)]; simp)
          rw [hv0] at hv
          have : q = m := by simpa using hv.symm
          subst this
          refine ⟨by omega, z, ?_⟩
          have hv1 : v = (qd_al T q).length := by omega
          rw [hv1, List.take_left']
          rfl
    · have := qd_al_ent m e (List.mem_of_mem_tail h) v q hv
      exact ⟨by omega, this.2⟩
theorem qd_al_at {T : Nat → Nat} {m v q : Nat} (h : (qd_al T m)[v]? = some q) : q < m ∧ qd_iq (T q) = true ∧ qd_al T q = (qd_al T m).take v := by
  by_cases z : qd_ps T m = []
  · exact absurd h (by unfold qd_al qd_hd; rw [z]; show ([] : List Nat)[v]? ≠ some q; simp)
  · exact qd_al_ent m _ (qd_hd_mem z) v q h
theorem qd_al_mem {T : Nat → Nat} {m q : Nat} (h : q ∈ qd_al T m) : q < m ∧ qd_iq (T q) = true ∧ ∀ x, x ∈ qd_al T q → x ∈ qd_al T m := by
  obtain ⟨v, hv⟩ := List.mem_iff_getElem?.mp h
  have := qd_al_at hv
  refine ⟨this.1, this.2.1, fun x hx => ?_⟩
  rw [this.2.2] at hx
  exact List.mem_of_mem_take hx
end
section
/-! a fold from the last token to the first, with a stack of values; the parts of a token -/
def qd_F {α : Type} (d : α) (f0 : Nat → α) (f1 : Nat → α → α) (f2 : Nat → α → α → α) (T : Nat → Nat) (n : Nat) : Nat → List α
  | 0 => []
  | j + 1 =>
    if qd_mo (T (n - (j + 1))) = 0 then f0 (n - (j + 1)) :: qd_F d f0 f1 f2 T n j
    else if qd_mo (T (n - (j + 1))) = 1 then f1 (n - (j + 1)) ((qd_F d f0 f1 f2 T n j).headD d) :: (qd_F d f0 f1 f2 T n j).tail
    else f2 (n - (j + 1)) ((qd_F d f0 f1 f2 T n j).headD d) ((qd_F d f0 f1 f2 T n j).tail.headD d) :: (qd_F d f0 f1 f2 T n j).tail.tail
/-- the stack when the tokens from k on are worked out -/
def qd_S {α : Type} (d : α) (f0 : Nat → α) (f1 : Nat → α → α) (f2 : Nat → α → α → α) (T : Nat → Nat) (n k : Nat) : List α := qd_F d f0 f1 f2 T n (n - k)
def qd_v {α : Type} (d : α) (f0 : Nat → α) (f1 : Nat → α → α) (f2 : Nat → α → α → α) (T : Nat → Nat) (n k : Nat) : α := (qd_S d f0 f1 f2 T n k).headD d
section
variable {α : Type} {d : α} {f0 : Nat → α} {f1 : Nat → α → α} {f2 : Nat → α → α → α} {T : Nat → Nat} {n : Nat}
theorem qd_S_n : qd_S d f0 f1 f2 T n n = [] := by unfold qd_S; rw [Nat.sub_self]; rfl
theorem qd_S_lt {k : Nat} (h : k < n) : qd_S d f0 f1 f2 T n k =
    if qd_mo (T k) = 0 then f0 k :: qd_S d f0 f1 f2 T n (k + 1)
    else if qd_mo (T k) = 1 then f1 k (qd_v d f0 f1 f2 T n (k + 1)) :: (qd_S d f0 f1 f2 T n (k + 1)).tail
    else f2 k (qd_v d f0 f1 f2 T n (k + 1)) ((qd_S d f0 f1 f2 T n (k + 1)).tail.headD d) :: (qd_S d f0 f1 f2 T n (k + 1)).tail.tail := by
  unfold qd_v qd_S
  have e1 : n - k = (n - (k + 1)) + 1 := by omega
  have e2 : n - ((n - (k + 1)) + 1) = k := by omega
  rw [e1]
  conv => lhs; unfold qd_F
  rw [e2]
theorem qd_S_0 {k : Nat} (h : k < n) (z : qd_mo (T k) = 0) : qd_S d f0 f1 f2 T n k = f0 k :: qd_S d f0 f1 f2 T n (k + 1) := by
  rw [qd_S_lt h, if_pos z]
theorem qd_S_1 {k : Nat} (h : k < n) (z : qd_mo (T k) = 1) : qd_S d f0 f1 f2 T n k = f1 k (qd_v d f0 f1 f2 T n (k + 1)) :: (qd_S d f0 f1 f2 T n (k + 1)).tail := by
  rw [qd_S_lt h, if_neg (by omega), if_pos z]
theorem qd_S_2 {k : Nat} (h : k < n) (z : qd_mo (T k) = 2) : qd_S d f0 f1 f2 T n k = f2 k (qd_v d f0 f1 f2 T n (k + 1)) ((qd_S d f0 f1 f2 T n (k + 1)).tail.headD d) :: (qd_S d f0 f1 f2 T n (k + 1)).tail.tail := by
  rw [qd_S_lt h, if_neg (by omega), if_neg (by omega)]
end
/-- the places at which the parts on the stack begin -/
def qd_bs (T : Nat → Nat) (n k : Nat) : List Nat := qd_S 0 (fun k => k) (fun k _ => k) (fun k _ _ => k) T n k
def qd_en (T : Nat → Nat) (n k : Nat) : Nat := (qd_bs T n k).tail.headD n
section
variable {T : Nat → Nat} {n : Nat}
theorem qd_bs_n : qd_bs T n n = [] := qd_S_n
theorem qd_bs_lt {k : Nat} (h : k < n) : qd_bs T n k = k :: (qd_bs T n (k + 1)).drop (qd_mo (T k)) := by
  unfold qd_bs
  rcases qd_mo_le (T k) with z | z | z
  · rw [qd_S_0 h z, z]; rfl
  · rw [qd_S_1 h z, z, List.drop_one]
  · rw [qd_S_2 h z, z]
    cases qd_S 0 (fun k => k) (fun k _ => k) (fun k _ _ => k) T n (k + 1) with
    | nil => rfl
    | cons a r => cases r <;> rfl
theorem qd_en_of {k : Nat} {r : List Nat} (h : qd_bs T n k = k :: r) : qd_en T n k = r.headD n := by unfold qd_en; rw [h]; rfl
theorem qd_bs_hd {k : Nat} (h : k < n) : (qd_bs T n k).headD n = k := by rw [qd_bs_lt h]; rfl
theorem qd_down {P : Nat → Prop} (n : Nat) (h : ∀ k, k < n → (∀ j, k < j → j < n → P j) → P k) : ∀ k, k < n → P k := by
  have key : ∀ m k, n - k < m → k < n → P k := by
    intro m
    induction m with
    | zero => intro k hk; omega
    | succ m ih => intro k hk hn; exact h k hn (fun j h1 h2 => ih j (by omega) h2)
  exact fun k hk => key _ k (Nat.lt_succ_self _) hk
theorem qd_bs_ps (C : qd_C T n) : ∀ k, k ≤ n → (qd_bs T n k).map (qd_hd T) = qd_ps T k := by
  have key : ∀ d k, n - k = d → k ≤ n → (qd_bs T n k).map (qd_hd T) = qd_ps T k := by
    intro d
    induction d with
    | zero =>
      intro k hk hn
      have : k = n := by omega
      subst this
      rw [qd_bs_n, C.2]; rfl
    | succ d ih =>
      intro k hk hn
      have ih' := ih (k + 1) (by omega) (by omega)
      rw [qd_bs_lt (by omega), List.map_cons, List.map_drop, ih', qd_ps_s, ← qd_kd_len T k, List.drop_left]
      exact (qd_ps_cons (C.1 k (by omega))).symm
  exact fun k hk => key _ k rfl hk
theorem qd_next (C : qd_C T n) {k : Nat} (h : k < n) (z : qd_mo (T k) ≠ 0) : k + 1 < n := by
  rcases Nat.lt_or_ge (k + 1) n with y | y
  · exact y
  · have e : k + 1 = n := by omega
    have c := C.2
    rw [← e, qd_ps_s] at c
    have := qd_kd_len T k
    rw [List.append_eq_nil_iff] at c
    rw [c.1] at this
    exact absurd this.symm z
/-- the part at k, and what is on the stack behind it -/
theorem qd_bs_en (C : qd_C T n) : ∀ k, k < n → qd_bs T n k = k :: qd_bs T n (qd_en T n k) ∧ k < qd_en T n k ∧ qd_en T n k ≤ n := by
  apply qd_down
  intro k hk ih
  rcases qd_mo_le (T k) with z | z | z
  · have e0 : qd_bs T n k = k :: qd_bs T n (k + 1) := by rw [qd_bs_lt hk, z]; rfl
    have e1 : qd_en T n k = k + 1 := by
      unfold qd_en
      rw [e0, List.tail_cons]
      rcases Nat.lt_or_ge (k + 1) n with y | y
      · exact qd_bs_hd y
      · have : k + 1 = n := by omega
        rw [this, qd_bs_n]; rfl
    rw [e1]
    exact ⟨e0, by omega, by omega⟩
  · have hn := qd_next C hk (by omega)
    obtain ⟨a, b, c⟩ := ih (k + 1) (by omega) hn
    have e0 : qd_bs T n k = k :: (qd_bs T n (k + 1)).tail := by rw [qd_bs_lt hk, z, List.drop_one]
    have e1 : qd_en T n k = qd_en T n (k + 1) := by unfold qd_en; rw [e0, List.tail_cons]
    rw [e1]
    refine ⟨?_, by omega, c⟩
    rw [e0, a, List.tail_cons]
  · have hn := qd_next C hk (by omega)
    obtain ⟨a, b, c⟩ := ih (k + 1) (by omega) hn
    have hs : qd_en T n (k + 1) < n := by
      rcases Nat.lt_or_ge (qd_en T n (k + 1)) n with y | y
      · exact y
      · exfalso
        have e : qd_en T n (k + 1) = n := by omega
        rw [e, qd_bs_n] at a
        have l := congrArg List.length (qd_bs_ps C (k + 1) (by omega))
        rw [a, qd_ps_s, List.length_append, qd_kd_len, z] at l
        simp at l
        omega
    obtain ⟨a2, b2, c2⟩ := ih (qd_en T n (k + 1)) (by omega) hs
    have e0 : qd_bs T n k = k :: qd_bs T n (qd_en T n (qd_en T n (k + 1))) := by
      rw [qd_bs_lt hk, z, a, a2]; rfl
    have e1 : qd_en T n k = qd_en T n (qd_en T n (k + 1)) := (qd_en_of e0).trans (qd_en_of a2).symm
    rw [e1]
    exact ⟨e0, by omega, c2⟩
/-- a token's second part -/
def qd_s2 (T : Nat → Nat) (n k : Nat) : Nat := qd_en T n (k + 1)
theorem qd_ps_en (C : qd_C T n) {k : Nat} (h : k < n) : (qd_ps T k).tail = qd_ps T (qd_en T n k) := by
  obtain ⟨a, b, c⟩ := qd_bs_en C k h
  rw [← qd_bs_ps C k (by omega), a, List.map_cons, List.tail_cons, qd_bs_ps C _ c]
theorem qd_en0 (C : qd_C T n) {k : Nat} (h : k < n) (z : qd_mo (T k) = 0) : qd_en T n k = k + 1 := by
  have e0 : qd_bs T n k = k :: qd_bs T n (k + 1) := by rw [qd_bs_lt h, z]; rfl
  unfold qd_en
  rw [e0, List.tail_cons]
  rcases Nat.lt_or_ge (k + 1) n with y | y
  · exact qd_bs_hd y
  · have : k + 1 = n := by omega
    rw [this, qd_bs_n]; rfl
theorem qd_en1 {k : Nat} (h : k < n) (z : qd_mo (T k) = 1) : qd_en T n (k + 1) = qd_en T n k := by
  have e0 : qd_bs T n k = k :: (qd_bs T n (k + 1)).tail := by rw [qd_bs_lt h, z, List.drop_one]
  unfold qd_en
  rw [e0, List.tail_cons]
theorem qd_en2 (C : qd_C T n) {k : Nat} (h : k < n) (z : qd_mo (T k) = 2) : k + 1 < n ∧ k + 1 < qd_s2 T n k ∧ qd_s2 T n k < n ∧ qd_en T n (qd_s2 T n k) = qd_en T n k := by
  have hn := qd_next C h (by omega)
  obtain ⟨a, b, c⟩ := qd_bs_en C (k + 1) hn
  have hs : qd_s2 T n k < n := by
    rcases Nat.lt_or_ge (qd_s2 T n k) n with y | y
    · exact y
    · exfalso
      have e : qd_en T n (k + 1) = n := by unfold qd_s2 at y; omega
      rw [e, qd_bs_n] at a
      have l := congrArg List.length (qd_bs_ps C (k + 1) (by omega))
      rw [a, qd_ps_s, List.length_append, qd_kd_len, z] at l
      simp at l
      omega
  obtain ⟨a2, b2, c2⟩ := qd_bs_en C _ hs
  refine ⟨hn, b, hs, ?_⟩
  have e0 : qd_bs T n k = k :: qd_bs T n (qd_en T n (qd_s2 T n k)) := by
    rw [qd_bs_lt h, z, a]
    show k :: (qd_bs T n (qd_s2 T n k)).drop 1 = _
    rw [a2]; rfl
  exact (qd_en_of a2).trans (qd_en_of e0).symm
/-- what a token's parts get: the first and the second of its kids -/
theorem qd_hd1 {k : Nat} {a : qd_E} {r : List qd_E} (h : qd_kd T k = a :: r) : qd_hd T (k + 1) = a := qd_hd_kd h
theorem qd_hd2 (C : qd_C T n) {k : Nat} (h : k < n) (z : qd_mo (T k) = 2) {a b : qd_E} (hk : qd_kd T k = [a, b]) : qd_hd T (qd_s2 T n k) = b := by
  obtain ⟨h1, h2, h3, _⟩ := qd_en2 C h z
  have e := qd_ps_en C h1
  rw [qd_ps_s, hk] at e
  have e2 : (qd_ps T (qd_s2 T n k)) = b :: (qd_ps T k).tail := e.symm
  unfold qd_hd
  rw [e2]; rfl
end
section
variable {α : Type} {d : α} {f0 : Nat → α} {f1 : Nat → α → α} {f2 : Nat → α → α → α} {T : Nat → Nat} {n : Nat}
/-- the stack of any fold holds the values of the parts that begin at the places of bs -/
theorem qd_S_map : ∀ k, k ≤ n → qd_S d f0 f1 f2 T n k = (qd_bs T n k).map (qd_v d f0 f1 f2 T n) := by
  have key : ∀ m k, n - k = m → k ≤ n → qd_S d f0 f1 f2 T n k = (qd_bs T n k).map (qd_v d f0 f1 f2 T n) := by
    intro m
    induction m with
    | zero =>
      intro k hk hn
      have : k = n := by omega
      subst this
      rw [qd_bs_n, qd_S_n]; rfl
    | succ m ih =>
      intro k hk hn
      have ih' := ih (k + 1) (by omega) (by omega)
      have hv : qd_S d f0 f1 f2 T n k = qd_v d f0 f1 f2 T n k :: (qd_S d f0 f1 f2 T n k).tail := by
        unfold qd_v
        rcases qd_mo_le (T k) with z | z | z
        · rw [qd_S_0 (by omega) z]; rfl
        · rw [qd_S_1 (by omega) z]; rfl
        · rw [qd_S_2 (by omega) z]; rfl
      rw [hv, qd_bs_lt (by omega), List.map_cons, List.map_drop, ← ih']
      congr 1
      rcases qd_mo_le (T k) with z | z | z
      · rw [qd_S_0 (by omega) z, z]; rfl
      · rw [qd_S_1 (by omega) z, z, List.drop_one]; rfl
      · rw [qd_S_2 (by omega) z, z]
        cases qd_S d f0 f1 f2 T n (k + 1) with
        | nil => rfl
        | cons a r => cases r <;> rfl
  exact fun k hk => key _ k rfl hk
theorem qd_v0 {k : Nat} (h : k < n) (z : qd_mo (T k) = 0) : qd_v d f0 f1 f2 T n k = f0 k := by
  conv => lhs; unfold qd_v
  rw [qd_S_0 h z]; rfl
theorem qd_v1 {k : Nat} (h : k < n) (z : qd_mo (T k) = 1) : qd_v d f0 f1 f2 T n k = f1 k (qd_v d f0 f1 f2 T n (k + 1)) := by
  conv => lhs; unfold qd_v
  rw [qd_S_1 h z]; rfl
theorem qd_v2 (C : qd_C T n) {k : Nat} (h : k < n) (z : qd_mo (T k) = 2) : qd_v d f0 f1 f2 T n k = f2 k (qd_v d f0 f1 f2 T n (k + 1)) (qd_v d f0 f1 f2 T n (qd_s2 T n k)) := by
  conv => lhs; unfold qd_v
  obtain ⟨h1, h2, h3, _⟩ := qd_en2 C h z
  obtain ⟨a, _, _⟩ := qd_bs_en C (k + 1) h1
  obtain ⟨b, _, _⟩ := qd_bs_en C (qd_s2 T n k) h3
  have e : (qd_S d f0 f1 f2 T n (k + 1)).tail.headD d = qd_v d f0 f1 f2 T n (qd_s2 T n k) := by
    rw [qd_S_map (k + 1) (by omega), a]
    show ((qd_bs T n (qd_s2 T n k)).map _).headD d = _
    rw [b]; rfl
  rw [qd_S_2 h z, e]; rfl
end
/-- what the component keeps as a token's second part: the last one that isn't just behind it -/
def qd_sec (T : Nat → Nat) : Nat → Nat → Nat
  | 0, _ => 0
  | m + 1, p => if qd_ow T m = p ∧ m ≠ p + 1 then m else qd_sec T m p
theorem qd_sec_s2 {T : Nat → Nat} {n : Nat} (C : qd_C T n) {k : Nat} (h : k < n) (z : qd_mo (T k) = 2) : qd_sec T n k = qd_s2 T n k := by
  obtain ⟨h1, h2, h3, _⟩ := qd_en2 C h z
  have hl := qd_kd_len T k
  rw [z] at hl
  obtain ⟨a, b, hk⟩ : ∃ a b, qd_kd T k = [a, b] := by
    cases e : qd_kd T k with
    | nil => rw [e] at hl; simp at hl
    | cons a r =>
      cases r with
      | nil => rw [e] at hl; simp at hl
      | cons b r =>
        cases r with
        | nil => exact ⟨a, b, rfl⟩
        | cons c r => rw [e] at hl; simp at hl
  have hb : b.1 = k := qd_kd_own (T := T) (by rw [hk]; simp)
  have e := qd_ps_en C h1
  rw [qd_ps_s, hk] at e
  have e2 : (qd_ps T (qd_s2 T n k)) = b :: (qd_ps T k).tail := e.symm
  have key : ∀ m, qd_s2 T n k < m → m ≤ n → qd_sec T m k = qd_s2 T n k := by
    intro m
    induction m with
    | zero => intro hm; omega
    | succ m ih =>
      intro hm hn
      show (if qd_ow T m = k ∧ m ≠ k + 1 then m else qd_sec T m k) = _
      rcases Nat.lt_or_ge (qd_s2 T n k) m with y | y
      · rw [if_neg, ih y (by omega)]
        intro ⟨hw, _⟩
        have hm2 := qd_hd_mem (C.1 m (by omega))
        have hw' : (qd_hd T m).1 = k := hw
        rcases qd_own2 (j := qd_s2 T n k + 1) m (by omega) hm2 with w | w
        · rw [qd_ps_s, e2, List.tail_cons] at w
          rcases List.mem_append.mp w with w | w
          · have := qd_kd_own w; omega
          · have := qd_own_tl w; omega
        · omega
      · have : m = qd_s2 T n k := by omega
        subst this
        rw [if_pos]
        refine ⟨?_, by omega⟩
        show (qd_hd T (qd_s2 T n k)).1 = k
        unfold qd_hd
        rw [e2]; exact hb
  exact key n h3 (Nat.le_refl _)
end
section
/-! truth: the value of a part, the value as it counts, the matrix under an assignment, clauses -/
def qd_up (e : Nat → Bool) (d : Nat) (b : Bool) : Nat → Bool := fun v => if v = d then b else e v
def qd_at (i t : Nat) (e : Nat → Bool) : Bool :=
  if t < 10 then i.testBit (e (t - 6)).toNat else i.testBit (2 + 2 * (e ((t - 10) / 4)).toNat + (e ((t - 10) % 4)).toNat)
def qd_f1 (T : Nat → Nat) (k : Nat) (f : (Nat → Bool) → Bool) : (Nat → Bool) → Bool := fun e =>
  if T k = 0 then !(f e) else if T k = 4 then f (qd_up e (qd_al T k).length false) && f (qd_up e (qd_al T k).length true)
  else f (qd_up e (qd_al T k).length false) || f (qd_up e (qd_al T k).length true)
def qd_f2 (T : Nat → Nat) (k : Nat) (f g : (Nat → Bool) → Bool) : (Nat → Bool) → Bool := fun e =>
  if T k = 1 then f e && g e else if T k = 2 then f e || g e else !(f e) || g e
def qd_V (i : Nat) (T : Nat → Nat) (n k : Nat) : (Nat → Bool) → Bool := qd_v (fun _ => false) (fun k e => qd_at i (T k) e) (qd_f1 T) (qd_f2 T) T n k
def qd_SV (i : Nat) (T : Nat → Nat) (n k : Nat) (e : Nat → Bool) : Bool := qd_V i T n k e == qd_st T k
def qd_gen (T : Nat → Nat) (k : Nat) : Bool := decide (T k = 4) == qd_st T k
def qd_bo (T : Nat → Nat) (k : Nat) : Bool := decide (T k = 1) == qd_st T k
def qd_ev (l : List Nat) (x : Nat → Bool) : Nat → Bool := fun v => (l.map x).getD v false
def qd_MV (i : Nat) (T : Nat → Nat) (n k : Nat) : (Nat → Bool) → Bool :=
  qd_v (fun _ => false) (fun k x => qd_SV i T n k (qd_ev (qd_al T k) x)) (fun _ f => f) (fun k f g x => if qd_bo T k then f x && g x else f x || g x) T n k
def qd_cl (T : Nat → Nat) (n k : Nat) : List Nat :=
  qd_v [] (fun k => [2 ^ k]) (fun _ l => l) (fun k l r => if qd_bo T k then l ++ r else l.flatMap (fun a => r.map (fun b => a ||| b))) T n k
theorem qd_ev_congr {l : List Nat} {x y : Nat → Bool} (h : ∀ q, q ∈ l → x q = y q) : qd_ev l x = qd_ev l y := by
  unfold qd_ev
  rw [List.map_congr_left h]
theorem qd_ev_snoc (l : List Nat) (q : Nat) (x : Nat → Bool) : qd_ev (l ++ [q]) x = qd_up (qd_ev l x) l.length (x q) := by
  funext v
  unfold qd_ev qd_up
  dsimp only
  rw [List.map_append, List.getD_eq_getElem?_getD, List.getD_eq_getElem?_getD]
  rcases Nat.lt_trichotomy v l.length with h | h | h
  · rw [if_neg (by omega), List.getElem?_append_left (by simpa using h)]
  · subst h
    rw [if_pos rfl, List.getElem?_append_right (by simp)]
    simp
  · rw [if_neg (by omega), List.getElem?_append_right (by simp; omega), List.getElem?_eq_none (by simp; omega), List.getElem?_eq_none (by simp; omega)]
theorem qd_ev_nil (x : Nat → Bool) : qd_ev [] x = fun _ => false := rfl
section
variable {i : Nat} {T : Nat → Nat} {n : Nat}
theorem qd_c0 {k : Nat} (z : T k = 0) : qd_st T (k + 1) = (!qd_st T k) ∧ qd_al T (k + 1) = qd_al T k := by
  have h : qd_kd T k = [(k, !qd_st T k, qd_al T k)] := by unfold qd_kd qd_kids; rw [if_pos z]
  have e := qd_hd1 h
  unfold qd_st qd_al
  rw [e]
  exact ⟨rfl, rfl⟩
theorem qd_cq {k : Nat} (z : qd_iq (T k) = true) : qd_st T (k + 1) = qd_st T k ∧ qd_al T (k + 1) = qd_al T k ++ [k] := by
  rw [qd_iq_iff] at z
  have h : qd_kd T k = [(k, qd_st T k, qd_al T k ++ [k])] := by
    unfold qd_kd qd_kids
    rw [if_neg (by omega), if_neg (by omega), if_neg (by omega), if_pos (by omega)]
  have e := qd_hd1 h
  unfold qd_st qd_al
  rw [e]
  exact ⟨rfl, rfl⟩
theorem qd_kd2 {k : Nat} (z : qd_mo (T k) = 2) : qd_kd T k = [(k, (if T k = 3 then !qd_st T k else qd_st T k), qd_al T k), (k, qd_st T k, qd_al T k)] := by
  rw [qd_mo2] at z
  unfold qd_kd qd_kids
  rw [if_neg (by omega)]
  by_cases h3 : T k = 3
  · rw [if_pos h3, if_pos h3]
  · rw [if_neg h3, if_neg h3, if_pos (by omega)]
theorem qd_cb (C : qd_C T n) {k : Nat} (h : k < n) (z : qd_mo (T k) = 2) : qd_st T (k + 1) = (if T k = 3 then !qd_st T k else qd_st T k) ∧ qd_al T (k + 1) = qd_al T k ∧ qd_st T (qd_s2 T n k) = qd_st T k ∧ qd_al T (qd_s2 T n k) = qd_al T k := by
  have hk := qd_kd2 z
  have e1 := qd_hd1 hk
  have e2 := qd_hd2 C h z hk
  refine ⟨?_, ?_, ?_, ?_⟩
  · show (qd_hd T (k + 1)).2.1 = _
    rw [e1]
  · show (qd_hd T (k + 1)).2.2 = _
    rw [e1]
  · show (qd_hd T (qd_s2 T n k)).2.1 = _
    rw [e2]
  · show (qd_hd T (qd_s2 T n k)).2.2 = _
    rw [e2]
theorem qd_V1 {k : Nat} (h : k < n) (z : qd_mo (T k) = 1) (e : Nat → Bool) : qd_V i T n k e = qd_f1 T k (qd_V i T n (k + 1)) e := by
  unfold qd_V; rw [qd_v1 h z]
theorem qd_V2 (C : qd_C T n) {k : Nat} (h : k < n) (z : qd_mo (T k) = 2) (e : Nat → Bool) : qd_V i T n k e = qd_f2 T k (qd_V i T n (k + 1)) (qd_V i T n (qd_s2 T n k)) e := by
  unfold qd_V; rw [qd_v2 C h z]
theorem qd_SV_a {k : Nat} (h : k < n) (z : 6 ≤ T k) (e : Nat → Bool) : qd_SV i T n k e = (qd_at i (T k) e == qd_st T k) := by
  unfold qd_SV qd_V; rw [qd_v0 h (qd_mo0.mpr z)]
theorem qd_SV_n {k : Nat} (h : k < n) (z : T k = 0) (e : Nat → Bool) : qd_SV i T n k e = qd_SV i T n (k + 1) e := by
  unfold qd_SV
  rw [qd_V1 h (qd_mo1.mpr (by omega)), (qd_c0 z).1]
  unfold qd_f1
  rw [if_pos z]
  generalize qd_V i T n (k + 1) e = a
  generalize qd_st T k = b
  cases a <;> cases b <;> rfl
theorem qd_SV_q {k : Nat} (h : k < n) (z : qd_iq (T k) = true) (e : Nat → Bool) : qd_SV i T n k e =
    if qd_gen T k then qd_SV i T n (k + 1) (qd_up e (qd_al T k).length false) && qd_SV i T n (k + 1) (qd_up e (qd_al T k).length true)
    else qd_SV i T n (k + 1) (qd_up e (qd_al T k).length false) || qd_SV i T n (k + 1) (qd_up e (qd_al T k).length true) := by
  have z' := (qd_iq_iff _).mp z
  unfold qd_SV qd_gen
  rw [qd_V1 h (qd_mo1.mpr (by omega)), (qd_cq z).1]
  unfold qd_f1
  rw [if_neg (by omega)]
  generalize qd_V i T n (k + 1) (qd_up e (qd_al T k).length false) = a
  generalize qd_V i T n (k + 1) (qd_up e (qd_al T k).length true) = b
  generalize qd_st T k = c
  rcases z' with z' | z'
  · rw [z']; cases a <;> cases b <;> cases c <;> rfl
  · rw [z']; cases a <;> cases b <;> cases c <;> rfl
theorem qd_SV_b (C : qd_C T n) {k : Nat} (h : k < n) (z : qd_mo (T k) = 2) (e : Nat → Bool) : qd_SV i T n k e =
    if qd_bo T k then qd_SV i T n (k + 1) e && qd_SV i T n (qd_s2 T n k) e else qd_SV i T n (k + 1) e || qd_SV i T n (qd_s2 T n k) e := by
  obtain ⟨c1, _, c2, _⟩ := qd_cb C h z
  unfold qd_SV qd_bo
  rw [qd_V2 C h z, c1, c2]
  unfold qd_f2
  generalize qd_V i T n (k + 1) e = a
  generalize qd_V i T n (qd_s2 T n k) e = b
  generalize qd_st T k = c
  rcases qd_mo2.mp z with z' | z' | z'
  · rw [z']; cases a <;> cases b <;> cases c <;> rfl
  · rw [z']; cases a <;> cases b <;> cases c <;> rfl
  · rw [z']; cases a <;> cases b <;> cases c <;> rfl
theorem qd_MV_0 {k : Nat} (h : k < n) (z : qd_mo (T k) = 0) (x : Nat → Bool) : qd_MV i T n k x = qd_SV i T n k (qd_ev (qd_al T k) x) := by
  unfold qd_MV; rw [qd_v0 h z]
theorem qd_MV_1 {k : Nat} (h : k < n) (z : qd_mo (T k) = 1) (x : Nat → Bool) : qd_MV i T n k x = qd_MV i T n (k + 1) x := by
  unfold qd_MV; rw [qd_v1 h z]
theorem qd_MV_2 (C : qd_C T n) {k : Nat} (h : k < n) (z : qd_mo (T k) = 2) (x : Nat → Bool) : qd_MV i T n k x =
    if qd_bo T k then qd_MV i T n (k + 1) x && qd_MV i T n (qd_s2 T n k) x else qd_MV i T n (k + 1) x || qd_MV i T n (qd_s2 T n k) x := by
  unfold qd_MV; rw [qd_v2 C h z]
theorem qd_MV_dep (C : qd_C T n) : ∀ k, k < n → ∀ x y : Nat → Bool, (∀ q, q < qd_en T n k → qd_iq (T q) = true → x q = y q) → qd_MV i T n k x = qd_MV i T n k y := by
  apply qd_down
  intro k hk ih x y hxy
  have hen := (qd_bs_en C k hk).2.1
  rcases qd_mo_le (T k) with z | z | z
  · rw [qd_MV_0 hk z, qd_MV_0 hk z]
    rw [qd_ev_congr (fun q hq => hxy q (by have := (qd_al_mem hq).1; omega) (qd_al_mem hq).2.1)]
  · have hn := qd_next C hk (by omega)
    rw [qd_MV_1 hk z, qd_MV_1 hk z]
    exact ih (k + 1) (by omega) hn x y (by rw [qd_en1 hk z]; exact hxy)
  · obtain ⟨h1, h2, h3, h4⟩ := qd_en2 C hk z
    have hs := (qd_bs_en C _ h3).2.1
    have e2 : qd_en T n (k + 1) = qd_s2 T n k := rfl
    rw [qd_MV_2 C hk z, qd_MV_2 C hk z, ih (k + 1) (by omega) h1 x y (fun q hq => hxy q (by omega)), ih _ (by omega) h3 x y (by rw [h4]; exact hxy)]
/-- if a part doesn't count as true, then for some choice of general things its matrix is false -/
theorem qd_snd (C : qd_C T n) (X : (Nat → Bool) → Nat → Bool) (hg : ∀ t g, qd_gen T g = true → X t g = t g)
    (hx : ∀ t t' q, (∀ g, g ≤ q → t g = t' g) → X t q = X t' q) :
    ∀ k, k < n → ∀ t : Nat → Bool, qd_SV i T n k (qd_ev (qd_al T k) (X t)) = false → ∃ t' : Nat → Bool, (∀ g, g < k → t' g = t g) ∧ qd_MV i T n k (X t') = false := by
  apply qd_down
  intro k hk ih t hf
  rcases qd_mo_le (T k) with z | z | z
  · exact ⟨t, fun _ _ => rfl, by rw [qd_MV_0 hk z]; exact hf⟩
  · have hn := qd_next C hk (by omega)
    by_cases hq : qd_iq (T k) = true
    · rw [qd_SV_q hk hq] at hf
      have ha := (qd_cq hq).2
      by_cases hgen : qd_gen T k = true
      · rw [if_pos hgen] at hf
        obtain ⟨b, hb⟩ : ∃ b, qd_SV i T n (k + 1) (qd_up (qd_ev (qd_al T k) (X t)) (qd_al T k).length b) = false := by
          rcases Bool.and_eq_false_iff.mp hf with w | w
          · exact ⟨false, w⟩
          · exact ⟨true, w⟩
        have e1 : ∀ g, g < k → (fun g => if g = k then b else t g) g = t g := fun g hg' => by
          show (if g = k then b else t g) = t g
          rw [if_neg (by omega)]
        have e2 : qd_ev (qd_al T (k + 1)) (X (fun g => if g = k then b else t g)) = qd_up (qd_ev (qd_al T k) (X t)) (qd_al T k).length b := by
          rw [ha, qd_ev_snoc, hg _ k hgen]
          show qd_up _ _ (if k = k then b else t k) = _
          rw [if_pos rfl]
          rw [qd_ev_congr (fun q hq' => hx _ t q (fun g hg' => e1 g (by have := (qd_al_mem hq').1; omega)))]
        obtain ⟨t', h1, h2⟩ := ih (k + 1) (by omega) hn (fun g => if g = k then b else t g) (by rw [e2]; exact hb)
        exact ⟨t', fun g hg' => (h1 g (by omega)).trans (e1 g hg'), by rw [qd_MV_1 hk z]; exact h2⟩
      · rw [if_neg hgen] at hf
        have e2 : qd_ev (qd_al T (k + 1)) (X t) = qd_up (qd_ev (qd_al T k) (X t)) (qd_al T k).length (X t k) := by
          rw [ha, qd_ev_snoc]
        obtain ⟨t', h1, h2⟩ := ih (k + 1) (by omega) hn t (by
          rw [e2]
          rw [Bool.or_eq_false_iff] at hf
          cases X t k
          · exact hf.1
          · exact hf.2)
        exact ⟨t', fun g hg' => h1 g (by omega), by rw [qd_MV_1 hk z]; exact h2⟩
    · have z0 : T k = 0 := by
        rcases qd_mo1.mp z with w | w
        · exact w
        · exact absurd ((qd_iq_iff _).mpr w) hq
      rw [qd_SV_n hk z0, ← (qd_c0 z0).2] at hf
      obtain ⟨t', h1, h2⟩ := ih (k + 1) (by omega) hn t hf
      exact ⟨t', fun g hg' => h1 g (by omega), by rw [qd_MV_1 hk z]; exact h2⟩
  · obtain ⟨h1, h2, h3, h4⟩ := qd_en2 C hk z
    obtain ⟨_, c1, _, c2⟩ := qd_cb C hk z
    rw [qd_SV_b C hk z] at hf
    by_cases hb : qd_bo T k = true
    · rw [if_pos hb, Bool.and_eq_false_iff] at hf
      rcases hf with hf | hf
      · rw [← c1] at hf
        obtain ⟨t', g1, g2⟩ := ih (k + 1) (by omega) h1 t hf
        exact ⟨t', fun g hg' => g1 g (by omega), by rw [qd_MV_2 C hk z, if_pos hb, g2]; rfl⟩
      · rw [← c2] at hf
        obtain ⟨t', g1, g2⟩ := ih _ (by omega) h3 t hf
        exact ⟨t', fun g hg' => g1 g (by omega), by rw [qd_MV_2 C hk z, if_pos hb, g2, Bool.and_false]⟩
    · rw [if_neg hb, Bool.or_eq_false_iff] at hf
      obtain ⟨fa, fb⟩ := hf
      rw [← c1] at fa
      obtain ⟨t1, g1, g2⟩ := ih (k + 1) (by omega) h1 t fa
      have e1 : qd_ev (qd_al T k) (X t) = qd_ev (qd_al T (qd_s2 T n k)) (X t1) := by
        rw [c2]
        exact qd_ev_congr (fun q hq' => hx _ _ q (fun g hg' => (g1 g (by have := (qd_al_mem hq').1; omega)).symm))
      rw [e1] at fb
      obtain ⟨t2, g3, g4⟩ := ih _ (by omega) h3 t1 fb
      refine ⟨t2, fun g hg' => (g3 g (by omega)).trans (g1 g (by omega)), ?_⟩
      have e2 : qd_MV i T n (k + 1) (X t2) = qd_MV i T n (k + 1) (X t1) :=
        qd_MV_dep C (k + 1) h1 _ _ (fun q hq' _ => hx _ _ q (fun g hg' => g3 g (by have : qd_en T n (k + 1) = qd_s2 T n k := rfl; omega)))
      rw [qd_MV_2 C hk z, if_neg hb, e2, g2, g4]; rfl
/-- with the right functions the matrix is true wherever the part counts as true -/
theorem qd_cmp (C : qd_C T n) (X : (Nat → Bool) → Nat → Bool)
    (hs : ∀ t q, q < n → qd_iq (T q) = true → qd_gen T q = false → X t q = qd_SV i T n (q + 1) (qd_up (qd_ev (qd_al T q) (X t)) (qd_al T q).length true)) :
    ∀ k, k < n → ∀ t : Nat → Bool, qd_SV i T n k (qd_ev (qd_al T k) (X t)) = true → qd_MV i T n k (X t) = true := by
  apply qd_down
  intro k hk ih t hf
  rcases qd_mo_le (T k) with z | z | z
  · rw [qd_MV_0 hk z]; exact hf
  · have hn := qd_next C hk (by omega)
    rw [qd_MV_1 hk z]
    by_cases hq : qd_iq (T k) = true
    · rw [qd_SV_q hk hq] at hf
      have ha := (qd_cq hq).2
      have e2 : qd_ev (qd_al T (k + 1)) (X t) = qd_up (qd_ev (qd_al T k) (X t)) (qd_al T k).length (X t k) := by
        rw [ha, qd_ev_snoc]
      apply ih (k + 1) (by omega) hn t
      rw [e2]
      by_cases hgen : qd_gen T k = true
      · rw [if_pos hgen, Bool.and_eq_true] at hf
        cases X t k
        · exact hf.1
        · exact hf.2
      · rw [if_neg hgen, Bool.or_eq_true] at hf
        have hx := hs t k hk hq (by simpa using hgen)
        cases e : X t k with
        | true => rw [e] at hx; exact hx.symm
        | false =>
          rw [e] at hx
          rcases hf with w | w
          · exact w
          · rw [w] at hx; exact absurd hx (by decide)
    · have z0 : T k = 0 := by
        rcases qd_mo1.mp z with w | w
        · exact w
        · exact absurd ((qd_iq_iff _).mpr w) hq
      rw [qd_SV_n hk z0, ← (qd_c0 z0).2] at hf
      exact ih (k + 1) (by omega) hn t hf
  · obtain ⟨h1, h2, h3, h4⟩ := qd_en2 C hk z
    obtain ⟨_, c1, _, c2⟩ := qd_cb C hk z
    rw [qd_SV_b C hk z] at hf
    rw [qd_MV_2 C hk z]
    by_cases hb : qd_bo T k = true
    · rw [if_pos hb, Bool.and_eq_true] at hf ⊢
      exact ⟨ih (k + 1) (by omega) h1 t (by rw [c1]; exact hf.1), ih _ (by omega) h3 t (by rw [c2]; exact hf.2)⟩
    · rw [if_neg hb, Bool.or_eq_true] at hf ⊢
      rcases hf with w | w
      · exact Or.inl (ih (k + 1) (by omega) h1 t (by rw [c1]; exact w))
      · exact Or.inr (ih _ (by omega) h3 t (by rw [c2]; exact w))
theorem qd_cl_0 {k : Nat} (h : k < n) (z : qd_mo (T k) = 0) : qd_cl T n k = [2 ^ k] := by
  unfold qd_cl; rw [qd_v0 h z]
theorem qd_cl_1 {k : Nat} (h : k < n) (z : qd_mo (T k) = 1) : qd_cl T n k = qd_cl T n (k + 1) := by
  unfold qd_cl; rw [qd_v1 h z]
theorem qd_cl_2 (C : qd_C T n) {k : Nat} (h : k < n) (z : qd_mo (T k) = 2) : qd_cl T n k =
    if qd_bo T k then qd_cl T n (k + 1) ++ qd_cl T n (qd_s2 T n k) else (qd_cl T n (k + 1)).flatMap (fun a => (qd_cl T n (qd_s2 T n k)).map (fun b => a ||| b)) := by
  unfold qd_cl; rw [qd_v2 C h z]
theorem qd_cl_in (C : qd_C T n) : ∀ k, k < n → ∀ c, c ∈ qd_cl T n k → c < 2 ^ n ∧ ∀ j, c.testBit j = true → j < n ∧ 6 ≤ T j := by
  apply qd_down
  intro k hk ih c hc
  rcases qd_mo_le (T k) with z | z | z
  · rw [qd_cl_0 hk z] at hc
    have : c = 2 ^ k := by simpa using hc
    subst this
    refine ⟨Nat.pow_lt_pow_right (by decide) hk, fun j hj => ?_⟩
    rw [Nat.testBit_two_pow] at hj
    have : k = j := by simpa using hj
    subst this
    exact ⟨hk, qd_mo0.mp z⟩
  · rw [qd_cl_1 hk z] at hc
    exact ih (k + 1) (by omega) (qd_next C hk (by omega)) c hc
  · obtain ⟨h1, h2, h3, h4⟩ := qd_en2 C hk z
    rw [qd_cl_2 C hk z] at hc
    by_cases hb : qd_bo T k = true
    · rw [if_pos hb, List.mem_append] at hc
      rcases hc with hc | hc
      · exact ih (k + 1) (by omega) h1 c hc
      · exact ih _ (by omega) h3 c hc
    · rw [if_neg hb, List.mem_flatMap] at hc
      obtain ⟨a, ha, hc⟩ := hc
      rw [List.mem_map] at hc
      obtain ⟨b, hb', rfl⟩ := hc
      have ia := ih (k + 1) (by omega) h1 a ha
      have ib := ih _ (by omega) h3 b hb'
      refine ⟨Nat.or_lt_two_pow ia.1 ib.1, fun j hj => ?_⟩
      rw [Nat.testBit_or, Bool.or_eq_true] at hj
      rcases hj with hj | hj
      · exact ia.2 j hj
      · exact ib.2 j hj
theorem qd_cnf (C : qd_C T n) (x : Nat → Bool) : ∀ k, k < n → ((∀ c, c ∈ qd_cl T n k → ∃ j, c.testBit j = true ∧ qd_SV i T n j (qd_ev (qd_al T j) x) = true) ↔ qd_MV i T n k x = true) := by
  apply qd_down
  intro k hk ih
  rcases qd_mo_le (T k) with z | z | z
  · rw [qd_cl_0 hk z, qd_MV_0 hk z]
    constructor
    · intro h
      obtain ⟨j, h1, h2⟩ := h (2 ^ k) (by simp)
      rw [Nat.testBit_two_pow] at h1
      have : k = j := by simpa using h1
      subst this
      exact h2
    · intro h c hc
      have : c = 2 ^ k := by simpa using hc
      subst this
      exact ⟨k, by rw [Nat.testBit_two_pow]; simp, h⟩
  · rw [qd_cl_1 hk z, qd_MV_1 hk z]
    exact ih (k + 1) (by omega) (qd_next C hk (by omega))
  · obtain ⟨h1, h2, h3, h4⟩ := qd_en2 C hk z
    have ia := ih (k + 1) (by omega) h1
    have ib := ih _ (by omega) h3
    rw [qd_cl_2 C hk z, qd_MV_2 C hk z]
    by_cases hb : qd_bo T k = true
    · rw [if_pos hb, if_pos hb, Bool.and_eq_true, ← ia, ← ib]
      constructor
      · intro h
        exact ⟨fun c hc => h c (List.mem_append_left _ hc), fun c hc => h c (List.mem_append_right _ hc)⟩
      · intro h c hc
        rcases List.mem_append.mp hc with hc | hc
        · exact h.1 c hc
        · exact h.2 c hc
    · rw [if_neg hb, if_neg hb, Bool.or_eq_true, ← ia, ← ib]
      constructor
      · intro h
        apply Classical.byContradiction
        intro hn
        rw [not_or] at hn
        obtain ⟨n1, n2⟩ := hn
        apply n1
        intro a ha
        apply Classical.byContradiction
        intro na
        apply n2
        intro b hb'
        obtain ⟨j, g1, g2⟩ := h (a ||| b) (List.mem_flatMap.mpr ⟨a, ha, List.mem_map.mpr ⟨b, hb', rfl⟩⟩)
        rw [Nat.testBit_or, Bool.or_eq_true] at g1
        rcases g1 with g1 | g1
        · exact absurd ⟨j, g1, g2⟩ na
        · exact ⟨j, g1, g2⟩
      · intro h c hc
        obtain ⟨a, ha, hc⟩ := List.mem_flatMap.mp hc
        obtain ⟨b, hb', rfl⟩ := List.mem_map.mp hc
        rcases h with h | h
        · obtain ⟨j, g1, g2⟩ := h a ha
          exact ⟨j, by rw [Nat.testBit_or, g1]; rfl, g2⟩
        · obtain ⟨j, g1, g2⟩ := h b hb'
          exact ⟨j, by rw [Nat.testBit_or, g1, Bool.or_true], g2⟩
end
end
section
/-! numbers from bits; the numbers of the general quantifiers, the bits of the functions; the main law of the search -/
def qd_mod (K : Nat → Bool) : Nat → Nat
  | 0 => 0
  | m + 1 => qd_mod K m ||| (if K m then 2 ^ m else 0)
theorem qd_mod_lt (K : Nat → Bool) : ∀ m, qd_mod K m < 2 ^ m
  | 0 => by show 0 < 2 ^ 0; decide
  | m + 1 => by
    have h := qd_mod_lt K m
    have h1 : 2 ^ m < 2 ^ (m + 1) := Nat.pow_lt_pow_right (by decide) (by omega)
    refine Nat.or_lt_two_pow (by omega) ?_
    split
    · exact h1
    · exact Nat.two_pow_pos _
theorem qd_mod_bit (K : Nat → Bool) : ∀ m j, (qd_mod K m).testBit j = (decide (j < m) && K j)
  | 0, j => by
    show (0 : Nat).testBit j = _
    rw [Nat.zero_testBit, decide_eq_false (by omega)]; rfl
  | m + 1, j => by
    show (qd_mod K m ||| _).testBit j = _
    rw [Nat.testBit_or, qd_mod_bit K m j]
    rcases Nat.lt_trichotomy j m with h | h | h
    · rw [decide_eq_true h, decide_eq_true (show j < m + 1 by omega)]
      have : (if K m = true then 2 ^ m else 0).testBit j = false := by
        split
        · rw [Nat.testBit_two_pow]; simp; omega
        · exact Nat.zero_testBit j
      rw [this, Bool.or_false]
    · subst h
      rw [decide_eq_false (show ¬ j < j by omega), decide_eq_true (show j < j + 1 by omega), Bool.false_and, Bool.false_or, Bool.true_and]
      cases K j with
      | true => rw [if_pos rfl, Nat.testBit_two_pow]; simp
      | false => rw [if_neg (by decide)]; exact Nat.zero_testBit j
    · rw [decide_eq_false (show ¬ j < m by omega), decide_eq_false (show ¬ j < m + 1 by omega)]
      have : (if K m = true then 2 ^ m else 0).testBit j = false := by
        split
        · rw [Nat.testBit_two_pow]; simp; omega
        · exact Nat.zero_testBit j
      rw [this]; rfl
theorem qd_mod_congr {K L : Nat → Bool} : ∀ m, (∀ j, j < m → K j = L j) → qd_mod K m = qd_mod L m
  | 0, _ => rfl
  | m + 1, h => by
    show qd_mod K m ||| _ = qd_mod L m ||| _
    rw [qd_mod_congr m (fun j hj => h j (by omega)), h m (by omega)]
noncomputable def qd_dc (P : Prop) : Bool := @decide P (Classical.propDecidable P)
theorem qd_dc_t {P : Prop} (h : P) : qd_dc P = true := @decide_eq_true P (Classical.propDecidable P) h
theorem qd_dc_f {P : Prop} (h : ¬ P) : qd_dc P = false := @decide_eq_false P (Classical.propDecidable P) h
def qd_num : List Bool → Nat
  | [] => 0
  | b :: r => b.toNat + 2 * qd_num r
theorem qd_num_lt : ∀ l : List Bool, qd_num l < 2 ^ l.length
  | [] => by decide
  | b :: r => by
    have h := qd_num_lt r
    show b.toNat + 2 * qd_num r < 2 ^ (r.length + 1)
    rw [Nat.pow_succ]
    cases b
    · show 0 + 2 * qd_num r < _; omega
    · show 1 + 2 * qd_num r < _; omega
theorem qd_num_inj : ∀ l m : List Bool, l.length = m.length → qd_num l = qd_num m → l = m
  | [], [], _, _ => rfl
  | [], _ :: _, h, _ => by simp at h
  | _ :: _, [], h, _ => by simp at h
  | a :: r, b :: s, h, e => by
    have e' : a.toNat + 2 * qd_num r = b.toNat + 2 * qd_num s := e
    have h' : r.length = s.length := by simpa using h
    have hab : a = b := by
      cases a <;> cases b <;> simp at e' ⊢ <;> omega
    subst hab
    rw [qd_num_inj r s h' (by omega)]
theorem qd_num_app : ∀ (l : List Bool) (b : Bool), qd_num (l ++ [b]) = qd_num l + b.toNat * 2 ^ l.length
  | [], b => by
    show b.toNat + 2 * 0 = 0 + b.toNat * 2 ^ 0
    omega
  | a :: r, b => by
    show a.toNat + 2 * qd_num (r ++ [b]) = a.toNat + 2 * qd_num r + b.toNat * 2 ^ (r.length + 1)
    rw [qd_num_app r b, Nat.pow_succ, Nat.mul_add]
    have : 2 * (b.toNat * 2 ^ r.length) = b.toNat * (2 ^ r.length * 2) := by
      rw [← Nat.mul_assoc, Nat.mul_comm 2, Nat.mul_assoc, Nat.mul_comm 2]
    omega
def qd_gl (T : Nat → Nat) (q : Nat) : List Nat := (qd_al T q).filter (qd_gen T)
def qd_gq (T : Nat → Nat) (k : Nat) : Bool := qd_iq (T k) && qd_gen T k
def qd_xq (T : Nat → Nat) (k : Nat) : Bool := qd_iq (T k) && !qd_gen T k
def qd_G (T : Nat → Nat) : Nat → Nat
  | 0 => 0
  | k + 1 => qd_G T k + (qd_gq T k).toNat
def qd_B (T : Nat → Nat) : Nat → Nat
  | 0 => 0
  | k + 1 => qd_B T k + (if qd_xq T k then 2 ^ (qd_gl T k).length else 0)
def qd_ix (T : Nat → Nat) (t : Nat → Bool) (q : Nat) : Nat := qd_B T q + qd_num ((qd_gl T q).map t)
def qd_X (T : Nat → Nat) (w : Nat) (t : Nat → Bool) (q : Nat) : Bool := if qd_gen T q then t q else w.testBit (qd_ix T t q)
section
variable {i : Nat} {T : Nat → Nat} {n : Nat}
theorem qd_G_mono {a b : Nat} (h : a ≤ b) : qd_G T a ≤ qd_G T b := by
  induction b with
  | zero => have : a = 0 := by omega
            subst this; exact Nat.le_refl _
  | succ b ih =>
    rcases Nat.lt_or_ge b a with z | z
    · have : a = b + 1 := by omega
      subst this; exact Nat.le_refl _
    · have := ih z; show _ ≤ qd_G T b + _; omega
theorem qd_B_mono {a b : Nat} (h : a ≤ b) : qd_B T a ≤ qd_B T b := by
  induction b with
  | zero => have : a = 0 := by omega
            subst this; exact Nat.le_refl _
  | succ b ih =>
    rcases Nat.lt_or_ge b a with z | z
    · have : a = b + 1 := by omega
      subst this; exact Nat.le_refl _
    · have := ih z; show _ ≤ qd_B T b + _; omega
theorem qd_G_lt {a b : Nat} (h : a < b) (ha : qd_gq T a = true) : qd_G T a < qd_G T b := by
  have h1 : qd_G T (a + 1) ≤ qd_G T b := qd_G_mono h
  have h2 : qd_G T (a + 1) = qd_G T a + 1 := by show qd_G T a + (qd_gq T a).toNat = _; rw [ha]; rfl
  omega
theorem qd_G_inj {a b : Nat} (ha : qd_gq T a = true) (hb : qd_gq T b = true) (e : qd_G T a = qd_G T b) : a = b := by
  rcases Nat.lt_trichotomy a b with z | z | z
  · have := qd_G_lt z ha; omega
  · exact z
  · have := qd_G_lt z hb; omega
theorem qd_B_lt {a b r : Nat} (h : a < b) (ha : qd_xq T a = true) (hr : r < 2 ^ (qd_gl T a).length) : qd_B T a + r < qd_B T b := by
  have h1 : qd_B T (a + 1) ≤ qd_B T b := qd_B_mono h
  have h2 : qd_B T (a + 1) = qd_B T a + 2 ^ (qd_gl T a).length := by
    show qd_B T a + (if qd_xq T a then 2 ^ (qd_gl T a).length else 0) = _
    rw [if_pos ha]
  omega
theorem qd_ix_lt {a : Nat} {t : Nat → Bool} {b : Nat} (h : a < b) (ha : qd_xq T a = true) : qd_ix T t a < qd_B T b :=
  qd_B_lt h ha (by have := qd_num_lt ((qd_gl T a).map t); rwa [List.length_map] at this)
theorem qd_ix_inj {a b : Nat} {t u : Nat → Bool} (ha : qd_xq T a = true) (hb : qd_xq T b = true) (e : qd_ix T t a = qd_ix T u b) : a = b ∧ (qd_gl T a).map t = (qd_gl T a).map u := by
  have hab : a = b := by
    rcases Nat.lt_trichotomy a b with z | z | z
    · have h1 : qd_ix T t a < qd_B T b := qd_ix_lt z ha
      have h2 : qd_B T b ≤ qd_ix T u b := Nat.le_add_right _ _
      omega
    · exact z
    · have h1 : qd_ix T u b < qd_B T a := qd_ix_lt z hb
      have h2 : qd_B T a ≤ qd_ix T t a := Nat.le_add_right _ _
      omega
  subst hab
  refine ⟨rfl, qd_num_inj _ _ (by simp) ?_⟩
  have e' : qd_B T a + qd_num ((qd_gl T a).map t) = qd_B T a + qd_num ((qd_gl T a).map u) := e
  omega
theorem qd_gl_mem {q g : Nat} (h : g ∈ qd_gl T q) : g < q ∧ qd_gq T g = true := by
  unfold qd_gl at h
  rw [List.mem_filter] at h
  have := qd_al_mem h.1
  refine ⟨this.1, ?_⟩
  unfold qd_gq
  rw [this.2.1, h.2]; rfl
/-- the functions that choose 1 wherever it serves; f bounds the depth -/
def qd_skF (i : Nat) (T : Nat → Nat) (n : Nat) : Nat → (Nat → Bool) → Nat → Bool
  | 0, _, _ => false
  | f + 1, t, q => if qd_gen T q then t q else qd_SV i T n (q + 1) (qd_up (qd_ev (qd_al T q) (qd_skF i T n f t)) (qd_al T q).length true)
def qd_sk (i : Nat) (T : Nat → Nat) (n : Nat) (t : Nat → Bool) (q : Nat) : Bool := qd_skF i T n (q + 1) t q
theorem qd_skF_eq (t : Nat → Bool) : ∀ q f, q < f → qd_skF i T n f t q = qd_sk i T n t q := by
  intro q
  induction q using Nat.strongRecOn with
  | ind q ih =>
    intro f hf
    obtain ⟨g, rfl⟩ : ∃ g, f = g + 1 := ⟨f - 1, by omega⟩
    unfold qd_sk
    show (if qd_gen T q then t q else _) = (if qd_gen T q then t q else _)
    rw [qd_ev_congr (x := qd_skF i T n g t) (y := qd_skF i T n q t) (fun p hp => by
      have hp' := (qd_al_mem hp).1
      rw [ih p hp' g (by omega), ih p hp' q hp'])]
theorem qd_sk_eq (t : Nat → Bool) (q : Nat) : qd_sk i T n t q = if qd_gen T q then t q else qd_SV i T n (q + 1) (qd_up (qd_ev (qd_al T q) (qd_sk i T n t)) (qd_al T q).length true) := by
  conv => lhs; unfold qd_sk
  show (if qd_gen T q then t q else _) = _
  rw [qd_ev_congr (x := qd_skF i T n q t) (y := qd_sk i T n t) (fun p hp => qd_skF_eq t p q (qd_al_mem hp).1)]
theorem qd_sk_dep (t u : Nat → Bool) : ∀ q, (∀ g, g ∈ qd_gl T q → t g = u g) → qd_gen T q = false → qd_sk i T n t q = qd_sk i T n u q := by
  intro q
  induction q using Nat.strongRecOn with
  | ind q ih =>
    intro h hg
    rw [qd_sk_eq t q, qd_sk_eq u q, hg]
    simp only [Bool.false_eq_true, if_false]
    rw [qd_ev_congr (x := qd_sk i T n t) (y := qd_sk i T n u)]
    intro p hp
    have hp' := qd_al_mem hp
    cases e : qd_gen T p with
    | true =>
      rw [qd_sk_eq t p, qd_sk_eq u p, e]
      exact h p (List.mem_filter.mpr ⟨hp, e⟩)
    | false =>
      refine ih p hp'.1 (fun g hg' => h g ?_) e
      unfold qd_gl at hg' ⊢
      rw [List.mem_filter] at hg' ⊢
      exact ⟨hp'.2.2 g hg'.1, hg'.2⟩
theorem qd_C_pos (C : qd_C T n) : 0 < n := by
  rcases Nat.eq_zero_or_pos n with h | h
  · subst h
    exact absurd C.2 (by show [qd_rt] ≠ []; simp)
  · exact h
theorem qd_gq_iff {k : Nat} : qd_gq T k = true ↔ qd_iq (T k) = true ∧ qd_gen T k = true := by unfold qd_gq; rw [Bool.and_eq_true]
theorem qd_xq_iff {k : Nat} : qd_xq T k = true ↔ qd_iq (T k) = true ∧ qd_gen T k = false := by unfold qd_xq; simp
/-- the main law: true exactly if some values of the functions make the matrix true for all choices of general things -/
theorem qd_main (C : qd_C T n) : qd_V i T n 0 (fun _ => false) = true ↔ ∃ w, w < 2 ^ qd_B T n ∧ ∀ th, th < 2 ^ qd_G T n → qd_MV i T n 0 (qd_X T w (fun g => th.testBit (qd_G T g))) = true := by
  have hn := qd_C_pos C
  have hV : ∀ x : Nat → Bool, qd_SV i T n 0 (qd_ev (qd_al T 0) x) = qd_V i T n 0 (fun _ => false) := by
    intro x
    show (qd_V i T n 0 (qd_ev [] x) == true) = _
    rw [qd_ev_nil]; simp
  constructor
  · intro h
    refine ⟨qd_mod (fun b => qd_dc (∃ q t, q < n ∧ qd_xq T q = true ∧ qd_ix T t q = b ∧ qd_sk i T n t q = true)) (qd_B T n), qd_mod_lt _ _, ?_⟩
    intro th hth
    generalize htt : (fun g => th.testBit (qd_G T g)) = t
    have hm : qd_MV i T n 0 (qd_sk i T n t) = true := by
      refine qd_cmp C (qd_sk i T n) (fun t q hq hi hg => ?_) 0 hn t ?_
      · rw [qd_sk_eq t q, hg]; rfl
      · rw [hV]; exact h
    refine (qd_MV_dep C 0 hn _ _ (fun q hq hi => ?_)).trans hm
    have hq' : q < n := by have := (qd_bs_en C 0 hn).2.2; omega
    unfold qd_X
    cases e : qd_gen T q with
    | true => rw [qd_sk_eq t q, e]; rfl
    | false =>
      have hx : qd_xq T q = true := qd_xq_iff.mpr ⟨hi, e⟩
      rw [if_neg (by decide), qd_mod_bit, decide_eq_true (qd_ix_lt hq' hx), Bool.true_and]
      cases es : qd_sk i T n t q with
      | true => exact qd_dc_t ⟨q, t, hq', hx, rfl, es⟩
      | false =>
        refine qd_dc_f ?_
        intro ⟨p, u, hp, hxp, he, hs⟩
        obtain ⟨h1, h2⟩ := qd_ix_inj hxp hx he
        subst h1
        have : qd_sk i T n u p = qd_sk i T n t p := qd_sk_dep u t p (fun g hg => List.map_inj_left.mp h2 g hg) e
        rw [hs, es] at this
        exact absurd this (by decide)
  · intro ⟨w, hw, h⟩
    cases e : qd_V i T n 0 (fun _ => false) with
    | true => rfl
    | false =>
      exfalso
      obtain ⟨t', _, hf⟩ := qd_snd (i := i) C (qd_X T w) (fun t g hg => by unfold qd_X; rw [if_pos hg]) (fun t t' q ht => by
        unfold qd_X qd_ix
        rw [ht q (Nat.le_refl _), List.map_congr_left (fun g hg => ht g (by have := (qd_gl_mem hg).1; omega))]) 0 hn (fun _ => false) (by rw [hV]; exact e)
      obtain ⟨m, hm, hgq⟩ : ∃ m, m < 2 ^ qd_G T n ∧ ∀ g, g < n → qd_gq T g = true → m.testBit (qd_G T g) = t' g := by
        refine ⟨qd_mod (fun b => qd_dc (∃ g, g < n ∧ qd_gq T g = true ∧ qd_G T g = b ∧ t' g = true)) (qd_G T n), qd_mod_lt _ _, ?_⟩
        intro g hg hgg
        rw [qd_mod_bit, decide_eq_true (qd_G_lt hg hgg), Bool.true_and]
        cases et : t' g with
        | true => exact qd_dc_t ⟨g, hg, hgg, rfl, et⟩
        | false =>
          refine qd_dc_f ?_
          intro ⟨p, hp, hpg, hpe, hpt⟩
          rw [qd_G_inj hpg hgg hpe, et] at hpt
          exact absurd hpt (by decide)
      have h2 := h m hm
      have h3 : qd_MV i T n 0 (qd_X T w (fun g => m.testBit (qd_G T g))) = qd_MV i T n 0 (qd_X T w t') := by
        refine qd_MV_dep C 0 hn _ _ (fun q hq hi => ?_)
        have hq' : q < n := by have := (qd_bs_en C 0 hn).2.2; omega
        unfold qd_X
        cases eg : qd_gen T q with
        | true => exact hgq q hq' (qd_gq_iff.mpr ⟨hi, eg⟩)
        | false =>
          rw [if_neg (by decide), if_neg (by decide)]
          unfold qd_ix
          rw [List.map_congr_left (fun g hg => hgq g (by have := (qd_gl_mem hg).1; omega) (qd_gl_mem hg).2)]
      rw [h3, hf] at h2
      exact absurd h2 (by decide)
end
end
section
/-! bounds on the numbers of the functions; what can hold when some bits are decided; the search's law -/
section
variable {i : Nat} {T : Nat → Nat} {n : Nat}
theorem qd_gl_len : ∀ m e, e ∈ qd_ps T m → (e.2.2.filter (qd_gen T)).length ≤ qd_G T m
  | 0, e, h => by
    have : e = qd_rt := by simpa [qd_ps] using h
    subst this; exact Nat.le_refl _
  | m + 1, e, h => by
    rw [qd_ps_s] at h
    show _ ≤ qd_G T m + _
    rcases List.mem_append.mp h with h | h
    · have h2 : ((qd_al T m).filter (qd_gen T)).length ≤ qd_G T m := by
        by_cases z : qd_ps T m = []
        · unfold qd_al qd_hd; rw [z]; exact Nat.zero_le _
        · exact qd_gl_len m _ (qd_hd_mem z)
      rw [qd_kids_al h]
      unfold qd_gq
      cases qd_iq (T m) with
      | false => simpa using h2
      | true =>
        simp only [if_true, List.filter_append, List.length_append, Bool.true_and]
        have : ([m].filter (qd_gen T)).length = (qd_gen T m).toNat := by
          cases e2 : qd_gen T m with
          | true => simp [e2]
          | false => simp [e2]
        omega
    · have := qd_gl_len m e (List.mem_of_mem_tail h); omega
theorem qd_gl_le (m : Nat) : (qd_gl T m).length ≤ qd_G T m := by
  unfold qd_gl
  by_cases z : qd_ps T m = []
  · unfold qd_al qd_hd; rw [z]; exact Nat.zero_le _
  · exact qd_gl_len m _ (qd_hd_mem z)
theorem qd_BG : ∀ m, ∃ e, qd_qc T m = qd_G T m + e ∧ qd_B T m ≤ e * 2 ^ qd_G T m
  | 0 => ⟨0, rfl, Nat.zero_le _⟩
  | m + 1 => by
    obtain ⟨e, h1, h2⟩ := qd_BG m
    show ∃ e, qd_qc T m + (qd_iq (T m)).toNat = qd_G T m + (qd_gq T m).toNat + e ∧ qd_B T m + (if qd_xq T m then 2 ^ (qd_gl T m).length else 0) ≤ e * 2 ^ (qd_G T m + (qd_gq T m).toNat)
    unfold qd_gq qd_xq
    cases qd_iq (T m) with
    | false => exact ⟨e, by simpa using h1, by simpa using h2⟩
    | true =>
      cases qd_gen T m with
      | true =>
        refine ⟨e, by simp; omega, ?_⟩
        simp only [Bool.not_true, Bool.and_false, Bool.and_true, Bool.toNat_true, Bool.false_eq_true, if_false, Nat.add_zero, Nat.pow_succ]
        have h3 : e * (2 ^ qd_G T m * 2) = e * 2 ^ qd_G T m * 2 := (Nat.mul_assoc _ _ _).symm
        omega
      | false =>
        refine ⟨e + 1, by simp; omega, ?_⟩
        simp only [Bool.not_false, Bool.and_false, Bool.and_true, Bool.toNat_false, if_true, Nat.add_zero, Nat.add_mul, Nat.one_mul]
        have : 2 ^ (qd_gl T m).length ≤ 2 ^ qd_G T m := Nat.pow_le_pow_right (by decide) (qd_gl_le m)
        omega
theorem qd_G4 {m : Nat} (h : qd_qc T m ≤ 4) : qd_G T m ≤ 4 := by
  obtain ⟨e, h1, _⟩ := qd_BG (T := T) m; omega
theorem qd_B8 {m : Nat} (h : qd_qc T m ≤ 4) : qd_B T m ≤ 8 := by
  obtain ⟨e, h1, h2⟩ := qd_BG (T := T) m
  have hg : qd_G T m ≤ 4 := by omega
  have he : e ≤ 4 - qd_G T m := by omega
  have key : ∀ g, g < 5 → (4 - g) * 2 ^ g ≤ 8 := by decide
  have h3 := key (qd_G T m) (by omega)
  have h4 : e * 2 ^ qd_G T m ≤ (4 - qd_G T m) * 2 ^ qd_G T m := Nat.mul_le_mul_right _ he
  omega
def qd_va (t : Nat) : Nat := if t < 10 then t - 6 else (t - 10) / 4
def qd_wa (t : Nat) : Nat := if t < 10 then t - 6 else (t - 10) % 4
/-- a well formed beginning of a formula -/
def qd_OK (T : Nat → Nat) (n : Nat) : Prop :=
  n ≤ 13 ∧ qd_W T n ∧ (∀ k, T k ≤ 25) ∧ qd_qc T n ≤ 4 ∧ ∀ k, k < n → 6 ≤ T k → qd_va (T k) < (qd_al T k).length ∧ qd_wa (T k) < (qd_al T k).length
def qd_A (T : Nat → Nat) (k v : Nat) : Nat := (qd_al T k).getD v 0
def qd_th (T : Nat → Nat) (th : Nat) : Nat → Bool := fun g => th.testBit (qd_G T g)
def qd_tf (T : Nat → Nat) (th w L q : Nat) : Nat :=
  if qd_gen T q then 2 ^ (th.testBit (qd_G T q)).toNat else if qd_ix T (qd_th T th) q < L then 2 ^ (w.testBit (qd_ix T (qd_th T th) q)).toNat else 3
def qd_bi (t : Nat) (x y : Bool) : Nat := if t < 10 then x.toNat else 2 + 2 * x.toNat + y.toNat
def qd_CH (T : Nat → Nat) (i th w L j : Nat) : Prop := ∃ x y : Bool,
  (qd_tf T th w L (qd_A T j (qd_va (T j)))).testBit x.toNat = true ∧ (qd_tf T th w L (qd_A T j (qd_wa (T j)))).testBit y.toNat = true ∧
  (qd_va (T j) = qd_wa (T j) → x = y) ∧ i.testBit (qd_bi (T j) x y) = qd_st T j
def qd_cs (T : Nat → Nat) (n i w L : Nat) : Prop := ∀ th, th < 2 ^ qd_G T n → ∀ c, c ∈ qd_cl T n 0 → ∃ j, c.testBit j = true ∧ qd_CH T i th w L j
theorem qd_p2 (x y : Bool) : (2 ^ x.toNat).testBit y.toNat = true ↔ y = x := by cases x <;> cases y <;> decide
theorem qd_tb3 (y : Bool) : (3 : Nat).testBit y.toNat = true := by cases y <;> decide
theorem qd_A_at {k v : Nat} (h : v < (qd_al T k).length) : (qd_al T k)[v]? = some (qd_A T k v) := by
  unfold qd_A
  rw [List.getD_eq_getElem?_getD, List.getElem?_eq_getElem h]; rfl
theorem qd_A_in {k v : Nat} (h : v < (qd_al T k).length) : qd_A T k v < k ∧ qd_iq (T (qd_A T k v)) = true ∧ qd_al T (qd_A T k v) = (qd_al T k).take v := qd_al_at (qd_A_at h)
theorem qd_ev_at {k v : Nat} (h : v < (qd_al T k).length) (x : Nat → Bool) : qd_ev (qd_al T k) x v = x (qd_A T k v) := by
  unfold qd_ev
  rw [List.getD_eq_getElem?_getD, List.getElem?_map, qd_A_at h]; rfl
theorem qd_tf_full {th w q : Nat} (hq : q < n) (hi : qd_iq (T q) = true) (x : Bool) : (qd_tf T th w (qd_B T n) q).testBit x.toNat = true ↔ x = qd_X T w (qd_th T th) q := by
  unfold qd_tf qd_X
  cases e : qd_gen T q with
  | true => rw [if_pos rfl, if_pos rfl]; exact qd_p2 _ _
  | false =>
    rw [if_neg (by decide), if_pos (qd_ix_lt hq (qd_xq_iff.mpr ⟨hi, e⟩)), if_neg (by decide)]
    exact qd_p2 _ _
theorem qd_tf_mono {th w w' L q : Nat} (hq : q < n) (hi : qd_iq (T q) = true) (h : ∀ b, b < L → w'.testBit b = w.testBit b) {x : Nat}
    (hx : x < 2) (ht : (qd_tf T th w' (qd_B T n) q).testBit x = true) : (qd_tf T th w L q).testBit x = true := by
  unfold qd_tf at ht ⊢
  cases e : qd_gen T q with
  | true => rw [e, if_pos rfl] at ht; rw [if_pos rfl]; exact ht
  | false =>
    rw [e, if_neg (by decide), if_pos (qd_ix_lt hq (qd_xq_iff.mpr ⟨hi, e⟩))] at ht
    rw [if_neg (by decide)]
    by_cases z : qd_ix T (qd_th T th) q < L
    · rw [if_pos z, ← h _ z]; exact ht
    · rw [if_neg z]
      have : x = 0 ∨ x = 1 := by omega
      rcases this with rfl | rfl <;> decide
theorem qd_CH_full (O : qd_OK T n) {th w j : Nat} (hj : j < n) (h6 : 6 ≤ T j) : qd_CH T i th w (qd_B T n) j ↔ qd_SV i T n j (qd_ev (qd_al T j) (qd_X T w (qd_th T th))) = true := by
  obtain ⟨hv, hw⟩ := O.2.2.2.2 j hj h6
  have av := qd_A_in hv
  have aw := qd_A_in hw
  rw [qd_SV_a hj h6]
  have hat : qd_at i (T j) (qd_ev (qd_al T j) (qd_X T w (qd_th T th))) = i.testBit (qd_bi (T j) (qd_X T w (qd_th T th) (qd_A T j (qd_va (T j)))) (qd_X T w (qd_th T th) (qd_A T j (qd_wa (T j))))) := by
    rw [← qd_ev_at hv (qd_X T w (qd_th T th)), ← qd_ev_at hw (qd_X T w (qd_th T th))]
    unfold qd_at qd_bi qd_va qd_wa
    by_cases z : T j < 10
    · simp only [if_pos z]
    · simp only [if_neg z]
  rw [hat]
  constructor
  · intro ⟨x, y, h1, h2, _, h4⟩
    rw [qd_tf_full (by omega) av.2.1] at h1
    rw [qd_tf_full (by omega) aw.2.1] at h2
    rw [← h1, ← h2, h4]; simp
  · intro h
    refine ⟨_, _, (qd_tf_full (by omega) av.2.1 _).mpr rfl, (qd_tf_full (by omega) aw.2.1 _).mpr rfl, fun e => by rw [e], by simpa using h⟩
theorem qd_CH_mono (O : qd_OK T n) {th w w' L j : Nat} (hj : j < n) (h6 : 6 ≤ T j) (h : ∀ b, b < L → w'.testBit b = w.testBit b) (hc : qd_CH T i th w' (qd_B T n) j) : qd_CH T i th w L j := by
  obtain ⟨hv, hw⟩ := O.2.2.2.2 j hj h6
  have av := qd_A_in hv
  have aw := qd_A_in hw
  obtain ⟨x, y, h1, h2, h3, h4⟩ := hc
  have lt2 : ∀ b : Bool, b.toNat < 2 := by intro b; cases b <;> decide
  exact ⟨x, y, qd_tf_mono (by omega) av.2.1 h (lt2 x) h1, qd_tf_mono (by omega) aw.2.1 h (lt2 y) h2, h3, h4⟩
theorem qd_cs_mono (O : qd_OK T n) (C : qd_C T n) {w w' L : Nat} (h : ∀ b, b < L → w'.testBit b = w.testBit b) (hc : qd_cs T n i w' (qd_B T n)) : qd_cs T n i w L := by
  intro th hth c hcl
  obtain ⟨j, h1, h2⟩ := hc th hth c hcl
  have := (qd_cl_in C 0 (qd_C_pos C) c hcl).2 j h1
  exact ⟨j, h1, qd_CH_mono O this.1 this.2 h h2⟩
theorem qd_search (O : qd_OK T n) (C : qd_C T n) : qd_V i T n 0 (fun _ => false) = true ↔ ∃ w, w < 2 ^ qd_B T n ∧ qd_cs T n i w (qd_B T n) := by
  rw [qd_main C]
  have key : ∀ w th, qd_MV i T n 0 (qd_X T w (qd_th T th)) = true ↔ ∀ c, c ∈ qd_cl T n 0 → ∃ j, c.testBit j = true ∧ qd_CH T i th w (qd_B T n) j := by
    intro w th
    rw [← qd_cnf C _ 0 (qd_C_pos C)]
    constructor
    · intro h c hc
      obtain ⟨j, h1, h2⟩ := h c hc
      have := (qd_cl_in C 0 (qd_C_pos C) c hc).2 j h1
      exact ⟨j, h1, (qd_CH_full O this.1 this.2).mpr h2⟩
    · intro h c hc
      obtain ⟨j, h1, h2⟩ := h c hc
      have := (qd_cl_in C 0 (qd_C_pos C) c hc).2 j h1
      exact ⟨j, h1, (qd_CH_full O this.1 this.2).mp h2⟩
  constructor
  · intro ⟨w, hw, h⟩
    exact ⟨w, hw, fun th hth => (key w th).mp (h th hth)⟩
  · intro ⟨w, hw, h⟩
    exact ⟨w, hw, fun th hth => (key w th).mpr (h th hth)⟩
end
end
section
/-! how many clauses a part has, and how much of the store is used -/
def qd_ft (m : Nat) : Nat := [0, 1, 1, 2, 2, 3, 3, 4, 4, 6, 6, 9, 9, 12].getD m 0
def qd_gt (m : Nat) : Nat := [0, 1, 1, 4, 4, 8, 8, 13, 13, 20, 20, 30, 30, 43].getD m 0
theorem qd_tab1 : ∀ a, a < 13 → qd_ft a ≤ qd_ft (a + 1) ∧ qd_gt a ≤ qd_gt (a + 1) := by decide +kernel
theorem qd_tab2a : ∀ a, a < 12 → ∀ b, b < 12 → (1 ≤ a ∧ 1 ≤ b ∧ a + b < 13) → qd_ft a * qd_ft b ≤ qd_ft (a + b + 1) := by decide +kernel
theorem qd_tab2b : ∀ a, a < 12 → ∀ b, b < 12 → (1 ≤ a ∧ 1 ≤ b ∧ a + b < 13) → qd_ft a + qd_ft b ≤ qd_ft (a + b + 1) := by decide +kernel
theorem qd_tab2c : ∀ a, a < 12 → ∀ b, b < 12 → (1 ≤ a ∧ 1 ≤ b ∧ a + b < 13) → qd_gt a + qd_gt b + qd_ft (a + b + 1) ≤ qd_gt (a + b + 1) := by decide +kernel
theorem qd_tab2 (a : Nat) (ha : a < 12) (b : Nat) (hb : b < 12) (h1 : 1 ≤ a) (h2 : 1 ≤ b) (h3 : a + b < 13) : qd_ft a * qd_ft b ≤ qd_ft (a + b + 1) ∧ qd_ft a + qd_ft b ≤ qd_ft (a + b + 1) ∧ qd_gt a + qd_gt b + qd_ft (a + b + 1) ≤ qd_gt (a + b + 1) :=
  ⟨qd_tab2a a ha b hb ⟨h1, h2, h3⟩, qd_tab2b a ha b hb ⟨h1, h2, h3⟩, qd_tab2c a ha b hb ⟨h1, h2, h3⟩⟩
theorem qd_gt43 : ∀ a, a < 14 → qd_gt a ≤ 43 := by decide +kernel
theorem qd_fm_len {l r : List Nat} : (l.flatMap (fun a => r.map (fun b => a ||| b))).length = l.length * r.length := by
  induction l with
  | nil => simp
  | cons a l ih => rw [List.flatMap_cons, List.length_append, List.length_map, ih, List.length_cons, Nat.add_mul, Nat.one_mul, Nat.add_comm]
def qd_z (T : Nat → Nat) (n k : Nat) : Nat := qd_v 0 (fun _ => 1) (fun _ z => z) (fun k a b => a + b + (qd_cl T n k).length) T n k
def qd_to (T : Nat → Nat) (n k : Nat) : Nat := (qd_S 0 (fun _ => 1) (fun _ z => z) (fun k a b => a + b + (qd_cl T n k).length) T n k).sum
section
variable {T : Nat → Nat} {n : Nat}
theorem qd_siz (C : qd_C T n) (h13 : n ≤ 13) : ∀ k, k < n → (qd_cl T n k).length ≤ qd_ft (qd_en T n k - k) ∧ qd_z T n k ≤ qd_gt (qd_en T n k - k) := by
  apply qd_down
  intro k hk ih
  have hen := qd_bs_en C k hk
  rcases qd_mo_le (T k) with z | z | z
  · rw [qd_cl_0 hk z, qd_en0 C hk z]
    unfold qd_z
    rw [qd_v0 hk z, show k + 1 - k = 1 by omega]
    exact ⟨(by decide : 1 ≤ qd_ft 1), (by decide : 1 ≤ qd_gt 1)⟩
  · have hn := qd_next C hk (by omega)
    have i1 := ih (k + 1) (by omega) hn
    have hen1 := qd_bs_en C (k + 1) hn
    rw [qd_en1 hk z] at i1 hen1
    rw [qd_cl_1 hk z]
    unfold qd_z at i1 ⊢
    rw [qd_v1 hk z]
    have t := qd_tab1 (qd_en T n k - (k + 1)) (by omega)
    rw [show qd_en T n k - (k + 1) + 1 = qd_en T n k - k by omega] at t
    omega
  · obtain ⟨h1, h2, h3, h4⟩ := qd_en2 C hk z
    have i1 := ih (k + 1) (by omega) h1
    have i2 := ih _ (by omega) h3
    have e1 := qd_bs_en C _ h3
    have e2 : qd_en T n (k + 1) = qd_s2 T n k := rfl
    rw [e2] at i1
    rw [h4] at i2 e1
    have t := qd_tab2 (qd_s2 T n k - (k + 1)) (by omega) (qd_en T n k - qd_s2 T n k) (by omega) (by omega) (by omega) (by omega)
    rw [show qd_s2 T n k - (k + 1) + (qd_en T n k - qd_s2 T n k) + 1 = qd_en T n k - k by omega] at t
    have hl : (qd_cl T n k).length ≤ qd_ft (qd_en T n k - k) := by
      rw [qd_cl_2 C hk z]
      split
      · rw [List.length_append]; omega
      · rw [qd_fm_len]
        exact Nat.le_trans (Nat.mul_le_mul i1.1 i2.1) t.1
    refine ⟨hl, ?_⟩
    have ez : qd_z T n k = qd_z T n (k + 1) + qd_z T n (qd_s2 T n k) + (qd_cl T n k).length := by
      unfold qd_z
      rw [qd_v2 C hk z]
    rw [ez]
    omega
theorem qd_to_n : qd_to T n n = 0 := by unfold qd_to; rw [qd_S_n]; rfl
theorem qd_to_0 {k : Nat} (hk : k < n) (z : qd_mo (T k) = 0) : qd_to T n k = qd_to T n (k + 1) + 1 := by
  unfold qd_to
  rw [qd_S_0 hk z, List.sum_cons, Nat.add_comm]
theorem qd_to_1 (C : qd_C T n) {k : Nat} (hk : k < n) (z : qd_mo (T k) = 1) : qd_to T n k = qd_to T n (k + 1) := by
  have hn := qd_next C hk (by omega)
  unfold qd_to
  rw [qd_S_1 hk z, qd_S_map (k + 1) (by omega), (qd_bs_en C (k + 1) hn).1]
  rfl
theorem qd_to_2 (C : qd_C T n) {k : Nat} (hk : k < n) (z : qd_mo (T k) = 2) : qd_to T n k = qd_to T n (k + 1) + (qd_cl T n k).length := by
  obtain ⟨h1, h2, h3, h4⟩ := qd_en2 C hk z
  unfold qd_to
  have e : qd_bs T n (k + 1) = (k + 1) :: qd_s2 T n k :: qd_bs T n (qd_en T n (qd_s2 T n k)) := by
    rw [(qd_bs_en C (k + 1) h1).1]
    congr 1
    exact (qd_bs_en C _ h3).1
  rw [qd_S_2 hk z, qd_S_map (k + 1) (by omega), e]
  simp only [List.map_cons, List.tail_cons, List.headD_cons, List.sum_cons]
  omega
theorem qd_to_mono (C : qd_C T n) : ∀ k, k ≤ n → qd_to T n k ≤ qd_to T n 0 := by
  intro k
  induction k with
  | zero => intro _; exact Nat.le_refl _
  | succ k ih =>
    intro hk
    have i1 := ih (by omega)
    rcases qd_mo_le (T k) with z | z | z
    · rw [qd_to_0 (by omega) z] at i1; omega
    · rw [qd_to_1 C (by omega) z] at i1; omega
    · rw [qd_to_2 C (by omega) z] at i1; omega
theorem qd_to43 (C : qd_C T n) (h13 : n ≤ 13) {k : Nat} (hk : k ≤ n) : qd_to T n k ≤ 43 := by
  have h1 := qd_to_mono C k hk
  have hn := qd_C_pos C
  obtain ⟨a, b, c⟩ := qd_bs_en C 0 hn
  have h2 : qd_to T n 0 = qd_z T n 0 := by
    have l := congrArg List.length (qd_bs_ps C 0 (by omega))
    rw [a] at l
    have hb : qd_bs T n (qd_en T n 0) = [] := by
      cases e : qd_bs T n (qd_en T n 0) with
      | nil => rfl
      | cons x r => rw [e] at l; simp [qd_ps] at l
    unfold qd_to
    rw [qd_S_map 0 (by omega), a, hb]
    rfl
  have h3 := (qd_siz C h13 0 hn).2
  have h4 := qd_gt43 (qd_en T n 0 - 0) (by omega)
  omega
end
end
section
/-! ints: narrow stores, single bits, booleans -/
theorem qi_b {k : Nat} (h : k < 128) : (nI k).toInt8.toInt32 = nI k := lg_i2b_small (by rw [nI_toInt (by omega)]; omega) (by rw [nI_toInt (by omega)]; omega)
theorem qi_s {k : Nat} (h : k < 32768) : (nI k).toInt16.toInt32 = nI k := lg_i2s_small (by rw [nI_toInt (by omega)]; omega) (by rw [nI_toInt (by omega)]; omega)
theorem qi_vb {k : Nat} (h : k < 128) : vp_nar .byte (nI k) = nI k := by rw [vp_nar_byte, qi_b h]
theorem qi_vbb {k : Nat} (h : k < 128) : vp_nar .byte (nI k).toInt8.toInt32 = nI k := by rw [qi_b h, qi_vb h]
theorem qi_vss {k : Nat} (h : k < 32768) : vp_nar .short (nI k).toInt16.toInt32 = nI k := by rw [qi_s h, vp_nar_short, qi_s h]
theorem qi_vz (b : Bool) : vp_nar .boolean (nI b.toNat) = nI b.toNat := by cases b <;> rfl
theorem qi_nz (b : Bool) : narrow .boolean (.int (nI b.toNat)) = .int (nI b.toNat) := by cases b <;> rfl
theorem qi_fz (b : Bool) : fits .boolean (.int (nI b.toNat)) = true := by cases b <;> rfl
theorem qi_tb (a j : Nat) : (a.testBit j).toNat = a / 2 ^ j % 2 := by
  rw [Nat.testBit_eq_decide_div_mod_eq]
  have h2 : a / 2 ^ j % 2 < 2 := Nat.mod_lt _ (by decide)
  by_cases h : a / 2 ^ j % 2 = 1
  · rw [decide_eq_true h, h]; rfl
  · rw [decide_eq_false h]; show 0 = _; omega
theorem qi_bit {a j : Nat} (ha : a < 2 ^ 31) (hj : j < 32) : (nI a >>> (nI j &&& 31)) &&& 1 = nI (a.testBit j).toNat := by
  have h2 : a / 2 ^ j ≤ a := Nat.div_le_self _ _
  rw [pk_shrN ha _ j (s_l j hj), pk_andN (m := 1) (by omega) 1 (by decide), qi_tb]
theorem qi_sh {j : Nat} (hj : j < 31) : (1 : Int32) <<< (nI j &&& 31) = nI (2 ^ j) := by
  have h : 2 ^ j < 2 ^ 31 := Nat.pow_lt_pow_right (by decide) hj
  have := pk_shlN (n := 1) (nI j &&& 31) j (s_l j (by omega)) (by omega)
  rw [Nat.one_mul] at this
  exact this
theorem qi_shb (b : Bool) {j : Nat} (hj : j < 31) : nI b.toNat <<< (nI j &&& 31) = nI (b.toNat * 2 ^ j) := by
  have h : 2 ^ j < 2 ^ 31 := Nat.pow_lt_pow_right (by decide) hj
  exact pk_shlN (n := b.toNat) (nI j &&& 31) j (s_l j (by omega)) (by cases b <;> simp <;> omega)
theorem qi_or (a b : Nat) : nI a ||| nI b = nI (a ||| b) := by
  apply Int32.toBitVec_inj.1
  show BitVec.ofNat 32 a ||| BitVec.ofNat 32 b = BitVec.ofNat 32 (a ||| b)
  apply BitVec.eq_of_getLsbD_eq
  intro i hi
  simp [hi]
theorem qi_ix (p v : Nat) : nI p * 4 + nI v = nI (p * 4 + v) := by
  show nI p * nI 4 + nI v = _
  rw [pk_mul, nI_add]
theorem qi_b0 {A B : Prop} (b : Bool) (f : b = false → A) (g : b = true → B) : (nI b.toNat = 0 → A) ∧ (¬ nI b.toNat = 0 → B) := by
  cases b with
  | false => exact ⟨fun _ => f rfl, fun h => absurd rfl h⟩
  | true => exact ⟨fun h => absurd h (by decide), fun _ => g rfl⟩
theorem qi_beq {A B : Prop} (a b : Bool) (f : a = b → A) (g : ¬ a = b → B) : (nI a.toNat = nI b.toNat → A) ∧ (¬ nI a.toNat = nI b.toNat → B) := by
  cases a <;> cases b
  · exact ⟨fun _ => f rfl, fun h => absurd rfl h⟩
  · exact ⟨fun h => absurd h (by decide), fun _ => g (by decide)⟩
  · exact ⟨fun h => absurd h (by decide), fun _ => g (by decide)⟩
  · exact ⟨fun _ => f rfl, fun h => absurd rfl h⟩
theorem qi_p13 : ∀ k, k < 14 → 2 ^ k ≤ 8192 := by decide
end
section
/-! the component reads the tokens -/
theorem qd_kd_fst (T : Nat → Nat) (m : Nat) : (qd_kd T m).map (fun e => e.1) = List.replicate (qd_mo (T m)) m := by
  apply List.eq_replicate_iff.mpr
  refine ⟨by rw [List.length_map, qd_kd_len], fun b hb => ?_⟩
  obtain ⟨e, he, rfl⟩ := List.mem_map.mp hb
  exact qd_kd_own he
/-- what token m gets of the token that it is a part of -/
theorem qd_att {T : Nat → Nat} {m : Nat} (hm : 0 < m) (h : qd_ps T m ≠ []) : qd_ow T m < m ∧
    qd_st T m = (if T (qd_ow T m) = 0 ∨ (T (qd_ow T m) = 3 ∧ m = qd_ow T m + 1) then !qd_st T (qd_ow T m) else qd_st T (qd_ow T m)) ∧
    qd_al T m = (if qd_iq (T (qd_ow T m)) then qd_al T (qd_ow T m) ++ [qd_ow T m] else qd_al T (qd_ow T m)) := by
  have hmem := qd_hd_mem h
  obtain ⟨q, rfl⟩ : ∃ q, m = q + 1 := ⟨m - 1, by omega⟩
  obtain ⟨p, hp, he, ht⟩ := qd_ent q _ hmem
  have ho : qd_ow T (q + 1) = p := qd_kd_own he
  rw [ho]
  refine ⟨hp, ?_, qd_kids_al he⟩
  show (qd_hd T (q + 1)).2.1 = _
  by_cases e : q = p
  · subst e
    cases hk : qd_kd T q with
    | nil => rw [hk] at he; exact absurd he (by simp)
    | cons a r =>
      rw [qd_hd_kd hk]
      unfold qd_kd qd_kids at hk
      split at hk
      · rename_i h0
        rw [if_pos (Or.inl h0)]
        have := (List.cons.inj hk).1
        rw [← this]
      · split at hk
        · rename_i h0 h3
          rw [if_pos (Or.inr ⟨h3, rfl⟩)]
          have := (List.cons.inj hk).1
          rw [← this]
        · rw [if_neg (by omega)]
          split at hk
          · have := (List.cons.inj hk).1
            rw [← this]
          · split at hk
            · have := (List.cons.inj hk).1
              rw [← this]
            · exact absurd hk (by simp)
  · have ht' := ht (by omega)
    generalize qd_hd T (q + 1) = x at ht'
    unfold qd_kd qd_kids at ht'
    split at ht'
    · simp at ht'
    · split at ht'
      · rw [if_neg (by omega)]
        simp at ht'
        rw [ht']
      · rw [if_neg (by omega)]
        split at ht'
        · simp at ht'
          rw [ht']
        · split at ht' <;> simp at ht'
/-- the component's unfilled places: c of them, as the list of their tokens, a token as often as it wants parts -/
def qx_St (on ow : Nat → Int32) : Nat → List Nat → Prop
  | 0, L => L = []
  | c + 1, L => ∃ p w L', on c = nI p ∧ ow c = nI w ∧ 1 ≤ w ∧ w ≤ 2 ∧ L = List.replicate w p ++ L' ∧ qx_St on ow c L'
theorem qx_St_fr {on ow on' ow' : Nat → Int32} : ∀ (c : Nat) (L : List Nat), (∀ j, j < c → on' j = on j ∧ ow' j = ow j) → qx_St on ow c L → qx_St on' ow' c L
  | 0, _, _, h => h
  | c + 1, _, hf, h => by
    obtain ⟨p, w, L', h1, h2, h3, h4, h5, h6⟩ := h
    exact ⟨p, w, L', by rw [(hf c (by omega)).1]; exact h1, by rw [(hf c (by omega)).2]; exact h2, h3, h4, h5, qx_St_fr c L' (fun j hj => hf j (by omega)) h6⟩
def qx_RI (T : Nat → Nat) (m : Nat) (se st ac ar : Nat → Int32) : Prop :=
  (∀ j, j < m → st j = nI (qd_st T j).toNat ∧ ac j = nI (qd_al T j).length ∧ ∀ v, v < (qd_al T j).length → ar (j * 4 + v) = nI (qd_A T j v)) ∧
  ∀ p, p < m → qd_sec T m p ≠ 0 → se p = nI (qd_sec T m p)
def qx_RS (T : Nat → Nat) (m c : Nat) (on ow : Nat → Int32) : Prop :=
  c ≤ m ∧ (m = 0 → c = 0) ∧ (0 < m → qx_St on ow c ((qd_ps T m).map (fun e => e.1)))
theorem qx_quant {post : Int32 → Prop} {t : Nat} (ht : t < 2 ^ 31) (h : post (nI (qd_iq t).toNat)) : wpX_quantifier post (nI t) := by
  unfold wpX_quantifier
  refine pk_eq t 4 (fun e => ?_) (fun e => pk_eq t 5 (fun e' => ?_) (fun e' => ?_))
  · subst e; exact h
  · subst e'; exact h
  · have : qd_iq t = false := by unfold qd_iq; simp [e, e']
    rw [this] at h; exact h
theorem qx_wants {post : Int32 → Prop} {t : Nat} (ht : t ≤ 25) (h : post (nI (qd_mo t))) : wpX_wants post (nI t) := by
  have k12 : (t < 1 ∨ 3 < t) → wX_wants_12 post (nI t) := by
    intro hc
    unfold wX_wants_12
    refine pk_le 6 t (fun h6 => ?_) (fun h6 => ?_)
    · rw [qd_mo0.mpr h6] at h; exact h
    · rw [qd_mo1.mpr (by omega)] at h; exact h
  unfold wpX_wants
  refine pk_lt t 1 (fun h1 => k12 (Or.inl h1)) (fun h1 => pk_lt 3 t (fun h3 => k12 (Or.inr h3)) (fun h3 => ?_))
  rw [qd_mo2.mpr (by omega)] at h; exact h
section
variable {post : SX → Prop} {T : Nat → Nat} {k p d c w : Nat} {f_size : Int32} {f_openCount : Int32} {f_generals : Int32} {f_bits : Int32} {f_storeEnd : Int32} {f_known : Int32} {f_models : Int64} {f_anyKept : Int32} {f_keptModels : Int64} {a_tokens : Nat → Int32} {a_openNode : Nat → Int32} {a_openWant : Nat → Int32} {a_parent : Nat → Int32} {a_second : Nat → Int32} {a_straight : Nat → Int32} {a_aroundCount : Nat → Int32} {a_around : Nat → Int32} {a_generalNumber : Nat → Int32} {a_bitBase : Nat → Int32} {a_store : Nat → Int32} {a_clauseFrom : Nat → Int32} {a_clauseCount : Nat → Int32}
theorem qx_at162 (hk : k < 13) (hd : d ≤ 4) (hc : c < 16) (hw1 : 1 ≤ w) (hw2 : w ≤ 2) (how : a_openWant c = nI w)
    (H : post (f_size, (if w = 1 then nI c else nI (c + 1)), f_generals, f_bits, f_storeEnd, f_known, f_models, f_anyKept, f_keptModels, a_tokens, a_openNode, (upd a_openWant c (nI (w - 1))), a_parent, a_second, a_straight, (upd a_aroundCount k (nI d)), a_around, a_generalNumber, a_bitBase, a_store, a_clauseFrom, a_clauseCount)) :
    wX_attach_162 post (nI k) (nI d) f_size (nI (c + 1)) f_generals f_bits f_storeEnd f_known f_models f_anyKept f_keptModels a_tokens a_openNode a_openWant a_parent a_second a_straight a_aroundCount a_around a_generalNumber a_bitBase a_store a_clauseFrom a_clauseCount := by
  unfold wX_attach_162
  have hi : vp_in (nI c) 16 := vp_in_nI hc (by decide)
  have e4 : nI w - 1 = nI (w - 1) := by
    obtain ⟨v, rfl⟩ : ∃ v, w = v + 1 := ⟨w - 1, by omega⟩
    exact nI_pred v
  rw [nI_pred c, nI_clamp (show c < 2 ^ 31 by omega), nI_clamp (show k < 2 ^ 31 by omega), how, e4, qi_vbb (show d < 128 by omega), qi_vbb (show w - 1 < 128 by omega)]
  refine ⟨vp_in_nI hk (by decide), nm_e ⟨hi, hi, nm_e ⟨hi, ?_⟩⟩⟩
  rw [pk_us]
  refine pk_eq (w - 1) 0 (fun h => nm_e ?_) (fun h => ?_)
  · rw [if_pos (by omega)] at H; exact H
  · rw [if_neg (by omega)] at H; exact H
theorem qx_at99 (hk : k < 13) (hp : p < k) (hT : T p ≤ 25) (ht : a_tokens p = nI (T p)) (hd : d + (qd_iq (T p)).toNat ≤ 4) (hc : c < 16) (hw1 : 1 ≤ w) (hw2 : w ≤ 2) (how : a_openWant c = nI w)
    (hq : ∀ u, u < d → vp_nar .byte (a_around (p * 4 + u)) = a_around (p * 4 + u))
    (H : ∀ ar : Nat → Int32, (∀ j, j < k * 4 → ar j = a_around j) → (∀ u, u < d → ar (k * 4 + u) = a_around (p * 4 + u)) → (qd_iq (T p) = true → ar (k * 4 + d) = nI p) →
      post (f_size, (if w = 1 then nI c else nI (c + 1)), f_generals, f_bits, f_storeEnd, f_known, f_models, f_anyKept, f_keptModels, a_tokens, a_openNode, (upd a_openWant c (nI (w - 1))), a_parent, a_second, a_straight, (upd a_aroundCount k (nI (d + (qd_iq (T p)).toNat))), ar, a_generalNumber, a_bitBase, a_store, a_clauseFrom, a_clauseCount)) :
    ∀ (m v : Nat) (ar : Nat → Int32), v + m = d → (∀ j, j < k * 4 → ar j = a_around j) → (∀ u, u < v → ar (k * 4 + u) = a_around (p * 4 + u)) →
      wX_attach_99 post (nI k) (nI p) (nI d) f_size (nI (c + 1)) f_generals f_bits f_storeEnd f_known f_models f_anyKept f_keptModels (m + 1) (nI v) a_tokens a_openNode a_openWant a_parent a_second a_straight a_aroundCount ar a_generalNumber a_bitBase a_store a_clauseFrom a_clauseCount := by
  intro m
  induction m with
  | zero =>
    intro v ar hv h1 h2
    have ev : v = d := by omega
    subst ev
    rw [wX_attach_99]
    refine pk_le v v (fun _ => ⟨vp_in_nI (by omega) (by decide), ?_⟩) (fun h => by omega)
    rw [nI_clamp (show p < 2 ^ 31 by omega), ht]
    refine qx_quant (by omega) (qi_b0 _ (fun e => ?_) (fun e => ?_))
    · rw [e] at H
      exact qx_at162 hk (by omega) hc hw1 hw2 how (H ar h1 h2 (fun z => absurd z (by decide)))
    · rw [e] at H hd
      have hd' : v + 1 ≤ 4 := hd
      rw [qi_ix, nI_clamp (show k * 4 + v < 2 ^ 31 by omega), qi_vbb (show p < 128 by omega)]
      refine ⟨vp_in_nI (by omega) (by decide), nm_e (nm_r (nI_1 v) (qx_at162 hk hd' hc hw1 hw2 how (H _ (fun j hj => ?_) (fun u hu => ?_) (fun _ => pk_us))))⟩
      · rw [pk_un (by omega)]; exact h1 j hj
      · rw [pk_un (by omega)]; exact h2 u hu
  | succ m ih =>
    intro v ar hv h1 h2
    rw [wX_attach_99]
    refine pk_le d v (fun h => by omega) (fun _ => ?_)
    rw [qi_ix, qi_ix, nI_clamp (show p * 4 + v < 2 ^ 31 by omega), nI_clamp (show k * 4 + v < 2 ^ 31 by omega)]
    refine ⟨vp_in_nI (by omega) (by decide), vp_in_nI (by omega) (by decide), nm_e (nm_r (nI_1 v) (ih (v + 1) _ (by omega) (fun j hj => ?_) (fun u hu => ?_)))⟩
    · rw [pk_un (by omega)]; exact h1 j hj
    · rcases Nat.lt_or_ge u v with z | z
      · rw [pk_un (by omega)]; exact h2 u z
      · have : u = v := by omega
        subst this
        rw [pk_us, h1 _ (by omega)]
        exact hq u (by omega)
theorem qx_at87 {sb : Bool} (hk : k < 13) (hp : p < k) (hT : T p ≤ 25) (ht : a_tokens p = nI (T p)) (hac : a_aroundCount p = nI d) (hd : d + (qd_iq (T p)).toNat ≤ 4) (hc : c < 16) (hw1 : 1 ≤ w) (hw2 : w ≤ 2) (how : a_openWant c = nI w)
    (hq : ∀ u, u < d → vp_nar .byte (a_around (p * 4 + u)) = a_around (p * 4 + u))
    (H : ∀ ar : Nat → Int32, (∀ j, j < k * 4 → ar j = a_around j) → (∀ u, u < d → ar (k * 4 + u) = a_around (p * 4 + u)) → (qd_iq (T p) = true → ar (k * 4 + d) = nI p) →
      post (f_size, (if w = 1 then nI c else nI (c + 1)), f_generals, f_bits, f_storeEnd, f_known, f_models, f_anyKept, f_keptModels, a_tokens, a_openNode, (upd a_openWant c (nI (w - 1))), a_parent, a_second, (upd a_straight k (nI sb.toNat)), (upd a_aroundCount k (nI (d + (qd_iq (T p)).toNat))), ar, a_generalNumber, a_bitBase, a_store, a_clauseFrom, a_clauseCount)) :
    wX_attach_87 post (nI k) (nI p) (nI sb.toNat) (nI k) f_size (nI (c + 1)) f_generals f_bits f_storeEnd f_known f_models f_anyKept f_keptModels a_tokens a_openNode a_openWant a_parent a_second a_straight a_aroundCount a_around a_generalNumber a_bitBase a_store a_clauseFrom a_clauseCount := by
  unfold wX_attach_87
  rw [nI_clamp (show k < 2 ^ 31 by omega), nI_clamp (show p < 2 ^ 31 by omega), qi_vz]
  refine ⟨vp_in_nI hk (by decide), nm_e ⟨vp_in_nI (by omega) (by decide), nm_r hac ⟨d + 1, ?_⟩⟩⟩
  exact qx_at99 hk hp hT ht hd hc hw1 hw2 how hq H d 0 a_around (by omega) (fun _ _ => rfl) (fun u hu => by omega)
/-- z0 : whether the part is turned -/
theorem qx_at54 {sp tu : Bool} (hk : k < 13) (hp : p < k) (hT : T p ≤ 25) (ht : a_tokens p = nI (T p)) (hst : a_straight p = nI sp.toNat) (hac : a_aroundCount p = nI d) (hd : d + (qd_iq (T p)).toNat ≤ 4) (hc : c < 16) (hw1 : 1 ≤ w) (hw2 : w ≤ 2) (how : a_openWant c = nI w)
    (hq : ∀ u, u < d → vp_nar .byte (a_around (p * 4 + u)) = a_around (p * 4 + u))
    (H : ∀ ar : Nat → Int32, (∀ j, j < k * 4 → ar j = a_around j) → (∀ u, u < d → ar (k * 4 + u) = a_around (p * 4 + u)) → (qd_iq (T p) = true → ar (k * 4 + d) = nI p) →
      post (f_size, (if w = 1 then nI c else nI (c + 1)), f_generals, f_bits, f_storeEnd, f_known, f_models, f_anyKept, f_keptModels, a_tokens, a_openNode, (upd a_openWant c (nI (w - 1))), a_parent, a_second, (upd a_straight k (nI (if tu then !sp else sp).toNat)), (upd a_aroundCount k (nI (d + (qd_iq (T p)).toNat))), ar, a_generalNumber, a_bitBase, a_store, a_clauseFrom, a_clauseCount)) :
    wX_attach_54 post (nI k) (nI p) (nI tu.toNat) f_size (nI (c + 1)) f_generals f_bits f_storeEnd f_known f_models f_anyKept f_keptModels a_tokens a_openNode a_openWant a_parent a_second a_straight a_aroundCount a_around a_generalNumber a_bitBase a_store a_clauseFrom a_clauseCount := by
  unfold wX_attach_54
  rw [nI_clamp (show p < 2 ^ 31 by omega), hst]
  refine qi_b0 tu (fun e => ⟨vp_in_nI (by omega) (by decide), ?_⟩) (fun e => ⟨vp_in_nI (by omega) (by decide), qi_b0 sp (fun e2 => ?_) (fun e2 => ?_)⟩)
  · subst e
    exact qx_at87 hk hp hT ht hac hd hc hw1 hw2 how hq H
  · subst e e2
    exact qx_at87 (sb := true) hk hp hT ht hac hd hc hw1 hw2 how hq H
  · subst e e2
    exact qx_at87 (sb := false) hk hp hT ht hac hd hc hw1 hw2 how hq H
theorem qx_at23 {sp : Bool} (hk : k < 13) (hp : p < k) (hT : T p ≤ 25) (ht : a_tokens p = nI (T p)) (hst : a_straight p = nI sp.toNat) (hac : a_aroundCount p = nI d) (hd : d + (qd_iq (T p)).toNat ≤ 4) (hc : c < 16) (hw1 : 1 ≤ w) (hw2 : w ≤ 2) (how : a_openWant c = nI w)
    (hq : ∀ u, u < d → vp_nar .byte (a_around (p * 4 + u)) = a_around (p * 4 + u))
    (H : ∀ ar : Nat → Int32, (∀ j, j < k * 4 → ar j = a_around j) → (∀ u, u < d → ar (k * 4 + u) = a_around (p * 4 + u)) → (qd_iq (T p) = true → ar (k * 4 + d) = nI p) →
      post (f_size, (if w = 1 then nI c else nI (c + 1)), f_generals, f_bits, f_storeEnd, f_known, f_models, f_anyKept, f_keptModels, a_tokens, a_openNode, (upd a_openWant c (nI (w - 1))), a_parent, a_second, (upd a_straight k (nI (if T p = 0 ∨ (T p = 3 ∧ k = p + 1) then !sp else sp).toNat)), (upd a_aroundCount k (nI (d + (qd_iq (T p)).toNat))), ar, a_generalNumber, a_bitBase, a_store, a_clauseFrom, a_clauseCount)) :
    wX_attach_23 post (nI k) (nI p) f_size (nI (c + 1)) f_generals f_bits f_storeEnd f_known f_models f_anyKept f_keptModels a_tokens a_openNode a_openWant a_parent a_second a_straight a_aroundCount a_around a_generalNumber a_bitBase a_store a_clauseFrom a_clauseCount := by
  have k49 : (T p = 0 ∨ (T p = 3 ∧ k = p + 1)) → wX_attach_49 post (nI k) (nI p) f_size (nI (c + 1)) f_generals f_bits f_storeEnd f_known f_models f_anyKept f_keptModels a_tokens a_openNode a_openWant a_parent a_second a_straight a_aroundCount a_around a_generalNumber a_bitBase a_store a_clauseFrom a_clauseCount := by
    intro h
    simp only [if_pos h] at H
    unfold wX_attach_49
    exact qx_at54 (tu := true) hk hp hT ht hst hac hd hc hw1 hw2 how hq H
  have k53 : ¬ (T p = 0 ∨ (T p = 3 ∧ k = p + 1)) → wX_attach_53 post (nI k) (nI p) f_size (nI (c + 1)) f_generals f_bits f_storeEnd f_known f_models f_anyKept f_keptModels a_tokens a_openNode a_openWant a_parent a_second a_straight a_aroundCount a_around a_generalNumber a_bitBase a_store a_clauseFrom a_clauseCount := by
    intro h
    simp only [if_neg h] at H
    unfold wX_attach_53
    exact qx_at54 (tu := false) hk hp hT ht hst hac hd hc hw1 hw2 how hq H
  unfold wX_attach_23
  rw [nI_clamp (show p < 2 ^ 31 by omega), ht, nI_1]
  have hi : vp_in (nI p) 13 := vp_in_nI (by omega) (by decide)
  refine ⟨hi, pk_eq (T p) 0 (fun e => k49 (Or.inl e)) (fun e => ⟨hi, pk_eq (T p) 3 (fun e3 => ?_) (fun e3 => k53 (by omega))⟩)⟩
  exact pk_eq k (p + 1) (fun e1 => k49 (Or.inr ⟨e3, e1⟩)) (fun e1 => k53 (by omega))
theorem qx_attach {sp : Bool} (hk : k < 13) (hp : p < k) (hT : T p ≤ 25) (ht : a_tokens p = nI (T p)) (hst : a_straight p = nI sp.toNat) (hac : a_aroundCount p = nI d) (hd : d + (qd_iq (T p)).toNat ≤ 4) (hc : c < 16) (hw1 : 1 ≤ w) (hw2 : w ≤ 2) (how : a_openWant c = nI w)
    (hq : ∀ u, u < d → vp_nar .byte (a_around (p * 4 + u)) = a_around (p * 4 + u))
    (H : ∀ pa ar : Nat → Int32, (∀ j, j < k * 4 → ar j = a_around j) → (∀ u, u < d → ar (k * 4 + u) = a_around (p * 4 + u)) → (qd_iq (T p) = true → ar (k * 4 + d) = nI p) →
      post (f_size, (if w = 1 then nI c else nI (c + 1)), f_generals, f_bits, f_storeEnd, f_known, f_models, f_anyKept, f_keptModels, a_tokens, a_openNode, (upd a_openWant c (nI (w - 1))), pa, (if k = p + 1 then a_second else upd a_second p (nI k)), (upd a_straight k (nI (if T p = 0 ∨ (T p = 3 ∧ k = p + 1) then !sp else sp).toNat)), (upd a_aroundCount k (nI (d + (qd_iq (T p)).toNat))), ar, a_generalNumber, a_bitBase, a_store, a_clauseFrom, a_clauseCount)) :
    wpX_attach post (f_size, (nI (c + 1)), f_generals, f_bits, f_storeEnd, f_known, f_models, f_anyKept, f_keptModels, a_tokens, a_openNode, a_openWant, a_parent, a_second, a_straight, a_aroundCount, a_around, a_generalNumber, a_bitBase, a_store, a_clauseFrom, a_clauseCount) (nI k) (nI p) := by
  unfold wpX_attach
  dsimp only
  rw [nI_clamp (show p < 2 ^ 31 by omega), nI_1, qi_vbb (show k < 128 by omega)]
  refine ⟨vp_in_nI hk (by decide), nm_e (pk_eq k (p + 1) (fun e => ?_) (fun e => ⟨vp_in_nI (by omega) (by decide), nm_e ?_⟩))⟩
  · simp only [if_pos e] at H
    exact qx_at23 hk hp hT ht hst hac hd hc hw1 hw2 how hq (H _)
  · simp only [if_neg e] at H
    exact qx_at23 hk hp hT ht hst hac hd hc hw1 hw2 how hq (H _)
end
end
section
/-! the component's reading: the loop over the tokens, whether the formula is complete, what is bound -/
section
variable {post : SX → Prop} {T : Nat → Nat} {m n c : Nat} {J7 : Int32 → Int32 → Int32 → Int32 → Int32 → Int32 → Int32 → Int64 → Int32 → Int64 → (Nat → Int32) → (Nat → Int32) → (Nat → Int32) → (Nat → Int32) → (Nat → Int32) → (Nat → Int32) → (Nat → Int32) → (Nat → Int32) → (Nat → Int32) → (Nat → Int32) → (Nat → Int32) → (Nat → Int32) → (Nat → Int32) → Prop} {f_size : Int32} {f_openCount : Int32} {f_generals : Int32} {f_bits : Int32} {f_storeEnd : Int32} {f_known : Int32} {f_models : Int64} {f_anyKept : Int32} {f_keptModels : Int64} {a_tokens : Nat → Int32} {a_openNode : Nat → Int32} {a_openWant : Nat → Int32} {a_parent : Nat → Int32} {a_second : Nat → Int32} {a_straight : Nat → Int32} {a_aroundCount : Nat → Int32} {a_around : Nat → Int32} {a_generalNumber : Nat → Int32} {a_bitBase : Nat → Int32} {a_store : Nat → Int32} {a_clauseFrom : Nat → Int32} {a_clauseCount : Nat → Int32}
theorem qx_rd66 (hm : m < 13) (ht : a_tokens m = nI (T m)) (h25 : T m ≤ 25) (hcm : c ≤ m)
    (hS : qx_St a_openNode a_openWant c ((qd_ps T m).tail.map (fun e => e.1)))
    (H : ∀ (c' : Nat) (on ow : Nat → Int32), qx_RS T (m + 1) c' on ow → J7 (nI (m + 1)) f_size (nI c') f_generals f_bits f_storeEnd f_known f_models f_anyKept f_keptModels a_tokens on ow a_parent a_second a_straight a_aroundCount a_around a_generalNumber a_bitBase a_store a_clauseFrom a_clauseCount) :
    wX_read_66 post J7 (nI m) f_size (nI c) f_generals f_bits f_storeEnd f_known f_models f_anyKept f_keptModels a_tokens a_openNode a_openWant a_parent a_second a_straight a_aroundCount a_around a_generalNumber a_bitBase a_store a_clauseFrom a_clauseCount := by
  unfold wX_read_66
  have e1 : (qd_ps T (m + 1)).map (fun e => e.1) = List.replicate (qd_mo (T m)) m ++ (qd_ps T m).tail.map (fun e => e.1) := by
    rw [qd_ps_s, List.map_append, qd_kd_fst]
  rw [nI_clamp (show m < 2 ^ 31 by omega), nI_clamp (show c < 2 ^ 31 by omega), ht]
  have hmo := qd_mo_le (T m)
  have hi : vp_in (nI c) 16 := vp_in_nI (by omega) (by decide)
  refine ⟨vp_in_nI hm (by decide), qx_wants h25 (pk_le (qd_mo (T m)) 0 (fun h => nm_r (nI_1 m) (H c _ _ ⟨by omega, fun z => by omega, fun _ => ?_⟩)) (fun h => ⟨hi, nm_r (by rw [qi_vbb (show m < 128 by omega)]) ⟨hi, nm_r (by rw [qi_vbb (show qd_mo (T m) < 128 by omega)]) (nm_r (nI_1 c) (nm_r (nI_1 m) (H (c + 1) _ _ ⟨by omega, fun z => by omega, fun _ => ?_⟩)))⟩⟩))⟩
  · rw [e1, show qd_mo (T m) = 0 by omega]; exact hS
  · rw [e1]
    refine ⟨m, qd_mo (T m), _, pk_us, pk_us, by omega, by omega, rfl, ?_⟩
    exact qx_St_fr c _ (fun j hj => ⟨pk_un (by omega), pk_un (by omega)⟩) hS
theorem qx_rd7 (O : qd_OK T n) (ht : ∀ j, a_tokens j = nI (T j))
    (H : ∀ (c : Nat) (on ow pa se st ac ar : Nat → Int32), qx_RS T n c on ow → qx_RI T n se st ac ar →
      post ((nI n), (nI c), f_generals, f_bits, f_storeEnd, f_known, f_models, f_anyKept, f_keptModels, a_tokens, on, ow, pa, se, st, ac, ar, a_generalNumber, a_bitBase, a_store, a_clauseFrom, a_clauseCount)) :
    ∀ (d m c : Nat) (on ow pa se st ac ar : Nat → Int32), m + d = n → qx_RS T m c on ow → qx_RI T m se st ac ar →
      wX_read_7 post (d + 1) (nI m) (nI n) (nI c) f_generals f_bits f_storeEnd f_known f_models f_anyKept f_keptModels a_tokens on ow pa se st ac ar a_generalNumber a_bitBase a_store a_clauseFrom a_clauseCount := by
  obtain ⟨o1, o2, o3, o4, o5⟩ := O
  intro d
  induction d with
  | zero =>
    intro m c on ow pa se st ac ar hmn hS hI
    have e : m = n := by omega
    subst e
    rw [wX_read_7]
    exact pk_le m m (fun _ => H _ _ _ _ _ _ _ _ hS hI) (fun h => by omega)
  | succ d ih =>
    intro m c on ow pa se st ac ar hmn hS hI
    have hm : m < n := by omega
    have hW := o2 m hm
    have hi : vp_in (nI m) 13 := vp_in_nI (by omega) (by decide)
    rw [wX_read_7]
    refine pk_le n m (fun h => by omega) (fun _ => ⟨hi, nm_e ⟨hi, nm_e ⟨hi, nm_e ⟨hi, nm_e ?_⟩⟩⟩⟩)
    rw [nI_clamp (show m < 2 ^ 31 by omega)]
    rcases Nat.eq_zero_or_pos m with z | z
    · subst z
      have hc0 : c = 0 := hS.2.1 rfl
      subst hc0
      refine pk_le 0 0 (fun _ => ?_) (fun h => by omega)
      refine qx_rd66 (by omega) (ht 0) (o3 0) (Nat.le_refl _) rfl (fun c' on' ow' hS' => ih 1 c' on' ow' _ _ _ _ _ (by omega) hS' ⟨fun j hj => ?_, fun p hp hs => ?_⟩)
      · have : j = 0 := by omega
        subst this
        refine ⟨?_, ?_, fun v hv => ?_⟩
        · rw [pk_us]
          have e0 : qd_st T 0 = true := rfl
          rw [e0]; exact qi_vz true
        · rw [pk_us]; rfl
        · exact absurd hv (by show ¬ v < ([] : List Nat).length; simp)
      · exfalso
        apply hs
        have hp0 : p = 0 := by omega
        subst hp0
        show (if qd_ow T 0 = 0 ∧ 0 ≠ 0 + 1 then 0 else 0) = 0
        split <;> rfl
    · obtain ⟨ha1, ha2, ha3⟩ := qd_att z hW
      have hS3 := hS.2.2 z
      obtain ⟨c0, rfl⟩ : ∃ c0, c = c0 + 1 := by
        cases c with
        | zero =>
          exfalso
          have h0 : (qd_ps T m).map (fun e => e.1) = [] := hS3
          exact hW (List.map_eq_nil_iff.mp h0)
        | succ c0 => exact ⟨c0, rfl⟩
      obtain ⟨p, w, L', hon, how, hw1, hw2, hL, hS4⟩ := hS3
      have hcm := hS.1
      have hpw : p = qd_ow T m := by
        rw [qd_ps_cons hW, List.map_cons] at hL
        obtain ⟨w', rfl⟩ : ∃ w', w = w' + 1 := ⟨w - 1, by omega⟩
        rw [List.replicate_succ, List.cons_append] at hL
        exact (List.cons.inj hL).1.symm
      have hLt : (qd_ps T m).tail.map (fun e => e.1) = List.replicate (w - 1) p ++ L' := by
        rw [List.map_tail, hL]
        obtain ⟨w', rfl⟩ : ∃ w', w = w' + 1 := ⟨w - 1, by omega⟩
        rw [List.replicate_succ, List.cons_append, List.tail_cons, Nat.add_sub_cancel]
      rw [← hpw] at ha1 ha2 ha3
      obtain ⟨hIp1, hIp2, hIp3⟩ := hI.1 p ha1
      have hlen : (qd_al T m).length = (qd_al T p).length + (qd_iq (T p)).toNat := by
        rw [ha3]
        cases qd_iq (T p) <;> simp
      have hlen4 : (qd_al T m).length ≤ 4 := by
        have h1 := qd_al_le T m
        have h2 := qd_qc_mono T (show m ≤ n by omega)
        omega
      refine pk_le (c0 + 1) 0 (fun h => by omega) (fun _ => ?_)
      rw [nI_pred c0, nI_clamp (show c0 < 2 ^ 31 by omega), hon]
      refine ⟨vp_in_nI (by omega) (by decide), ?_⟩
      refine qx_attach (T := T) (sp := qd_st T p) (d := (qd_al T p).length) (w := w) (by omega) ha1 (o3 p) (ht p) ?_ ?_ (by omega) (by omega) hw1 hw2 how ?_ ?_
      · rw [pk_un (by omega)]; exact hIp1
      · rw [pk_un (by omega)]; exact hIp2
      · intro u hu
        rw [hIp3 u hu]
        exact qi_vb (by have := (qd_A_in hu).1; omega)
      · intro pa' ar' g1 g2 g3
        dsimp only
        have hRI : qx_RI T (m + 1) (if m = p + 1 then upd se m (vp_nar .byte (-1)) else upd (upd se m (vp_nar .byte (-1))) p (nI m)) (upd (upd st m (vp_nar .boolean 1)) m (nI (if T p = 0 ∨ (T p = 3 ∧ m = p + 1) then !qd_st T p else qd_st T p).toNat)) (upd (upd ac m (vp_nar .byte 0)) m (nI ((qd_al T p).length + (qd_iq (T p)).toNat))) ar' := by
          refine ⟨fun j hj => ?_, fun q hq hs => ?_⟩
          · rcases Nat.lt_or_ge j m with y | y
            · obtain ⟨b1, b2, b3⟩ := hI.1 j y
              refine ⟨?_, ?_, fun v hv => ?_⟩
              · rw [pk_un (by omega), pk_un (by omega)]; exact b1
              · rw [pk_un (by omega), pk_un (by omega)]; exact b2
              · have hl4 : (qd_al T j).length ≤ 4 := by
                  have h1 := qd_al_le T j
                  have h2 := qd_qc_mono T (show j ≤ n by omega)
                  omega
                rw [g1 _ (by omega)]; exact b3 v hv
            · have : j = m := by omega
              subst this
              refine ⟨?_, ?_, fun v hv => ?_⟩
              · rw [pk_us, ha2]
              · rw [pk_us, hlen]
              · rcases Nat.lt_or_ge v (qd_al T p).length with x | x
                · rw [g2 v x, hIp3 v x]
                  congr 1
                  unfold qd_A
                  rw [ha3]
                  split
                  · rw [List.getD_eq_getElem?_getD, List.getD_eq_getElem?_getD, List.getElem?_append_left x]
                  · rfl
                · have hiq : qd_iq (T p) = true := by
                    cases e : qd_iq (T p) with
                    | true => rfl
                    | false => rw [hlen, e] at hv; exact absurd hv (by show ¬ v < (qd_al T p).length + 0; omega)
                  have hv' : v = (qd_al T p).length := by rw [hlen, hiq] at hv; have hv2 : v < (qd_al T p).length + 1 := hv; omega
                  subst hv'
                  rw [g3 hiq]
                  congr 1
                  unfold qd_A
                  rw [ha3, hiq, if_pos rfl, List.getD_eq_getElem?_getD, List.getElem?_append_right (Nat.le_refl _), Nat.sub_self]
                  rfl
          · have hsec : qd_sec T (m + 1) q = if qd_ow T m = q ∧ m ≠ q + 1 then m else qd_sec T m q := rfl
            rw [← hpw] at hsec
            by_cases hc : p = q ∧ m ≠ q + 1
            · obtain ⟨rfl, hc2⟩ := hc
              rw [if_pos (show p = p ∧ m ≠ p + 1 from ⟨rfl, hc2⟩)] at hsec
              rw [hsec, if_neg hc2, pk_us]
            · rw [if_neg hc] at hsec
              rw [hsec] at hs ⊢
              have hqm : q < m := by
                rcases Nat.lt_or_ge q m with y | y
                · exact y
                · exfalso
                  have eq : q = m := by omega
                  subst eq
                  apply hs
                  have key : ∀ a, a ≤ q → qd_sec T a q = 0 := by
                    intro a
                    induction a with
                    | zero => intro _; rfl
                    | succ a iha =>
                      intro haq
                      show (if qd_ow T a = q ∧ a ≠ q + 1 then a else qd_sec T a q) = 0
                      rw [if_neg, iha (by omega)]
                      intro ⟨hoa, _⟩
                      rcases Nat.eq_zero_or_pos a with x | x
                      · subst x
                        have : (13 : Nat) = q := hoa
                        omega
                      · have := (qd_att x (o2 a (by omega))).1
                        omega
                  exact key q (Nat.le_refl _)
              split
              · rw [pk_un (by omega)]; exact hI.2 q hqm hs
              · rename_i hmp
                rw [pk_un (fun e => hc ⟨e.symm, by omega⟩), pk_un (by omega)]; exact hI.2 q hqm hs
        by_cases hw : w = 1
        · subst hw
          rw [if_pos rfl]
          refine qx_rd66 (by omega) (ht m) (o3 m) (by omega) ?_ (fun c' on' ow' hS' => ih (m + 1) c' on' ow' _ _ _ _ _ (by omega) hS' hRI)
          rw [hLt]
          exact qx_St_fr c0 _ (fun j hj => ⟨rfl, pk_un (by omega)⟩) hS4
        · rw [if_neg hw]
          have hw' : w = 2 := by omega
          subst hw'
          refine qx_rd66 (by omega) (ht m) (o3 m) (by omega) ?_ (fun c' on' ow' hS' => ih (m + 1) c' on' ow' _ _ _ _ _ (by omega) hS' hRI)
          rw [hLt]
          exact ⟨p, 1, L', hon, pk_us, by omega, by omega, rfl, qx_St_fr c0 _ (fun j hj => ⟨rfl, pk_un (by omega)⟩) hS4⟩
theorem qx_read (O : qd_OK T n) (ht : ∀ j, a_tokens j = nI (T j))
    (H : ∀ (c : Nat) (on ow pa se st ac ar : Nat → Int32), qx_RS T n c on ow → qx_RI T n se st ac ar →
      post ((nI n), (nI c), f_generals, f_bits, f_storeEnd, f_known, f_models, f_anyKept, f_keptModels, a_tokens, on, ow, pa, se, st, ac, ar, a_generalNumber, a_bitBase, a_store, a_clauseFrom, a_clauseCount)) :
    wpX_read post ((nI n), f_openCount, f_generals, f_bits, f_storeEnd, f_known, f_models, f_anyKept, f_keptModels, a_tokens, a_openNode, a_openWant, a_parent, a_second, a_straight, a_aroundCount, a_around, a_generalNumber, a_bitBase, a_store, a_clauseFrom, a_clauseCount) := by
  unfold wpX_read
  dsimp only
  refine ⟨n + 1, ?_⟩
  exact qx_rd7 O ht H n 0 0 _ _ _ _ _ _ _ (by omega) ⟨Nat.le_refl _, fun _ => rfl, fun h => absurd h (by omega)⟩ ⟨fun j hj => by omega, fun p hp => by omega⟩
end
/-- whether the formula is complete -/
def qd_cp (T : Nat → Nat) (n : Nat) : Bool := (qd_ps T n).isEmpty
theorem qd_cp_t {T : Nat → Nat} {n : Nat} : qd_cp T n = true ↔ qd_ps T n = [] := by unfold qd_cp; exact List.isEmpty_iff
theorem qd_cp_f {T : Nat → Nat} {n : Nat} : qd_cp T n = false ↔ qd_ps T n ≠ [] := by
  rw [← Bool.not_eq_true, qd_cp_t]
section
variable {post : Int32 → Prop} {T : Nat → Nat} {n c : Nat} {f_size : Int32} {f_openCount : Int32} {f_generals : Int32} {f_bits : Int32} {f_storeEnd : Int32} {f_known : Int32} {f_models : Int64} {f_anyKept : Int32} {f_keptModels : Int64} {a_tokens : Nat → Int32} {a_openNode : Nat → Int32} {a_openWant : Nat → Int32} {a_parent : Nat → Int32} {a_second : Nat → Int32} {a_straight : Nat → Int32} {a_aroundCount : Nat → Int32} {a_around : Nat → Int32} {a_generalNumber : Nat → Int32} {a_bitBase : Nat → Int32} {a_store : Nat → Int32} {a_clauseFrom : Nat → Int32} {a_clauseCount : Nat → Int32}
theorem qx_St_0 {on ow : Nat → Int32} {L : List Nat} : ∀ c, qx_St on ow c L → (c = 0 ↔ L = [])
  | 0, h => ⟨fun _ => h, fun _ => rfl⟩
  | c + 1, h => by
    obtain ⟨p, w, L', _, _, h1, _, h2, _⟩ := h
    refine ⟨fun z => by omega, fun z => ?_⟩
    rw [z] at h2
    have := congrArg List.length h2
    simp at this
    omega
theorem qx_RS_0 {on ow : Nat → Int32} (h : qx_RS T n c on ow) : (0 < n ∧ c = 0) ↔ qd_ps T n = [] := by
  rcases Nat.eq_zero_or_pos n with z | z
  · subst z
    refine ⟨fun h => by omega, fun h => absurd h (by show [qd_rt] ≠ []; simp)⟩
  · have := qx_St_0 c (h.2.2 z)
    rw [List.map_eq_nil_iff] at this
    refine ⟨fun h => this.mp h.2, fun h => ⟨z, this.mpr h⟩⟩
theorem qx_finished (h13 : n ≤ 13) (hS : qx_RS T n c a_openNode a_openWant) (H : post (nI (qd_cp T n).toNat)) : wpX_finished post ((nI n), (nI c), f_generals, f_bits, f_storeEnd, f_known, f_models, f_anyKept, f_keptModels, a_tokens, a_openNode, a_openWant, a_parent, a_second, a_straight, a_aroundCount, a_around, a_generalNumber, a_bitBase, a_store, a_clauseFrom, a_clauseCount) := by
  unfold wpX_finished
  dsimp only
  have hc := hS.1
  have h0 := qx_RS_0 hS
  refine pk_le n 0 (fun h => ?_) (fun h => pk_eq c 0 (fun h2 => ?_) (fun h2 => ?_))
  · rw [qd_cp_f.mpr (fun z => by have := h0.mpr z; omega)] at H; exact H
  · rw [qd_cp_t.mpr (h0.mp ⟨h, h2⟩)] at H; exact H
  · rw [qd_cp_f.mpr (fun z => by have := h0.mpr z; omega)] at H; exact H
theorem qx_quantifiers (h13 : n ≤ 13) (h25 : ∀ k, T k ≤ 25) (ht : ∀ j, a_tokens j = nI (T j)) (H : post (nI (qd_qc T n))) : wpX_quantifiers post ((nI n), f_openCount, f_generals, f_bits, f_storeEnd, f_known, f_models, f_anyKept, f_keptModels, a_tokens, a_openNode, a_openWant, a_parent, a_second, a_straight, a_aroundCount, a_around, a_generalNumber, a_bitBase, a_store, a_clauseFrom, a_clauseCount) := by
  unfold wpX_quantifiers
  dsimp only
  have key : ∀ d m, m + d = n → wX_quantifiers_4 post (nI n) f_openCount f_generals f_bits f_storeEnd f_known f_models f_anyKept f_keptModels a_tokens a_openNode a_openWant a_parent a_second a_straight a_aroundCount a_around a_generalNumber a_bitBase a_store a_clauseFrom a_clauseCount (d + 1) (nI (qd_qc T m)) (nI m) := by
    intro d
    induction d with
    | zero =>
      intro m hm
      have e : m = n := by omega
      subst e
      rw [wX_quantifiers_4]
      exact pk_le m m (fun _ => H) (fun h => by omega)
    | succ d ih =>
      intro m hm
      rw [wX_quantifiers_4]
      refine pk_le n m (fun h => by omega) (fun _ => ⟨vp_in_nI (by omega) (by decide), ?_⟩)
      rw [nI_clamp (show m < 2 ^ 31 by omega), ht]
      have h25m := h25 m
      have hq : qd_qc T (m + 1) = qd_qc T m + (qd_iq (T m)).toNat := rfl
      have ihm := ih (m + 1) (by omega)
      refine qx_quant (by omega) (qi_b0 _ (fun e => nm_r (nI_1 m) ?_) (fun e => nm_r (nI_1 _) (nm_r (nI_1 m) ?_)))
      · rw [hq, e] at ihm; exact ihm
      · rw [hq, e] at ihm; exact ihm
  exact ⟨n + 1, key n 0 (by omega)⟩
/-- whether a token's variables are bound at a depth -/
def qd_bd (t d : Nat) : Bool := decide (t < 6) || (decide (qd_va t < d) && decide (qd_wa t < d))
theorem qx_bd46 {t d : Nat} (h25 : t ≤ 25) (hd : d ≤ 4) (H : post (nI (qd_bd t d).toNat)) : wX_bound_46 post (nI t) (nI d) f_size f_openCount f_generals f_bits f_storeEnd f_known f_models f_anyKept f_keptModels a_tokens a_openNode a_openWant a_parent a_second a_straight a_aroundCount a_around a_generalNumber a_bitBase a_store a_clauseFrom a_clauseCount := by
  unfold wX_bound_46
  have e4 : (nI t - 10) = nI t - nI 10 := rfl
  refine pk_lt t 10 (fun h10 => pk_lt t 6 (fun h6 => ?_) (fun h6 => ?_)) (fun h10 => ⟨by decide, ?_⟩)
  · have : qd_bd t d = true := by unfold qd_bd; simp [h6]
    rw [this] at H; exact H
  · have e6 : nI t - 6 = nI (t - 6) := pk_sub h6
    rw [e6]
    have hv : qd_va t = t - 6 := by unfold qd_va; rw [if_pos h10]
    have hw : qd_wa t = t - 6 := by unfold qd_wa; rw [if_pos h10]
    refine pk_le d (t - 6) (fun h => ?_) (fun h => ?_)
    · have : qd_bd t d = false := by unfold qd_bd; rw [hv, hw]; simp; omega
      rw [this] at H; exact H
    · have : qd_bd t d = true := by unfold qd_bd; rw [hv, hw]; simp; omega
      rw [this] at H; exact H
  · have e10 : nI t - 10 = nI (t - 10) := pk_sub h10
    have ed : nI (t - 10) / 4 = nI ((t - 10) / 4) := pk_div (d := 4) (by omega) (by decide) (by decide)
    have er : nI (t - 10) - nI (t - 10) / 4 * 4 = nI ((t - 10) % 4) := pk_rem (d := 4) (by omega) (by decide) (by decide)
    rw [e10, er, ed]
    have hv : qd_va t = (t - 10) / 4 := by unfold qd_va; rw [if_neg (by omega)]
    have hw : qd_wa t = (t - 10) % 4 := by unfold qd_wa; rw [if_neg (by omega)]
    refine pk_le d ((t - 10) / 4) (fun h => ?_) (fun h => ⟨by decide, pk_le d ((t - 10) % 4) (fun h2 => ?_) (fun h2 => ?_)⟩)
    · have : qd_bd t d = false := by unfold qd_bd; rw [hv, hw, decide_eq_false (show ¬ t < 6 by omega), decide_eq_false (show ¬ (t - 10) / 4 < d by omega)]; rfl
      rw [this] at H; exact H
    · have : qd_bd t d = false := by unfold qd_bd; rw [hv, hw, decide_eq_false (show ¬ t < 6 by omega), decide_eq_false (show ¬ (t - 10) % 4 < d by omega), Bool.and_false]; rfl
      rw [this] at H; exact H
    · have : qd_bd t d = true := by unfold qd_bd; rw [hv, hw, decide_eq_true h, decide_eq_true h2, Bool.and_true, Bool.or_true]
      rw [this] at H; exact H
theorem qx_bound {t : Nat} (h25t : t ≤ 25) (O : qd_OK T n) (hc : qd_ps T n ≠ []) (ht : ∀ j, a_tokens j = nI (T j)) (hS : qx_RS T n c a_openNode a_openWant) (hI : qx_RI T n a_second a_straight a_aroundCount a_around)
    (H : post (nI (qd_bd t (qd_al T n).length).toNat)) : wpX_bound post (f_size, (nI c), f_generals, f_bits, f_storeEnd, f_known, f_models, f_anyKept, f_keptModels, a_tokens, a_openNode, a_openWant, a_parent, a_second, a_straight, a_aroundCount, a_around, a_generalNumber, a_bitBase, a_store, a_clauseFrom, a_clauseCount) (nI t) := by
  obtain ⟨o1, o2, o3, o4, o5⟩ := O
  unfold wpX_bound
  dsimp only
  have hcn := hS.1
  have hl4 : (qd_al T n).length ≤ 4 := by have := qd_al_le T n; omega
  refine pk_le c 0 (fun h => ?_) (fun h => ?_)
  · have hn : n = 0 := by
      rcases Nat.eq_zero_or_pos n with z | z
      · exact z
      · exact absurd ((qx_RS_0 hS).mp ⟨z, by omega⟩) hc
    subst hn
    exact qx_bd46 (d := 0) h25t (by omega) H
  · have hn : 0 < n := by omega
    obtain ⟨c0, rfl⟩ : ∃ c0, c = c0 + 1 := ⟨c - 1, by omega⟩
    obtain ⟨p, w, L', hon, how, hw1, hw2, hL, hS4⟩ := hS.2.2 hn
    have hpw : p = qd_ow T n := by
      rw [qd_ps_cons hc, List.map_cons] at hL
      obtain ⟨w', rfl⟩ : ∃ w', w = w' + 1 := ⟨w - 1, by omega⟩
      rw [List.replicate_succ, List.cons_append] at hL
      exact (List.cons.inj hL).1.symm
    obtain ⟨ha1, ha2, ha3⟩ := qd_att hn hc
    rw [← hpw] at ha1 ha2 ha3
    have hlen : (qd_al T n).length = (qd_al T p).length + (qd_iq (T p)).toNat := by
      rw [ha3]
      cases qd_iq (T p) <;> simp
    have hip : vp_in (nI p) 13 := vp_in_nI (by omega) (by decide)
    have h25p := o3 p
    rw [nI_pred c0, nI_clamp (show c0 < 2 ^ 31 by omega), hon]
    refine ⟨vp_in_nI (by omega) (by decide), nm_e ⟨hip, hip, ?_⟩⟩
    rw [nI_clamp (show p < 2 ^ 31 by omega), ht, (hI.1 p ha1).2.1]
    refine qx_quant (by omega) (qi_b0 _ (fun e => ?_) (fun e => ?_))
    · unfold wX_bound_44
      rw [e] at hlen
      refine nm_r (e' := nI (qd_al T n).length) (by rw [hlen]; exact nI_add _ 0) (qx_bd46 h25t hl4 H)
    · unfold wX_bound_44
      rw [e] at hlen
      refine nm_r (e' := nI (qd_al T n).length) (by rw [hlen]; exact nI_add _ 1) (qx_bd46 h25t hl4 H)
end
end
section
/-! general or not; numbers and bits -/
section
variable {post : Int32 → Prop} {T : Nat → Nat} {n k : Nat} {f_size : Int32} {f_openCount : Int32} {f_generals : Int32} {f_bits : Int32} {f_storeEnd : Int32} {f_known : Int32} {f_models : Int64} {f_anyKept : Int32} {f_keptModels : Int64} {a_tokens : Nat → Int32} {a_openNode : Nat → Int32} {a_openWant : Nat → Int32} {a_parent : Nat → Int32} {a_second : Nat → Int32} {a_straight : Nat → Int32} {a_aroundCount : Nat → Int32} {a_around : Nat → Int32} {a_generalNumber : Nat → Int32} {a_bitBase : Nat → Int32} {a_store : Nat → Int32} {a_clauseFrom : Nat → Int32} {a_clauseCount : Nat → Int32}
theorem qx_general (hk : k < n) (h13 : n ≤ 13) (h25 : ∀ k, T k ≤ 25) (ht : ∀ j, a_tokens j = nI (T j)) (hI : qx_RI T n a_second a_straight a_aroundCount a_around)
    (H : post (nI (qd_gen T k).toNat)) : wpX_general post (f_size, f_openCount, f_generals, f_bits, f_storeEnd, f_known, f_models, f_anyKept, f_keptModels, a_tokens, a_openNode, a_openWant, a_parent, a_second, a_straight, a_aroundCount, a_around, a_generalNumber, a_bitBase, a_store, a_clauseFrom, a_clauseCount) (nI k) := by
  unfold wpX_general
  dsimp only
  have hi : vp_in (nI k) 13 := vp_in_nI (by omega) (by decide)
  have h25k := h25 k
  have key : ∀ b : Bool, decide (T k = 4) = b → wX_general_15 post (nI k) (nI b.toNat) f_size f_openCount f_generals f_bits f_storeEnd f_known f_models f_anyKept f_keptModels a_tokens a_openNode a_openWant a_parent a_second a_straight a_aroundCount a_around a_generalNumber a_bitBase a_store a_clauseFrom a_clauseCount := by
    intro b hb
    unfold wX_general_15
    rw [nI_clamp (show k < 2 ^ 31 by omega), (hI.1 k hk).1]
    unfold qd_gen at H
    rw [hb] at H
    refine ⟨hi, qi_beq b (qd_st T k) (fun e => ?_) (fun e => ?_)⟩
    · rw [e] at H
      have : (qd_st T k == qd_st T k) = true := by simp
      rw [this] at H; exact H
    · have : (b == qd_st T k) = false := by simpa using e
      rw [this] at H; exact H
  rw [nI_clamp (show k < 2 ^ 31 by omega), ht]
  exact ⟨hi, pk_eq (T k) 4 (fun e => key true (decide_eq_true e)) (fun e => key false (decide_eq_false e))⟩
theorem qd_take_snoc {l : List Nat} {v : Nat} (h : v < l.length) : l.take (v + 1) = l.take v ++ [l.getD v 0] := by
  rw [List.take_succ, List.getElem?_eq_getElem h, List.getD_eq_getElem?_getD, List.getElem?_eq_getElem h]; rfl
theorem qd_len4 {T : Nat → Nat} {n k : Nat} (O : qd_OK T n) (h : k ≤ n) : (qd_al T k).length ≤ 4 := by
  have h1 := qd_al_le T k
  have h2 := qd_qc_mono T h
  have h3 := O.2.2.2.1
  omega
theorem qd_len3 {T : Nat → Nat} {n k : Nat} (O : qd_OK T n) (h : k < n) (hq : qd_iq (T k) = true) : (qd_al T k).length ≤ 3 := by
  have h1 := qd_al_le T k
  have h2 := qd_qc_mono T (show k + 1 ≤ n from h)
  have h3 := O.2.2.2.1
  have h4 : qd_qc T (k + 1) = qd_qc T k + (qd_iq (T k)).toNat := rfl
  rw [hq] at h4
  have h5 : qd_qc T (k + 1) = qd_qc T k + 1 := h4
  omega
theorem qx_generalsAround (hk : k < n) (O : qd_OK T n) (ht : ∀ j, a_tokens j = nI (T j)) (hI : qx_RI T n a_second a_straight a_aroundCount a_around)
    (H : post (nI (qd_gl T k).length)) : wpX_generalsAround post (f_size, f_openCount, f_generals, f_bits, f_storeEnd, f_known, f_models, f_anyKept, f_keptModels, a_tokens, a_openNode, a_openWant, a_parent, a_second, a_straight, a_aroundCount, a_around, a_generalNumber, a_bitBase, a_store, a_clauseFrom, a_clauseCount) (nI k) := by
  unfold wpX_generalsAround
  dsimp only
  have h13 := O.1
  have h25 := O.2.2.1
  have hl4 := qd_len4 O (show k ≤ n by omega)
  obtain ⟨hI1, hI2, hI3⟩ := hI.1 k hk
  have hi : vp_in (nI k) 13 := vp_in_nI (by omega) (by decide)
  have key : ∀ d v, v + d = (qd_al T k).length → wX_generalsAround_4 post (nI k) f_size f_openCount f_generals f_bits f_storeEnd f_known f_models f_anyKept f_keptModels a_tokens a_openNode a_openWant a_parent a_second a_straight a_aroundCount a_around a_generalNumber a_bitBase a_store a_clauseFrom a_clauseCount (d + 1) (nI (((qd_al T k).take v).filter (qd_gen T)).length) (nI v) := by
    intro d
    induction d with
    | zero =>
      intro v hv
      rw [wX_generalsAround_4, nI_clamp (show k < 2 ^ 31 by omega), hI2]
      refine ⟨hi, pk_le (qd_al T k).length v (fun _ => ?_) (fun h => by omega)⟩
      rw [List.take_of_length_le (by omega)]; exact H
    | succ d ih =>
      intro v hv
      rw [wX_generalsAround_4, nI_clamp (show k < 2 ^ 31 by omega), hI2]
      refine ⟨hi, pk_le (qd_al T k).length v (fun h => by omega) (fun _ => ?_)⟩
      rw [qi_ix, nI_clamp (show k * 4 + v < 2 ^ 31 by omega), hI3 v (by omega)]
      have ihv := ih (v + 1) (by omega)
      have hA := qd_A_in (show v < (qd_al T k).length by omega)
      rw [qd_take_snoc (by omega), List.filter_append, List.length_append] at ihv
      have ed : (qd_al T k).getD v 0 = qd_A T k v := rfl
      rw [ed] at ihv
      refine ⟨vp_in_nI (by omega) (by decide), qx_general (by omega) h13 h25 ht hI (qi_b0 _ (fun e => nm_r (nI_1 v) ?_) (fun e => nm_r (nI_1 _) (nm_r (nI_1 v) ?_)))⟩
      · have : ([qd_A T k v].filter (qd_gen T)).length = 0 := by simp [e]
        rw [this] at ihv; exact ihv
      · have : ([qd_A T k v].filter (qd_gen T)).length = 1 := by simp [e]
        rw [this] at ihv; exact ihv
  exact ⟨(qd_al T k).length + 1, key (qd_al T k).length 0 (by omega)⟩
end
/-- the numbers of the first m tokens -/
def qx_NI (T : Nat → Nat) (m : Nat) (gn bb : Nat → Int32) : Prop :=
  ∀ j, j < m → (qd_gq T j = true → gn j = nI (qd_G T j)) ∧ (qd_xq T j = true → bb j = nI (qd_B T j))
section
variable {post : SX → Prop} {T : Nat → Nat} {n : Nat} {f_size : Int32} {f_openCount : Int32} {f_generals : Int32} {f_bits : Int32} {f_storeEnd : Int32} {f_known : Int32} {f_models : Int64} {f_anyKept : Int32} {f_keptModels : Int64} {a_tokens : Nat → Int32} {a_openNode : Nat → Int32} {a_openWant : Nat → Int32} {a_parent : Nat → Int32} {a_second : Nat → Int32} {a_straight : Nat → Int32} {a_aroundCount : Nat → Int32} {a_around : Nat → Int32} {a_generalNumber : Nat → Int32} {a_bitBase : Nat → Int32} {a_store : Nat → Int32} {a_clauseFrom : Nat → Int32} {a_clauseCount : Nat → Int32}
theorem qx_number (O : qd_OK T n) (ht : ∀ j, a_tokens j = nI (T j)) (hI : qx_RI T n a_second a_straight a_aroundCount a_around)
    (H : ∀ gn bb : Nat → Int32, qx_NI T n gn bb → post ((nI n), f_openCount, (nI (qd_G T n)), (nI (qd_B T n)), f_storeEnd, f_known, f_models, f_anyKept, f_keptModels, a_tokens, a_openNode, a_openWant, a_parent, a_second, a_straight, a_aroundCount, a_around, gn, bb, a_store, a_clauseFrom, a_clauseCount)) :
    wpX_number post ((nI n), f_openCount, f_generals, f_bits, f_storeEnd, f_known, f_models, f_anyKept, f_keptModels, a_tokens, a_openNode, a_openWant, a_parent, a_second, a_straight, a_aroundCount, a_around, a_generalNumber, a_bitBase, a_store, a_clauseFrom, a_clauseCount) := by
  unfold wpX_number
  dsimp only
  have h13 := O.1
  have h25 := O.2.2.1
  have key : ∀ (d m : Nat) (gn bb : Nat → Int32), m + d = n → qx_NI T m gn bb →
      wX_number_12 post (nI n) f_openCount f_storeEnd f_known f_models f_anyKept f_keptModels (d + 1) (nI m) (nI (qd_G T m)) (nI (qd_B T m)) a_tokens a_openNode a_openWant a_parent a_second a_straight a_aroundCount a_around gn bb a_store a_clauseFrom a_clauseCount := by
    intro d
    induction d with
    | zero =>
      intro m gn bb hm hN
      have e : m = n := by omega
      subst e
      rw [wX_number_12]
      exact pk_le m m (fun _ => H _ _ hN) (fun h => by omega)
    | succ d ih =>
      intro m gn bb hm hN
      have hmn : m < n := by omega
      have h25m := h25 m
      have hq4 := qd_qc_mono T (show m ≤ n by omega)
      have hG := qd_G4 (T := T) (m := m) (by have := O.2.2.2.1; omega)
      have hB := qd_B8 (T := T) (m := m) (by have := O.2.2.2.1; omega)
      have hi : vp_in (nI m) 13 := vp_in_nI (by omega) (by decide)
      have eG : qd_G T (m + 1) = qd_G T m + (qd_gq T m).toNat := rfl
      have eB : qd_B T (m + 1) = qd_B T m + (if qd_xq T m then 2 ^ (qd_gl T m).length else 0) := rfl
      have ihm := fun gn bb => ih (m + 1) gn bb (by omega)
      rw [eG, eB] at ihm
      rw [wX_number_12]
      refine pk_le n m (fun h => by omega) (fun _ => ⟨hi, ?_⟩)
      rw [nI_clamp (show m < 2 ^ 31 by omega), ht]
      refine qx_quant (by omega) (qi_b0 _ (fun e => nm_r (nI_1 m) ?_) (fun e => ?_))
      · have g1 : qd_gq T m = false := by unfold qd_gq; rw [e]; rfl
        have g2 : qd_xq T m = false := by unfold qd_xq; rw [e]; rfl
        rw [g1, g2] at ihm
        refine ihm gn bb (fun j hj => ?_)
        rcases Nat.lt_or_ge j m with y | y
        · exact hN j y
        · have : j = m := by omega
          subst this
          exact ⟨fun z => by rw [g1] at z; exact absurd z (by decide), fun z => by rw [g2] at z; exact absurd z (by decide)⟩
      · refine qx_general hmn h13 h25 ht hI (qi_b0 _ (fun eg => ⟨hi, ?_⟩) (fun eg => ⟨hi, ?_⟩))
        · have g1 : qd_gq T m = false := by unfold qd_gq; rw [eg, Bool.and_false]
          have g2 : qd_xq T m = true := qd_xq_iff.mpr ⟨e, eg⟩
          rw [g1, g2] at ihm
          have hgl : (qd_gl T m).length < 31 := by have := qd_gl_le (T := T) m; omega
          refine nm_r (by rw [qi_vbb (show qd_B T m < 128 by omega)]) (qx_generalsAround hmn O ht hI (nm_r (by rw [qi_sh hgl, nI_add]; rfl) (nm_r (nI_1 m) (ihm gn _ (fun j hj => ?_)))))
          rcases Nat.lt_or_ge j m with y | y
          · exact ⟨(hN j y).1, fun z => by rw [pk_un (by omega)]; exact (hN j y).2 z⟩
          · have : j = m := by omega
            subst this
            exact ⟨fun z => by rw [g1] at z; exact absurd z (by decide), fun z => pk_us⟩
        · have g1 : qd_gq T m = true := qd_gq_iff.mpr ⟨e, eg⟩
          have g2 : qd_xq T m = false := by unfold qd_xq; rw [eg]; simp
          rw [g1, g2] at ihm
          refine nm_r (by rw [qi_vbb (show qd_G T m < 128 by omega)]) (nm_r (nI_1 _) (nm_r (nI_1 m) (ihm _ bb (fun j hj => ?_))))
          rcases Nat.lt_or_ge j m with y | y
          · exact ⟨fun z => by rw [pk_un (by omega)]; exact (hN j y).1 z, (hN j y).2⟩
          · have : j = m := by omega
            subst this
            exact ⟨fun z => pk_us, fun z => by rw [g2] at z; exact absurd z (by decide)⟩
  exact ⟨n + 1, key n 0 _ _ (by omega) (fun j hj => by omega)⟩
end
end
section
/-! the component makes the clauses -/
def qx_at1 (sto : Nat → Int32) (f : Nat) (l : List Nat) : Prop := ∀ v, v < l.length → sto (f + v) = nI (l.getD v 0)
theorem qx_at1_nil {sto : Nat → Int32} {f : Nat} : qx_at1 sto f [] := fun v hv => absurd hv (by simp)
theorem qx_at1_fr {sto sto' : Nat → Int32} {f : Nat} {l : List Nat} (h : qx_at1 sto f l) (hf : ∀ j, j < f + l.length → sto' j = sto j) : qx_at1 sto' f l :=
  fun v hv => by rw [hf _ (by omega)]; exact h v hv
theorem qx_at1_app {sto : Nat → Int32} {f : Nat} {l r : List Nat} (h : qx_at1 sto f l) (h2 : qx_at1 sto (f + l.length) r) : qx_at1 sto f (l ++ r) := by
  intro v hv
  rw [List.length_append] at hv
  rw [List.getD_eq_getElem?_getD]
  rcases Nat.lt_or_ge v l.length with z | z
  · rw [List.getElem?_append_left z, ← List.getD_eq_getElem?_getD]; exact h v z
  · rw [List.getElem?_append_right z, ← List.getD_eq_getElem?_getD]
    have := h2 (v - l.length) (by omega)
    rw [show f + l.length + (v - l.length) = f + v by omega] at this
    exact this
theorem qx_at1_one {sto : Nat → Int32} {f a : Nat} (h : sto f = nI a) : qx_at1 sto f [a] := by
  intro v hv
  have : v = 0 := by simpa using hv
  subst this
  exact h
theorem qd_getD_mem {l : List Nat} {v : Nat} (h : v < l.length) : l.getD v 0 ∈ l := by
  rw [List.getD_eq_getElem?_getD, List.getElem?_eq_getElem h]
  exact List.getElem_mem h
theorem qd_getD_map {l : List Nat} {v : Nat} (f : Nat → Nat) (h : v < l.length) : (l.map f).getD v 0 = f (l.getD v 0) := by
  rw [List.getD_eq_getElem?_getD, List.getD_eq_getElem?_getD, List.getElem?_map, List.getElem?_eq_getElem h]; rfl
section
variable {post : SX → Prop} {T : Nat → Nat} {n k p q fp fq one E : Nat} {l r : List Nat} {f_size : Int32} {f_openCount : Int32} {f_generals : Int32} {f_bits : Int32} {f_storeEnd : Int32} {f_known : Int32} {f_models : Int64} {f_anyKept : Int32} {f_keptModels : Int64} {a_tokens : Nat → Int32} {a_openNode : Nat → Int32} {a_openWant : Nat → Int32} {a_parent : Nat → Int32} {a_second : Nat → Int32} {a_straight : Nat → Int32} {a_aroundCount : Nat → Int32} {a_around : Nat → Int32} {a_generalNumber : Nat → Int32} {a_bitBase : Nat → Int32} {a_store : Nat → Int32} {a_clauseFrom : Nat → Int32} {a_clauseCount : Nat → Int32}
theorem qx_addClause {a : Nat} (hE : E < 128) (ha : a < 32768) (H : post (f_size, f_openCount, f_generals, f_bits, (nI (E + 1)), f_known, f_models, f_anyKept, f_keptModels, a_tokens, a_openNode, a_openWant, a_parent, a_second, a_straight, a_aroundCount, a_around, a_generalNumber, a_bitBase, (upd a_store E (nI a)), a_clauseFrom, a_clauseCount)) : wpX_addClause post (f_size, f_openCount, f_generals, f_bits, (nI E), f_known, f_models, f_anyKept, f_keptModels, a_tokens, a_openNode, a_openWant, a_parent, a_second, a_straight, a_aroundCount, a_around, a_generalNumber, a_bitBase, a_store, a_clauseFrom, a_clauseCount) (nI a) := by
  unfold wpX_addClause
  dsimp only
  rw [nI_clamp (show E < 2 ^ 31 by omega), qi_vss ha]
  exact pk_le 128 E (fun h => by omega) (fun _ => ⟨vp_in_nI hE (by decide), nm_e (nm_r (nI_1 E) H)⟩)
theorem qx_jwa (hq : q < 13) (hcc : a_clauseCount q = nI r.length) (hcf : a_clauseFrom q = nI fq) (hst : qx_at1 a_store fq r) (hfq : fq + r.length ≤ E) (hE : E + r.length ≤ 127)
    (hr : ∀ b, b ∈ r → b < 8192) (ho : one < 8192)
    (H : ∀ sto : Nat → Int32, (∀ j, j < E → sto j = a_store j) → qx_at1 sto E (r.map (fun b => one ||| b)) → post (f_size, f_openCount, f_generals, f_bits, (nI (E + r.length)), f_known, f_models, f_anyKept, f_keptModels, a_tokens, a_openNode, a_openWant, a_parent, a_second, a_straight, a_aroundCount, a_around, a_generalNumber, a_bitBase, sto, a_clauseFrom, a_clauseCount)) :
    wpX_joinWithAll post (f_size, f_openCount, f_generals, f_bits, (nI E), f_known, f_models, f_anyKept, f_keptModels, a_tokens, a_openNode, a_openWant, a_parent, a_second, a_straight, a_aroundCount, a_around, a_generalNumber, a_bitBase, a_store, a_clauseFrom, a_clauseCount) (nI one) (nI q) := by
  unfold wpX_joinWithAll
  dsimp only
  have hiq : vp_in (nI q) 13 := vp_in_nI hq (by decide)
  have key : ∀ (d v : Nat) (sto : Nat → Int32), v + d = r.length → (∀ j, j < E → sto j = a_store j) → (∀ u, u < v → sto (E + u) = nI (one ||| r.getD u 0)) →
      wX_joinWithAll_2 post (nI one) (nI q) (d + 1) (nI v) f_size f_openCount f_generals f_bits (nI (E + v)) f_known f_models f_anyKept f_keptModels a_tokens a_openNode a_openWant a_parent a_second a_straight a_aroundCount a_around a_generalNumber a_bitBase sto a_clauseFrom a_clauseCount := by
    intro d
    induction d with
    | zero =>
      intro v sto hv h1 h2
      rw [wX_joinWithAll_2]; dsimp only; rw [nI_clamp (show q < 2 ^ 31 by omega), hcc]
      have ev : v = r.length := by omega
      refine ⟨hiq, pk_le r.length v (fun _ => ?_) (fun h => by omega)⟩
      subst ev
      refine H sto h1 (fun u hu => ?_)
      rw [List.length_map] at hu
      rw [qd_getD_map _ hu]
      exact h2 u hu
    | succ d ih =>
      intro v sto hv h1 h2
      rw [wX_joinWithAll_2]; dsimp only; rw [nI_clamp (show q < 2 ^ 31 by omega), hcc, hcf, nI_add, nI_clamp (show fq + v < 2 ^ 31 by omega), h1 _ (show fq + v < E by omega), hst v (by omega), qi_or]
      have hb := hr _ (qd_getD_mem (show v < r.length by omega))
      have hob : one ||| r.getD v 0 < 2 ^ 13 := Nat.or_lt_two_pow (by omega) (by omega)
      refine ⟨hiq, pk_le r.length v (fun h => by omega) (fun _ => ⟨hiq, vp_in_nI (by omega) (by decide), qx_addClause (by omega) (by omega) (nm_r (nI_1 v) (ih (v + 1) _ (by omega) (fun j hj => ?_) (fun u hu => ?_)))⟩)⟩
      · show upd _ _ _ _ = _; rw [pk_un (by omega)]; exact h1 j hj
      · rcases Nat.lt_or_ge u v with z | z
        · show upd _ _ _ _ = _; rw [pk_un (by omega)]; exact h2 u z
        · have : u = v := by omega
          subst this
          exact pk_us
  exact ⟨r.length + 1, key r.length 0 a_store (by omega) (fun _ _ => rfl) (fun u hu => by omega)⟩
theorem qx_join137 {sto : Nat → Int32} (hk : k < 13) (hE : E + l.length ≤ 127)
    (H : post (f_size, f_openCount, f_generals, f_bits, (nI (E + l.length)), f_known, f_models, f_anyKept, f_keptModels, a_tokens, a_openNode, a_openWant, a_parent, a_second, a_straight, a_aroundCount, a_around, a_generalNumber, a_bitBase, sto, (upd a_clauseFrom k (nI E)), (upd a_clauseCount k (nI l.length)))) :
    wX_join_137 post (nI k) (nI E) f_size f_openCount f_generals f_bits (nI (E + l.length)) f_known f_models f_anyKept f_keptModels a_tokens a_openNode a_openWant a_parent a_second a_straight a_aroundCount a_around a_generalNumber a_bitBase sto a_clauseFrom a_clauseCount := by
  unfold wX_join_137
  have hi : vp_in (nI k) 13 := vp_in_nI hk (by decide)
  have e : nI (E + l.length) - nI E = nI l.length := by rw [pk_sub (by omega), Nat.add_sub_cancel_left]
  rw [nI_clamp (show k < 2 ^ 31 by omega), e, qi_vbb (show E < 128 by omega), qi_vbb (show l.length < 128 by omega)]
  exact ⟨hi, nm_e ⟨hi, nm_e H⟩⟩
/-- the clauses of the second part, behind those of the first -/
theorem qx_join97 (hk : k < 13) (hq : q < 13) (hcc : a_clauseCount q = nI r.length) (hcf : a_clauseFrom q = nI fq) (hst : qx_at1 a_store fq r) (hfq : fq + r.length ≤ E) (hE : E + l.length + r.length ≤ 127)
    (hr : ∀ b, b ∈ r → b < 8192)
    (H : ∀ sto : Nat → Int32, (∀ j, j < E → sto j = a_store j) → qx_at1 sto E (l ++ r) →
      post (f_size, f_openCount, f_generals, f_bits, (nI (E + (l ++ r).length)), f_known, f_models, f_anyKept, f_keptModels, a_tokens, a_openNode, a_openWant, a_parent, a_second, a_straight, a_aroundCount, a_around, a_generalNumber, a_bitBase, sto, (upd a_clauseFrom k (nI E)), (upd a_clauseCount k (nI (l ++ r).length)))) :
    ∀ (d v : Nat) (sto : Nat → Int32), v + d = r.length → (∀ j, j < E → sto j = a_store j) → qx_at1 sto E (l ++ r.take v) →
      wX_join_97 post (nI k) (nI q) 1 (nI E) (d + 1) (nI v) f_size f_openCount f_generals f_bits (nI (E + (l ++ r.take v).length)) f_known f_models f_anyKept f_keptModels a_tokens a_openNode a_openWant a_parent a_second a_straight a_aroundCount a_around a_generalNumber a_bitBase sto a_clauseFrom a_clauseCount := by
  have hiq : vp_in (nI q) 13 := vp_in_nI hq (by decide)
  intro d
  induction d with
  | zero =>
    intro v sto hv h1 h2
    rw [wX_join_97]; dsimp only; rw [nI_clamp (show q < 2 ^ 31 by omega), hcc]
    rw [List.take_of_length_le (by omega)] at h2 ⊢
    have hE2 : E + (l ++ r).length ≤ 127 := by rw [List.length_append]; omega
    exact ⟨hiq, pk_le r.length v (fun _ => qx_join137 (l := l ++ r) hk hE2 (H sto h1 h2)) (fun h => by omega)⟩
  | succ d ih =>
    intro v sto hv h1 h2
    rw [wX_join_97]; dsimp only; rw [nI_clamp (show q < 2 ^ 31 by omega), hcc, hcf, nI_add, nI_clamp (show fq + v < 2 ^ 31 by omega), h1 _ (show fq + v < E by omega), hst v (by omega)]
    have hb := hr _ (qd_getD_mem (show v < r.length by omega))
    have hlt : (l ++ r.take v).length = l.length + v := by rw [List.length_append, List.length_take]; omega
    have hlt2 : (l ++ r.take (v + 1)).length = (l ++ r.take v).length + 1 := by rw [hlt, List.length_append, List.length_take]; omega
    have ihv := fun sto => ih (v + 1) sto (by omega)
    rw [hlt2] at ihv
    refine ⟨hiq, pk_le r.length v (fun h => by omega) (fun _ => br_f (by decide) ⟨hiq, vp_in_nI (by omega) (by decide), qx_addClause (by omega) (by omega) (nm_r (nI_1 v) (ihv _ (fun j hj => ?_) ?_))⟩)⟩
    · show upd _ _ _ _ = _; rw [pk_un (by omega)]; exact h1 j hj
    · rw [qd_take_snoc (by omega), ← List.append_assoc]
      exact qx_at1_app (qx_at1_fr h2 (fun j hj => pk_un (by omega))) (qx_at1_one pk_us)
theorem qx_join97n {sto : Nat → Int32} {z : Nat} (hk : k < 13) (hq : q < 13) (hcc : a_clauseCount q = nI z) (hz : z < 128) (hE : E + l.length ≤ 127)
    (H : post (f_size, f_openCount, f_generals, f_bits, (nI (E + l.length)), f_known, f_models, f_anyKept, f_keptModels, a_tokens, a_openNode, a_openWant, a_parent, a_second, a_straight, a_aroundCount, a_around, a_generalNumber, a_bitBase, sto, (upd a_clauseFrom k (nI E)), (upd a_clauseCount k (nI l.length)))) :
    wX_join_97 post (nI k) (nI q) 0 (nI E) 1 (nI 0) f_size f_openCount f_generals f_bits (nI (E + l.length)) f_known f_models f_anyKept f_keptModels a_tokens a_openNode a_openWant a_parent a_second a_straight a_aroundCount a_around a_generalNumber a_bitBase sto a_clauseFrom a_clauseCount := by
  rw [wX_join_97]; dsimp only; rw [nI_clamp (show q < 2 ^ 31 by omega), hcc]
  exact ⟨vp_in_nI hq (by decide), pk_le z 0 (fun _ => qx_join137 hk hE H) (fun _ => br_t rfl (qx_join137 hk hE H))⟩
/-- both: the first part's clauses as they are -/
theorem qx_join40b (hk : k < 13) (hp : p < 13) (hq : q < 13) (hccp : a_clauseCount p = nI l.length) (hcfp : a_clauseFrom p = nI fp) (hstp : qx_at1 a_store fp l) (hfp : fp + l.length ≤ E)
    (hcc : a_clauseCount q = nI r.length) (hcf : a_clauseFrom q = nI fq) (hst : qx_at1 a_store fq r) (hfq : fq + r.length ≤ E) (hE : E + l.length + r.length ≤ 127)
    (hl : ∀ b, b ∈ l → b < 8192) (hr : ∀ b, b ∈ r → b < 8192)
    (H : ∀ sto : Nat → Int32, (∀ j, j < E → sto j = a_store j) → qx_at1 sto E (l ++ r) →
      post (f_size, f_openCount, f_generals, f_bits, (nI (E + (l ++ r).length)), f_known, f_models, f_anyKept, f_keptModels, a_tokens, a_openNode, a_openWant, a_parent, a_second, a_straight, a_aroundCount, a_around, a_generalNumber, a_bitBase, sto, (upd a_clauseFrom k (nI E)), (upd a_clauseCount k (nI (l ++ r).length)))) :
    ∀ (d v : Nat) (sto : Nat → Int32), v + d = l.length → (∀ j, j < E → sto j = a_store j) → qx_at1 sto E (l.take v) →
      wX_join_40 post (nI k) (nI p) (nI q) 1 (nI E) (d + 1) (nI v) f_size f_openCount f_generals f_bits (nI (E + (l.take v).length)) f_known f_models f_anyKept f_keptModels a_tokens a_openNode a_openWant a_parent a_second a_straight a_aroundCount a_around a_generalNumber a_bitBase sto a_clauseFrom a_clauseCount := by
  have hip : vp_in (nI p) 13 := vp_in_nI hp (by decide)
  intro d
  induction d with
  | zero =>
    intro v sto hv h1 h2
    rw [wX_join_40]; dsimp only; rw [nI_clamp (show p < 2 ^ 31 by omega), hccp]
    rw [List.take_of_length_le (by omega)] at h2 ⊢
    refine ⟨hip, pk_le l.length v (fun _ => ⟨r.length + 1, ?_⟩) (fun h => by omega)⟩
    have hst' : qx_at1 sto fq r := qx_at1_fr hst (fun j hj => h1 j (by omega))
    have := qx_join97 (a_store := sto) (l := l) hk hq hcc hcf hst' hfq hE hr (post := post) (fun s g1 g2 => H s (fun j hj => (g1 j hj).trans (h1 j hj)) g2) r.length 0 sto (by omega) (fun _ _ => rfl) (by rw [List.take_zero, List.append_nil]; exact h2)
    rw [List.take_zero, List.append_nil] at this
    exact this
  | succ d ih =>
    intro v sto hv h1 h2
    rw [wX_join_40]; dsimp only; rw [nI_clamp (show p < 2 ^ 31 by omega), hccp, hcfp, nI_add, nI_clamp (show fp + v < 2 ^ 31 by omega), h1 _ (show fp + v < E by omega), hstp v (by omega)]
    have hb := hl _ (qd_getD_mem (show v < l.length by omega))
    have hlt : (l.take v).length = v := by rw [List.length_take]; omega
    have hlt2 : (l.take (v + 1)).length = (l.take v).length + 1 := by rw [hlt, List.length_take]; omega
    have ihv := fun sto => ih (v + 1) sto (by omega)
    rw [hlt2] at ihv
    refine ⟨hip, pk_le l.length v (fun h => by omega) (fun _ => ⟨hip, vp_in_nI (by omega) (by decide), nm_e (br_f (by decide) (qx_addClause (by omega) (by omega) (nm_r (nI_1 v) (ihv _ (fun j hj => ?_) ?_))))⟩)⟩
    · show upd _ _ _ _ = _; rw [pk_un (by omega)]; exact h1 j hj
    · rw [qd_take_snoc (by omega)]
      exact qx_at1_app (qx_at1_fr h2 (fun j hj => pk_un (by omega))) (qx_at1_one pk_us)
theorem qd_fm_snoc (l : List Nat) (a : Nat) (r : List Nat) : (l ++ [a]).flatMap (fun a => r.map (fun b => a ||| b)) = l.flatMap (fun a => r.map (fun b => a ||| b)) ++ r.map (fun b => a ||| b) := by
  rw [List.flatMap_append]; simp
/-- not both: every one of the first joined with every one of the second -/
theorem qx_join40n (hk : k < 13) (hp : p < 13) (hq : q < 13) (hccp : a_clauseCount p = nI l.length) (hcfp : a_clauseFrom p = nI fp) (hstp : qx_at1 a_store fp l) (hfp : fp + l.length ≤ E)
    (hcc : a_clauseCount q = nI r.length) (hcf : a_clauseFrom q = nI fq) (hst : qx_at1 a_store fq r) (hfq : fq + r.length ≤ E) (hE : E + l.length * r.length ≤ 127)
    (hl : ∀ b, b ∈ l → b < 8192) (hr : ∀ b, b ∈ r → b < 8192)
    (H : ∀ sto : Nat → Int32, (∀ j, j < E → sto j = a_store j) → qx_at1 sto E (l.flatMap (fun a => r.map (fun b => a ||| b))) →
      post (f_size, f_openCount, f_generals, f_bits, (nI (E + (l.flatMap (fun a => r.map (fun b => a ||| b))).length)), f_known, f_models, f_anyKept, f_keptModels, a_tokens, a_openNode, a_openWant, a_parent, a_second, a_straight, a_aroundCount, a_around, a_generalNumber, a_bitBase, sto, (upd a_clauseFrom k (nI E)), (upd a_clauseCount k (nI (l.flatMap (fun a => r.map (fun b => a ||| b))).length)))) :
    ∀ (d v : Nat) (sto : Nat → Int32), v + d = l.length → (∀ j, j < E → sto j = a_store j) → qx_at1 sto E ((l.take v).flatMap (fun a => r.map (fun b => a ||| b))) →
      wX_join_40 post (nI k) (nI p) (nI q) 0 (nI E) (d + 1) (nI v) f_size f_openCount f_generals f_bits (nI (E + ((l.take v).flatMap (fun a => r.map (fun b => a ||| b))).length)) f_known f_models f_anyKept f_keptModels a_tokens a_openNode a_openWant a_parent a_second a_straight a_aroundCount a_around a_generalNumber a_bitBase sto a_clauseFrom a_clauseCount := by
  have hip : vp_in (nI p) 13 := vp_in_nI hp (by decide)
  intro d
  induction d with
  | zero =>
    intro v sto hv h1 h2
    rw [wX_join_40]; dsimp only; rw [nI_clamp (show p < 2 ^ 31 by omega), hccp]
    rw [List.take_of_length_le (by omega)] at h2 ⊢
    refine ⟨hip, pk_le l.length v (fun _ => ⟨1, ?_⟩) (fun h => by omega)⟩
    exact qx_join97n hk hq hcc (by omega) (by rw [qd_fm_len]; exact hE) (H sto h1 h2)
  | succ d ih =>
    intro v sto hv h1 h2
    rw [wX_join_40]; dsimp only; rw [nI_clamp (show p < 2 ^ 31 by omega), hccp, hcfp, nI_add, nI_clamp (show fp + v < 2 ^ 31 by omega), h1 _ (show fp + v < E by omega), hstp v (by omega)]
    have hb := hl _ (qd_getD_mem (show v < l.length by omega))
    have hlv : (l.take v).length = v := by rw [List.length_take]; omega
    have hlt : ((l.take v).flatMap (fun a => r.map (fun b => a ||| b))).length = v * r.length := by rw [qd_fm_len, hlv]
    have hm : (v + 1) * r.length ≤ l.length * r.length := Nat.mul_le_mul_right _ (by omega)
    rw [Nat.add_mul, Nat.one_mul] at hm
    have ihv := fun sto => ih (v + 1) sto (by omega)
    rw [qd_take_snoc (by omega), qd_fm_snoc] at ihv
    refine ⟨hip, pk_le l.length v (fun h => by omega) (fun _ => ⟨hip, vp_in_nI (by omega) (by decide), nm_e (br_t rfl ?_)⟩)⟩
    refine qx_jwa (fq := fq) hq hcc hcf (qx_at1_fr hst (fun j hj => h1 j (by omega))) (by omega) (by omega) hr hb (fun s g1 g2 => nm_r (nI_1 v) ?_)
    have h3 := ihv s (fun j hj => (g1 j (by omega)).trans (h1 j hj)) (qx_at1_app (qx_at1_fr h2 (fun j hj => g1 j hj)) g2)
    rw [List.length_append, List.length_map, ← Nat.add_assoc] at h3
    exact h3
theorem qx_join {sb : Bool} (hk : k < 13) (hp : p < 13) (hq : q < 13) (h25 : T k ≤ 25) (ht : a_tokens k = nI (T k)) (hsb : a_straight k = nI sb.toNat)
    (hccp : a_clauseCount p = nI l.length) (hcfp : a_clauseFrom p = nI fp) (hstp : qx_at1 a_store fp l) (hfp : fp + l.length ≤ E)
    (hcc : a_clauseCount q = nI r.length) (hcf : a_clauseFrom q = nI fq) (hst : qx_at1 a_store fq r) (hfq : fq + r.length ≤ E)
    (hE : E + (if (decide (T k = 1) == sb) then l ++ r else l.flatMap (fun a => r.map (fun b => a ||| b))).length ≤ 127)
    (hl : ∀ b, b ∈ l → b < 8192) (hr : ∀ b, b ∈ r → b < 8192)
    (H : ∀ sto : Nat → Int32, (∀ j, j < E → sto j = a_store j) → qx_at1 sto E (if (decide (T k = 1) == sb) then l ++ r else l.flatMap (fun a => r.map (fun b => a ||| b))) →
      post (f_size, f_openCount, f_generals, f_bits, (nI (E + (if (decide (T k = 1) == sb) then l ++ r else l.flatMap (fun a => r.map (fun b => a ||| b))).length)), f_known, f_models, f_anyKept, f_keptModels, a_tokens, a_openNode, a_openWant, a_parent, a_second, a_straight, a_aroundCount, a_around, a_generalNumber, a_bitBase, sto, (upd a_clauseFrom k (nI E)), (upd a_clauseCount k (nI (if (decide (T k = 1) == sb) then l ++ r else l.flatMap (fun a => r.map (fun b => a ||| b))).length)))) :
    wpX_join post (f_size, f_openCount, f_generals, f_bits, (nI E), f_known, f_models, f_anyKept, f_keptModels, a_tokens, a_openNode, a_openWant, a_parent, a_second, a_straight, a_aroundCount, a_around, a_generalNumber, a_bitBase, a_store, a_clauseFrom, a_clauseCount) (nI k) (nI p) (nI q) := by
  unfold wpX_join
  dsimp only
  have hi : vp_in (nI k) 13 := vp_in_nI hk (by decide)
  have key : ∀ b : Bool, decide (T k = 1) = b → wX_join_15 post (nI k) (nI p) (nI q) (nI b.toNat) f_size f_openCount f_generals f_bits (nI E) f_known f_models f_anyKept f_keptModels a_tokens a_openNode a_openWant a_parent a_second a_straight a_aroundCount a_around a_generalNumber a_bitBase a_store a_clauseFrom a_clauseCount := by
    intro b hb
    unfold wX_join_15
    rw [nI_clamp (show k < 2 ^ 31 by omega), hsb]
    rw [hb] at H hE
    refine ⟨hi, qi_beq b sb (fun e => ⟨l.length + 1, ?_⟩) (fun e => ⟨l.length + 1, ?_⟩)⟩
    · have hbs : (b == sb) = true := by simpa using e
      simp only [hbs, if_true] at H hE
      rw [List.length_append] at hE
      exact qx_join40b hk hp hq hccp hcfp hstp hfp hcc hcf hst hfq (by omega) hl hr H l.length 0 a_store (by omega) (fun _ _ => rfl) qx_at1_nil
    · have hbs : (b == sb) = false := by simpa using e
      simp only [hbs, Bool.false_eq_true, if_false] at H hE
      rw [qd_fm_len] at hE
      exact qx_join40n hk hp hq hccp hcfp hstp hfp hcc hcf hst hfq hE hl hr H l.length 0 a_store (by omega) (fun _ _ => rfl) qx_at1_nil
  rw [nI_clamp (show k < 2 ^ 31 by omega), ht]
  exact ⟨hi, pk_eq (T k) 1 (fun e => key true (decide_eq_true e)) (fun e => key false (decide_eq_false e))⟩
end
/-- the clauses of the tokens from m on stand in the first E cells of the store -/
def qx_CI (T : Nat → Nat) (n m E : Nat) (sto cf cc : Nat → Int32) : Prop :=
  ∀ j, m ≤ j → j < n → ∃ f, cf j = nI f ∧ cc j = nI (qd_cl T n j).length ∧ f + (qd_cl T n j).length ≤ E ∧ qx_at1 sto f (qd_cl T n j)
section
variable {post : SX → Prop} {T : Nat → Nat} {n : Nat} {f_size : Int32} {f_openCount : Int32} {f_generals : Int32} {f_bits : Int32} {f_storeEnd : Int32} {f_known : Int32} {f_models : Int64} {f_anyKept : Int32} {f_keptModels : Int64} {a_tokens : Nat → Int32} {a_openNode : Nat → Int32} {a_openWant : Nat → Int32} {a_parent : Nat → Int32} {a_second : Nat → Int32} {a_straight : Nat → Int32} {a_aroundCount : Nat → Int32} {a_around : Nat → Int32} {a_generalNumber : Nat → Int32} {a_bitBase : Nat → Int32} {a_store : Nat → Int32} {a_clauseFrom : Nat → Int32} {a_clauseCount : Nat → Int32}
theorem qx_makeClauses (O : qd_OK T n) (C : qd_C T n) (ht : ∀ j, a_tokens j = nI (T j)) (hI : qx_RI T n a_second a_straight a_aroundCount a_around)
    (H : ∀ sto cf cc : Nat → Int32, qx_CI T n 0 (qd_to T n 0) sto cf cc → post ((nI n), f_openCount, f_generals, f_bits, (nI (qd_to T n 0)), f_known, f_models, f_anyKept, f_keptModels, a_tokens, a_openNode, a_openWant, a_parent, a_second, a_straight, a_aroundCount, a_around, a_generalNumber, a_bitBase, sto, cf, cc)) :
    wpX_makeClauses post ((nI n), f_openCount, f_generals, f_bits, f_storeEnd, f_known, f_models, f_anyKept, f_keptModels, a_tokens, a_openNode, a_openWant, a_parent, a_second, a_straight, a_aroundCount, a_around, a_generalNumber, a_bitBase, a_store, a_clauseFrom, a_clauseCount) := by
  unfold wpX_makeClauses
  dsimp only
  obtain ⟨h13, o2, h25, o4, o5⟩ := O
  have hn := qd_C_pos C
  have key : ∀ (m : Nat) (sto cf cc : Nat → Int32), m ≤ n → qx_CI T n m (qd_to T n m) sto cf cc →
      wX_makeClauses_12 post (m + 1) (nI m + (-1)) (nI n) f_openCount f_generals f_bits (nI (qd_to T n m)) f_known f_models f_anyKept f_keptModels a_tokens a_openNode a_openWant a_parent a_second a_straight a_aroundCount a_around a_generalNumber a_bitBase sto cf cc := by
    intro m
    induction m with
    | zero =>
      intro sto cf cc hm hC
      rw [wX_makeClauses_12]
      exact br_t (by decide) (H _ _ _ hC)
    | succ m ih =>
      intro sto cf cc hm hC
      have hmn : m < n := by omega
      have hi : vp_in (nI m) 13 := vp_in_nI (by omega) (by decide)
      have h25m := h25 m
      have hto := qd_to43 C h13 (show m ≤ n by omega)
      have hto1 := qd_to43 C h13 hm
      rw [pk_m1, wX_makeClauses_12]
      refine br_f (nI_pos (by omega)) ⟨hi, ?_⟩
      rw [nI_clamp (show m < 2 ^ 31 by omega), ht, nI_1, nI_clamp (show m + 1 < 2 ^ 31 by omega)]
      refine nm_e (pk_lt (T m) 6 (fun h6 => qx_wants h25m (pk_eq (qd_mo (T m)) 1 (fun z => ?_) (fun z => ?_) rfl rfl (by have := qd_mo_le (T m); omega))) (fun h6 => ?_))
      · have h1 := qd_next C hmn (by omega)
        have hi1 : vp_in (nI (m + 1)) 13 := vp_in_nI (by omega) (by decide)
        obtain ⟨f, c1, c2, c3, c4⟩ := hC (m + 1) (by omega) h1
        rw [c1, c2, qi_vb (show f < 128 by omega), qi_vb (show (qd_cl T n (m + 1)).length < 128 by omega)]
        have et := qd_to_1 C hmn z
        have ihm := ih sto (upd cf m (nI f)) (upd cc m (nI (qd_cl T n (m + 1)).length)) (by omega) (fun j hj hjn => by
          rcases Nat.lt_or_ge m j with y | y
          · rw [pk_un (by omega), pk_un (by omega), et]
            exact hC j y hjn
          · have : j = m := by omega
            subst this
            rw [pk_us, pk_us, qd_cl_1 hmn z, et]
            exact ⟨f, rfl, rfl, c3, c4⟩)
        rw [et] at ihm
        exact ⟨hi1, hi, nm_e ⟨hi1, hi, nm_e (nm_e ihm)⟩⟩
      · have z2 : qd_mo (T m) = 2 := by
          have h0 : qd_mo (T m) ≠ 0 := fun e => by have := qd_mo0.mp e; omega
          have := qd_mo_le (T m); omega
        obtain ⟨s1, s2, s3, s4⟩ := qd_en2 C hmn z2
        have hsec := qd_sec_s2 C hmn z2
        have hse := hI.2 m hmn (by rw [hsec]; omega)
        rw [hsec] at hse
        rw [hse]
        obtain ⟨fp, c1, c2, c3, c4⟩ := hC (m + 1) (by omega) s1
        obtain ⟨fq, d1, d2, d3, d4⟩ := hC (qd_s2 T n m) (by omega) s3
        have et := qd_to_2 C hmn z2
        have ecl := qd_cl_2 C hmn z2
        have hb : ∀ j, j < n → ∀ b, b ∈ qd_cl T n j → b < 8192 := fun j hj b hb => by
          have h1 := (qd_cl_in C j hj b hb).1
          have h2 := qi_p13 n (by omega)
          omega
        refine ⟨hi, ?_⟩
        refine qx_join (T := T) (sb := qd_st T m) (fp := fp) (fq := fq) (l := qd_cl T n (m + 1)) (r := qd_cl T n (qd_s2 T n m)) (by omega) (by omega) (by omega) h25m (ht m) (hI.1 m hmn).1 c2 c1 c4 c3 d2 d1 d4 d3 ?_ (hb _ s1) (hb _ s3) ?_
        · have e2 : (if (decide (T m = 1) == qd_st T m) = true then qd_cl T n (m + 1) ++ qd_cl T n (qd_s2 T n m) else (qd_cl T n (m + 1)).flatMap (fun a => (qd_cl T n (qd_s2 T n m)).map (fun b => a ||| b))) = qd_cl T n m := ecl.symm
          rw [e2]; omega
        · have e2 : (if (decide (T m = 1) == qd_st T m) = true then qd_cl T n (m + 1) ++ qd_cl T n (qd_s2 T n m) else (qd_cl T n (m + 1)).flatMap (fun a => (qd_cl T n (qd_s2 T n m)).map (fun b => a ||| b))) = qd_cl T n m := ecl.symm
          rw [e2]
          intro s g1 g2
          dsimp only
          refine nm_e ?_
          rw [← et]
          refine ih s _ _ (by omega) (fun j hj hjn => ?_)
          rcases Nat.lt_or_ge m j with y | y
          · obtain ⟨f, a1, a2, a3, a4⟩ := hC j y hjn
            rw [pk_un (by omega), pk_un (by omega)]
            exact ⟨f, a1, a2, by omega, qx_at1_fr a4 (fun i hi => g1 i (by omega))⟩
          · have : j = m := by omega
            subst this
            rw [pk_us, pk_us]
            exact ⟨_, rfl, rfl, by omega, g2⟩
      · have z0 : qd_mo (T m) = 0 := qd_mo0.mpr h6
        have et := qd_to_0 hmn z0
        have e1 : vp_nar .byte 1 = nI 1 := qi_vb (k := 1) (by omega)
        rw [qi_vbb (show qd_to T n (m + 1) < 128 by omega), e1, qi_sh (show m < 31 by omega)]
        have hp := qi_p13 m (by omega)
        refine ⟨hi, nm_e ⟨hi, nm_e (qx_addClause (by omega) (by omega) (nm_e ?_))⟩⟩
        rw [← et]
        refine ih _ _ _ (by omega) (fun j hj hjn => ?_)
        rcases Nat.lt_or_ge m j with y | y
        · obtain ⟨f, a1, a2, a3, a4⟩ := hC j y hjn
          rw [pk_un (by omega), pk_un (by omega)]
          exact ⟨f, a1, a2, by omega, qx_at1_fr a4 (fun i hi => pk_un (by omega))⟩
        · have : j = m := by omega
          subst this
          rw [pk_us, pk_us, qd_cl_0 hmn z0]
          exact ⟨_, rfl, rfl, by rw [et]; exact Nat.le_refl _, qx_at1_one pk_us⟩
  obtain ⟨n', rfl⟩ : ∃ n', n = n' + 1 := ⟨n - 1, by omega⟩
  rw [nI_pred]
  refine nm_e ⟨n' + 1 + 1, ?_⟩
  have := key (n' + 1) a_store a_clauseFrom a_clauseCount (Nat.le_refl _) (fun j hj hjn => by omega)
  rw [pk_m1, qd_to_n] at this
  exact this
end
end
section
/-! the component: what a variable can be, what can hold, which clauses stand -/
section
variable {post : Int32 → Prop} {T : Nat → Nat} {n q th w L : Nat} {f_size : Int32} {f_openCount : Int32} {f_generals : Int32} {f_bits : Int32} {f_storeEnd : Int32} {f_known : Int32} {f_models : Int64} {f_anyKept : Int32} {f_keptModels : Int64} {a_tokens : Nat → Int32} {a_openNode : Nat → Int32} {a_openWant : Nat → Int32} {a_parent : Nat → Int32} {a_second : Nat → Int32} {a_straight : Nat → Int32} {a_aroundCount : Nat → Int32} {a_around : Nat → Int32} {a_generalNumber : Nat → Int32} {a_bitBase : Nat → Int32} {a_store : Nat → Int32} {a_clauseFrom : Nat → Int32} {a_clauseCount : Nat → Int32}
theorem qd_num_or (l : List Bool) (b : Bool) : qd_num l ||| b.toNat * 2 ^ l.length = qd_num (l ++ [b]) := by
  rw [qd_num_app, Nat.or_comm, Nat.mul_comm, ← Nat.two_pow_add_eq_or_of_lt (qd_num_lt l), Nat.add_comm]
theorem qx_thingsFor (hq : q < n) (hiq : qd_iq (T q) = true) (O : qd_OK T n) (ht : ∀ j, a_tokens j = nI (T j)) (hI : qx_RI T n a_second a_straight a_aroundCount a_around)
    (hN : qx_NI T n a_generalNumber a_bitBase) (hth : th < 16) (hw : w < 256) (hL : L ≤ 8)
    (H : post (nI (qd_tf T th w L q))) : wpX_thingsFor post (f_size, f_openCount, f_generals, f_bits, f_storeEnd, f_known, f_models, f_anyKept, f_keptModels, a_tokens, a_openNode, a_openWant, a_parent, a_second, a_straight, a_aroundCount, a_around, a_generalNumber, a_bitBase, a_store, a_clauseFrom, a_clauseCount) (nI q) (nI th) (nI w) (nI L) := by
  unfold wpX_thingsFor
  dsimp only
  have h13 := O.1
  have h25 := O.2.2.1
  have hl4 := qd_len4 O (show q ≤ n by omega)
  obtain ⟨hI1, hI2, hI3⟩ := hI.1 q hq
  have hi : vp_in (nI q) 13 := vp_in_nI (by omega) (by decide)
  have hG : ∀ j, j ≤ n → qd_G T j ≤ 4 := fun j hj => qd_G4 (by have := qd_qc_mono T hj; have := O.2.2.2.1; omega)
  refine qx_general hq h13 h25 ht hI (qi_b0 _ (fun e => ?_) (fun e => ⟨hi, ?_⟩))
  · have hx : qd_xq T q = true := qd_xq_iff.mpr ⟨hiq, e⟩
    unfold qd_tf at H
    rw [e, if_neg (by decide)] at H
    have hix : qd_ix T (qd_th T th) q < 8 := by
      have h1 := qd_ix_lt (T := T) (t := qd_th T th) hq hx
      have h2 := qd_B8 (T := T) (m := n) O.2.2.2.1
      omega
    have key : ∀ d v, v + d = (qd_al T q).length → wX_thingsFor_30 post (nI q) (nI th) (nI w) (nI L) f_size f_openCount f_generals f_bits f_storeEnd f_known f_models f_anyKept f_keptModels a_tokens a_openNode a_openWant a_parent a_second a_straight a_aroundCount a_around a_generalNumber a_bitBase a_store a_clauseFrom a_clauseCount (d + 1)
        (nI (qd_num ((((qd_al T q).take v).filter (qd_gen T)).map (qd_th T th)))) (nI (((qd_al T q).take v).filter (qd_gen T)).length) (nI v) := by
      intro d
      induction d with
      | zero =>
        intro v hv
        rw [wX_thingsFor_30]; dsimp only; rw [nI_clamp (show q < 2 ^ 31 by omega), hI2, List.take_of_length_le (by omega), (hN q hq).2 hx, nI_add]
        refine ⟨hi, pk_le (qd_al T q).length v (fun _ => ⟨hi, nm_e ?_⟩) (fun h => by omega)⟩
        show (nI L ≤ nI (qd_ix T (qd_th T th) q) → _) ∧ (¬ nI L ≤ nI (qd_ix T (qd_th T th) q) → post ((1 : Int32) <<< (((nI w >>> (nI (qd_ix T (qd_th T th) q) &&& 31)) &&& 1) &&& 31)))
        refine pk_le L (qd_ix T (qd_th T th) q) (fun h => ?_) (fun h => ?_)
        · rw [if_neg (by omega)] at H; exact H
        · rw [if_pos h] at H
          rw [qi_bit (by omega) (by omega), qi_sh (by cases w.testBit (qd_ix T (qd_th T th) q) <;> decide)]
          exact H
      | succ d ih =>
        intro v hv
        rw [wX_thingsFor_30]; dsimp only; rw [nI_clamp (show q < 2 ^ 31 by omega), hI2]
        refine ⟨hi, pk_le (qd_al T q).length v (fun h => by omega) (fun _ => ?_)⟩
        rw [qi_ix, nI_clamp (show q * 4 + v < 2 ^ 31 by omega)]
        have ihv := ih (v + 1) (by omega)
        have hA := qd_A_in (show v < (qd_al T q).length by omega)
        have ed : (qd_al T q).getD v 0 = qd_A T q v := rfl
        rw [qd_take_snoc (by omega), List.filter_append, List.length_append, List.map_append, ed] at ihv
        have hflen : (((qd_al T q).take v).filter (qd_gen T)).length ≤ 4 := by
          have h1 := List.length_filter_le (qd_gen T) ((qd_al T q).take v)
          have h2 : ((qd_al T q).take v).length ≤ (qd_al T q).length := by rw [List.length_take]; omega
          omega
        refine ⟨vp_in_nI (by omega) (by decide), nm_r (hI3 v (by omega)) (qx_general (by omega) h13 h25 ht hI (qi_b0 _ (fun e2 => nm_r (nI_1 v) ?_) (fun e2 => ⟨vp_in_nI (by omega) (by decide), ?_⟩)))⟩
        · have e3 : [qd_A T q v].filter (qd_gen T) = [] := by simp [e2]
          rw [e3, List.map_nil, List.append_nil] at ihv; exact ihv
        · have e3 : [qd_A T q v].filter (qd_gen T) = [qd_A T q v] := by simp [e2]
          have e4 := (hN (qd_A T q v) (by omega)).1 (qd_gq_iff.mpr ⟨hA.2.1, e2⟩)
          rw [e3, List.map_cons, List.map_nil, ← qd_num_or, List.length_map] at ihv
          have hg4 := hG (qd_A T q v) (by omega)
          rw [nI_clamp (show qd_A T q v < 2 ^ 31 by omega), e4, qi_bit (by omega) (by omega), qi_shb _ (by omega), qi_or]
          exact nm_e (nm_r (nI_1 _) (nm_r (nI_1 v) ihv))
    exact ⟨(qd_al T q).length + 1, key (qd_al T q).length 0 (by omega)⟩
  · unfold qd_tf at H
    rw [if_pos e] at H
    have hg4 := hG q (by omega)
    rw [nI_clamp (show q < 2 ^ 31 by omega), (hN q hq).1 (qd_gq_iff.mpr ⟨hiq, e⟩), qi_bit (by omega) (by omega), qi_sh (by cases th.testBit (qd_G T q) <;> decide)]
    exact H
end
section
variable {post : Int32 → Prop} {J118 J127 : Int32 → Prop} {k i v w f o : Nat} {un po x y sb : Bool} {x7 x8 x9 x10 : Int32} {f_size : Int32} {f_openCount : Int32} {f_generals : Int32} {f_bits : Int32} {f_storeEnd : Int32} {f_known : Int32} {f_models : Int64} {f_anyKept : Int32} {f_keptModels : Int64} {a_tokens : Nat → Int32} {a_openNode : Nat → Int32} {a_openWant : Nat → Int32} {a_parent : Nat → Int32} {a_second : Nat → Int32} {a_straight : Nat → Int32} {a_aroundCount : Nat → Int32} {a_around : Nat → Int32} {a_generalNumber : Nat → Int32} {a_bitBase : Nat → Int32} {a_store : Nat → Int32} {a_clauseFrom : Nat → Int32} {a_clauseCount : Nat → Int32}
theorem qx_ch172 (hk : k < 13) (hi : i < 64) (hst : a_straight k = nI sb.toNat) (h1 : po = true → i.testBit (if un then x.toNat else 2 + 2 * x.toNat + y.toNat) = sb → post 1)
    (h0 : ¬ (po = true ∧ i.testBit (if un then x.toNat else 2 + 2 * x.toNat + y.toNat) = sb) → J127 (nI (y.toNat + 1))) :
    wX_canHold_172 post J118 J127 (nI k) (nI i) (nI un.toNat) x7 x8 x9 x10 (nI x.toNat) (nI y.toNat) (nI po.toNat) f_size f_openCount f_generals f_bits f_storeEnd f_known f_models f_anyKept f_keptModels a_tokens a_openNode a_openWant a_parent a_second a_straight a_aroundCount a_around a_generalNumber a_bitBase a_store a_clauseFrom a_clauseCount := by
  have k209 : wX_canHold_209 post J118 J127 (nI k) (nI i) (nI un.toNat) x7 x8 x9 x10 (nI x.toNat) (nI y.toNat) (nI po.toNat) (nI (i.testBit (if un then x.toNat else 2 + 2 * x.toNat + y.toNat)).toNat) f_size f_openCount f_generals f_bits f_storeEnd f_known f_models f_anyKept f_keptModels a_tokens a_openNode a_openWant a_parent a_second a_straight a_aroundCount a_around a_generalNumber a_bitBase a_store a_clauseFrom a_clauseCount := by
    unfold wX_canHold_209
    rw [nI_clamp (show k < 2 ^ 31 by omega), hst]
    refine qi_b0 po (fun e => nm_r (nI_1 _) (h0 (fun z => by rw [e] at z; exact absurd z.1 (by decide)))) (fun e => ⟨vp_in_nI hk (by decide), qi_beq _ _ (fun e2 => h1 e e2) (fun e2 => nm_r (nI_1 _) (h0 (fun z => e2 z.2)))⟩)
  have k193 : wX_canHold_193 post J118 J127 (nI k) (nI i) (nI un.toNat) x7 x8 x9 x10 (nI x.toNat) (nI y.toNat) (nI po.toNat) (nI (if un then x.toNat else 2 + 2 * x.toNat + y.toNat)) f_size f_openCount f_generals f_bits f_storeEnd f_known f_models f_anyKept f_keptModels a_tokens a_openNode a_openWant a_parent a_second a_straight a_aroundCount a_around a_generalNumber a_bitBase a_store a_clauseFrom a_clauseCount := by
    unfold wX_canHold_193
    have hb : (if un then x.toNat else 2 + 2 * x.toNat + y.toNat) < 32 := by cases un <;> cases x <;> cases y <;> decide
    rw [qi_bit (by omega) hb]
    refine qi_b0 _ (fun e => ?_) (fun e => ?_)
    · rw [e] at k209; exact k209
    · rw [e] at k209; exact k209
  unfold wX_canHold_172
  refine qi_b0 un (fun e => ?_) (fun e => ?_)
  · subst e
    have e2 : (2 : Int32) + 2 * nI x.toNat + nI y.toNat = nI (2 + 2 * x.toNat + y.toNat) := by
      show nI 2 + nI 2 * nI x.toNat + nI y.toNat = _
      rw [pk_mul, nI_add, nI_add]
    rw [e2]; exact k193
  · subst e; exact k193
/-- one choice of things for both variables -/
def qx_P (i f o v w : Nat) (un sb x y : Bool) : Prop :=
  f.testBit x.toNat = true ∧ o.testBit y.toNat = true ∧ (v = w → x = y) ∧ i.testBit (if un then x.toNat else 2 + 2 * x.toNat + y.toNat) = sb
theorem qx_ch127 {m : Nat} (hk : k < 13) (hi : i < 64) (hv : v < 4) (hw : w < 4) (hf : f < 4) (ho : o < 4) (hst : a_straight k = nI sb.toNat) (h1 : qx_P i f o v w un sb x y → post 1)
    (h0 : ¬ qx_P i f o v w un sb x y → wX_canHold_127 post J118 (nI k) (nI i) (nI un.toNat) (nI v) (nI w) (nI f) (nI o) (nI x.toNat) f_size f_openCount f_generals f_bits f_storeEnd f_known f_models f_anyKept f_keptModels a_tokens a_openNode a_openWant a_parent a_second a_straight a_aroundCount a_around a_generalNumber a_bitBase a_store a_clauseFrom a_clauseCount m (nI (y.toNat + 1))) :
    wX_canHold_127 post J118 (nI k) (nI i) (nI un.toNat) (nI v) (nI w) (nI f) (nI o) (nI x.toNat) f_size f_openCount f_generals f_bits f_storeEnd f_known f_models f_anyKept f_keptModels a_tokens a_openNode a_openWant a_parent a_second a_straight a_aroundCount a_around a_generalNumber a_bitBase a_store a_clauseFrom a_clauseCount (m + 1) (nI y.toNat) := by
  rw [wX_canHold_127]; dsimp only
  have hx2 : x.toNat < 2 := by cases x <;> decide
  have hy2 : y.toNat < 2 := by cases y <;> decide
  have k171 : ¬ qx_P i f o v w un sb x y → wX_canHold_171 post J118 (wX_canHold_127 post J118 (nI k) (nI i) (nI un.toNat) (nI v) (nI w) (nI f) (nI o) (nI x.toNat) f_size f_openCount f_generals f_bits f_storeEnd f_known f_models f_anyKept f_keptModels a_tokens a_openNode a_openWant a_parent a_second a_straight a_aroundCount a_around a_generalNumber a_bitBase a_store a_clauseFrom a_clauseCount m) (nI k) (nI i) (nI un.toNat) (nI v) (nI w) (nI f) (nI o) (nI x.toNat) (nI y.toNat) f_size f_openCount f_generals f_bits f_storeEnd f_known f_models f_anyKept f_keptModels a_tokens a_openNode a_openWant a_parent a_second a_straight a_aroundCount a_around a_generalNumber a_bitBase a_store a_clauseFrom a_clauseCount := by
    intro hn
    unfold wX_canHold_171
    exact qx_ch172 (po := false) hk hi hst (fun z => absurd z (by decide)) (fun _ => h0 hn)
  have k167 : f.testBit x.toNat = true → o.testBit y.toNat = true → (v = w → x = y) → wX_canHold_167 post J118 (wX_canHold_127 post J118 (nI k) (nI i) (nI un.toNat) (nI v) (nI w) (nI f) (nI o) (nI x.toNat) f_size f_openCount f_generals f_bits f_storeEnd f_known f_models f_anyKept f_keptModels a_tokens a_openNode a_openWant a_parent a_second a_straight a_aroundCount a_around a_generalNumber a_bitBase a_store a_clauseFrom a_clauseCount m) (nI k) (nI i) (nI un.toNat) (nI v) (nI w) (nI f) (nI o) (nI x.toNat) (nI y.toNat) f_size f_openCount f_generals f_bits f_storeEnd f_known f_models f_anyKept f_keptModels a_tokens a_openNode a_openWant a_parent a_second a_straight a_aroundCount a_around a_generalNumber a_bitBase a_store a_clauseFrom a_clauseCount := by
    intro a b c
    unfold wX_canHold_167
    exact qx_ch172 (po := true) hk hi hst (fun _ z => h1 ⟨a, b, c, z⟩) (fun hn => h0 (fun z => hn ⟨rfl, z.2.2.2⟩))
  rw [qi_bit (show f < 2 ^ 31 by omega) (by omega), qi_bit (show o < 2 ^ 31 by omega) (by omega)]
  refine pk_le 2 y.toNat (fun h => by omega) (fun _ => qi_b0 _ (fun e => k171 (fun z => by rw [z.1] at e; exact absurd e (by decide))) (fun e => qi_b0 _ (fun e2 => k171 (fun z => by rw [z.2.1] at e2; exact absurd e2 (by decide))) (fun e2 => ?_)))
  refine pk_eq v w (fun e3 => qi_beq x y (fun e4 => k167 e e2 (fun _ => e4)) (fun e4 => k171 (fun z => e4 (z.2.2.1 e3)))) (fun e3 => k167 e e2 (fun z => absurd z e3))
theorem qx_ch127x (hk : k < 13) (hi : i < 64) (hv : v < 4) (hw : w < 4) (hf : f < 4) (ho : o < 4) (hst : a_straight k = nI sb.toNat) (h1 : ∀ y, qx_P i f o v w un sb x y → post 1)
    (h0 : (∀ y, ¬ qx_P i f o v w un sb x y) → J118 (nI (x.toNat + 1))) :
    wX_canHold_127 post J118 (nI k) (nI i) (nI un.toNat) (nI v) (nI w) (nI f) (nI o) (nI x.toNat) f_size f_openCount f_generals f_bits f_storeEnd f_known f_models f_anyKept f_keptModels a_tokens a_openNode a_openWant a_parent a_second a_straight a_aroundCount a_around a_generalNumber a_bitBase a_store a_clauseFrom a_clauseCount 3 (nI 0) := by
  refine qx_ch127 (y := false) hk hi hv hw hf ho hst (h1 _) (fun n0 => ?_)
  refine qx_ch127 (y := true) hk hi hv hw hf ho hst (h1 _) (fun n1 => ?_)
  rw [wX_canHold_127]
  exact pk_le 2 2 (fun _ => nm_r (nI_1 _) (h0 (fun y => by cases y <;> assumption))) (fun h => by omega)
theorem qx_ch118 (hk : k < 13) (hi : i < 64) (hv : v < 4) (hw : w < 4) (hf : f < 4) (ho : o < 4) (hst : a_straight k = nI sb.toNat) (h1 : (∃ x y, qx_P i f o v w un sb x y) → post 1)
    (h0 : ¬ (∃ x y, qx_P i f o v w un sb x y) → post 0) :
    wX_canHold_118 post (nI k) (nI i) (nI un.toNat) (nI v) (nI w) (nI f) (nI o) f_size f_openCount f_generals f_bits f_storeEnd f_known f_models f_anyKept f_keptModels a_tokens a_openNode a_openWant a_parent a_second a_straight a_aroundCount a_around a_generalNumber a_bitBase a_store a_clauseFrom a_clauseCount 3 (nI 0) := by
  rw [wX_canHold_118]
  refine pk_le 2 0 (fun h => by omega) (fun _ => ⟨3, qx_ch127x (x := false) hk hi hv hw hf ho hst (fun y hy => h1 ⟨_, y, hy⟩) (fun n0 => ?_)⟩)
  rw [wX_canHold_118]
  refine pk_le 2 1 (fun h => by omega) (fun _ => ⟨3, qx_ch127x (x := true) hk hi hv hw hf ho hst (fun y hy => h1 ⟨_, y, hy⟩) (fun n1 => ?_)⟩)
  rw [wX_canHold_118]
  refine pk_le 2 2 (fun _ => h0 ?_) (fun h => by omega)
  intro ⟨x, y, h⟩
  cases x
  · exact n0 y h
  · exact n1 y h
end
section
variable {post : Int32 → Prop} {T : Nat → Nat} {n k i th w L : Nat} {f_size : Int32} {f_openCount : Int32} {f_generals : Int32} {f_bits : Int32} {f_storeEnd : Int32} {f_known : Int32} {f_models : Int64} {f_anyKept : Int32} {f_keptModels : Int64} {a_tokens : Nat → Int32} {a_openNode : Nat → Int32} {a_openWant : Nat → Int32} {a_parent : Nat → Int32} {a_second : Nat → Int32} {a_straight : Nat → Int32} {a_aroundCount : Nat → Int32} {a_around : Nat → Int32} {a_generalNumber : Nat → Int32} {a_bitBase : Nat → Int32} {a_store : Nat → Int32} {a_clauseFrom : Nat → Int32} {a_clauseCount : Nat → Int32}
theorem qd_tf_lt (q : Nat) : qd_tf T th w L q < 4 := by
  unfold qd_tf
  split
  · cases th.testBit (qd_G T q) <;> decide
  · split
    · cases w.testBit (qd_ix T (qd_th T th) q) <;> decide
    · decide
theorem qx_ch69 (hk : k < n) (h6 : 6 ≤ T k) (O : qd_OK T n) (ht : ∀ j, a_tokens j = nI (T j)) (hI : qx_RI T n a_second a_straight a_aroundCount a_around)
    (hN : qx_NI T n a_generalNumber a_bitBase) (hi : i < 64) (hth : th < 16) (hw : w < 256) (hL : L ≤ 8) (h1 : qd_CH T i th w L k → post 1) (h0 : ¬ qd_CH T i th w L k → post 0) :
    wX_canHold_69 post (nI k) (nI i) (nI th) (nI w) (nI L) (nI (decide (T k < 10)).toNat) (nI (qd_va (T k))) (nI (qd_wa (T k))) f_size f_openCount f_generals f_bits f_storeEnd f_known f_models f_anyKept f_keptModels a_tokens a_openNode a_openWant a_parent a_second a_straight a_aroundCount a_around a_generalNumber a_bitBase a_store a_clauseFrom a_clauseCount := by
  unfold wX_canHold_69
  have h13 := O.1
  obtain ⟨hv, hw'⟩ := O.2.2.2.2 k hk h6
  have hl4 := qd_len4 O (show k ≤ n by omega)
  have av := qd_A_in hv
  have aw := qd_A_in hw'
  obtain ⟨hI1, hI2, hI3⟩ := hI.1 k hk
  rw [qi_ix, qi_ix, nI_clamp (show k * 4 + qd_va (T k) < 2 ^ 31 by omega), nI_clamp (show k * 4 + qd_wa (T k) < 2 ^ 31 by omega), hI3 _ hv, hI3 _ hw']
  have hP : (∃ x y, qx_P i (qd_tf T th w L (qd_A T k (qd_va (T k)))) (qd_tf T th w L (qd_A T k (qd_wa (T k)))) (qd_va (T k)) (qd_wa (T k)) (decide (T k < 10)) (qd_st T k) x y) ↔ qd_CH T i th w L k := by
    unfold qx_P qd_CH qd_bi
    have e : ∀ x y : Bool, (if decide (T k < 10) = true then x.toNat else 2 + 2 * x.toNat + y.toNat) = (if T k < 10 then x.toNat else 2 + 2 * x.toNat + y.toNat) := by
      intro x y
      by_cases z : T k < 10
      · rw [if_pos z, if_pos (decide_eq_true z)]
      · rw [if_neg z, if_neg (by simpa using z)]
    simp only [e]
  refine ⟨vp_in_nI (by omega) (by decide), qx_thingsFor (by omega) av.2.1 O ht hI hN hth hw hL ⟨vp_in_nI (by omega) (by decide), qx_thingsFor (by omega) aw.2.1 O ht hI hN hth hw hL ⟨3, ?_⟩⟩⟩
  exact qx_ch118 (by omega) hi (by omega) (by omega) (qd_tf_lt _) (qd_tf_lt _) hI1 (fun z => h1 (hP.mp z)) (fun z => h0 (fun y => z (hP.mpr y)))
theorem qx_canHold (hk : k < n) (h6 : 6 ≤ T k) (O : qd_OK T n) (ht : ∀ j, a_tokens j = nI (T j)) (hI : qx_RI T n a_second a_straight a_aroundCount a_around)
    (hN : qx_NI T n a_generalNumber a_bitBase) (hi : i < 64) (hth : th < 16) (hw : w < 256) (hL : L ≤ 8) (h1 : qd_CH T i th w L k → post 1) (h0 : ¬ qd_CH T i th w L k → post 0) :
    wpX_canHold post (f_size, f_openCount, f_generals, f_bits, f_storeEnd, f_known, f_models, f_anyKept, f_keptModels, a_tokens, a_openNode, a_openWant, a_parent, a_second, a_straight, a_aroundCount, a_around, a_generalNumber, a_bitBase, a_store, a_clauseFrom, a_clauseCount) (nI k) (nI i) (nI th) (nI w) (nI L) := by
  have h69 := qx_ch69 (f_size := f_size) (f_openCount := f_openCount) (f_generals := f_generals) (f_bits := f_bits) (f_storeEnd := f_storeEnd) (f_known := f_known) (f_models := f_models) (f_anyKept := f_anyKept) (f_keptModels := f_keptModels) (a_openNode := a_openNode) (a_openWant := a_openWant) (a_parent := a_parent) (a_store := a_store) (a_clauseFrom := a_clauseFrom) (a_clauseCount := a_clauseCount) hk h6 O ht hI hN hi hth hw hL h1 h0
  have h13 := O.1
  have h25 := O.2.2.1 k
  have hik : vp_in (nI k) 13 := vp_in_nI (by omega) (by decide)
  unfold wpX_canHold
  dsimp only
  rw [nI_clamp (show k < 2 ^ 31 by omega), ht]
  refine ⟨hik, pk_le 10 (T k) (fun h => ?_) (fun h => ?_)⟩
  · have hv : qd_va (T k) = (T k - 10) / 4 := by unfold qd_va; rw [if_neg (by omega)]
    have hw2 : qd_wa (T k) = (T k - 10) % 4 := by unfold qd_wa; rw [if_neg (by omega)]
    have e10 : nI (T k) - 10 = nI (T k - 10) := pk_sub h
    have ed : nI (T k - 10) / 4 = nI ((T k - 10) / 4) := pk_div (d := 4) (by omega) (by decide) (by decide)
    have er : nI (T k - 10) - nI (T k - 10) / 4 * 4 = nI ((T k - 10) % 4) := pk_rem (d := 4) (by omega) (by decide) (by decide)
    rw [hv, hw2, decide_eq_false (show ¬ T k < 10 by omega)] at h69
    unfold wX_canHold_16
    refine br_t rfl ⟨hik, by decide, ?_⟩
    unfold wX_canHold_46
    refine br_t rfl ⟨hik, by decide, ?_⟩
    rw [nI_clamp (show k < 2 ^ 31 by omega), ht, e10, er, ed]
    exact h69
  · have hv : qd_va (T k) = T k - 6 := by unfold qd_va; rw [if_pos (by omega)]
    have hw2 : qd_wa (T k) = T k - 6 := by unfold qd_wa; rw [if_pos (by omega)]
    have e6 : nI (T k) - 6 = nI (T k - 6) := pk_sub h6
    rw [hv, hw2, decide_eq_true (show T k < 10 by omega)] at h69
    unfold wX_canHold_16
    refine br_f (by decide) ⟨hik, ?_⟩
    unfold wX_canHold_46
    refine br_f (by decide) ?_
    rw [nI_clamp (show k < 2 ^ 31 by omega), ht, e6]
    exact h69
theorem qx_clauseStands {cl : Nat} (hcl : cl < 8192) (hbits : ∀ j, cl.testBit j = true → j < n ∧ 6 ≤ T j) (O : qd_OK T n) (ht : ∀ j, a_tokens j = nI (T j)) (hI : qx_RI T n a_second a_straight a_aroundCount a_around)
    (hN : qx_NI T n a_generalNumber a_bitBase) (hi : i < 64) (hth : th < 16) (hw : w < 256) (hL : L ≤ 8)
    (h1 : (∃ j, cl.testBit j = true ∧ qd_CH T i th w L j) → post 1) (h0 : ¬ (∃ j, cl.testBit j = true ∧ qd_CH T i th w L j) → post 0) :
    wpX_clauseStands post ((nI n), f_openCount, f_generals, f_bits, f_storeEnd, f_known, f_models, f_anyKept, f_keptModels, a_tokens, a_openNode, a_openWant, a_parent, a_second, a_straight, a_aroundCount, a_around, a_generalNumber, a_bitBase, a_store, a_clauseFrom, a_clauseCount) (nI cl) (nI i) (nI th) (nI w) (nI L) := by
  have h13 := O.1
  unfold wpX_clauseStands
  dsimp only
  have key : ∀ d m, m + d = n → (∀ j, j < m → ¬ (cl.testBit j = true ∧ qd_CH T i th w L j)) → wX_clauseStands_3 post (nI cl) (nI i) (nI th) (nI w) (nI L) (nI n) f_openCount f_generals f_bits f_storeEnd f_known f_models f_anyKept f_keptModels a_tokens a_openNode a_openWant a_parent a_second a_straight a_aroundCount a_around a_generalNumber a_bitBase a_store a_clauseFrom a_clauseCount (d + 1) (nI m) := by
    intro d
    induction d with
    | zero =>
      intro m hm hno
      rw [wX_clauseStands_3]
      refine pk_le n m (fun _ => h0 ?_) (fun h => by omega)
      intro ⟨j, a, b⟩
      exact hno j (by have := (hbits j a).1; omega) ⟨a, b⟩
    | succ d ih =>
      intro m hm hno
      rw [wX_clauseStands_3]; dsimp only; rw [qi_bit (show cl < 2 ^ 31 by omega) (by omega)]
      have hstep : ¬ (cl.testBit m = true ∧ qd_CH T i th w L m) → ∀ j, j < m + 1 → ¬ (cl.testBit j = true ∧ qd_CH T i th w L j) := by
        intro hnm j hj
        rcases Nat.lt_or_ge j m with y | y
        · exact hno j y
        · have : j = m := by omega
          subst this; exact hnm
      refine pk_le n m (fun h => by omega) (fun _ => qi_b0 _ (fun e => nm_r (nI_1 m) (ih (m + 1) (by omega) (hstep (fun z => by rw [e] at z; exact absurd z.1 (by decide))))) (fun e => ?_))
      refine qx_canHold (by omega) (hbits m e).2 O ht hI hN hi hth hw hL (fun hc => ?_) (fun hc => ?_)
      · exact br_f (by decide) (h1 ⟨m, e, hc⟩)
      · exact br_t rfl (nm_r (nI_1 m) (ih (m + 1) (by omega) (hstep (fun z => hc z.2))))
  exact ⟨n + 1, key n 0 (by omega) (fun j hj => by omega)⟩
theorem qx_clausesStand (O : qd_OK T n) (C : qd_C T n) (ht : ∀ j, a_tokens j = nI (T j)) (hI : qx_RI T n a_second a_straight a_aroundCount a_around)
    (hN : qx_NI T n a_generalNumber a_bitBase) (hC : qx_CI T n 0 (qd_to T n 0) a_store a_clauseFrom a_clauseCount) (hi : i < 64) (hw : w < 256) (hL : L ≤ 8)
    (h1 : qd_cs T n i w L → post 1) (h0 : ¬ qd_cs T n i w L → post 0) :
    wpX_clausesStand post ((nI n), f_openCount, (nI (qd_G T n)), f_bits, f_storeEnd, f_known, f_models, f_anyKept, f_keptModels, a_tokens, a_openNode, a_openWant, a_parent, a_second, a_straight, a_aroundCount, a_around, a_generalNumber, a_bitBase, a_store, a_clauseFrom, a_clauseCount) (nI i) (nI w) (nI L) := by
  have h13 := O.1
  have hn := qd_C_pos C
  have hG4 := qd_G4 (T := T) (m := n) O.2.2.2.1
  have hG16 : 2 ^ qd_G T n ≤ 16 := (by decide : ∀ g, g < 5 → 2 ^ g ≤ 16) _ (by omega)
  have hto := qd_to43 C h13 (show 0 ≤ n by omega)
  obtain ⟨f, c1, c2, c3, c4⟩ := hC 0 (Nat.le_refl _) hn
  unfold wpX_clausesStand
  dsimp only
  have inner : ∀ (J11 : Int32 → Prop) (tt : Nat), tt < 2 ^ qd_G T n → ((∀ c, c ∈ qd_cl T n 0 → ∃ j, c.testBit j = true ∧ qd_CH T i tt w L j) → J11 (nI (tt + 1))) →
      (∀ d m, m + d = (qd_cl T n 0).length → (∀ u, u < m → ∃ j, ((qd_cl T n 0).getD u 0).testBit j = true ∧ qd_CH T i tt w L j) →
        wX_clausesStand_25 post J11 (nI i) (nI w) (nI L) (nI f) (nI tt) (nI n) f_openCount (nI (qd_G T n)) f_bits f_storeEnd f_known f_models f_anyKept f_keptModels a_tokens a_openNode a_openWant a_parent a_second a_straight a_aroundCount a_around a_generalNumber a_bitBase a_store a_clauseFrom a_clauseCount (d + 1) (nI m)) := by
    intro J11 tt htt hJ d
    induction d with
    | zero =>
      intro m hm hall
      rw [wX_clausesStand_25]; dsimp only; rw [c2]
      refine pk_le (qd_cl T n 0).length m (fun _ => nm_r (nI_1 tt) (hJ ?_)) (fun h => by omega)
      intro c hc
      obtain ⟨u, hu, rfl⟩ := List.mem_iff_getElem.mp hc
      have := hall u (by omega)
      rw [List.getD_eq_getElem?_getD, List.getElem?_eq_getElem hu] at this
      exact this
    | succ d ih =>
      intro m hm hall
      have hmem := qd_getD_mem (show m < (qd_cl T n 0).length by omega)
      have hin := qd_cl_in C 0 hn _ hmem
      have hp := qi_p13 n (by omega)
      rw [wX_clausesStand_25]; dsimp only; rw [c2, nI_add, nI_clamp (show f + m < 2 ^ 31 by omega), c4 m (by omega)]
      refine pk_le (qd_cl T n 0).length m (fun h => by omega) (fun _ => ⟨vp_in_nI (by omega) (by decide), ?_⟩)
      refine qx_clauseStands (by omega) hin.2 O ht hI hN hi (by omega) hw hL (fun hc => ?_) (fun hc => ?_)
      · refine br_f (by decide) (nm_r (nI_1 m) (ih (m + 1) (by omega) (fun u hu => ?_)))
        rcases Nat.lt_or_ge u m with y | y
        · exact hall u y
        · have : u = m := by omega
          subst this; exact hc
      · exact br_t rfl (h0 (fun z => hc (z tt htt _ hmem)))
  have outer : ∀ d tt, tt + d = 2 ^ qd_G T n → (∀ t', t' < tt → ∀ c, c ∈ qd_cl T n 0 → ∃ j, c.testBit j = true ∧ qd_CH T i t' w L j) →
      wX_clausesStand_11 post (nI i) (nI w) (nI L) (nI f) (nI n) f_openCount (nI (qd_G T n)) f_bits f_storeEnd f_known f_models f_anyKept f_keptModels a_tokens a_openNode a_openWant a_parent a_second a_straight a_aroundCount a_around a_generalNumber a_bitBase a_store a_clauseFrom a_clauseCount (d + 1) (nI tt) := by
    intro d
    induction d with
    | zero =>
      intro tt htt hall
      rw [wX_clausesStand_11]; dsimp only; rw [qi_sh (by omega)]
      exact pk_le (2 ^ qd_G T n) tt (fun _ => h1 (fun t' ht' => hall t' (by omega))) (fun h => by omega)
    | succ d ih =>
      intro tt htt hall
      rw [wX_clausesStand_11]; dsimp only; rw [qi_sh (by omega)]
      refine pk_le (2 ^ qd_G T n) tt (fun h => by omega) (fun _ => ⟨(qd_cl T n 0).length + 1, inner _ tt (by omega) (fun hc => ih (tt + 1) (by omega) (fun t' ht' => ?_)) (qd_cl T n 0).length 0 (by omega) (fun u hu => by omega)⟩)
      rcases Nat.lt_or_ge t' tt with y | y
      · exact hall t' y
      · have : t' = tt := by omega
        subst this; exact hc
  exact nm_r c1 ⟨2 ^ qd_G T n + 1, outer (2 ^ qd_G T n) 0 (by omega) (fun t' ht' => by omega)⟩
end
end
section
/-! the component's search for values of the functions -/
def qd_clr (w L : Nat) : Nat := w &&& (255 ^^^ 2 ^ L)
theorem qi_clr : ∀ w, w < 256 → ∀ L, L < 8 → nI w &&& (((1 : Int32) <<< (nI L &&& 31)) ^^^ (-1)) = nI (qd_clr w L) := by decide +kernel
theorem qd_clr_bit {w L : Nat} (hw : w < 256) (b : Nat) : (qd_clr w L).testBit b = (w.testBit b && !decide (L = b)) := by
  unfold qd_clr
  rw [Nat.testBit_and, Nat.testBit_xor, Nat.testBit_two_pow, show (255 : Nat) = 2 ^ 8 - 1 from rfl, Nat.testBit_two_pow_sub_one]
  rcases Nat.lt_or_ge b 8 with h | h
  · rw [decide_eq_true h, Bool.true_xor]
  · have : w.testBit b = false := Nat.testBit_lt_two_pow (Nat.lt_of_lt_of_le (show w < 2 ^ 8 from hw) (Nat.pow_le_pow_right (by decide) h))
    rw [this]; rfl
theorem qd_clr_le (w L : Nat) : qd_clr w L ≤ w := Nat.and_le_left
theorem qd_256 {b : Nat} (h : b ≤ 8) : 2 ^ b ≤ 256 := Nat.pow_le_pow_right (n := 2) (by decide) h
section
variable {post : Int32 → Prop} {T : Nat → Nat} {n i w L r m : Nat} {f_size : Int32} {f_openCount : Int32} {f_generals : Int32} {f_bits : Int32} {f_storeEnd : Int32} {f_known : Int32} {f_models : Int64} {f_anyKept : Int32} {f_keptModels : Int64} {a_tokens : Nat → Int32} {a_openNode : Nat → Int32} {a_openWant : Nat → Int32} {a_parent : Nat → Int32} {a_second : Nat → Int32} {a_straight : Nat → Int32} {a_aroundCount : Nat → Int32} {a_around : Nat → Int32} {a_generalNumber : Nat → Int32} {a_bitBase : Nat → Int32} {a_store : Nat → Int32} {a_clauseFrom : Nat → Int32} {a_clauseCount : Nat → Int32}
theorem qx_ti_acc (hr : r < 2048) (hw : w < 256) (hL : L ≤ 8) (h : post 1) : wX_trueIn_16 post (nI i) f_size f_openCount f_generals (nI L) f_storeEnd f_known f_models f_anyKept f_keptModels a_tokens a_openNode a_openWant a_parent a_second a_straight a_aroundCount a_around a_generalNumber a_bitBase a_store a_clauseFrom a_clauseCount (m + 1) (nI w) (nI L) 1 (nI r) := by
  rw [wX_trueIn_16]
  exact pk_le 2048 r (fun z => by omega) (fun _ => br_f (by decide) (pk_eq L L (fun _ => h) (fun z => absurd rfl z)))
theorem qx_ti_rej (h : post 0) (hr : r < 2 ^ 31) : wX_trueIn_16 post (nI i) f_size f_openCount f_generals f_bits f_storeEnd f_known f_models f_anyKept f_keptModels a_tokens a_openNode a_openWant a_parent a_second a_straight a_aroundCount a_around a_generalNumber a_bitBase a_store a_clauseFrom a_clauseCount (m + 1) (nI w) 0 0 (nI r) := by
  rw [wX_trueIn_16]
  refine pk_le 2048 r (fun _ => h) (fun _ => br_t rfl ?_)
  unfold wX_trueIn_39
  refine br_t rfl ⟨1, ?_⟩
  rw [wX_trueIn_58]
  refine pk_le 0 0 (fun _ => ?_) (fun z => by omega)
  unfold wX_trueIn_78
  exact br_t rfl h
theorem qx_ti_pop (hL : L < 8) (hw : w < 256) (hb : w.testBit L = true) (h : wX_trueIn_16 post (nI i) f_size f_openCount f_generals f_bits f_storeEnd f_known f_models f_anyKept f_keptModels a_tokens a_openNode a_openWant a_parent a_second a_straight a_aroundCount a_around a_generalNumber a_bitBase a_store a_clauseFrom a_clauseCount (m + 1) (nI w) (nI L) 0 (nI r)) : wX_trueIn_16 post (nI i) f_size f_openCount f_generals f_bits f_storeEnd f_known f_models f_anyKept f_keptModels a_tokens a_openNode a_openWant a_parent a_second a_straight a_aroundCount a_around a_generalNumber a_bitBase a_store a_clauseFrom a_clauseCount (m + 1) (nI w) (nI (L + 1)) 0 (nI r) := by
  rw [wX_trueIn_16] at h ⊢
  dsimp only at h ⊢
  refine ⟨h.1, fun z => br_t rfl ?_⟩
  have h2 := (h.2 z).1 rfl
  unfold wX_trueIn_39 at h2 ⊢
  obtain ⟨n58, h3⟩ := h2.1 rfl
  refine br_t rfl ⟨n58 + 1, ?_⟩
  rw [wX_trueIn_58]
  dsimp only
  rw [nI_pred, qi_bit (by omega) (by omega), hb, pk_m1]
  exact pk_le (L + 1) 0 (fun z => by omega) (fun _ => br_f (by decide) (nm_e h3))
section
theorem qx_ti92 {J16 : Int32 → Int32 → Int32 → Int32 → Prop} (O : qd_OK T n) (C : qd_C T n) (ht : ∀ j, a_tokens j = nI (T j)) (hI : qx_RI T n a_second a_straight a_aroundCount a_around)
    (hN : qx_NI T n a_generalNumber a_bitBase) (hC : qx_CI T n 0 (qd_to T n 0) a_store a_clauseFrom a_clauseCount) (hi : i < 64) (hw : w < 256) (hL : L ≤ 8)
    (h1 : qd_cs T n i w L → J16 (nI w) (nI L) 1 (nI (r + 1))) (h0 : ¬ qd_cs T n i w L → J16 (nI w) (nI L) 0 (nI (r + 1))) :
    wX_trueIn_92 post J16 (nI i) (nI w) (nI L) (nI r) (nI n) f_openCount (nI (qd_G T n)) f_bits f_storeEnd f_known f_models f_anyKept f_keptModels a_tokens a_openNode a_openWant a_parent a_second a_straight a_aroundCount a_around a_generalNumber a_bitBase a_store a_clauseFrom a_clauseCount := by
  unfold wX_trueIn_92
  exact qx_clausesStand O C ht hI hN hC hi hw hL (fun z => nm_r (nI_1 r) (h1 z)) (fun z => nm_r (nI_1 r) (h0 z))
theorem qx_ti_set (O : qd_OK T n) (C : qd_C T n) (ht : ∀ j, a_tokens j = nI (T j)) (hI : qx_RI T n a_second a_straight a_aroundCount a_around)
    (hN : qx_NI T n a_generalNumber a_bitBase) (hC : qx_CI T n 0 (qd_to T n 0) a_store a_clauseFrom a_clauseCount) (hi : i < 64) (hw : w < 256) (hL : L < 8) (hr : r < 2048) (hb : w.testBit L = false)
    (h1 : qd_cs T n i (w ||| 2 ^ L) (L + 1) → wX_trueIn_16 post (nI i) (nI n) f_openCount (nI (qd_G T n)) f_bits f_storeEnd f_known f_models f_anyKept f_keptModels a_tokens a_openNode a_openWant a_parent a_second a_straight a_aroundCount a_around a_generalNumber a_bitBase a_store a_clauseFrom a_clauseCount m (nI (w ||| 2 ^ L)) (nI (L + 1)) 1 (nI (r + 1)))
    (h0 : ¬ qd_cs T n i (w ||| 2 ^ L) (L + 1) → wX_trueIn_16 post (nI i) (nI n) f_openCount (nI (qd_G T n)) f_bits f_storeEnd f_known f_models f_anyKept f_keptModels a_tokens a_openNode a_openWant a_parent a_second a_straight a_aroundCount a_around a_generalNumber a_bitBase a_store a_clauseFrom a_clauseCount m (nI (w ||| 2 ^ L)) (nI (L + 1)) 0 (nI (r + 1))) :
    wX_trueIn_16 post (nI i) (nI n) f_openCount (nI (qd_G T n)) f_bits f_storeEnd f_known f_models f_anyKept f_keptModels a_tokens a_openNode a_openWant a_parent a_second a_straight a_aroundCount a_around a_generalNumber a_bitBase a_store a_clauseFrom a_clauseCount (m + 1) (nI w) (nI (L + 1)) 0 (nI r) := by
  rw [wX_trueIn_16]
  refine pk_le 2048 r (fun z => by omega) (fun _ => br_t rfl ?_)
  unfold wX_trueIn_39
  refine br_t rfl ⟨1, ?_⟩
  rw [wX_trueIn_58]
  dsimp only
  rw [nI_pred, qi_bit (by omega) (by omega), hb]
  refine pk_le (L + 1) 0 (fun z => by omega) (fun _ => br_t rfl ?_)
  unfold wX_trueIn_78
  rw [nI_pred, qi_sh (by omega), qi_or]
  have hlt : w ||| 2 ^ L < 2 ^ 8 := Nat.or_lt_two_pow hw (Nat.pow_lt_pow_right (by decide) hL)
  exact pk_eq (L + 1) 0 (fun z => by omega) (fun _ => nm_e (qx_ti92 O C ht hI hN hC hi hlt (by omega) h1 h0))
theorem qx_ti_dn (O : qd_OK T n) (C : qd_C T n) (ht : ∀ j, a_tokens j = nI (T j)) (hI : qx_RI T n a_second a_straight a_aroundCount a_around)
    (hN : qx_NI T n a_generalNumber a_bitBase) (hC : qx_CI T n 0 (qd_to T n 0) a_store a_clauseFrom a_clauseCount) (hi : i < 64) (hw : w < 256) (hL : L < 8) (hr : r < 2048) {bt : Nat} (hbt : bt < 16) (hne : L ≠ bt)
    (h1 : qd_cs T n i (qd_clr w L) (L + 1) → wX_trueIn_16 post (nI i) (nI n) f_openCount (nI (qd_G T n)) (nI bt) f_storeEnd f_known f_models f_anyKept f_keptModels a_tokens a_openNode a_openWant a_parent a_second a_straight a_aroundCount a_around a_generalNumber a_bitBase a_store a_clauseFrom a_clauseCount m (nI (qd_clr w L)) (nI (L + 1)) 1 (nI (r + 1)))
    (h0 : ¬ qd_cs T n i (qd_clr w L) (L + 1) → wX_trueIn_16 post (nI i) (nI n) f_openCount (nI (qd_G T n)) (nI bt) f_storeEnd f_known f_models f_anyKept f_keptModels a_tokens a_openNode a_openWant a_parent a_second a_straight a_aroundCount a_around a_generalNumber a_bitBase a_store a_clauseFrom a_clauseCount m (nI (qd_clr w L)) (nI (L + 1)) 0 (nI (r + 1))) :
    wX_trueIn_16 post (nI i) (nI n) f_openCount (nI (qd_G T n)) (nI bt) f_storeEnd f_known f_models f_anyKept f_keptModels a_tokens a_openNode a_openWant a_parent a_second a_straight a_aroundCount a_around a_generalNumber a_bitBase a_store a_clauseFrom a_clauseCount (m + 1) (nI w) (nI L) 1 (nI r) := by
  rw [wX_trueIn_16]
  refine pk_le 2048 r (fun z => by omega) (fun _ => br_f (by decide) (pk_eq L bt (fun z => absurd z hne) (fun _ => ?_)))
  unfold wX_trueIn_39
  refine br_f (by decide) ?_
  rw [qi_clr w hw L hL]
  have := qd_clr_le w L
  exact nm_e (nm_r (nI_1 L) (qx_ti92 O C ht hI hN hC hi (by omega) (by omega) h1 h0))
/-- some full choice that agrees with the first L bits of w makes all clauses true -/
def qd_ext (T : Nat → Nat) (n i w L : Nat) : Prop := ∃ w', w' < 2 ^ qd_B T n ∧ (∀ b, b < L → w'.testBit b = w.testBit b) ∧ qd_cs T n i w' (qd_B T n)
theorem qx_dfs (O : qd_OK T n) (C : qd_C T n) (ht : ∀ j, a_tokens j = nI (T j)) (hI : qx_RI T n a_second a_straight a_aroundCount a_around)
    (hN : qx_NI T n a_generalNumber a_bitBase) (hC : qx_CI T n 0 (qd_to T n 0) a_store a_clauseFrom a_clauseCount) (hi : i < 64) :
    ∀ (d L w r m : Nat), L + d = qd_B T n → w < 2 ^ qd_B T n → r + 2 ^ (d + 1) ≤ 2048 → m + r = 2049 →
      (qd_ext T n i w L → post 1) →
      (¬ qd_ext T n i w L → ∀ w' r' m', w' < 2 ^ qd_B T n → (∀ b, b < L → w'.testBit b = w.testBit b) → r' + 2 ≤ r + 2 ^ (d + 1) → m' + r' = 2049 →
        wX_trueIn_16 post (nI i) (nI n) f_openCount (nI (qd_G T n)) (nI (qd_B T n)) f_storeEnd f_known f_models f_anyKept f_keptModels a_tokens a_openNode a_openWant a_parent a_second a_straight a_aroundCount a_around a_generalNumber a_bitBase a_store a_clauseFrom a_clauseCount m' (nI w') (nI L) 0 (nI r')) →
      (qd_cs T n i w L → wX_trueIn_16 post (nI i) (nI n) f_openCount (nI (qd_G T n)) (nI (qd_B T n)) f_storeEnd f_known f_models f_anyKept f_keptModels a_tokens a_openNode a_openWant a_parent a_second a_straight a_aroundCount a_around a_generalNumber a_bitBase a_store a_clauseFrom a_clauseCount m (nI w) (nI L) 1 (nI r)) ∧
      (¬ qd_cs T n i w L → wX_trueIn_16 post (nI i) (nI n) f_openCount (nI (qd_G T n)) (nI (qd_B T n)) f_storeEnd f_known f_models f_anyKept f_keptModels a_tokens a_openNode a_openWant a_parent a_second a_straight a_aroundCount a_around a_generalNumber a_bitBase a_store a_clauseFrom a_clauseCount m (nI w) (nI L) 0 (nI r)) := by
  have hB8 := qd_B8 (T := T) (m := n) O.2.2.2.1
  have h256 := qd_256 hB8
  intro d
  induction d with
  | zero =>
    intro L w r m hLd hw hr hm hs hf
    have eL : L = qd_B T n := by omega
    obtain ⟨m', rfl⟩ : ∃ m', m = m' + 1 := ⟨m - 1, by omega⟩
    refine ⟨fun hc => ?_, fun hc => hf (fun ⟨w', _, h2, h3⟩ => hc (qd_cs_mono O C h2 h3)) w r _ hw (fun _ _ => rfl) (by omega) hm⟩
    subst eL
    exact qx_ti_acc (by omega) (by omega) hB8 (hs ⟨w, hw, fun _ _ => rfl, hc⟩)
  | succ d ih =>
    intro L w r m hLd hw hr hm hs hf
    have hp : 2 ^ (d + 1 + 1) = 2 ^ (d + 1) + 2 ^ (d + 1) := by rw [Nat.pow_succ]; omega
    have hp1 : 2 ≤ 2 ^ (d + 1) := by rw [Nat.pow_succ]; have := Nat.two_pow_pos d; omega
    refine ⟨fun hc => ?_, fun hc => hf (fun ⟨w', _, h2, h3⟩ => hc (qd_cs_mono O C h2 h3)) w r _ hw (fun _ _ => rfl) (by omega) hm⟩
    obtain ⟨m0, rfl⟩ : ∃ m0, m = m0 + 1 := ⟨m - 1, by omega⟩
    have hcl := qd_clr_le w L
    have hcb : ∀ b, b < L → (qd_clr w L).testBit b = w.testBit b := fun b hb => by
      rw [qd_clr_bit (by omega), decide_eq_false (by omega)]; simp
    have hcL : (qd_clr w L).testBit L = false := by rw [qd_clr_bit (by omega)]; simp
    have key := ih (L + 1) (qd_clr w L) (r + 1) m0 (by omega) (by omega) (by omega) (by omega)
      (fun ⟨w', h1, h2, h3⟩ => hs ⟨w', h1, fun b hb => (h2 b (by omega)).trans (hcb b hb), h3⟩)
      (fun hno w' r' m' hw' hag hr' hm' => by
        have hbL : w'.testBit L = false := (hag L (by omega)).trans hcL
        obtain ⟨m1, rfl⟩ : ∃ m1, m' = m1 + 1 := ⟨m' - 1, by omega⟩
        have hsl : w' ||| 2 ^ L < 2 ^ qd_B T n := Nat.or_lt_two_pow hw' (Nat.pow_lt_pow_right (by decide) (by omega))
        have hsb : ∀ b, b < L → (w' ||| 2 ^ L).testBit b = w.testBit b := fun b hb => by
          rw [Nat.testBit_or, Nat.testBit_two_pow, decide_eq_false (by omega), Bool.or_false, hag b (by omega), hcb b hb]
        have hsL : (w' ||| 2 ^ L).testBit L = true := by rw [Nat.testBit_or, Nat.testBit_two_pow_self, Bool.or_true]
        have key2 := ih (L + 1) (w' ||| 2 ^ L) (r' + 1) m1 (by omega) hsl (by omega) (by omega)
          (fun ⟨w2, h1, h2, h3⟩ => hs ⟨w2, h1, fun b hb => (h2 b (by omega)).trans (hsb b hb), h3⟩)
          (fun hno2 w2 r2 m2 hw2 hag2 hr2 hm2 => by
            have hb2 : w2.testBit L = true := (hag2 L (by omega)).trans hsL
            obtain ⟨m3, rfl⟩ : ∃ m3, m2 = m3 + 1 := ⟨m2 - 1, by omega⟩
            refine qx_ti_pop (by omega) (by omega) hb2 (hf ?_ w2 r2 (m3 + 1) hw2 (fun b hb => (hag2 b (by omega)).trans (hsb b hb)) (by omega) hm2)
            intro ⟨w4, h1, h2, h3⟩
            cases e : w4.testBit L with
            | false =>
              refine hno ⟨w4, h1, fun b hb => ?_, h3⟩
              rcases Nat.lt_or_ge b L with y | y
              · rw [h2 b y, hcb b y]
              · have : b = L := by omega
                subst this; rw [e, hcL]
            | true =>
              refine hno2 ⟨w4, h1, fun b hb => ?_, h3⟩
              rcases Nat.lt_or_ge b L with y | y
              · rw [h2 b y, hsb b y]
              · have : b = L := by omega
                subst this; rw [e, hsL])
        exact qx_ti_set O C ht hI hN hC hi (by omega) (by omega) (by omega) hbL key2.1 key2.2)
    exact qx_ti_dn O C ht hI hN hC hi (by omega) (by omega) (by omega) (by omega) (by omega) key.1 key.2
end
/-- the truth of the formula in interpretation i -/
def qd_TR (T : Nat → Nat) (n i : Nat) : Bool := qd_V i T n 0 (fun _ => false)
theorem qx_trueIn (O : qd_OK T n) (C : qd_C T n) (ht : ∀ j, a_tokens j = nI (T j)) (hI : qx_RI T n a_second a_straight a_aroundCount a_around)
    (hN : qx_NI T n a_generalNumber a_bitBase) (hC : qx_CI T n 0 (qd_to T n 0) a_store a_clauseFrom a_clauseCount) (hi : i < 64) (H : post (nI (qd_TR T n i).toNat)) :
    wpX_trueIn post ((nI n), f_openCount, (nI (qd_G T n)), (nI (qd_B T n)), f_storeEnd, f_known, f_models, f_anyKept, f_keptModels, a_tokens, a_openNode, a_openWant, a_parent, a_second, a_straight, a_aroundCount, a_around, a_generalNumber, a_bitBase, a_store, a_clauseFrom, a_clauseCount) (nI i) := by
  unfold wpX_trueIn
  dsimp only
  have hB8 := qd_B8 (T := T) (m := n) O.2.2.2.1
  have h9 : 2 ^ (qd_B T n + 1) ≤ 512 := Nat.pow_le_pow_right (n := 2) (j := 9) (by decide) (by omega)
  have hse := qd_search (i := i) O C
  have hex : qd_ext T n i 0 0 ↔ qd_TR T n i = true := by
    unfold qd_TR
    rw [hse]
    exact ⟨fun ⟨w', h1, _, h3⟩ => ⟨w', h1, h3⟩, fun ⟨w', h1, h3⟩ => ⟨w', h1, fun b hb => by omega, h3⟩⟩
  have key := qx_dfs (post := post) (f_openCount := f_openCount) (f_storeEnd := f_storeEnd) (f_known := f_known) (f_models := f_models) (f_anyKept := f_anyKept) (f_keptModels := f_keptModels) (a_openNode := a_openNode) (a_openWant := a_openWant) (a_parent := a_parent)
    O C ht hI hN hC hi (qd_B T n) 0 0 0 2049 (by omega) (Nat.two_pow_pos _) (by omega) (by omega)
    (fun h => by rw [hex.mp h] at H; exact H)
    (fun h w' r' m' _ _ hr' hm' => by
      have e : qd_TR T n i = false := by
        cases e : qd_TR T n i with
        | false => rfl
        | true => exact absurd (hex.mpr e) h
      rw [e] at H
      obtain ⟨m1, rfl⟩ : ∃ m1, m' = m1 + 1 := ⟨m' - 1, by omega⟩
      exact qx_ti_rej H (by omega))
  exact qx_clausesStand (w := 0) (L := 0) O C ht hI hN hC hi (by omega) (by omega) (fun z => ⟨2049, key.1 z⟩) (fun z => ⟨2049, key.2 z⟩)
end
end
section
/-! the component decides: the set of all interpretations in which the formula is true -/
def qd_M (T : Nat → Nat) (n : Nat) : Int64 := lN (qd_mod (qd_TR T n) 64)
section
variable {post : Int32 → SX → Prop} {T : Nat → Nat} {n : Nat} {f_size : Int32} {f_openCount : Int32} {f_generals : Int32} {f_bits : Int32} {f_storeEnd : Int32} {f_known : Int32} {f_models : Int64} {f_anyKept : Int32} {f_keptModels : Int64} {a_tokens : Nat → Int32} {a_openNode : Nat → Int32} {a_openWant : Nat → Int32} {a_parent : Nat → Int32} {a_second : Nat → Int32} {a_straight : Nat → Int32} {a_aroundCount : Nat → Int32} {a_around : Nat → Int32} {a_generalNumber : Nat → Int32} {a_bitBase : Nat → Int32} {a_store : Nat → Int32} {a_clauseFrom : Nat → Int32} {a_clauseCount : Nat → Int32}
theorem qx_dec40 (O : qd_OK T n) (C : qd_C T n) (ht : ∀ j, a_tokens j = nI (T j)) (hI : qx_RI T n a_second a_straight a_aroundCount a_around)
    (hN : qx_NI T n a_generalNumber a_bitBase) (hC : qx_CI T n 0 (qd_to T n 0) a_store a_clauseFrom a_clauseCount)
    (H : post 1 ((nI n), f_openCount, (nI (qd_G T n)), (nI (qd_B T n)), f_storeEnd, f_known, (qd_M T n), f_anyKept, f_keptModels, a_tokens, a_openNode, a_openWant, a_parent, a_second, a_straight, a_aroundCount, a_around, a_generalNumber, a_bitBase, a_store, a_clauseFrom, a_clauseCount)) :
    ∀ d m, m + d = 64 → wX_decide_40 post (nI n) f_openCount (nI (qd_G T n)) (nI (qd_B T n)) f_storeEnd f_known f_anyKept f_keptModels a_tokens a_openNode a_openWant a_parent a_second a_straight a_aroundCount a_around a_generalNumber a_bitBase a_store a_clauseFrom a_clauseCount (d + 1) (nI m) (lN (qd_mod (qd_TR T n) m)) := by
  intro d
  induction d with
  | zero =>
    intro m hm
    have e : m = 64 := by omega
    subst e
    rw [wX_decide_40]
    exact pk_le 64 64 (fun _ => H) (fun h => by omega)
  | succ d ih =>
    intro m hm
    rw [wX_decide_40]
    have ihm := ih (m + 1) (by omega)
    have e1 : qd_mod (qd_TR T n) (m + 1) = qd_mod (qd_TR T n) m ||| (if qd_TR T n m then 2 ^ m else 0) := rfl
    rw [e1] at ihm
    have hlt : qd_mod (qd_TR T n) m < 2 ^ 64 := Nat.lt_of_lt_of_le (qd_mod_lt _ m) (Nat.pow_le_pow_right (by decide) (by omega))
    refine pk_le 64 m (fun h => by omega) (fun _ => qx_trueIn O C ht hI hN hC (by omega) (qi_b0 _ (fun e => nm_r (nI_1 m) ?_) (fun e => nm_r (e' := lN (qd_mod (qd_TR T n) m ||| 2 ^ m)) ?_ (nm_r (nI_1 m) ?_))))
    · rw [e, if_neg (by decide), Nat.or_zero] at ihm; exact ihm
    · have e2 : (1 : Int64) <<< ((nI m).toInt64 &&& 63) = lN (2 ^ m) := by
        have := wb_shl 1 (k := m) (by omega)
        rw [Nat.one_mul] at this
        exact this
      rw [e2, wb_or hlt (Nat.pow_lt_pow_right (by decide) (by omega))]
    · rw [e, if_pos rfl] at ihm; exact ihm
theorem qx_decide (O : qd_OK T n) (ht : ∀ j, a_tokens j = nI (T j)) (hkn : f_known = 0 ∨ (f_known = 1 ∧ qd_ps T n = [] ∧ f_models = qd_M T n))
    (H0 : qd_cp T n = false → ∀ (oc : Int32) (on ow pa se st ac ar : Nat → Int32),
      post 0 ((nI n), oc, f_generals, f_bits, f_storeEnd, 0, f_models, f_anyKept, f_keptModels, a_tokens, on, ow, pa, se, st, ac, ar, a_generalNumber, a_bitBase, a_store, a_clauseFrom, a_clauseCount))
    (H1 : qd_cp T n = true → ∀ (oc ge bi sn : Int32) (on ow pa se st ac ar gn bb sto cf cc : Nat → Int32),
      post 1 ((nI n), oc, ge, bi, sn, 1, (qd_M T n), f_anyKept, f_keptModels, a_tokens, on, ow, pa, se, st, ac, ar, gn, bb, sto, cf, cc)) :
    wpX_decide post ((nI n), f_openCount, f_generals, f_bits, f_storeEnd, f_known, f_models, f_anyKept, f_keptModels, a_tokens, a_openNode, a_openWant, a_parent, a_second, a_straight, a_aroundCount, a_around, a_generalNumber, a_bitBase, a_store, a_clauseFrom, a_clauseCount) := by
  unfold wpX_decide
  dsimp only
  refine qx_read O ht (fun c on ow pa se st ac ar hS hI => ?_)
  dsimp only
  refine qx_finished O.1 hS (qi_b0 _ (fun e => ?_) (fun e => ?_))
  · have hk0 : f_known = 0 := by
      rcases hkn with h | h
      · exact h
      · exact absurd h.2.1 (qd_cp_f.mp e)
    subst hk0
    exact H0 e _ _ _ _ _ _ _ _
  · rcases hkn with h | h
    · subst h
      refine br_t rfl (qx_number O ht hI (fun gn bb hN => ?_))
      dsimp only
      have C : qd_C T n := ⟨O.2.1, qd_cp_t.mp e⟩
      refine qx_makeClauses O C ht hI (fun sto cf cc hC => ?_)
      dsimp only
      exact ⟨65, qx_dec40 O C ht hI hN hC (H1 e _ _ _ _ _ _ _ _ _ _ _ _ _ _ _ _) 64 0 (by omega)⟩
    · obtain ⟨h1, _, h3⟩ := h
      subst h1 h3
      exact br_f (by decide) (H1 e _ _ _ _ _ _ _ _ _ _ _ _ _ _ _ _)
end
end
section
/-! the reference reads the tokens -/
def qy_St (op : Nat → Int32) : Nat → List Nat → Prop
  | 0, L => L = []
  | c + 1, L => ∃ d L', op c = nI d ∧ L = d :: L' ∧ qy_St op c L'
theorem qy_St_fr {op op' : Nat → Int32} : ∀ (c : Nat) (L : List Nat), (∀ j, j < c → op' j = op j) → qy_St op c L → qy_St op' c L
  | 0, _, _, h => h
  | c + 1, _, hf, h => by
    obtain ⟨d, L', h1, h2, h3⟩ := h
    exact ⟨d, L', by rw [hf c (by omega)]; exact h1, h2, qy_St_fr c L' (fun j hj => hf j (by omega)) h3⟩
theorem qy_St_len {op : Nat → Int32} : ∀ (c : Nat) (L : List Nat), qy_St op c L → L.length = c
  | 0, _, h => by rw [show _ = [] from h]; rfl
  | c + 1, _, h => by
    obtain ⟨d, L', h1, h2, h3⟩ := h
    rw [h2, List.length_cons, qy_St_len c L' h3]
theorem qd_kd_dep (T : Nat → Nat) (m : Nat) : (qd_kd T m).map (fun e => e.2.2.length) = List.replicate (qd_mo (T m)) ((qd_al T m).length + (qd_iq (T m)).toNat) := by
  apply List.eq_replicate_iff.mpr
  refine ⟨by rw [List.length_map, qd_kd_len], fun b hb => ?_⟩
  obtain ⟨e, he, rfl⟩ := List.mem_map.mp hb
  rw [qd_kids_al he]
  cases qd_iq (T m) <;> simp
section
variable {post : SY → Prop} {T : Nat → Nat} {n c m : Nat} {J11 : Int32 → Int32 → (Nat → Int32) → (Nat → Int32) → (Nat → Int32) → (Nat → Int32) → (Nat → Int32) → Prop} {f_size : Int32} {f_whole : Int32} {f_kept : Int32} {a_tokens : Nat → Int32} {a_around : Nat → Int32} {a_open : Nat → Int32} {a_parts : Nat → Int32} {a_keptTruth : Nat → Int32}
theorem qy_rd85 {t mo de : Nat} {L : List Nat} (ht : t ≤ 25) (hmo : mo ≤ 2) (hc : c ≤ 12) (hd : de ≤ 4)
    (H : ∀ op : Nat → Int32, qy_St op (c + mo) (List.replicate mo (de + (qd_iq t).toNat) ++ L) → J11 (nI (c + mo)) (nI (m + 1)) a_tokens a_around op a_parts a_keptTruth) :
    ∀ (d v : Nat) (op : Nat → Int32), v + d = mo → qy_St op (c + v) (List.replicate v (de + (qd_iq t).toNat) ++ L) →
      wY_read_85 post J11 (nI m) (nI de) (nI t) (nI mo) f_size f_whole f_kept (d + 1) (nI (c + v)) (nI v) a_tokens a_around op a_parts a_keptTruth := by
  intro d
  induction d with
  | zero =>
    intro v op hv hS
    have e : v = mo := by omega
    subst e
    rw [wY_read_85]
    exact pk_le v v (fun _ => nm_r (nI_1 m) (H op hS)) (fun h => by omega)
  | succ d ih =>
    intro v op hv hS
    rw [wY_read_85]
    have hi : vp_in (nI (c + v)) 16 := vp_in_nI (by omega) (by decide)
    have hcl : (nI (c + v)).toNatClampNeg = c + v := nI_clamp (by omega)
    have push : ∀ x : Nat, x = de + (qd_iq t).toNat → qy_St (upd op (c + v) (nI x)) (c + (v + 1)) (List.replicate (v + 1) (de + (qd_iq t).toNat) ++ L) := by
      intro x hx
      refine ⟨x, _, pk_us, ?_, qy_St_fr (c + v) _ (fun j hj => pk_un (by omega)) hS⟩
      rw [hx, List.replicate_succ, List.cons_append]
    have k115 : qd_iq t = true → wY_read_115 post J11 (wY_read_85 post J11 (nI m) (nI de) (nI t) (nI mo) f_size f_whole f_kept (d + 1)) (nI (c + v)) (nI m) (nI de) (nI t) (nI mo) (nI v) (nI (c + v)) f_size f_whole f_kept a_tokens a_around op a_parts a_keptTruth := by
      intro hq
      unfold wY_read_115
      rw [hcl, nI_1 de]
      refine ⟨hi, nm_e (nm_r (nI_1 _) (nm_r (nI_1 v) (ih (v + 1) _ (by omega) (push (de + 1) ?_))))⟩
      rw [hq]; rfl
    refine pk_le mo v (fun h => by omega) (fun _ => pk_le 16 (c + v) (fun h => by omega) (fun _ => pk_eq t 4 (fun e => k115 ((qd_iq_iff t).mpr (Or.inl e))) (fun e => pk_eq t 5 (fun e2 => k115 ((qd_iq_iff t).mpr (Or.inr e2))) (fun e2 => ⟨hi, ?_⟩))))
    rw [hcl]
    refine nm_e (nm_r (nI_1 _) (nm_r (nI_1 v) (ih (v + 1) _ (by omega) (push de ?_))))
    have : qd_iq t = false := by unfold qd_iq; simp [e, e2]
    rw [this]; rfl
theorem qy_rd138 (h13 : n ≤ 13) (hc : c ≤ 14) (hS : qy_St a_open c ((qd_ps T n).map (fun e => e.2.2.length))) (hA : ∀ j, j < n → a_around j = nI (qd_al T j).length)
    (H : ∀ ar : Nat → Int32, (∀ j, j ≤ n → ar j = nI (qd_al T j).length) → post ((nI n), (nI (qd_cp T n).toNat), f_kept, a_tokens, ar, a_open, a_parts, a_keptTruth)) :
    wY_read_138 post (nI c) (nI n) f_whole f_kept a_tokens a_around a_open a_parts a_keptTruth := by
  have hup : ∀ x : Int32, x = nI (qd_al T n).length → ∀ j, j ≤ n → upd a_around n x j = nI (qd_al T j).length := by
    intro x hx j hj
    rcases Nat.lt_or_ge j n with y | y
    · rw [pk_un (by omega)]; exact hA j y
    · have : j = n := by omega
      subst this
      rw [pk_us, hx]
  have hl := qy_St_len c _ hS
  rw [List.length_map] at hl
  have h148 : wY_read_148 post (nI c) (nI (qd_cp T n).toNat) (nI n) f_whole f_kept a_tokens a_around a_open a_parts a_keptTruth := by
    unfold wY_read_148
    refine ⟨qi_nz _, qi_fz _, ?_⟩
    rw [nI_clamp (show n < 2 ^ 31 by omega)]
    refine pk_le c 0 (fun h => ⟨vp_in_nI (by omega) (by decide), nm_e (H _ (hup 0 ?_))⟩) (fun h => ?_)
    · have e : qd_ps T n = [] := List.length_eq_zero_iff.mp (by omega)
      unfold qd_al qd_hd
      rw [e]; rfl
    · obtain ⟨c0, rfl⟩ : ∃ c0, c = c0 + 1 := ⟨c - 1, by omega⟩
      obtain ⟨d, L', h1, h2, h3⟩ := hS
      rw [nI_pred, nI_clamp (show c0 < 2 ^ 31 by omega)]
      refine ⟨vp_in_nI (by omega) (by decide), vp_in_nI (by omega) (by decide), nm_e (H _ (hup _ ?_))⟩
      rw [h1]
      have hne : qd_ps T n ≠ [] := fun e => by rw [e] at hl; simp at hl
      rw [qd_ps_cons hne, List.map_cons] at h2
      exact congrArg nI (List.cons.inj h2).1.symm
  unfold wY_read_138
  refine pk_eq c 0 (fun h => ?_) (fun h => ?_)
  · have e : qd_cp T n = true := qd_cp_t.mpr (List.length_eq_zero_iff.mp (by omega))
    rw [e] at h148; exact h148
  · have e : qd_cp T n = false := qd_cp_f.mpr (fun z => by rw [z] at hl; simp at hl; omega)
    rw [e] at h148; exact h148
theorem qy_rd11 (O : qd_OK T n) (ht : ∀ j, a_tokens j = nI (T j))
    (H : ∀ ar op : Nat → Int32, (∀ j, j ≤ n → ar j = nI (qd_al T j).length) → post ((nI n), (nI (qd_cp T n).toNat), f_kept, a_tokens, ar, op, a_parts, a_keptTruth)) :
    ∀ (d m c : Nat) (ar op : Nat → Int32), m + d = n → c ≤ m + 1 → qy_St op c ((qd_ps T m).map (fun e => e.2.2.length)) → (∀ j, j < m → ar j = nI (qd_al T j).length) →
      wY_read_11 post (nI n) f_whole f_kept (d + 1) (nI c) (nI m) a_tokens ar op a_parts a_keptTruth := by
  obtain ⟨o1, o2, o3, o4, o5⟩ := O
  intro d
  induction d with
  | zero =>
    intro m c ar op hmn hc hS hA
    have e : m = n := by omega
    subst e
    rw [wY_read_11]
    exact pk_le m m (fun _ => qy_rd138 o1 (by omega) hS hA (fun ar' h => H ar' op h)) (fun h => by omega)
  | succ d ih =>
    intro m c ar op hmn hc hS hA
    have hW := o2 m (by omega)
    have h25 := o3 m
    have hl4 : (qd_al T m).length ≤ 4 := by
      have h1 := qd_al_le T m
      have h2 := qd_qc_mono T (show m ≤ n by omega)
      omega
    obtain ⟨c0, rfl⟩ : ∃ c0, c = c0 + 1 := by
      cases c with
      | zero =>
        exfalso
        have h0 : (qd_ps T m).map (fun e => e.2.2.length) = [] := hS
        exact hW (List.map_eq_nil_iff.mp h0)
      | succ c0 => exact ⟨c0, rfl⟩
    obtain ⟨dd, L', h1, h2, h3⟩ := hS
    rw [qd_ps_cons hW, List.map_cons] at h2
    have hdd : dd = (qd_al T m).length := (List.cons.inj h2).1.symm
    have hL' : (qd_ps T m).tail.map (fun e => e.2.2.length) = L' := (List.cons.inj h2).2
    have eps : (qd_ps T (m + 1)).map (fun e => e.2.2.length) = List.replicate (qd_mo (T m)) ((qd_al T m).length + (qd_iq (T m)).toNat) ++ L' := by
      rw [qd_ps_s, List.map_append, qd_kd_dep, hL']
    have hmo := qd_mo_le (T m)
    rw [wY_read_11]
    refine pk_le n m (fun h => by omega) (fun _ => pk_le (c0 + 1) 0 (fun h => by omega) (fun _ => ?_))
    rw [pk_m1]
    refine nm_e ⟨vp_in_nI (by omega) (by decide), ?_⟩
    rw [nI_clamp (show c0 < 2 ^ 31 by omega), nI_clamp (show m < 2 ^ 31 by omega)]
    refine nm_r (h1.trans (by rw [hdd])) ⟨vp_in_nI (by omega) (by decide), nm_r (ht m) ⟨vp_in_nI (by omega) (by decide), nm_e ?_⟩⟩
    have go : ∀ mo, mo = qd_mo (T m) → ∃ n85 : Nat, wY_read_85 post (wY_read_11 post (nI n) f_whole f_kept (d + 1)) (nI m) (nI (qd_al T m).length) (nI (T m)) (nI mo) (nI n) f_whole f_kept n85 (nI c0) (nI 0) a_tokens (upd ar m (nI (qd_al T m).length)) op a_parts a_keptTruth := by
      intro mo emo
      refine ⟨mo + 1, ?_⟩
      refine qy_rd85 (c := c0) (L := L') h25 (by omega) (by omega) hl4 (fun op' hS' => ?_) mo 0 op (by omega) h3
      rw [emo] at hS' ⊢
      rw [← eps] at hS'
      refine ih (m + 1) _ _ _ (by omega) (by omega) hS' (fun j hj => ?_)
      rcases Nat.lt_or_ge j m with y | y
      · rw [pk_un (by omega)]; exact hA j y
      · have : j = m := by omega
        subst this
        exact pk_us
    refine pk_eq (T m) 0 (fun e => go 1 (qd_mo1.mpr (by omega)).symm) (fun e0 => pk_eq (T m) 4 (fun e => go 1 (qd_mo1.mpr (by omega)).symm) (fun e4 => pk_eq (T m) 5 (fun e => go 1 (qd_mo1.mpr (by omega)).symm) (fun e5 => pk_lt 3 (T m) (fun e => go 0 (qd_mo0.mpr (by omega)).symm) (fun e => go 2 (qd_mo2.mpr (by omega)).symm))))
theorem qy_read (O : qd_OK T n) (ht : ∀ j, a_tokens j = nI (T j))
    (H : ∀ ar op : Nat → Int32, (∀ j, j ≤ n → ar j = nI (qd_al T j).length) → post ((nI n), (nI (qd_cp T n).toNat), f_kept, a_tokens, ar, op, a_parts, a_keptTruth)) :
    wpY_read post ((nI n), f_whole, f_kept, a_tokens, a_around, a_open, a_parts, a_keptTruth) := by
  unfold wpY_read
  dsimp only
  exact nm_e ⟨n + 1, qy_rd11 O ht H n 0 1 _ _ (by omega) (by omega) ⟨0, [], pk_us, rfl, rfl⟩ (fun j hj => by omega)⟩
end
section
variable {post : Int32 → Prop} {T : Nat → Nat} {n : Nat} {f_size : Int32} {f_whole : Int32} {f_kept : Int32} {a_tokens : Nat → Int32} {a_around : Nat → Int32} {a_open : Nat → Int32} {a_parts : Nat → Int32} {a_keptTruth : Nat → Int32}
theorem qy_quantifiers (h13 : n ≤ 13) (h25 : ∀ k, T k ≤ 25) (ht : ∀ j, a_tokens j = nI (T j)) (H : post (nI (qd_qc T n))) : wpY_quantifiers post ((nI n), f_whole, f_kept, a_tokens, a_around, a_open, a_parts, a_keptTruth) := by
  unfold wpY_quantifiers
  dsimp only
  have key : ∀ d m, m + d = n → wY_quantifiers_4 post (nI n) f_whole f_kept a_tokens a_around a_open a_parts a_keptTruth (d + 1) (nI (qd_qc T m)) (nI m) := by
    intro d
    induction d with
    | zero =>
      intro m hm
      have e : m = n := by omega
      subst e
      rw [wY_quantifiers_4]
      exact pk_le m m (fun _ => H) (fun h => by omega)
    | succ d ih =>
      intro m hm
      rw [wY_quantifiers_4]; dsimp only
      have hi : vp_in (nI m) 13 := vp_in_nI (by omega) (by decide)
      rw [nI_clamp (show m < 2 ^ 31 by omega), ht]
      have h25m := h25 m
      have hq : qd_qc T (m + 1) = qd_qc T m + (qd_iq (T m)).toNat := rfl
      have ihm := ih (m + 1) (by omega)
      rw [hq] at ihm
      refine pk_le n m (fun h => by omega) (fun _ => ⟨hi, pk_eq (T m) 4 (fun e => nm_r (nI_1 _) (nm_r (nI_1 m) ?_)) (fun e => ⟨hi, pk_eq (T m) 5 (fun e2 => nm_r (nI_1 _) (nm_r (nI_1 m) ?_)) (fun e2 => nm_r (e' := nI (qd_qc T m)) (nI_add _ 0) (nm_r (nI_1 m) ?_))⟩)⟩)
      · rw [(qd_iq_iff (T m)).mpr (Or.inl e)] at ihm; exact ihm
      · rw [(qd_iq_iff (T m)).mpr (Or.inr e2)] at ihm; exact ihm
      · have : qd_iq (T m) = false := by unfold qd_iq; simp [e, e2]
        rw [this] at ihm; exact ihm
  exact ⟨n + 1, key n 0 (by omega)⟩
end
end
section
/-! the reference works out the truth in one interpretation, for all sixteen choices at once -/
def qy_ev (e : Nat) : Nat → Bool := fun v => e.testBit v
def qy_mk (f : (Nat → Bool) → Bool) : Int32 := nI (qd_mod (fun e => f (qy_ev e)) 16)
theorem qi_btn (a : Nat) {i : Nat} (hi : i < 32) : bt (nI a) i = a.testBit i := by
  unfold bt
  show (BitVec.ofNat 32 a).getLsbD i = _
  rw [BitVec.getLsbD_ofNat, decide_eq_true hi, Bool.true_and]
theorem qy_mk_bit (f : (Nat → Bool) → Bool) {i : Nat} (hi : i < 32) : bt (qy_mk f) i = (decide (i < 16) && f (qy_ev i)) := by
  unfold qy_mk
  rw [qi_btn _ hi, qd_mod_bit]
theorem qy_mk_not (f : (Nat → Bool) → Bool) : (qy_mk f ^^^ (-1)) &&& 65535 = qy_mk (fun e => !f e) := by
  apply b_ext
  intro i hi
  rw [b_and, b_xor, b_65535, b_m1 i hi, qy_mk_bit _ hi, qy_mk_bit _ hi]
  cases decide (i < 16) <;> cases f (qy_ev i) <;> rfl
theorem qy_mk_and (f g : (Nat → Bool) → Bool) : qy_mk f &&& qy_mk g = qy_mk (fun e => f e && g e) := by
  apply b_ext
  intro i hi
  rw [b_and, qy_mk_bit _ hi, qy_mk_bit _ hi, qy_mk_bit _ hi]
  cases decide (i < 16) <;> cases f (qy_ev i) <;> cases g (qy_ev i) <;> rfl
theorem qy_mk_or (f g : (Nat → Bool) → Bool) : qy_mk f ||| qy_mk g = qy_mk (fun e => f e || g e) := by
  apply b_ext
  intro i hi
  rw [b_or, qy_mk_bit _ hi, qy_mk_bit _ hi, qy_mk_bit _ hi]
  cases decide (i < 16) <;> cases f (qy_ev i) <;> cases g (qy_ev i) <;> rfl
theorem qy_mk_if (f g : (Nat → Bool) → Bool) : ((qy_mk f ^^^ (-1)) ||| qy_mk g) &&& 65535 = qy_mk (fun e => !f e || g e) := by
  apply b_ext
  intro i hi
  rw [b_and, b_or, b_xor, b_65535, b_m1 i hi, qy_mk_bit _ hi, qy_mk_bit _ hi, qy_mk_bit _ hi]
  cases decide (i < 16) <;> cases f (qy_ev i) <;> cases g (qy_ev i) <;> rfl
theorem qy_mk_0 (f : (Nat → Bool) → Bool) : qy_mk f &&& 1 = nI (f (fun _ => false)).toNat := by
  unfold qy_mk
  have hl := qd_mod_lt (fun e => f (qy_ev e)) 16
  rw [pk_andN (m := 1) (by omega) 1 (by decide)]
  have h := qi_tb (qd_mod (fun e => f (qy_ev e)) 16) 0
  rw [qd_mod_bit, Nat.pow_zero, Nat.div_one] at h
  rw [show 2 ^ 1 = 2 from rfl, ← h]
  have e : qy_ev 0 = fun _ => false := by funext v; exact Nat.zero_testBit v
  rw [e]; rfl
theorem qi_mst (K : Nat → Bool) {m : Nat} (hm : m < 31) : nI (qd_mod K m) ||| (nI (K m).toNat <<< (nI m &&& 31)) = nI (qd_mod K (m + 1)) := by
  rw [qi_shb _ hm, qi_or]
  show _ = nI (qd_mod K m ||| (if K m then 2 ^ m else 0))
  cases K m
  · show nI (qd_mod K m ||| 0 * 2 ^ m) = nI (qd_mod K m ||| 0)
    rw [Nat.zero_mul]
  · show nI (qd_mod K m ||| 1 * 2 ^ m) = nI (qd_mod K m ||| 2 ^ m)
    rw [Nat.one_mul]
section
variable {post : Int32 → Prop} {i t : Nat} {f_size : Int32} {f_whole : Int32} {f_kept : Int32} {a_tokens : Nat → Int32} {a_around : Nat → Int32} {a_open : Nat → Int32} {a_parts : Nat → Int32} {a_keptTruth : Nat → Int32}
theorem qy_atom (hi : i < 64) (h6 : 6 ≤ t) (h25 : t ≤ 25) (H : post (qy_mk (qd_at i t))) : wpY_atom post (f_size, f_whole, f_kept, a_tokens, a_around, a_open, a_parts, a_keptTruth) (nI t) (nI i) := by
  unfold wpY_atom
  dsimp only
  have key : ∀ d m, m + d = 16 → wY_atom_5 post (nI t) (nI i) f_size f_whole f_kept a_tokens a_around a_open a_parts a_keptTruth (d + 1) (nI (qd_mod (fun e => qd_at i t (qy_ev e)) m)) (nI m) := by
    intro d
    induction d with
    | zero =>
      intro m hm
      have e : m = 16 := by omega
      subst e
      rw [wY_atom_5]
      exact pk_le 16 16 (fun _ => H) (fun h => by omega)
    | succ d ih =>
      intro m hm
      have ihm := ih (m + 1) (by omega)
      have h86 : ∀ b : Nat, b < 32 → i.testBit b = qd_at i t (qy_ev m) →
          wY_atom_86 post (wY_atom_5 post (nI t) (nI i) f_size f_whole f_kept a_tokens a_around a_open a_parts a_keptTruth (d + 1)) (nI t) (nI i) (nI (qd_mod (fun e => qd_at i t (qy_ev e)) m)) (nI m) (nI b) f_size f_whole f_kept a_tokens a_around a_open a_parts a_keptTruth := by
        intro b hb eb
        unfold wY_atom_86
        rw [qi_bit (by omega) hb, eb]
        exact nm_r (qi_mst (fun e => qd_at i t (qy_ev e)) (by omega)) (nm_r (nI_1 m) ihm)
      have b2 : ∀ b : Bool, b.toNat < 2 := by intro b; cases b <;> decide
      rw [wY_atom_5]
      refine pk_le 16 m (fun h => by omega) (fun _ => pk_le 10 t (fun h => ⟨by decide, ?_⟩) (fun h => ?_))
      · have e10 : nI t - 10 = nI (t - 10) := pk_sub h
        have ed : nI (t - 10) / 4 = nI ((t - 10) / 4) := pk_div (d := 4) (by omega) (by decide) (by decide)
        have er : nI (t - 10) - nI (t - 10) / 4 * 4 = nI ((t - 10) % 4) := pk_rem (d := 4) (by omega) (by decide) (by decide)
        rw [e10, ed, qi_bit (by omega) (by omega)]
        unfold wY_atom_41
        refine pk_le 10 t (fun _ => ⟨by decide, ?_⟩) (fun h2 => by omega)
        rw [e10, er, qi_bit (by omega) (by omega)]
        unfold wY_atom_64
        refine pk_le 10 t (fun _ => ?_) (fun h2 => by omega)
        have e2 : (2 : Int32) + 2 * nI (m.testBit ((t - 10) / 4)).toNat + nI (m.testBit ((t - 10) % 4)).toNat = nI (2 + 2 * (m.testBit ((t - 10) / 4)).toNat + (m.testBit ((t - 10) % 4)).toNat) := by
          show nI 2 + nI 2 * nI _ + nI _ = _
          rw [pk_mul, nI_add, nI_add]
        rw [e2]
        have ba := b2 (m.testBit ((t - 10) / 4))
        have bb := b2 (m.testBit ((t - 10) % 4))
        refine h86 _ (by omega) ?_
        unfold qd_at
        rw [if_neg (by omega)]; rfl
      · have e6 : nI t - 6 = nI (t - 6) := pk_sub h6
        rw [e6, qi_bit (by omega) (by omega)]
        unfold wY_atom_41
        refine pk_le 10 t (fun h2 => by omega) (fun _ => ?_)
        unfold wY_atom_64
        refine pk_le 10 t (fun h2 => by omega) (fun _ => ?_)
        have ba := b2 (m.testBit (t - 6))
        refine h86 _ (by omega) ?_
        unfold qd_at
        rw [if_pos h]; rfl
  exact ⟨17, key 16 0 (by omega)⟩
theorem qy_bound {f : (Nat → Bool) → Bool} {v : Nat} {al : Bool} (hv : v < 4)
    (H : post (qy_mk (fun e => if al then f (qd_up e v false) && f (qd_up e v true) else f (qd_up e v false) || f (qd_up e v true)))) :
    wpY_bound post (f_size, f_whole, f_kept, a_tokens, a_around, a_open, a_parts, a_keptTruth) (qy_mk f) (nI v) (nI al.toNat) := by
  unfold wpY_bound
  dsimp only
  generalize hK : (fun e : Nat → Bool => if al then f (qd_up e v false) && f (qd_up e v true) else f (qd_up e v false) || f (qd_up e v true)) = g at H
  have hl := qd_mod_lt (fun e => f (qy_ev e)) 16
  have key : ∀ d m, m + d = 16 → wY_bound_6 post (qy_mk f) (nI v) (nI al.toNat) f_size f_whole f_kept a_tokens a_around a_open a_parts a_keptTruth (d + 1) (nI (qd_mod (fun e => g (qy_ev e)) m)) (nI m) := by
    intro d
    induction d with
    | zero =>
      intro m hm
      have e : m = 16 := by omega
      subst e
      rw [wY_bound_6]
      exact pk_le 16 16 (fun _ => H) (fun h => by omega)
    | succ d ih =>
      intro m hm
      have ihm := ih (m + 1) (by omega)
      have hc := qd_clr_le m v
      have ho : m ||| 2 ^ v < 2 ^ 4 := Nat.or_lt_two_pow (by omega) (Nat.pow_lt_pow_right (by decide) hv)
      have ec : qy_ev (qd_clr m v) = qd_up (qy_ev m) v false := by
        funext u
        show (qd_clr m v).testBit u = if u = v then false else m.testBit u
        rw [qd_clr_bit (by omega)]
        by_cases z : u = v
        · rw [if_pos z, decide_eq_true z.symm, Bool.not_true, Bool.and_false]
        · rw [if_neg z, decide_eq_false (fun y => z y.symm), Bool.not_false, Bool.and_true]
      have eo : qy_ev (m ||| 2 ^ v) = qd_up (qy_ev m) v true := by
        funext u
        show (m ||| 2 ^ v).testBit u = if u = v then true else m.testBit u
        rw [Nat.testBit_or, Nat.testBit_two_pow]
        by_cases z : u = v
        · rw [if_pos z, decide_eq_true z.symm, Bool.or_true]
        · rw [if_neg z, decide_eq_false (fun y => z y.symm), Bool.or_false]
      have e0 : (qy_mk f >>> (nI (qd_clr m v) &&& 31)) &&& 1 = nI (f (qd_up (qy_ev m) v false)).toNat := by
        unfold qy_mk
        rw [qi_bit (by omega) (by omega), qd_mod_bit, decide_eq_true (show qd_clr m v < 16 by omega), Bool.true_and, ec]
      have e1 : (qy_mk f >>> (nI (m ||| 2 ^ v) &&& 31)) &&& 1 = nI (f (qd_up (qy_ev m) v true)).toNat := by
        unfold qy_mk
        rw [qi_bit (by omega) (by omega), qd_mod_bit, decide_eq_true (show m ||| 2 ^ v < 16 from ho), Bool.true_and, eo]
      rw [wY_bound_6]
      refine pk_le 16 m (fun h => by omega) (fun _ => ?_)
      rw [qi_clr m (by omega) v (by omega), qi_sh (by omega), qi_or, e0, e1]
      refine nm_e (nm_e (qi_b0 al (fun e => nm_r (e' := nI (qd_mod (fun e => g (qy_ev e)) (m + 1))) ?_ (nm_r (nI_1 m) ihm)) (fun e => nm_r (e' := nI (qd_mod (fun e => g (qy_ev e)) (m + 1))) ?_ (nm_r (nI_1 m) ihm))))
      · rw [← qi_mst (fun e => g (qy_ev e)) (by omega), ← hK, e]
        congr 2
        show _ = nI (f (qd_up (qy_ev m) v false) || f (qd_up (qy_ev m) v true)).toNat
        cases f (qd_up (qy_ev m) v false) <;> cases f (qd_up (qy_ev m) v true) <;> rfl
      · rw [← qi_mst (fun e => g (qy_ev e)) (by omega), ← hK, e]
        congr 2
        show _ = nI (f (qd_up (qy_ev m) v false) && f (qd_up (qy_ev m) v true)).toNat
        cases f (qd_up (qy_ev m) v false) <;> cases f (qd_up (qy_ev m) v true) <;> rfl
  exact ⟨17, key 16 0 (by omega)⟩
end
/-- the reference's stack of parts -/
def qy_Pt (pa : Nat → Int32) : Nat → List ((Nat → Bool) → Bool) → Prop
  | 0, L => L = []
  | c + 1, L => ∃ f L', pa c = qy_mk f ∧ L = f :: L' ∧ qy_Pt pa c L'
theorem qy_Pt_fr {pa pa' : Nat → Int32} : ∀ (c : Nat) (L : List ((Nat → Bool) → Bool)), (∀ j, j < c → pa' j = pa j) → qy_Pt pa c L → qy_Pt pa' c L
  | 0, _, _, h => h
  | c + 1, _, hf, h => by
    obtain ⟨d, L', h1, h2, h3⟩ := h
    exact ⟨d, L', by rw [hf c (by omega)]; exact h1, h2, qy_Pt_fr c L' (fun j hj => hf j (by omega)) h3⟩
def qd_VS (i : Nat) (T : Nat → Nat) (n k : Nat) : List ((Nat → Bool) → Bool) := qd_S (fun _ => false) (fun k e => qd_at i (T k) e) (qd_f1 T) (qd_f2 T) T n k
section
variable {post : Int32 → SY → Prop} {T : Nat → Nat} {n i c m : Nat} {L : List ((Nat → Bool) → Bool)} {f g : (Nat → Bool) → Bool} {J9 : Int32 → Int32 → (Nat → Int32) → (Nat → Int32) → (Nat → Int32) → (Nat → Int32) → (Nat → Int32) → Prop} {f_size : Int32} {f_whole : Int32} {f_kept : Int32} {a_tokens : Nat → Int32} {a_around : Nat → Int32} {a_open : Nat → Int32} {a_parts : Nat → Int32} {a_keptTruth : Nat → Int32}
theorem qy_tr137 (hc : c ≤ 12) (h1 : 1 ≤ T m) (h3 : T m ≤ 3) (hP : qy_Pt a_parts (c + 2) (f :: g :: L))
    (H : ∀ pa : Nat → Int32, qy_Pt pa (c + 1) (qd_f2 T m f g :: L) → J9 (nI (c + 1)) (nI m + (-1)) a_tokens a_around a_open pa a_keptTruth) :
    wY_truth_137 post J9 (nI i) (nI (c + 2)) (nI m) (nI (T m)) f_size f_whole f_kept a_tokens a_around a_open a_parts a_keptTruth := by
  obtain ⟨f', L1, p1, p2, p3⟩ := hP
  obtain ⟨g', L2, q1, q2, q3⟩ := p3
  have ef : f' = f := (List.cons.inj p2).1.symm
  have eL1 : L1 = g :: L := (List.cons.inj p2).2.symm
  rw [eL1] at q2
  have eg : g' = g := (List.cons.inj q2).1.symm
  have eL : L2 = L := (List.cons.inj q2).2.symm
  subst ef eg eL
  have hup : ∀ x : Int32, x = qy_mk (qd_f2 T m f' g') → qy_Pt (upd a_parts c x) (c + 1) (qd_f2 T m f' g' :: L2) := fun x hx =>
    ⟨_, _, by rw [pk_us]; exact hx, rfl, qy_Pt_fr c _ (fun j hj => pk_un (by omega)) q3⟩
  unfold wY_truth_137
  have e1 : nI (c + 2) - 1 = nI (c + 1) := nI_pred (c + 1)
  have e2 : nI (c + 2) - 2 = nI c := pk_sub (a := c + 2) (b := 2) (by omega)
  have e3 : nI (c + 2) + (-1) = nI (c + 1) := pk_m1 (c + 1)
  have hi1 : vp_in (nI (c + 1)) 16 := vp_in_nI (by omega) (by decide)
  have hi0 : vp_in (nI c) 16 := vp_in_nI (by omega) (by decide)
  rw [e1, e2, e3, nI_clamp (show c + 1 < 2 ^ 31 by omega), nI_clamp (show c < 2 ^ 31 by omega), p1, q1]
  refine pk_lt (c + 2) 2 (fun h => by omega) (fun _ => ⟨hi1, nm_e ⟨hi0, nm_e (nm_e ?_)⟩⟩)
  rw [nI_pred, nI_clamp (show c < 2 ^ 31 by omega), qy_mk_and, qy_mk_or, qy_mk_if]
  refine pk_eq (T m) 1 (fun e => ⟨hi0, nm_e (nm_e (H _ (hup _ ?_)))⟩) (fun e => pk_eq (T m) 2 (fun e2 => ⟨hi0, nm_e (nm_e (H _ (hup _ ?_)))⟩) (fun e2 => ⟨hi0, nm_e (nm_e (H _ (hup _ ?_)))⟩))
  · unfold qd_f2; simp only [if_pos e]
  · unfold qd_f2; simp only [if_neg e, if_pos e2]
  · unfold qd_f2; simp only [if_neg e, if_neg e2]
theorem qy_tr84 (hc : c ≤ 12) (hm : m < n) (h13 : n ≤ 13) (hq : qd_iq (T m) = true) (hl : (qd_al T m).length ≤ 3) (hA : a_around m = nI (qd_al T m).length) (hP : qy_Pt a_parts (c + 1) (f :: L))
    (H : ∀ pa : Nat → Int32, qy_Pt pa (c + 1) (qd_f1 T m f :: L) → J9 (nI (c + 1)) (nI m + (-1)) a_tokens a_around a_open pa a_keptTruth) :
    wY_truth_84 post J9 (nI i) (nI (c + 1)) (nI m) (nI (T m)) f_size f_whole f_kept a_tokens a_around a_open a_parts a_keptTruth := by
  obtain ⟨f', L1, p1, p2, p3⟩ := hP
  have ef : f' = f := (List.cons.inj p2).1.symm
  have eL1 : L1 = L := (List.cons.inj p2).2.symm
  subst ef eL1
  have hq' := (qd_iq_iff _).mp hq
  have hi0 : vp_in (nI c) 16 := vp_in_nI (by omega) (by decide)
  have e3 : nI (qd_al T m).length &&& 3 = nI (qd_al T m).length := by
    rw [pk_andN (m := 3) (by omega) 2 (by decide), Nat.mod_eq_of_lt (by omega)]
  have k130 : ∀ b : Bool, decide (T m = 4) = b → wY_truth_130 post J9 (nI i) (nI (c + 1)) (nI m) (nI b.toNat) (nI (qd_al T m).length) (qy_mk f') (nI c) f_size f_whole f_kept a_tokens a_around a_open a_parts a_keptTruth := by
    intro b hb
    unfold wY_truth_130
    rw [nI_clamp (show c < 2 ^ 31 by omega)]
    refine qy_bound (al := b) (by omega) ⟨hi0, nm_e (nm_e (H _ ⟨_, _, pk_us.trans ?_, rfl, qy_Pt_fr c _ (fun j hj => pk_un (by omega)) p3⟩))⟩
    congr 1
    funext e
    unfold qd_f1
    have hz : ¬ T m = 0 := by omega
    subst hb
    by_cases z : T m = 4
    · simp only [if_neg hz, if_pos z, if_pos (decide_eq_true z)]
    · simp only [if_neg hz, if_neg z, if_neg (show ¬ decide (T m = 4) = true by simpa using z)]
  unfold wY_truth_84
  rw [nI_pred, nI_clamp (show c < 2 ^ 31 by omega), nI_clamp (show m < 2 ^ 31 by omega), p1, hA, e3]
  refine pk_lt (T m) 4 (fun h => by omega) (fun _ => pk_lt (c + 1) 1 (fun h => by omega) (fun _ => ⟨hi0, vp_in_nI (by omega) (by decide), ?_⟩) rfl rfl (by omega)) rfl rfl (by omega)
  exact pk_eq (T m) 4 (fun e => k130 true (decide_eq_true e)) (fun e => k130 false (decide_eq_false e)) rfl rfl (by omega)
theorem qy_truth (O : qd_OK T n) (C : qd_C T n) (ht : ∀ j, a_tokens j = nI (T j)) (hA : ∀ j, j < n → a_around j = nI (qd_al T j).length) (hi : i < 64)
    (H : ∀ pa : Nat → Int32, post (nI (qd_TR T n i).toNat) ((nI n), f_whole, f_kept, a_tokens, a_around, a_open, pa, a_keptTruth)) :
    wpY_truth post ((nI n), f_whole, f_kept, a_tokens, a_around, a_open, a_parts, a_keptTruth) (nI i) := by
  unfold wpY_truth
  dsimp only
  have h13 := O.1
  have h25 := O.2.2.1
  have hn := qd_C_pos C
  have key : ∀ (m c : Nat) (pa : Nat → Int32), m ≤ n → c + m ≤ n → qy_Pt pa c (qd_VS i T n m) →
      wY_truth_9 post (nI i) (nI n) f_whole f_kept (m + 1) (nI c) (nI m + (-1)) a_tokens a_around a_open pa a_keptTruth := by
    intro m
    induction m with
    | zero =>
      intro c pa hm hc hP
      have eS : qd_VS i T n 0 = [qd_V i T n 0] := by
        have l := congrArg List.length (qd_bs_ps C 0 (by omega))
        have a := (qd_bs_en C 0 hn).1
        unfold qd_VS
        rw [qd_S_map 0 (by omega)]
        cases e : qd_bs T n (qd_en T n 0) with
        | nil => rw [a, e]; rfl
        | cons x r => rw [a, e] at l; simp [qd_ps] at l
      rw [eS] at hP
      have hp0 : pa 0 = qy_mk (qd_V i T n 0) := by
        cases c with
        | zero => exact absurd hP (by show ¬ [qd_V i T n 0] = []; simp)
        | succ c0 =>
          obtain ⟨f, L', p1, p2, p3⟩ := hP
          have ef := (List.cons.inj p2).1
          have eL := (List.cons.inj p2).2
          cases c0 with
          | zero => rw [ef]; exact p1
          | succ c1 =>
            obtain ⟨f2, L2, _, q2, _⟩ := p3
            rw [← eL] at q2
            exact absurd q2 (by simp)
      rw [wY_truth_9]
      refine br_t (by decide) ?_
      rw [hp0, qy_mk_0]
      show (nI (qd_TR T n i).toNat = 1 → _) ∧ (¬ nI (qd_TR T n i).toNat = 1 → _)
      have H' := H pa
      cases e : qd_TR T n i with
      | true => rw [e] at H'; exact br_t rfl H'
      | false => rw [e] at H'; exact br_f (by decide) H'
    | succ m ih =>
      intro c pa hm hc hP
      have hmn : m < n := by omega
      have h25m := h25 m
      have him : vp_in (nI m) 13 := vp_in_nI (by omega) (by decide)
      rw [pk_m1, wY_truth_9]
      refine br_f (nI_pos (by omega)) ⟨him, ?_⟩
      rw [nI_clamp (show m < 2 ^ 31 by omega)]
      refine nm_r (ht m) ?_
      have hVS1 : qd_mo (T m) = 1 → ∃ f L, qd_VS i T n (m + 1) = f :: L ∧ qd_VS i T n m = qd_f1 T m f :: L := by
        intro z
        have hnx := qd_next C hmn (by omega)
        have a := (qd_bs_en C (m + 1) hnx).1
        have e1 : qd_VS i T n (m + 1) = qd_V i T n (m + 1) :: (qd_bs T n (qd_en T n (m + 1))).map (qd_V i T n) := by
          unfold qd_VS
          rw [qd_S_map (m + 1) (by omega), a]; rfl
        refine ⟨_, _, e1, ?_⟩
        have e2 : qd_VS i T n m = qd_f1 T m (qd_V i T n (m + 1)) :: (qd_VS i T n (m + 1)).tail := qd_S_1 hmn z
        rw [e2, e1]; rfl
      have hVS2 : qd_mo (T m) = 2 → ∃ f g L, qd_VS i T n (m + 1) = f :: g :: L ∧ qd_VS i T n m = qd_f2 T m f g :: L := by
        intro z
        obtain ⟨s1, s2, s3, s4⟩ := qd_en2 C hmn z
        have a := (qd_bs_en C (m + 1) s1).1
        have b := (qd_bs_en C (qd_s2 T n m) s3).1
        have e0 : qd_bs T n (m + 1) = (m + 1) :: qd_s2 T n m :: qd_bs T n (qd_en T n (qd_s2 T n m)) := by
          rw [a]; congr 1
        have e1 : qd_VS i T n (m + 1) = qd_V i T n (m + 1) :: qd_V i T n (qd_s2 T n m) :: (qd_bs T n (qd_en T n (qd_s2 T n m))).map (qd_V i T n) := by
          unfold qd_VS
          rw [qd_S_map (m + 1) (by omega), e0]; rfl
        refine ⟨_, _, _, e1, ?_⟩
        have e2 : qd_VS i T n m = qd_f2 T m (qd_V i T n (m + 1)) ((qd_VS i T n (m + 1)).tail.headD (fun _ => false)) :: (qd_VS i T n (m + 1)).tail.tail := qd_S_2 hmn z
        rw [e2, e1]; rfl
      refine pk_lt (T m) 6 (fun h6 => ?_) (fun h6 => ?_) rfl rfl (by omega)
      · refine pk_eq (T m) 0 (fun z0 => ?_) (fun z0 => ?_) rfl rfl (by omega)
        · obtain ⟨f, L, v1, v2⟩ := hVS1 (qd_mo1.mpr (by omega))
          rw [v1] at hP
          cases c with
          | zero => exact absurd hP (by show ¬ f :: L = []; simp)
          | succ c0 =>
            obtain ⟨f', L1, p1, p2, p3⟩ := hP
            have ef : f' = f := (List.cons.inj p2).1.symm
            have eL1 : L1 = L := (List.cons.inj p2).2.symm
            subst ef eL1
            have hi0 : vp_in (nI c0) 16 := vp_in_nI (by omega) (by decide)
            rw [nI_pred, nI_clamp (show c0 < 2 ^ 31 by omega), p1, qy_mk_not]
            refine pk_lt (c0 + 1) 1 (fun h => by omega) (fun _ => ⟨hi0, hi0, nm_e (nm_e (ih (c0 + 1) _ (by omega) (by omega) ?_))⟩) rfl rfl (by omega)
            rw [v2]
            refine ⟨_, _, ?_, rfl, qy_Pt_fr c0 _ (fun j hj => pk_un (by omega)) p3⟩
            rw [pk_us]
            congr 1
            funext e
            unfold qd_f1
            rw [if_pos z0]
        · rcases qd_mo_le (T m) with z | z | z
          · exact absurd (qd_mo0.mp z) (by omega)
          · obtain ⟨f, L, v1, v2⟩ := hVS1 z
            have hq : qd_iq (T m) = true := (qd_iq_iff _).mpr (by have := qd_mo1.mp z; omega)
            rw [v1] at hP
            cases c with
            | zero => exact absurd hP (by show ¬ f :: L = []; simp)
            | succ c0 =>
              exact qy_tr84 (c := c0) (by omega) hmn h13 hq (qd_len3 O hmn hq) (hA m hmn) hP (fun pa' hP' => ih (c0 + 1) pa' (by omega) (by omega) (by rw [v2]; exact hP'))
          · obtain ⟨f, g, L, v1, v2⟩ := hVS2 z
            have z' := qd_mo2.mp z
            rw [v1] at hP
            have hc2 : ∃ c0, c = c0 + 2 := by
              cases c with
              | zero => exact absurd hP (by show ¬ f :: g :: L = []; simp)
              | succ c0 =>
                cases c0 with
                | zero =>
                  obtain ⟨f', L1, p1, p2, p3⟩ := hP
                  have eL1 : L1 = g :: L := (List.cons.inj p2).2.symm
                  rw [eL1] at p3
                  exact absurd p3 (by show ¬ g :: L = []; simp)
                | succ c1 => exact ⟨c1, rfl⟩
            obtain ⟨c0, rfl⟩ := hc2
            unfold wY_truth_84
            refine pk_lt (T m) 4 (fun _ => ?_) (fun h => by omega) rfl rfl (by omega)
            exact qy_tr137 (c := c0) (by omega) (by omega) (by omega) hP (fun pa' hP' => ih (c0 + 1) pa' (by omega) (by omega) (by rw [v2]; exact hP'))
      · have z : qd_mo (T m) = 0 := qd_mo0.mpr h6
        have v2 : qd_VS i T n m = qd_at i (T m) :: qd_VS i T n (m + 1) := qd_S_0 hmn z
        have e15 : nI c &&& 15 = nI c := by rw [pk_andN (m := 15) (by omega) 4 (by decide), Nat.mod_eq_of_lt (by omega)]
        refine qy_atom hi h6 h25m ?_
        rw [e15, nI_clamp (show c < 2 ^ 31 by omega)]
        refine ⟨vp_in_nI (by omega) (by decide), nm_e (nm_r (nI_1 c) (nm_e (ih (c + 1) _ (by omega) (by omega) ?_)))⟩
        rw [v2]
        exact ⟨_, _, pk_us, rfl, qy_Pt_fr c _ (fun j hj => pk_un (by omega)) hP⟩
  obtain ⟨n', rfl⟩ : ∃ n', n = n' + 1 := ⟨n - 1, by omega⟩
  rw [nI_pred]
  refine nm_e ⟨n' + 1 + 1, ?_⟩
  have := key (n' + 1) 0 a_parts (Nat.le_refl _) (by omega) (by show qd_VS i T (n' + 1) (n' + 1) = []; exact qd_S_n)
  rw [pk_m1] at this
  exact this
end
end
section
/-! sets of interpretations as longs -/
theorem qi_lb (K : Nat → Bool) {k : Nat} (hk : k < 64) : ((lN (qd_mod K 64)).toUInt64 >>> ((nI k).toInt64.toUInt64 &&& Int64.toUInt64 63)).toInt64 &&& 1 = lN (K k).toNat := by
  rw [wb_bit (qd_mod_lt K 64) hk, ← qi_tb, qd_mod_bit, decide_eq_true hk, Bool.true_and]
theorem qi_l0 {A B : Prop} (b : Bool) (f : b = false → A) (g : b = true → B) : (lN b.toNat = 0 → A) ∧ (¬ lN b.toNat = 0 → B) := by
  cases b with
  | false => exact ⟨fun _ => f rfl, fun h => absurd rfl h⟩
  | true => exact ⟨fun h => absurd h (by decide), fun _ => g rfl⟩
theorem qi_leq {A B : Prop} (a b : Bool) (f : a = b → A) (g : ¬ a = b → B) : (lN a.toNat = lN b.toNat → A) ∧ (¬ lN a.toNat = lN b.toNat → B) := by
  cases a <;> cases b
  · exact ⟨fun _ => f rfl, fun h => absurd rfl h⟩
  · exact ⟨fun h => absurd h (by decide), fun _ => g (by decide)⟩
  · exact ⟨fun h => absurd h (by decide), fun _ => g (by decide)⟩
  · exact ⟨fun _ => f rfl, fun h => absurd rfl h⟩
theorem qi_linj {K L : Nat → Bool} : lN (qd_mod K 64) = lN (qd_mod L 64) ↔ ∀ i, i < 64 → K i = L i := by
  constructor
  · intro h i hi
    have h2 : qd_mod K 64 = qd_mod L 64 := by
      rw [← wb_tn (qd_mod_lt K 64), ← wb_tn (qd_mod_lt L 64), h]
    have h3 := congrArg (fun x => x.testBit i) h2
    rw [qd_mod_bit, qd_mod_bit, decide_eq_true hi, Bool.true_and, Bool.true_and] at h3
    exact h3
  · intro h
    rw [qd_mod_congr 64 h]
theorem qi_lz : (0 : Int64) = lN (qd_mod (fun _ => false) 64) := by decide +kernel
theorem qi_lm : (-1 : Int64) = lN (qd_mod (fun _ => true) 64) := by decide +kernel
theorem qi_land (K L : Nat → Bool) : lN (qd_mod K 64) &&& lN (qd_mod L 64) = lN (qd_mod (fun i => K i && L i) 64) := by
  rw [wb_and (qd_mod_lt _ _) (qd_mod_lt _ _)]
  congr 1
  apply Nat.eq_of_testBit_eq
  intro i
  rw [Nat.testBit_and, qd_mod_bit, qd_mod_bit, qd_mod_bit]
  cases decide (i < 64) <;> rfl
theorem qi_lxor (K L : Nat → Bool) : lN (qd_mod K 64) ^^^ lN (qd_mod L 64) = lN (qd_mod (fun i => K i ^^ L i) 64) := by
  rw [lN_xor]
  congr 1
  apply Nat.eq_of_testBit_eq
  intro i
  rw [Nat.testBit_xor, qd_mod_bit, qd_mod_bit, qd_mod_bit]
  cases decide (i < 64) <;> rfl
theorem qi_limp (K L : Nat → Bool) : lN (qd_mod K 64) &&& (lN (qd_mod L 64) ^^^ (-1)) = 0 ↔ ∀ i, i < 64 → K i = true → L i = true := by
  rw [qi_lm, qi_lxor, qi_land, qi_lz, qi_linj]
  constructor
  · intro h i hi hk
    have := h i hi
    rw [hk] at this
    cases e : L i with
    | true => rfl
    | false => rw [e] at this; exact absurd this (by decide)
  · intro h i hi
    cases e : K i with
    | false => rfl
    | true => rw [h i hi e]; rfl
theorem qi_lagr (K L : Nat → Bool) : (lN (qd_mod K 64) ^^^ lN (qd_mod L 64)) ^^^ (-1) = lN (qd_mod (fun i => K i == L i) 64) := by
  rw [qi_lm, qi_lxor, qi_lxor]
  congr 2
  funext i
  cases K i <;> cases L i <;> rfl
theorem qi_lall (K : Nat → Bool) : lN (qd_mod K 64) = -1 ↔ ∀ i, i < 64 → K i = true := by
  rw [qi_lm, qi_linj]
def qd_ct (K : Nat → Bool) : Nat → Nat
  | 0 => 0
  | m + 1 => qd_ct K m + (K m).toNat
theorem qd_ct_congr {K L : Nat → Bool} : ∀ m, (∀ j, j < m → K j = L j) → qd_ct K m = qd_ct L m
  | 0, _ => rfl
  | m + 1, h => by
    show qd_ct K m + _ = qd_ct L m + _
    rw [qd_ct_congr m (fun j hj => h j (by omega)), h m (by omega)]
theorem qd_ct_le (K : Nat → Bool) : ∀ m, qd_ct K m ≤ m
  | 0 => Nat.le_refl _
  | m + 1 => by
    have h := qd_ct_le K m
    show qd_ct K m + _ ≤ _
    cases K m
    · show qd_ct K m + 0 ≤ _; omega
    · show qd_ct K m + 1 ≤ _; omega
theorem qd_ct_all {K : Nat → Bool} : ∀ m, qd_ct K m = m ↔ ∀ i, i < m → K i = true
  | 0 => ⟨fun _ i hi => by omega, fun _ => rfl⟩
  | m + 1 => by
    have h := qd_ct_le K m
    have ih := qd_ct_all (K := K) m
    show qd_ct K m + (K m).toNat = m + 1 ↔ _
    cases e : K m with
    | false =>
      refine ⟨fun z => ?_, fun z => ?_⟩
      · have z' : qd_ct K m + 0 = m + 1 := z
        omega
      · have := z m (by omega)
        rw [e] at this
        exact absurd this (by decide)
    | true =>
      refine ⟨fun z i hi => ?_, fun z => ?_⟩
      · have z' : qd_ct K m + 1 = m + 1 := z
        rcases Nat.lt_or_ge i m with y | y
        · exact ih.mp (by omega) i y
        · have : i = m := by omega
          subst this; exact e
      · have := ih.mpr (fun i hi => z i (by omega))
        show qd_ct K m + 1 = m + 1
        omega
theorem qx_ones {post : Int32 → Prop} {K : Nat → Bool} (H : post (nI (qd_ct K 64))) : wpX_ones post (lN (qd_mod K 64)) := by
  unfold wpX_ones
  have key : ∀ d m, m + d = 64 → wX_ones_4 post (lN (qd_mod K 64)) (d + 1) (nI (qd_ct K m)) (nI m) := by
    intro d
    induction d with
    | zero =>
      intro m hm
      have e : m = 64 := by omega
      subst e
      rw [wX_ones_4]
      exact pk_le 64 64 (fun _ => H) (fun h => by omega)
    | succ d ih =>
      intro m hm
      rw [wX_ones_4]
      refine pk_le 64 m (fun h => by omega) (fun _ => nm_r (e' := nI (qd_ct K (m + 1))) ?_ (nm_r (nI_1 m) (ih (m + 1) (by omega))))
      rw [qi_lb K (by omega), lN_i, nI_add]; rfl
  exact ⟨65, key 64 0 (by omega)⟩
/-- the first place from j on, within d places -/
def qd_ff (K : Nat → Bool) : Nat → Nat → Int32
  | 0, _ => -1
  | d + 1, j => if K j then nI j else qd_ff K d (j + 1)
theorem qd_ff_congr {K L : Nat → Bool} : ∀ d j, (∀ i, j ≤ i → i < j + d → K i = L i) → qd_ff K d j = qd_ff L d j
  | 0, _, _ => rfl
  | d + 1, j, h => by
    show (if K j then nI j else qd_ff K d (j + 1)) = (if L j then nI j else qd_ff L d (j + 1))
    rw [h j (by omega) (by omega), qd_ff_congr d (j + 1) (fun i h1 h2 => h i (by omega) (by omega))]
theorem qd_ff_no : ∀ d j, qd_ff (fun _ => false) d j = -1
  | 0, _ => rfl
  | d + 1, j => by
    show (if false = true then nI j else qd_ff (fun _ => false) d (j + 1)) = -1
    rw [if_neg (by decide), qd_ff_no d (j + 1)]
section
variable {post : Int32 → SX → Prop} {K : Nat → Bool} {f_size : Int32} {f_openCount : Int32} {f_generals : Int32} {f_bits : Int32} {f_storeEnd : Int32} {f_known : Int32} {f_models : Int64} {f_anyKept : Int32} {f_keptModels : Int64} {a_tokens : Nat → Int32} {a_openNode : Nat → Int32} {a_openWant : Nat → Int32} {a_parent : Nat → Int32} {a_second : Nat → Int32} {a_straight : Nat → Int32} {a_aroundCount : Nat → Int32} {a_around : Nat → Int32} {a_generalNumber : Nat → Int32} {a_bitBase : Nat → Int32} {a_store : Nat → Int32} {a_clauseFrom : Nat → Int32} {a_clauseCount : Nat → Int32}
theorem qx_mf21 : ∀ d j, j + d = 64 → post (qd_ff K d j) (f_size, f_openCount, f_generals, f_bits, f_storeEnd, f_known, (lN (qd_mod K 64)), f_anyKept, f_keptModels, a_tokens, a_openNode, a_openWant, a_parent, a_second, a_straight, a_aroundCount, a_around, a_generalNumber, a_bitBase, a_store, a_clauseFrom, a_clauseCount) → wX_modelFrom_21 post f_size f_openCount f_generals f_bits f_storeEnd f_known (lN (qd_mod K 64)) f_anyKept f_keptModels a_tokens a_openNode a_openWant a_parent a_second a_straight a_aroundCount a_around a_generalNumber a_bitBase a_store a_clauseFrom a_clauseCount (d + 1) (nI j) := by
  intro d
  induction d with
  | zero =>
    intro j hj H
    rw [wX_modelFrom_21]
    exact pk_le 64 j (fun _ => H) (fun h => by omega)
  | succ d ih =>
    intro j hj H
    have H' : post (if K j then nI j else qd_ff K d (j + 1)) (f_size, f_openCount, f_generals, f_bits, f_storeEnd, f_known, (lN (qd_mod K 64)), f_anyKept, f_keptModels, a_tokens, a_openNode, a_openWant, a_parent, a_second, a_straight, a_aroundCount, a_around, a_generalNumber, a_bitBase, a_store, a_clauseFrom, a_clauseCount) := H
    rw [wX_modelFrom_21]; dsimp only
    rw [qi_lb K (by omega)]
    refine pk_le 64 j (fun h => by omega) (fun _ => qi_l0 _ (fun e => nm_r (nI_1 j) (ih (j + 1) (by omega) ?_)) (fun e => ?_))
    · rw [e, if_neg (by decide)] at H'; exact H'
    · rw [e, if_pos rfl] at H'; exact H'
theorem qx_dp20 {b : Nat} (hb : b < 6) (H1 : (∃ i, i < 64 ∧ ¬ K i = K (i ^^^ 2 ^ b)) → post 1 (f_size, f_openCount, f_generals, f_bits, f_storeEnd, f_known, (lN (qd_mod K 64)), f_anyKept, f_keptModels, a_tokens, a_openNode, a_openWant, a_parent, a_second, a_straight, a_aroundCount, a_around, a_generalNumber, a_bitBase, a_store, a_clauseFrom, a_clauseCount)) (H0 : ¬ (∃ i, i < 64 ∧ ¬ K i = K (i ^^^ 2 ^ b)) → post 0 (f_size, f_openCount, f_generals, f_bits, f_storeEnd, f_known, (lN (qd_mod K 64)), f_anyKept, f_keptModels, a_tokens, a_openNode, a_openWant, a_parent, a_second, a_straight, a_aroundCount, a_around, a_generalNumber, a_bitBase, a_store, a_clauseFrom, a_clauseCount)) :
    ∀ d m, m + d = 64 → (∀ i, i < m → K i = K (i ^^^ 2 ^ b)) → wX_depends_20 post (nI b) f_size f_openCount f_generals f_bits f_storeEnd f_known (lN (qd_mod K 64)) f_anyKept f_keptModels a_tokens a_openNode a_openWant a_parent a_second a_straight a_aroundCount a_around a_generalNumber a_bitBase a_store a_clauseFrom a_clauseCount (d + 1) (nI m) := by
  intro d
  induction d with
  | zero =>
    intro m hm hno
    rw [wX_depends_20]
    exact pk_le 64 m (fun _ => H0 (fun ⟨i, h1, h2⟩ => h2 (hno i (by omega)))) (fun h => by omega)
  | succ d ih =>
    intro m hm hno
    have hx : m ^^^ 2 ^ b < 2 ^ 6 := Nat.xor_lt_two_pow (by omega) (Nat.pow_lt_pow_right (by decide) hb)
    rw [wX_depends_20]; dsimp only
    refine pk_le 64 m (fun h => by omega) (fun _ => nm_r (e' := nI (m ^^^ 2 ^ b)) (by rw [qi_sh (by omega), nx_xor]) ?_)
    rw [qi_lb K (by omega), qi_lb K hx]
    refine qi_leq _ _ (fun e => nm_r (nI_1 m) (ih (m + 1) (by omega) (fun i hi => ?_))) (fun e => H1 ⟨m, by omega, e⟩)
    rcases Nat.lt_or_ge i m with y | y
    · exact hno i y
    · have : i = m := by omega
      subst this; exact e
end
end
section
/-! the reference's loops over all interpretations -/
section
variable {post : Int32 → SY → Prop} {T : Nat → Nat} {n : Nat} {f_size : Int32} {f_whole : Int32} {f_kept : Int32} {a_tokens : Nat → Int32} {a_around : Nat → Int32} {a_open : Nat → Int32} {a_parts : Nat → Int32} {a_keptTruth : Nat → Int32}
theorem qy_complete (O : qd_OK T n) (ht : ∀ j, a_tokens j = nI (T j))
    (H : ∀ ar op : Nat → Int32, (∀ j, j ≤ n → ar j = nI (qd_al T j).length) → post (nI (qd_cp T n).toNat) ((nI n), (nI (qd_cp T n).toNat), f_kept, a_tokens, ar, op, a_parts, a_keptTruth)) :
    wpY_complete post ((nI n), f_whole, f_kept, a_tokens, a_around, a_open, a_parts, a_keptTruth) := by
  unfold wpY_complete
  dsimp only
  exact qy_read O ht (fun ar op hA => ⟨qi_nz _, H ar op hA⟩)
theorem qy_holds {j : Nat} (hj : j < 64) (O : qd_OK T n) (ht : ∀ j, a_tokens j = nI (T j))
    (H : ∀ (wh : Int32) (ar op pa : Nat → Int32), post (nI (qd_cp T n && qd_TR T n j).toNat) ((nI n), wh, f_kept, a_tokens, ar, op, pa, a_keptTruth)) :
    wpY_holds post ((nI n), f_whole, f_kept, a_tokens, a_around, a_open, a_parts, a_keptTruth) (nI j) := by
  unfold wpY_holds
  dsimp only
  refine qy_read O ht (fun ar op hA => ?_)
  dsimp only
  refine qi_b0 _ (fun e => ?_) (fun e => br_f (nI_pos (by omega)) (pk_lt 63 j (fun h => by omega) (fun _ => ?_)))
  · rw [e] at H ⊢; exact H _ _ _ _
  · refine qy_truth O ⟨O.2.1, qd_cp_t.mp e⟩ ht (fun j hj => hA j (by omega)) hj (fun pa => ?_)
    dsimp only
    rw [e] at H ⊢
    simp only [Bool.true_and] at H
    refine qi_b0 _ (fun e2 => ?_) (fun e2 => ?_)
    · rw [e2] at H; exact H _ _ _ _
    · rw [e2] at H; exact H _ _ _ _
theorem qy_md13 (O : qd_OK T n) (C : qd_C T n) (ht : ∀ j, a_tokens j = nI (T j)) (hA : ∀ j, j < n → a_around j = nI (qd_al T j).length)
    (H : ∀ pa : Nat → Int32, post (nI (qd_ct (qd_TR T n) 64)) ((nI n), f_whole, f_kept, a_tokens, a_around, a_open, pa, a_keptTruth)) :
    ∀ (d m : Nat) (pa : Nat → Int32), m + d = 64 → wY_models_13 post (d + 1) (nI (qd_ct (qd_TR T n) m)) (nI m) (nI n) f_whole f_kept a_tokens a_around a_open pa a_keptTruth := by
  intro d
  induction d with
  | zero =>
    intro m pa hm
    have e : m = 64 := by omega
    subst e
    rw [wY_models_13]
    exact pk_le 64 64 (fun _ => H pa) (fun h => by omega)
  | succ d ih =>
    intro m pa hm
    rw [wY_models_13]
    refine pk_le 64 m (fun h => by omega) (fun _ => qy_truth O C ht hA (by omega) (fun pa' => ?_))
    dsimp only
    have ihm := ih (m + 1) pa' (by omega)
    have e1 : qd_ct (qd_TR T n) (m + 1) = qd_ct (qd_TR T n) m + (qd_TR T n m).toNat := rfl
    rw [e1] at ihm
    refine qi_b0 _ (fun e => nm_r (nI_add _ 0) (nm_r (nI_1 m) ?_)) (fun e => nm_r (nI_1 _) (nm_r (nI_1 m) ?_))
    · rw [e] at ihm; exact ihm
    · rw [e] at ihm; exact ihm
theorem qy_models (O : qd_OK T n) (ht : ∀ j, a_tokens j = nI (T j))
    (H0 : qd_cp T n = false → ∀ (wh : Int32) (ar op pa : Nat → Int32), post (-1) ((nI n), wh, f_kept, a_tokens, ar, op, pa, a_keptTruth))
    (H1 : qd_cp T n = true → ∀ (wh : Int32) (ar op pa : Nat → Int32), post (nI (qd_ct (qd_TR T n) 64)) ((nI n), wh, f_kept, a_tokens, ar, op, pa, a_keptTruth)) :
    wpY_models post ((nI n), f_whole, f_kept, a_tokens, a_around, a_open, a_parts, a_keptTruth) := by
  unfold wpY_models
  dsimp only
  refine qy_complete O ht (fun ar op hA => ?_)
  dsimp only
  refine qi_b0 _ (fun e => H0 e _ _ _ _) (fun e => ⟨65, ?_⟩)
  exact qy_md13 O ⟨O.2.1, qd_cp_t.mp e⟩ ht (fun j hj => hA j (by omega)) (fun pa => H1 e _ _ _ pa) 64 0 _ (by omega)
theorem qy_mf2 (O : qd_OK T n) (ht : ∀ j, a_tokens j = nI (T j))
    : ∀ (d j : Nat) (wh : Int32) (ar op pa : Nat → Int32), j + d = 64 →
      (∀ (wh : Int32) (ar op pa : Nat → Int32), post (qd_ff (fun j => qd_cp T n && qd_TR T n j) d j) ((nI n), wh, f_kept, a_tokens, ar, op, pa, a_keptTruth)) →
      wY_modelFrom_2 post (d + 1) (nI j) (nI n) wh f_kept a_tokens ar op pa a_keptTruth := by
  intro d
  induction d with
  | zero =>
    intro j wh ar op pa hj H
    rw [wY_modelFrom_2]
    exact br_f (nI_pos (by omega)) (pk_lt 63 j (fun _ => H _ _ _ _) (fun h => by omega))
  | succ d ih =>
    intro j wh ar op pa hj H
    have H' : ∀ (wh : Int32) (ar op pa : Nat → Int32), post (if (qd_cp T n && qd_TR T n j) = true then nI j else qd_ff (fun j => qd_cp T n && qd_TR T n j) d (j + 1)) ((nI n), wh, f_kept, a_tokens, ar, op, pa, a_keptTruth) := H
    rw [wY_modelFrom_2]
    refine br_f (nI_pos (by omega)) (pk_lt 63 j (fun h => by omega) (fun _ => qy_holds (by omega) O ht (fun wh' ar' op' pa' => ?_)))
    dsimp only
    refine qi_b0 _ (fun e => nm_r (nI_1 j) (ih (j + 1) _ _ _ _ (by omega) ?_)) (fun e => ?_)
    · rw [e] at H'; exact H'
    · rw [e] at H'; exact H' _ _ _ _
theorem qy_kp16 (O : qd_OK T n) (C : qd_C T n) (ht : ∀ j, a_tokens j = nI (T j)) (hA : ∀ j, j < n → a_around j = nI (qd_al T j).length)
    (H : ∀ pa kt : Nat → Int32, (∀ j, j < 64 → kt j = nI (qd_TR T n j).toNat) → post 1 ((nI n), f_whole, f_kept, a_tokens, a_around, a_open, pa, kt)) :
    ∀ (d m : Nat) (pa kt : Nat → Int32), m + d = 64 → (∀ j, j < m → kt j = nI (qd_TR T n j).toNat) → wY_keep_16 post (d + 1) (nI m) (nI n) f_whole f_kept a_tokens a_around a_open pa kt := by
  intro d
  induction d with
  | zero =>
    intro m pa kt hm hk
    rw [wY_keep_16]
    exact pk_le 64 m (fun _ => H pa kt (fun j hj => hk j (by omega))) (fun h => by omega)
  | succ d ih =>
    intro m pa kt hm hk
    rw [wY_keep_16]
    refine pk_le 64 m (fun h => by omega) (fun _ => qy_truth O C ht hA (by omega) (fun pa' => ?_))
    dsimp only
    rw [nI_clamp (show m < 2 ^ 31 by omega), qi_vz]
    refine ⟨vp_in_nI (by omega) (by decide), nm_e (nm_r (nI_1 m) (ih (m + 1) pa' _ (by omega) (fun j hj => ?_)))⟩
    rcases Nat.lt_or_ge j m with y | y
    · show upd _ _ _ _ = _
      rw [pk_un (by omega)]; exact hk j y
    · have : j = m := by omega
      subst this
      exact pk_us
theorem qy_im22 {K : Nat → Bool} (O : qd_OK T n) (C : qd_C T n) (ht : ∀ j, a_tokens j = nI (T j)) (hA : ∀ j, j < n → a_around j = nI (qd_al T j).length) (hK : ∀ j, j < 64 → a_keptTruth j = nI (K j).toNat)
    (H1 : (∀ i, i < 64 → qd_TR T n i = true → K i = true) → ∀ pa : Nat → Int32, post 1 ((nI n), f_whole, f_kept, a_tokens, a_around, a_open, pa, a_keptTruth))
    (H0 : ¬ (∀ i, i < 64 → qd_TR T n i = true → K i = true) → ∀ pa : Nat → Int32, post 0 ((nI n), f_whole, f_kept, a_tokens, a_around, a_open, pa, a_keptTruth)) :
    ∀ (d m : Nat) (pa : Nat → Int32), m + d = 64 → (∀ j, j < m → qd_TR T n j = true → K j = true) → wY_impliesKept_22 post (d + 1) 1 (nI m) (nI n) f_whole f_kept a_tokens a_around a_open pa a_keptTruth := by
  intro d
  induction d with
  | zero =>
    intro m pa hm hk
    rw [wY_impliesKept_22]
    exact pk_le 64 m (fun _ => ⟨narrow_b1, H1 (fun j hj => hk j (by omega)) pa⟩) (fun h => by omega)
  | succ d ih =>
    intro m pa hm hk
    have step : (qd_TR T n m = true → K m = true) → ∀ j, j < m + 1 → qd_TR T n j = true → K j = true := by
      intro h j hj
      rcases Nat.lt_or_ge j m with y | y
      · exact hk j y
      · have : j = m := by omega
        subst this; exact h
    rw [wY_impliesKept_22]; dsimp only
    rw [nI_clamp (show m < 2 ^ 31 by omega), hK m (by omega)]
    refine pk_le 64 m (fun h => by omega) (fun _ => br_f (by decide) ⟨vp_in_nI (by omega) (by decide), qi_b0 _ (fun e => qy_truth O C ht hA (by omega) (fun pa' => ?_)) (fun e => nm_r (nI_1 m) (ih (m + 1) pa (by omega) (step (fun _ => e))))⟩)
    dsimp only
    refine qi_b0 _ (fun e2 => nm_r (nI_1 m) (ih (m + 1) pa' (by omega) (step (fun z => by rw [e2] at z; exact absurd z (by decide))))) (fun e2 => nm_r (nI_1 m) ?_)
    have hno : ¬ (∀ i, i < 64 → qd_TR T n i = true → K i = true) := fun z => by
      have := z m (by omega) e2
      rw [e] at this
      exact absurd this (by decide)
    rw [wY_impliesKept_22]
    exact pk_le 64 (m + 1) (fun _ => ⟨narrow_b0, H0 hno pa'⟩) (fun _ => br_t rfl ⟨narrow_b0, H0 hno pa'⟩)
theorem qy_im22z (H : post 0 (f_size, f_whole, f_kept, a_tokens, a_around, a_open, a_parts, a_keptTruth)) : wY_impliesKept_22 post 1 0 0 f_size f_whole f_kept a_tokens a_around a_open a_parts a_keptTruth := by
  rw [wY_impliesKept_22]
  exact pk_le 64 0 (fun h => by omega) (fun _ => br_t rfl ⟨narrow_b0, H⟩)
theorem qy_ag20 {K : Nat → Bool} (O : qd_OK T n) (C : qd_C T n) (ht : ∀ j, a_tokens j = nI (T j)) (hA : ∀ j, j < n → a_around j = nI (qd_al T j).length) (hK : ∀ j, j < 64 → a_keptTruth j = nI (K j).toNat)
    (H : ∀ pa : Nat → Int32, post (nI (qd_ct (fun i => qd_TR T n i == K i) 64)) ((nI n), f_whole, f_kept, a_tokens, a_around, a_open, pa, a_keptTruth)) :
    ∀ (d m : Nat) (pa : Nat → Int32), m + d = 64 → wY_agreeing_20 post (d + 1) (nI (qd_ct (fun i => qd_TR T n i == K i) m)) (nI m) (nI n) f_whole f_kept a_tokens a_around a_open pa a_keptTruth := by
  intro d
  induction d with
  | zero =>
    intro m pa hm
    have e : m = 64 := by omega
    subst e
    rw [wY_agreeing_20]
    exact pk_le 64 64 (fun _ => H pa) (fun h => by omega)
  | succ d ih =>
    intro m pa hm
    rw [wY_agreeing_20]
    refine pk_le 64 m (fun h => by omega) (fun _ => qy_truth O C ht hA (by omega) (fun pa' => ?_))
    dsimp only
    have ihm := ih (m + 1) pa' (by omega)
    have e1 : qd_ct (fun i => qd_TR T n i == K i) (m + 1) = qd_ct (fun i => qd_TR T n i == K i) m + (qd_TR T n m == K m).toNat := rfl
    rw [e1] at ihm
    rw [nI_clamp (show m < 2 ^ 31 by omega), hK m (by omega)]
    refine ⟨vp_in_nI (by omega) (by decide), qi_beq _ _ (fun e => nm_r (nI_1 _) (nm_r (nI_1 m) ?_)) (fun e => nm_r (nI_add _ 0) (nm_r (nI_1 m) ?_))⟩
    · have e2 : (qd_TR T n m == K m) = true := by simpa using e
      rw [e2] at ihm; exact ihm
    · have e2 : (qd_TR T n m == K m) = false := by simpa using e
      rw [e2] at ihm; exact ihm
theorem qy_dp4 {b : Nat} (hb : b < 6) (O : qd_OK T n) (ht : ∀ j, a_tokens j = nI (T j))
    (H1 : (∃ i, i < 64 ∧ ¬ (qd_cp T n && qd_TR T n i) = (qd_cp T n && qd_TR T n (i ^^^ 2 ^ b))) → ∀ (wh : Int32) (ar op pa : Nat → Int32), post 1 ((nI n), wh, f_kept, a_tokens, ar, op, pa, a_keptTruth))
    (H0 : ¬ (∃ i, i < 64 ∧ ¬ (qd_cp T n && qd_TR T n i) = (qd_cp T n && qd_TR T n (i ^^^ 2 ^ b))) → ∀ (wh : Int32) (ar op pa : Nat → Int32), post 0 ((nI n), wh, f_kept, a_tokens, ar, op, pa, a_keptTruth)) :
    ∀ (d m : Nat) (fo : Bool) (wh : Int32) (ar op pa : Nat → Int32), m + d = 64 → (fo = true ↔ ∃ i, i < m ∧ ¬ (qd_cp T n && qd_TR T n i) = (qd_cp T n && qd_TR T n (i ^^^ 2 ^ b))) →
      wY_depends_4 post (nI b) (d + 1) (nI fo.toNat) (nI m) (nI n) wh f_kept a_tokens ar op pa a_keptTruth := by
  intro d
  induction d with
  | zero =>
    intro m fo wh ar op pa hm hf
    have e : m = 64 := by omega
    subst e
    rw [wY_depends_4]
    refine pk_le 64 64 (fun _ => ⟨qi_nz _, ?_⟩) (fun h => by omega)
    cases fo with
    | true => exact H1 (hf.mp rfl) _ _ _ _
    | false => exact H0 (fun z => absurd (hf.mpr z) (by decide)) _ _ _ _
  | succ d ih =>
    intro m fo wh ar op pa hm hf
    have hx : m ^^^ 2 ^ b < 2 ^ 6 := Nat.xor_lt_two_pow (by omega) (Nat.pow_lt_pow_right (by decide) hb)
    rw [wY_depends_4]
    refine pk_le 64 m (fun h => by omega) (fun _ => br_f (nI_pos (by omega)) (pk_lt 5 b (fun h => by omega) (fun _ => nm_r (e' := nI (m ^^^ 2 ^ b)) (by rw [qi_sh (by omega), nx_xor]) (qi_b0 _ (fun e => ?_) (fun e => ?_)))))
    · refine qy_holds (by omega) O ht (fun wh1 ar1 op1 pa1 => ?_)
      dsimp only
      refine qy_holds hx O ht (fun wh2 ar2 op2 pa2 => ?_)
      dsimp only
      have hno : ∀ i, i < m → (qd_cp T n && qd_TR T n i) = (qd_cp T n && qd_TR T n (i ^^^ 2 ^ b)) := by
        intro i hi
        apply Classical.byContradiction
        intro z
        have := hf.mpr ⟨i, hi, z⟩
        rw [e] at this
        exact absurd this (by decide)
      refine qi_beq _ _ (fun e2 => nm_r (nI_1 m) (ih (m + 1) false _ _ _ _ (by omega) ⟨fun z => absurd z (by decide), fun ⟨i, hi, hne⟩ => ?_⟩)) (fun e2 => nm_r (nI_1 m) (ih (m + 1) true _ _ _ _ (by omega) ⟨fun _ => ⟨m, by omega, e2⟩, fun _ => rfl⟩))
      rcases Nat.lt_or_ge i m with y | y
      · exact absurd (hno i y) hne
      · have : i = m := by omega
        subst this; exact absurd e2 hne
    · refine nm_r (nI_1 m) (ih (m + 1) true _ _ _ _ (by omega) ⟨fun _ => ?_, fun _ => rfl⟩)
      obtain ⟨i, hi, hne⟩ := hf.mp e
      exact ⟨i, by omega, hne⟩
theorem qy_dp4o {b : Int32} (hb : b < 0 ∨ 5 < b) (H : post 0 (f_size, f_whole, f_kept, a_tokens, a_around, a_open, a_parts, a_keptTruth)) : wY_depends_4 post b 1 0 0 f_size f_whole f_kept a_tokens a_around a_open a_parts a_keptTruth := by
  rw [wY_depends_4]
  refine pk_le 64 0 (fun h => by omega) (fun _ => br_c (fun _ => ⟨narrow_b0, H⟩) (fun h => ?_))
  rcases hb with z | z
  · exact absurd z h
  · exact br_t z ⟨narrow_b0, H⟩
end
end
section
/-! feeding a token: what both sides answer; the relation -/
/-- 2: full, 1: bad, 0: taken -/
def qd_fd (T : Nat → Nat) (n : Nat) (x : Int32) : Nat :=
  if 13 ≤ n ∨ qd_cp T n = true ∨ ((x = 4 ∨ x = 5) ∧ 4 ≤ qd_qc T n) then 2
  else if x < 0 ∨ 25 < x ∨ qd_bd x.toNatClampNeg (qd_al T n).length = false then 1 else 0
theorem qd_fd2 {T : Nat → Nat} {n : Nat} {x : Int32} (h : 13 ≤ n ∨ qd_cp T n = true ∨ ((x = 4 ∨ x = 5) ∧ 4 ≤ qd_qc T n)) : qd_fd T n x = 2 := by
  unfold qd_fd; rw [if_pos h]
theorem qd_fd1 {T : Nat → Nat} {n : Nat} {x : Int32} (h : ¬ (13 ≤ n ∨ qd_cp T n = true ∨ ((x = 4 ∨ x = 5) ∧ 4 ≤ qd_qc T n))) (h2 : x < 0 ∨ 25 < x ∨ qd_bd x.toNatClampNeg (qd_al T n).length = false) : qd_fd T n x = 1 := by
  unfold qd_fd; rw [if_neg h, if_pos h2]
theorem qd_fd0 {T : Nat → Nat} {n : Nat} {x : Int32} (h : ¬ (13 ≤ n ∨ qd_cp T n = true ∨ ((x = 4 ∨ x = 5) ∧ 4 ≤ qd_qc T n))) (h2 : ¬ (x < 0 ∨ 25 < x ∨ qd_bd x.toNatClampNeg (qd_al T n).length = false)) : qd_fd T n x = 0 := by
  unfold qd_fd; rw [if_neg h, if_neg h2]
theorem qi_25 {x : Int32} (h0 : ¬ x < 0) (h1 : ¬ 25 < x) : ∃ t : Nat, t ≤ 25 ∧ x = nI t := by
  obtain ⟨t, ht, rfl⟩ := nI_of h0
  refine ⟨t, ?_, rfl⟩
  rcases Nat.lt_or_ge 25 t with y | y
  · exact absurd (nI_lt (a := 25) y ht) h1
  · exact y
section
variable {post : Int32 → SX → Prop} {T : Nat → Nat} {n c : Nat} {x : Int32} {f_size : Int32} {f_openCount : Int32} {f_generals : Int32} {f_bits : Int32} {f_storeEnd : Int32} {f_known : Int32} {f_models : Int64} {f_anyKept : Int32} {f_keptModels : Int64} {a_tokens : Nat → Int32} {a_openNode : Nat → Int32} {a_openWant : Nat → Int32} {a_parent : Nat → Int32} {a_second : Nat → Int32} {a_straight : Nat → Int32} {a_aroundCount : Nat → Int32} {a_around : Nat → Int32} {a_generalNumber : Nat → Int32} {a_bitBase : Nat → Int32} {a_store : Nat → Int32} {a_clauseFrom : Nat → Int32} {a_clauseCount : Nat → Int32}
theorem qx_fd38 (O : qd_OK T n) (ht : ∀ j, a_tokens j = nI (T j)) (hS : qx_RS T n c a_openNode a_openWant) (hI : qx_RI T n a_second a_straight a_aroundCount a_around)
    (hno : ¬ (13 ≤ n ∨ qd_cp T n = true ∨ ((x = 4 ∨ x = 5) ∧ 4 ≤ qd_qc T n)))
    (H1 : qd_fd T n x = 1 → post (-1) ((nI n), (nI c), f_generals, f_bits, f_storeEnd, f_known, f_models, f_anyKept, f_keptModels, a_tokens, a_openNode, a_openWant, a_parent, a_second, a_straight, a_aroundCount, a_around, a_generalNumber, a_bitBase, a_store, a_clauseFrom, a_clauseCount))
    (H0 : qd_fd T n x = 0 → post (nI (n + 1)) ((nI (n + 1)), (nI c), f_generals, f_bits, f_storeEnd, 0, f_models, f_anyKept, f_keptModels, (upd a_tokens n x), a_openNode, a_openWant, a_parent, a_second, a_straight, a_aroundCount, a_around, a_generalNumber, a_bitBase, a_store, a_clauseFrom, a_clauseCount)) :
    wX_feed_38 post x (nI n) (nI c) f_generals f_bits f_storeEnd f_known f_models f_anyKept f_keptModels a_tokens a_openNode a_openWant a_parent a_second a_straight a_aroundCount a_around a_generalNumber a_bitBase a_store a_clauseFrom a_clauseCount := by
  unfold wX_feed_38
  refine br_c (fun h => H1 (qd_fd1 hno (Or.inl h))) (fun h => br_c (fun h2 => H1 (qd_fd1 hno (Or.inr (Or.inl h2)))) (fun h2 => ?_))
  obtain ⟨t, ht25, rfl⟩ := qi_25 h h2
  have hcl : (nI t).toNatClampNeg = t := nI_clamp (by omega)
  have hcp : qd_cp T n = false := by
    cases e : qd_cp T n with
    | false => rfl
    | true => exact absurd (Or.inr (Or.inl e)) hno
  have hn13 : n < 13 := by
    rcases Nat.lt_or_ge n 13 with y | y
    · exact y
    · exact absurd (Or.inl y) hno
  refine qx_bound ht25 O (qd_cp_f.mp hcp) ht hS hI (qi_b0 _ (fun e => ?_) (fun e => ⟨vp_in_nI hn13 (by decide), ?_⟩))
  · exact H1 (qd_fd1 hno (Or.inr (Or.inr (by rw [hcl]; exact e))))
  · rw [nI_clamp (show n < 2 ^ 31 by omega), qi_vbb (show t < 128 by omega)]
    refine nm_e (nm_r (nI_1 n) (H0 (qd_fd0 hno (fun z => ?_))))
    rcases z with z | z | z
    · exact h z
    · exact h2 z
    · rw [hcl, e] at z; exact absurd z (by decide)
theorem qx_feed (O : qd_OK T n) (ht : ∀ j, a_tokens j = nI (T j))
    (H2 : qd_fd T n x = 2 → ∀ (oc : Int32) (on ow pa se st ac ar : Nat → Int32), post (-2) ((nI n), oc, f_generals, f_bits, f_storeEnd, f_known, f_models, f_anyKept, f_keptModels, a_tokens, on, ow, pa, se, st, ac, ar, a_generalNumber, a_bitBase, a_store, a_clauseFrom, a_clauseCount))
    (H1 : qd_fd T n x = 1 → ∀ (oc : Int32) (on ow pa se st ac ar : Nat → Int32), post (-1) ((nI n), oc, f_generals, f_bits, f_storeEnd, f_known, f_models, f_anyKept, f_keptModels, a_tokens, on, ow, pa, se, st, ac, ar, a_generalNumber, a_bitBase, a_store, a_clauseFrom, a_clauseCount))
    (H0 : qd_fd T n x = 0 → ∀ (oc : Int32) (on ow pa se st ac ar : Nat → Int32), post (nI (n + 1)) ((nI (n + 1)), oc, f_generals, f_bits, f_storeEnd, 0, f_models, f_anyKept, f_keptModels, (upd a_tokens n x), on, ow, pa, se, st, ac, ar, a_generalNumber, a_bitBase, a_store, a_clauseFrom, a_clauseCount)) :
    wpX_feed post ((nI n), f_openCount, f_generals, f_bits, f_storeEnd, f_known, f_models, f_anyKept, f_keptModels, a_tokens, a_openNode, a_openWant, a_parent, a_second, a_straight, a_aroundCount, a_around, a_generalNumber, a_bitBase, a_store, a_clauseFrom, a_clauseCount) x := by
  unfold wpX_feed
  dsimp only
  have h13 := O.1
  have h4 := O.2.2.2.1
  refine qx_read O ht (fun c on ow pa se st ac ar hS hI => ?_)
  dsimp only
  refine pk_le 13 n (fun h => H2 (qd_fd2 (Or.inl h)) _ _ _ _ _ _ _ _) (fun hn => ?_)
  refine qx_finished h13 hS (qi_b0 _ (fun e => ?_) (fun e => H2 (qd_fd2 (Or.inr (Or.inl e))) _ _ _ _ _ _ _ _))
  have go : ¬ ((x = 4 ∨ x = 5) ∧ 4 ≤ qd_qc T n) → wX_feed_38 post x (nI n) (nI c) f_generals f_bits f_storeEnd f_known f_models f_anyKept f_keptModels a_tokens on ow pa se st ac ar a_generalNumber a_bitBase a_store a_clauseFrom a_clauseCount := by
    intro hq
    refine qx_fd38 O ht hS hI (fun z => ?_) (fun z => H1 z _ _ _ _ _ _ _ _) (fun z => H0 z _ _ _ _ _ _ _ _)
    rcases z with z | z | z
    · omega
    · rw [e] at z; exact absurd z (by decide)
    · exact hq z
  have hqs : (x = 4 ∨ x = 5) → wpX_quantifiers (fun r => (r < 4 → wX_feed_38 post x (nI n) (nI c) f_generals f_bits f_storeEnd f_known f_models f_anyKept f_keptModels a_tokens on ow pa se st ac ar a_generalNumber a_bitBase a_store a_clauseFrom a_clauseCount) ∧ (¬ r < 4 → post (-2) ((nI n), (nI c), f_generals, f_bits, f_storeEnd, f_known, f_models, f_anyKept, f_keptModels, a_tokens, on, ow, pa, se, st, ac, ar, a_generalNumber, a_bitBase, a_store, a_clauseFrom, a_clauseCount))) ((nI n), (nI c), f_generals, f_bits, f_storeEnd, f_known, f_models, f_anyKept, f_keptModels, a_tokens, on, ow, pa, se, st, ac, ar, a_generalNumber, a_bitBase, a_store, a_clauseFrom, a_clauseCount) := by
    intro hx
    refine qx_quantifiers h13 O.2.2.1 ht (pk_lt (qd_qc T n) 4 (fun z => go (fun y => by omega)) (fun z => H2 (qd_fd2 (Or.inr (Or.inr ⟨hx, z⟩))) _ _ _ _ _ _ _ _))
  unfold wpX_quantifier
  refine br_c (fun h => br_f (by decide) (hqs (Or.inl h))) (fun h => br_c (fun h2 => br_f (by decide) (hqs (Or.inr h2))) (fun h2 => br_t rfl (go (fun y => ?_))))
  rcases y.1 with y | y
  · exact h y
  · exact h2 y
end
section
variable {post : Int32 → SY → Prop} {T : Nat → Nat} {n : Nat} {x : Int32} {f_size : Int32} {f_whole : Int32} {f_kept : Int32} {a_tokens : Nat → Int32} {a_around : Nat → Int32} {a_open : Nat → Int32} {a_parts : Nat → Int32} {a_keptTruth : Nat → Int32}
theorem qy_fd41 (O : qd_OK T n) (hA : a_around n = nI (qd_al T n).length)
    (hno : ¬ (13 ≤ n ∨ qd_cp T n = true ∨ ((x = 4 ∨ x = 5) ∧ 4 ≤ qd_qc T n)))
    (H1 : qd_fd T n x = 1 → post (-1) ((nI n), f_whole, f_kept, a_tokens, a_around, a_open, a_parts, a_keptTruth))
    (H0 : qd_fd T n x = 0 → post (nI (n + 1)) ((nI (n + 1)), f_whole, f_kept, (upd a_tokens n x), a_around, a_open, a_parts, a_keptTruth)) :
    wY_feed_41 post x (nI n) f_whole f_kept a_tokens a_around a_open a_parts a_keptTruth := by
  have hn13 : n < 13 := by
    rcases Nat.lt_or_ge n 13 with y | y
    · exact y
    · exact absurd (Or.inl y) hno
  have hl4 := qd_len4 O (Nat.le_refl n)
  have k80 : ∀ v w : Int32, (∀ t : Nat, t ≤ 25 → x = nI t → 6 ≤ t → v = nI (qd_va t) ∧ w = nI (qd_wa t)) → wY_feed_80 post x v w (nI n) f_whole f_kept a_tokens a_around a_open a_parts a_keptTruth := by
    intro v w hvw
    unfold wY_feed_80
    refine br_c (fun h => H1 (qd_fd1 hno (Or.inl h))) (fun h => br_c (fun h2 => H1 (qd_fd1 hno (Or.inr (Or.inl h2)))) (fun h2 => ?_))
    obtain ⟨t, ht25, rfl⟩ := qi_25 h h2
    have hcl : (nI t).toNatClampNeg = t := nI_clamp (by omega)
    have k125 : qd_bd t (qd_al T n).length = true → wY_feed_125 post (nI t) (nI n) f_whole f_kept a_tokens a_around a_open a_parts a_keptTruth := by
      intro e
      unfold wY_feed_125
      rw [nI_clamp (show n < 2 ^ 31 by omega)]
      refine ⟨vp_in_nI hn13 (by decide), nm_e (nm_r (nI_1 n) (H0 (qd_fd0 hno (fun z => ?_))))⟩
      rcases z with z | z | z
      · exact h z
      · exact h2 z
      · rw [hcl, e] at z; exact absurd z (by decide)
    have kbad : qd_bd t (qd_al T n).length = false → post (-1) ((nI n), f_whole, f_kept, a_tokens, a_around, a_open, a_parts, a_keptTruth) := fun e => H1 (qd_fd1 hno (Or.inr (Or.inr (by rw [hcl]; exact e))))
    have hin : vp_in (nI n) 14 := vp_in_nI (by omega) (by decide)
    have hva : qd_va t < 2 ^ 31 := by unfold qd_va; split <;> omega
    have hwa : qd_wa t < 2 ^ 31 := by unfold qd_wa; split <;> omega
    refine pk_lt t 6 (fun h6 => k125 (by unfold qd_bd; simp [h6])) (fun h6 => ?_)
    obtain ⟨ev, ew⟩ := hvw t ht25 rfl h6
    subst ev ew
    rw [nI_clamp (show n < 2 ^ 31 by omega), hA]
    refine ⟨hin, pk_le (qd_al T n).length (qd_va t) (fun z => kbad ?_) (fun z => ⟨hin, pk_lt (qd_wa t) (qd_al T n).length (fun y => k125 ?_) (fun y => kbad ?_)⟩)⟩
    · unfold qd_bd
      rw [decide_eq_false (show ¬ t < 6 by omega), decide_eq_false (show ¬ qd_va t < (qd_al T n).length by omega)]; rfl
    · unfold qd_bd
      rw [decide_eq_true z, decide_eq_true y, Bool.and_true, Bool.or_true]
    · unfold qd_bd
      rw [decide_eq_false (show ¬ t < 6 by omega), decide_eq_false (show ¬ qd_wa t < (qd_al T n).length by omega), Bool.and_false]; rfl
  have e10 : ∀ t : Nat, 10 ≤ t → t ≤ 25 → (nI t - 10) / 4 = nI (qd_va t) ∧ (nI t - 10) - (nI t - 10) / 4 * 4 = nI (qd_wa t) := by
    intro t h h25
    have a : nI t - 10 = nI (t - 10) := pk_sub h
    have ed : nI (t - 10) / 4 = nI ((t - 10) / 4) := pk_div (d := 4) (by omega) (by decide) (by decide)
    have er : nI (t - 10) - nI (t - 10) / 4 * 4 = nI ((t - 10) % 4) := pk_rem (d := 4) (by omega) (by decide) (by decide)
    unfold qd_va qd_wa
    rw [if_neg (by omega), if_neg (by omega), a, er, ed]
    exact ⟨rfl, rfl⟩
  unfold wY_feed_41
  refine br_c (fun h => ⟨by decide, ?_⟩) (fun h => ?_)
  · unfold wY_feed_60
    refine br_t h ⟨by decide, k80 _ _ (fun t h25 hx h6 => ?_)⟩
    subst hx
    have h10 : 10 ≤ t := by
      rcases Nat.lt_or_ge t 10 with y | y
      · exact absurd h (nI_ge (b := 10) y (by decide))
      · exact y
    exact e10 t h10 h25
  · unfold wY_feed_60
    refine br_f h (k80 _ _ (fun t h25 hx h6 => ?_))
    subst hx
    have h10 : t < 10 := by
      rcases Nat.lt_or_ge t 10 with y | y
      · exact y
      · exact absurd (nI_le (a := 10) y (by omega)) h
    have e6 : nI t - 6 = nI (t - 6) := pk_sub h6
    unfold qd_va qd_wa
    rw [if_pos h10, if_pos h10]
    exact ⟨e6, e6⟩
theorem qy_feed (O : qd_OK T n) (ht : ∀ j, a_tokens j = nI (T j))
    (H2 : qd_fd T n x = 2 → ∀ (wh : Int32) (ar op : Nat → Int32), post (-2) ((nI n), wh, f_kept, a_tokens, ar, op, a_parts, a_keptTruth))
    (H1 : qd_fd T n x = 1 → ∀ (wh : Int32) (ar op : Nat → Int32), post (-1) ((nI n), wh, f_kept, a_tokens, ar, op, a_parts, a_keptTruth))
    (H0 : qd_fd T n x = 0 → ∀ (wh : Int32) (ar op : Nat → Int32), post (nI (n + 1)) ((nI (n + 1)), wh, f_kept, (upd a_tokens n x), ar, op, a_parts, a_keptTruth)) :
    wpY_feed post ((nI n), f_whole, f_kept, a_tokens, a_around, a_open, a_parts, a_keptTruth) x := by
  unfold wpY_feed
  dsimp only
  have h13 := O.1
  have h4 := O.2.2.2.1
  refine qy_read O ht (fun ar op hA => ?_)
  dsimp only
  refine pk_le 13 n (fun h => H2 (qd_fd2 (Or.inl h)) _ _ _) (fun hn => ?_)
  refine qi_b0 _ (fun e => ?_) (fun e => H2 (qd_fd2 (Or.inr (Or.inl e))) _ _ _)
  have go : ¬ ((x = 4 ∨ x = 5) ∧ 4 ≤ qd_qc T n) → wY_feed_41 post x (nI n) (nI (qd_cp T n).toNat) f_kept a_tokens ar op a_parts a_keptTruth := by
    intro hq
    refine qy_fd41 O (hA n (Nat.le_refl _)) (fun z => ?_) (fun z => H1 z _ _ _) (fun z => H0 z _ _ _)
    rcases z with z | z | z
    · omega
    · rw [e] at z; exact absurd z (by decide)
    · exact hq z
  have hqs : (x = 4 ∨ x = 5) → wY_feed_30 post x (nI n) (nI (qd_cp T n).toNat) f_kept a_tokens ar op a_parts a_keptTruth := by
    intro hx
    unfold wY_feed_30
    refine qy_quantifiers h13 O.2.2.1 ht (pk_lt (qd_qc T n) 4 (fun z => go (fun y => by omega)) (fun z => H2 (qd_fd2 (Or.inr (Or.inr ⟨hx, z⟩))) _ _ _))
  refine br_c (fun h => hqs (Or.inl h)) (fun h => br_c (fun h2 => hqs (Or.inr h2)) (fun h2 => go (fun y => ?_)))
  rcases y.1 with y | y
  · exact h y
  · exact h2 y
end
def qr_kn (T : Nat → Nat) (n : Nat) (kn : Int32) (mo : Int64) : Prop := kn = 0 ∨ (kn = 1 ∧ qd_ps T n = [] ∧ mo = qd_M T n)
def qr_kp (ak : Int32) (km : Int64) (gk : Int32) (kt : Nat → Int32) : Prop :=
  (ak = 0 ∧ gk = 0) ∨ ∃ K : Nat → Bool, ak = 1 ∧ gk = 1 ∧ km = lN (qd_mod K 64) ∧ ∀ j, j < 64 → kt j = nI (K j).toNat
def qr_R (sx kn : Int32) (mo : Int64) (ak : Int32) (km : Int64) (tx : Nat → Int32) (sy gk : Int32) (ty kt : Nat → Int32) : Prop :=
  ∃ (T : Nat → Nat) (n : Nat), sx = nI n ∧ sy = nI n ∧ tx = (fun j => nI (T j)) ∧ ty = (fun j => nI (T j)) ∧ qd_OK T n ∧ qr_kn T n kn mo ∧ qr_kp ak km gk kt
/-- the two objects hold the same tokens, a well formed beginning of a formula; what is known is right; what is kept is the same set -/
def i_Rel (_ : Nat) (u : SX) (v : SY) : Prop :=
  match u, v with
  | (f_size, f_openCount, f_generals, f_bits, f_storeEnd, f_known, f_models, f_anyKept, f_keptModels, a_tokens, a_openNode, a_openWant, a_parent, a_second, a_straight, a_aroundCount, a_around, a_generalNumber, a_bitBase, a_store, a_clauseFrom, a_clauseCount), (f_sizeb, f_wholeb, f_keptb, a_tokensb, a_aroundb, a_openb, a_partsb, a_keptTruthb) => qr_R f_size f_known f_models f_anyKept f_keptModels a_tokens f_sizeb f_keptb a_tokensb a_keptTruthb
section
variable {k n : Nat} {T : Nat → Nat} {f_size : Int32} {f_openCount : Int32} {f_generals : Int32} {f_bits : Int32} {f_storeEnd : Int32} {f_known : Int32} {f_models : Int64} {f_anyKept : Int32} {f_keptModels : Int64} {a_tokens : Nat → Int32} {a_openNode : Nat → Int32} {a_openWant : Nat → Int32} {a_parent : Nat → Int32} {a_second : Nat → Int32} {a_straight : Nat → Int32} {a_aroundCount : Nat → Int32} {a_around : Nat → Int32} {a_generalNumber : Nat → Int32} {a_bitBase : Nat → Int32} {a_store : Nat → Int32} {a_clauseFrom : Nat → Int32} {a_clauseCount : Nat → Int32} {f_sizeb : Int32} {f_wholeb : Int32} {f_keptb : Int32} {a_tokensb : Nat → Int32} {a_aroundb : Nat → Int32} {a_openb : Nat → Int32} {a_partsb : Nat → Int32} {a_keptTruthb : Nat → Int32}
theorem qr_in (O : qd_OK T n) (hn : qr_kn T n f_known f_models) (hp : qr_kp f_anyKept f_keptModels f_keptb a_keptTruthb) :
    i_Rel k ((nI n), f_openCount, f_generals, f_bits, f_storeEnd, f_known, f_models, f_anyKept, f_keptModels, (fun j => nI (T j)), a_openNode, a_openWant, a_parent, a_second, a_straight, a_aroundCount, a_around, a_generalNumber, a_bitBase, a_store, a_clauseFrom, a_clauseCount) ((nI n), f_wholeb, f_keptb, (fun j => nI (T j)), a_aroundb, a_openb, a_partsb, a_keptTruthb) :=
  ⟨T, n, rfl, rfl, rfl, rfl, O, hn, hp⟩
end
/-- opening the relation -/
theorem qr_el {k : Nat} {P : SX → SY → Prop} (h : ∀ (T : Nat → Nat) (n : Nat) (f_openCount f_generals f_bits f_storeEnd f_known : Int32) (f_models : Int64) (f_anyKept : Int32) (f_keptModels : Int64) (a_openNode a_openWant a_parent a_second a_straight a_aroundCount a_around a_generalNumber a_bitBase a_store a_clauseFrom a_clauseCount : Nat → Int32) (f_wholeb f_keptb : Int32) (a_aroundb a_openb a_partsb a_keptTruthb : Nat → Int32),
    qd_OK T n → qr_kn T n f_known f_models → qr_kp f_anyKept f_keptModels f_keptb a_keptTruthb →
    P ((nI n), f_openCount, f_generals, f_bits, f_storeEnd, f_known, f_models, f_anyKept, f_keptModels, (fun j => nI (T j)), a_openNode, a_openWant, a_parent, a_second, a_straight, a_aroundCount, a_around, a_generalNumber, a_bitBase, a_store, a_clauseFrom, a_clauseCount) ((nI n), f_wholeb, f_keptb, (fun j => nI (T j)), a_aroundb, a_openb, a_partsb, a_keptTruthb)) {u : SX} {v : SY} (I : i_Rel k u v) : P u v := by
  obtain ⟨f_size, f_openCount, f_generals, f_bits, f_storeEnd, f_known, f_models, f_anyKept, f_keptModels, a_tokens, a_openNode, a_openWant, a_parent, a_second, a_straight, a_aroundCount, a_around, a_generalNumber, a_bitBase, a_store, a_clauseFrom, a_clauseCount⟩ := u
  obtain ⟨f_sizeb, f_wholeb, f_keptb, a_tokensb, a_aroundb, a_openb, a_partsb, a_keptTruthb⟩ := v
  obtain ⟨T, n, rfl, rfl, rfl, rfl, O, hn, hp⟩ := I
  exact h T n _ _ _ _ _ _ _ _ _ _ _ _ _ _ _ _ _ _ _ _ _ _ _ _ _ _ O hn hp
theorem qd_OK_0 (T : Nat → Nat) (h25 : ∀ k, T k ≤ 25) : qd_OK T 0 := ⟨by omega, fun m hm => by omega, h25, Nat.zero_le _, fun k hk => by omega⟩
theorem qd_OK_pred {T : Nat → Nat} {n : Nat} (O : qd_OK T (n + 1)) : qd_OK T n := by
  obtain ⟨o1, o2, o3, o4, o5⟩ := O
  have := qd_qc_mono T (show n ≤ n + 1 by omega)
  exact ⟨by omega, fun m hm => o2 m (by omega), o3, by omega, fun k hk => o5 k (by omega)⟩
theorem qd_OK_snoc {T : Nat → Nat} {n : Nat} {x : Int32} (O : qd_OK T n) (hf : qd_fd T n x = 0) : ∃ T', qd_OK T' (n + 1) ∧ upd (fun j => nI (T j)) n x = fun j => nI (T' j) := by
  obtain ⟨o1, o2, o3, o4, o5⟩ := O
  have hno : ¬ (13 ≤ n ∨ qd_cp T n = true ∨ ((x = 4 ∨ x = 5) ∧ 4 ≤ qd_qc T n)) := fun z => by rw [qd_fd2 z] at hf; omega
  have hno2 : ¬ (x < 0 ∨ 25 < x ∨ qd_bd x.toNatClampNeg (qd_al T n).length = false) := fun z => by rw [qd_fd1 hno z] at hf; omega
  obtain ⟨t, ht25, rfl⟩ := qi_25 (fun z => hno2 (Or.inl z)) (fun z => hno2 (Or.inr (Or.inl z)))
  have hcl : (nI t).toNatClampNeg = t := nI_clamp (by omega)
  have hbd : qd_bd t (qd_al T n).length = true := by
    cases e : qd_bd t (qd_al T n).length with
    | true => rfl
    | false => exact absurd (Or.inr (Or.inr (by rw [hcl]; exact e))) hno2
  refine ⟨fun j => if j = n then t else T j, ⟨?_, ?_, ?_, ?_, ?_⟩, ?_⟩
  · rcases Nat.lt_or_ge n 13 with y | y
    · omega
    · exact absurd (Or.inl y) hno
  · intro m hm
    rw [qd_ps_congr m (T := T) (fun j hj => if_neg (by omega))]
    rcases Nat.lt_or_ge m n with y | y
    · exact o2 m y
    · have : m = n := by omega
      subst this
      exact fun z => hno (Or.inr (Or.inl (qd_cp_t.mpr z)))
  · intro k
    show (if k = n then t else T k) ≤ 25
    split
    · exact ht25
    · exact o3 k
  · show qd_qc (fun j => if j = n then t else T j) n + (qd_iq (if n = n then t else T n)).toNat ≤ 4
    rw [qd_qc_congr n (T := T) (fun j hj => if_neg (by omega)), if_pos rfl]
    cases e : qd_iq t with
    | false => exact o4
    | true =>
      show qd_qc T n + 1 ≤ 4
      rcases Nat.lt_or_ge (qd_qc T n) 4 with y | y
      · omega
      · refine absurd (Or.inr (Or.inr ⟨?_, y⟩)) hno
        rcases (qd_iq_iff t).mp e with z | z
        · left; rw [z]; rfl
        · right; rw [z]; rfl
  · intro k hk
    have hal : qd_al (fun j => if j = n then t else T j) k = qd_al T k := by
      unfold qd_al
      rw [qd_hd_congr (T := T) (fun j hj => if_neg (by omega))]
    rw [hal]
    show 6 ≤ (if k = n then t else T k) → qd_va (if k = n then t else T k) < _ ∧ qd_wa (if k = n then t else T k) < _
    split
    · rename_i hkn
      subst hkn
      intro h6
      unfold qd_bd at hbd
      rw [decide_eq_false (show ¬ t < 6 by omega), Bool.false_or, Bool.and_eq_true, decide_eq_true_eq, decide_eq_true_eq] at hbd
      exact hbd
    · exact o5 k (by omega)
  · funext j
    show (if j = n then nI t else nI (T j)) = nI (if j = n then t else T j)
    split <;> rfl
end
section
/-! what is owed -/
theorem i_up {k : Nat} {u : SX} {v : SY} (h : i_Rel k u v) : i_Rel (k + 2) u v := h
theorem i_vc0 : wpX_init (fun u => wpY_init (fun v => i_Rel 0 u v)) := by
  unfold wpX_init wpY_init
  exact qr_in (T := fun _ => 0) (n := 0) (qd_OK_0 _ (fun _ => by omega)) (Or.inl rfl) (Or.inl ⟨rfl, rfl⟩)
theorem i_vc_feed {k : Nat} {u : SX} {v : SY} (I : i_Rel k u v) (hk : k + 2 ≤ 1024) (v1 : Int32) : wpX_feed (fun r u' => wpY_feed (fun r' v' => r' = r ∧ i_Rel (k + 2) u' v') v v1) u v1 := by
  refine qr_el (P := fun u v => wpX_feed (fun r u' => wpY_feed (fun r' v' => r' = r ∧ i_Rel (k + 2) u' v') v v1) u v1) ?_ I
  intro T n oc ge bi sn kn mo ak km on ow pa se st ac ar gn bb sto cf cc wh gk ar2 op2 pa2 kt O hkn hkp
  refine qx_feed O (fun _ => rfl) (fun e oc on ow pa se st ac ar => ?_) (fun e oc on ow pa se st ac ar => ?_) (fun e oc on ow pa se st ac ar => ?_)
  · exact qy_feed O (fun _ => rfl) (fun _ wh ar op => ⟨rfl, qr_in O hkn hkp⟩) (fun e2 => by omega) (fun e2 => by omega)
  · exact qy_feed O (fun _ => rfl) (fun e2 => by omega) (fun _ wh ar op => ⟨rfl, qr_in O hkn hkp⟩) (fun e2 => by omega)
  · obtain ⟨T', O', eT⟩ := qd_OK_snoc O e
    refine qy_feed O (fun _ => rfl) (fun e2 => by omega) (fun e2 => by omega) (fun _ wh ar op => ⟨rfl, ?_⟩)
    rw [eT]
    exact qr_in O' (Or.inl rfl) hkp
theorem i_vc_back {k : Nat} {u : SX} {v : SY} (I : i_Rel k u v) (hk : k + 2 ≤ 1024) : wpX_back (fun r u' => wpY_back (fun r' v' => r' = r ∧ i_Rel (k + 2) u' v') v) u := by
  refine qr_el (P := fun u v => wpX_back (fun r u' => wpY_back (fun r' v' => r' = r ∧ i_Rel (k + 2) u' v') v) u) ?_ I
  intro T n oc ge bi sn kn mo ak km on ow pa se st ac ar gn bb sto cf cc wh gk ar2 op2 pa2 kt O hkn hkp
  have h13 := O.1
  unfold wpX_back wpY_back
  dsimp only
  refine pk_eq n 0 (fun e => pk_eq n 0 (fun _ => ⟨rfl, qr_in O hkn hkp⟩) (fun e2 => absurd e e2)) (fun e => ?_)
  obtain ⟨m, rfl⟩ : ∃ m, n = m + 1 := ⟨n - 1, by omega⟩
  have hi : vp_in (nI m) 13 := vp_in_nI (by omega) (by decide)
  refine nm_r (nI_pred m) ⟨hi, pk_eq (m + 1) 0 (fun e2 => absurd e2 e) (fun _ => nm_r (nI_pred m) ⟨hi, rfl, qr_in (qd_OK_pred O) (Or.inl rfl) hkp⟩)⟩
theorem i_vc_clear {k : Nat} {u : SX} {v : SY} (I : i_Rel k u v) (hk : k + 2 ≤ 1024) : wpX_clear (fun u' => wpY_clear (fun v' => i_Rel (k + 2) u' v') v) u := by
  refine qr_el (P := fun u v => wpX_clear (fun u' => wpY_clear (fun v' => i_Rel (k + 2) u' v') v) u) ?_ I
  intro T n oc ge bi sn kn mo ak km on ow pa se st ac ar gn bb sto cf cc wh gk ar2 op2 pa2 kt O hkn hkp
  unfold wpX_clear wpY_clear
  dsimp only
  exact qr_in (n := 0) (qd_OK_0 T O.2.2.1) (Or.inl rfl) hkp
theorem i_vc_length {k : Nat} {u : SX} {v : SY} (I : i_Rel k u v) (hk : k + 2 ≤ 1024) : wpX_length (fun r => wpY_length (fun r' => r' = r ∧ i_Rel (k + 2) u v) v) u := by
  refine qr_el (P := fun u v => wpX_length (fun r => wpY_length (fun r' => r' = r ∧ i_Rel (k + 2) u v) v) u) ?_ I
  intro T n oc ge bi sn kn mo ak km on ow pa se st ac ar gn bb sto cf cc wh gk ar2 op2 pa2 kt O hkn hkp
  exact ⟨rfl, qr_in O hkn hkp⟩
theorem i_vc_token {k : Nat} {u : SX} {v : SY} (I : i_Rel k u v) (hk : k + 2 ≤ 1024) (v1 : Int32) : wpX_token (fun r => wpY_token (fun r' => r' = r ∧ i_Rel (k + 2) u v) v v1) u v1 := by
  refine qr_el (P := fun u v => wpX_token (fun r => wpY_token (fun r' => r' = r ∧ i_Rel (k + 2) u v) v v1) u v1) ?_ I
  intro T n oc ge bi sn kn mo ak km on ow pa se st ac ar gn bb sto cf cc wh gk ar2 op2 pa2 kt O hkn hkp
  have h13 := O.1
  have hR := qr_in (k := k + 2) (f_openCount := oc) (f_generals := ge) (f_bits := bi) (f_storeEnd := sn) (a_openNode := on) (a_openWant := ow) (a_parent := pa) (a_second := se) (a_straight := st) (a_aroundCount := ac) (a_around := ar) (a_generalNumber := gn) (a_bitBase := bb) (a_store := sto) (a_clauseFrom := cf) (a_clauseCount := cc) (f_wholeb := wh) (a_aroundb := ar2) (a_openb := op2) (a_partsb := pa2) O hkn hkp
  unfold wpX_token wpY_token
  dsimp only
  refine br_c (fun h => br_t h ⟨rfl, hR⟩) (fun h => br_c (fun h2 => ?_) (fun h2 => br_f h (br_f h2 ⟨rfl, hR⟩)))
  obtain ⟨j, hj, rfl⟩ := nI_of h
  have hjn : j < n := (nI_ltI hj (by omega)).mp h2
  have hi : vp_in (nI j) 13 := vp_in_nI (by omega) (by decide)
  exact ⟨hi, br_f h (br_t h2 ⟨hi, rfl, hR⟩)⟩
theorem i_vc_complete {k : Nat} {u : SX} {v : SY} (I : i_Rel k u v) (hk : k + 2 ≤ 1024) : wpX_complete (fun r u' => wpY_complete (fun r' v' => r' = r ∧ i_Rel (k + 2) u' v') v) u := by
  refine qr_el (P := fun u v => wpX_complete (fun r u' => wpY_complete (fun r' v' => r' = r ∧ i_Rel (k + 2) u' v') v) u) ?_ I
  intro T n oc ge bi sn kn mo ak km on ow pa se st ac ar gn bb sto cf cc wh gk ar2 op2 pa2 kt O hkn hkp
  unfold wpX_complete
  dsimp only
  refine qx_read O (fun _ => rfl) (fun c on ow pa se st ac ar hS hI => ?_)
  dsimp only
  exact qx_finished O.1 hS ⟨qi_nz _, qy_complete O (fun _ => rfl) (fun ar op _ => ⟨rfl, qr_in O hkn hkp⟩)⟩
theorem i_vc_holds {k : Nat} {u : SX} {v : SY} (I : i_Rel k u v) (hk : k + 2 ≤ 1024) (v1 : Int32) : wpX_holds (fun r u' => wpY_holds (fun r' v' => r' = r ∧ i_Rel (k + 2) u' v') v v1) u v1 := by
  refine qr_el (P := fun u v => wpX_holds (fun r u' => wpY_holds (fun r' v' => r' = r ∧ i_Rel (k + 2) u' v') v v1) u v1) ?_ I
  intro T n oc ge bi sn kn mo ak km on ow pa se st ac ar gn bb sto cf cc wh gk ar2 op2 pa2 kt O hkn hkp
  unfold wpX_holds
  dsimp only
  have out : (v1 < 0 ∨ 63 < v1) → ∀ (post : Int32 → SY → Prop), (∀ (wh : Int32) (ar op : Nat → Int32), post 0 (nI n, wh, gk, (fun j => nI (T j)), ar, op, pa2, kt)) → wpY_holds post (nI n, wh, gk, (fun j => nI (T j)), ar2, op2, pa2, kt) v1 := by
    intro h post H
    unfold wpY_holds
    dsimp only
    refine qy_read O (fun _ => rfl) (fun ar op hA => ?_)
    dsimp only
    refine qi_b0 _ (fun e => H _ _ _) (fun e => br_c (fun _ => H _ _ _) (fun h1 => ?_))
    rcases h with h | h
    · exact absurd h h1
    · exact br_t h (H _ _ _)
  rcases pk_ix v1 (n := 64) (by decide) with h | h | ⟨j, hj, rfl⟩
  · exact br_t h (out (Or.inl h) _ (fun _ _ _ => ⟨rfl, qr_in O hkn hkp⟩))
  · have h0 : ¬ v1 < 0 := Int32.not_lt.mpr (Int32.le_trans (by decide) h)
    have h63 : 63 < v1 := Int32.lt_of_lt_of_le (by decide) h
    exact br_f h0 (br_t h (out (Or.inr h63) _ (fun _ _ _ => ⟨rfl, qr_in O hkn hkp⟩)))
  · refine br_f (nI_pos (by omega)) (pk_le 64 j (fun h => by omega) (fun _ => qx_decide O (fun _ => rfl) hkn (fun e oc on ow pa se st ac ar => ?_) (fun e oc ge bi sn on ow pa se st ac ar gn bb sto cf cc => ?_)))
    · dsimp only
      refine br_t rfl (qy_holds hj O (fun _ => rfl) (fun wh ar op pa => ?_))
      rw [e]
      exact ⟨rfl, qr_in O (Or.inl rfl) hkp⟩
    · dsimp only
      refine br_f (by decide) ?_
      have hkn' : qr_kn T n 1 (qd_M T n) := Or.inr ⟨rfl, qd_cp_t.mp e, rfl⟩
      rw [show ((qd_M T n).toUInt64 >>> ((nI j).toInt64.toUInt64 &&& Int64.toUInt64 63)).toInt64 &&& 1 = lN (qd_TR T n j).toNat from qi_lb _ hj]
      refine qi_l0 _ (fun e2 => ?_) (fun e2 => ?_)
      · refine qy_holds hj O (fun _ => rfl) (fun wh ar op pa => ?_)
        rw [e, e2]
        exact ⟨rfl, qr_in O hkn' hkp⟩
      · refine qy_holds hj O (fun _ => rfl) (fun wh ar op pa => ?_)
        rw [e, e2]
        exact ⟨rfl, qr_in O hkn' hkp⟩
theorem i_vc_models {k : Nat} {u : SX} {v : SY} (I : i_Rel k u v) (hk : k + 2 ≤ 1024) : wpX_models (fun r u' => wpY_models (fun r' v' => r' = r ∧ i_Rel (k + 2) u' v') v) u := by
  refine qr_el (P := fun u v => wpX_models (fun r u' => wpY_models (fun r' v' => r' = r ∧ i_Rel (k + 2) u' v') v) u) ?_ I
  intro T n oc ge bi sn kn mo ak km on ow pa se st ac ar gn bb sto cf cc wh gk ar2 op2 pa2 kt O hkn hkp
  unfold wpX_models
  dsimp only
  refine qx_decide O (fun _ => rfl) hkn (fun e oc on ow pa se st ac ar => ?_) (fun e oc ge bi sn on ow pa se st ac ar gn bb sto cf cc => ?_)
  · dsimp only
    exact br_t rfl (qy_models O (fun _ => rfl) (fun _ wh ar op pa => ⟨rfl, qr_in O (Or.inl rfl) hkp⟩) (fun e2 => by rw [e] at e2; exact absurd e2 (by decide)))
  · dsimp only
    have hkn' : qr_kn T n 1 (qd_M T n) := Or.inr ⟨rfl, qd_cp_t.mp e, rfl⟩
    refine br_f (by decide) (qx_ones (K := qd_TR T n) ?_)
    exact qy_models O (fun _ => rfl) (fun e2 => by rw [e] at e2; exact absurd e2 (by decide)) (fun _ wh ar op pa => ⟨rfl, qr_in O hkn' hkp⟩)
theorem i_vc_modelFrom {k : Nat} {u : SX} {v : SY} (I : i_Rel k u v) (hk : k + 2 ≤ 1024) (v1 : Int32) : wpX_modelFrom (fun r u' => wpY_modelFrom (fun r' v' => r' = r ∧ i_Rel (k + 2) u' v') v v1) u v1 := by
  refine qr_el (P := fun u v => wpX_modelFrom (fun r u' => wpY_modelFrom (fun r' v' => r' = r ∧ i_Rel (k + 2) u' v') v v1) u v1) ?_ I
  intro T n oc ge bi sn kn mo ak km on ow pa se st ac ar gn bb sto cf cc wh gk ar2 op2 pa2 kt O hkn hkp
  unfold wpX_modelFrom
  dsimp only
  rcases pk_ix v1 (n := 64) (by decide) with h | h | ⟨j, hj, rfl⟩
  · refine br_t h ?_
    unfold wpY_modelFrom
    dsimp only
    refine ⟨1, ?_⟩
    rw [wY_modelFrom_2]
    exact br_t h ⟨rfl, qr_in O hkn hkp⟩
  · have h0 : ¬ v1 < 0 := Int32.not_lt.mpr (Int32.le_trans (by decide) h)
    have h63 : 63 < v1 := Int32.lt_of_lt_of_le (by decide) h
    refine br_f h0 (br_t h63 ?_)
    unfold wpY_modelFrom
    dsimp only
    refine ⟨1, ?_⟩
    rw [wY_modelFrom_2]
    exact br_f h0 (br_t h63 ⟨rfl, qr_in O hkn hkp⟩)
  · refine br_f (nI_pos (by omega)) (pk_lt 63 j (fun h => by omega) (fun _ => qx_decide O (fun _ => rfl) hkn (fun e oc on ow pa se st ac ar => ?_) (fun e oc ge bi sn on ow pa se st ac ar gn bb sto cf cc => ?_)))
    · dsimp only
      refine br_t rfl ?_
      unfold wpY_modelFrom
      dsimp only
      refine ⟨64 - j + 1, qy_mf2 O (fun _ => rfl) (64 - j) j _ _ _ _ (by omega) (fun wh ar op pa => ⟨?_, qr_in O (Or.inl rfl) hkp⟩)⟩
      rw [e]
      exact qd_ff_no _ _
    · dsimp only
      have hkn' : qr_kn T n 1 (qd_M T n) := Or.inr ⟨rfl, qd_cp_t.mp e, rfl⟩
      refine br_f (by decide) ⟨64 - j + 1, qx_mf21 (K := qd_TR T n) (64 - j) j (by omega) ?_⟩
      unfold wpY_modelFrom
      dsimp only
      refine ⟨64 - j + 1, qy_mf2 O (fun _ => rfl) (64 - j) j _ _ _ _ (by omega) (fun wh ar op pa => ⟨?_, qr_in O hkn' hkp⟩)⟩
      exact qd_ff_congr _ _ (fun i _ _ => by rw [e]; rfl)
theorem i_vc_valid {k : Nat} {u : SX} {v : SY} (I : i_Rel k u v) (hk : k + 2 ≤ 1024) : wpX_valid (fun r u' => wpY_valid (fun r' v' => r' = r ∧ i_Rel (k + 2) u' v') v) u := by
  refine qr_el (P := fun u v => wpX_valid (fun r u' => wpY_valid (fun r' v' => r' = r ∧ i_Rel (k + 2) u' v') v) u) ?_ I
  intro T n oc ge bi sn kn mo ak km on ow pa se st ac ar gn bb sto cf cc wh gk ar2 op2 pa2 kt O hkn hkp
  unfold wpX_valid
  dsimp only
  refine qx_decide O (fun _ => rfl) hkn (fun e oc on ow pa se st ac ar => ?_) (fun e oc ge bi sn on ow pa se st ac ar gn bb sto cf cc => ?_)
  · dsimp only
    refine br_t rfl ?_
    unfold wpY_valid
    dsimp only
    exact qy_models O (fun _ => rfl) (fun _ wh ar op pa => br_f (by decide) ⟨rfl, qr_in O (Or.inl rfl) hkp⟩) (fun e2 => by rw [e] at e2; exact absurd e2 (by decide))
  · dsimp only
    have hkn' : qr_kn T n 1 (qd_M T n) := Or.inr ⟨rfl, qd_cp_t.mp e, rfl⟩
    have hct := qd_ct_le (qd_TR T n) 64
    have hall : qd_M T n = -1 ↔ qd_ct (qd_TR T n) 64 = 64 := (qi_lall _).trans (qd_ct_all 64).symm
    refine br_f (by decide) (br_c (fun h => ?_) (fun h => ?_))
    · unfold wpY_valid
      dsimp only
      exact qy_models O (fun _ => rfl) (fun e2 => by rw [e] at e2; exact absurd e2 (by decide)) (fun _ wh ar op pa => pk_eq (qd_ct (qd_TR T n) 64) 64 (fun _ => ⟨rfl, qr_in O hkn' hkp⟩) (fun z => absurd (hall.mp h) z))
    · unfold wpY_valid
      dsimp only
      exact qy_models O (fun _ => rfl) (fun e2 => by rw [e] at e2; exact absurd e2 (by decide)) (fun _ wh ar op pa => pk_eq (qd_ct (qd_TR T n) 64) 64 (fun z => absurd (hall.mpr z) h) (fun _ => ⟨rfl, qr_in O hkn' hkp⟩))
theorem i_vc_depends {k : Nat} {u : SX} {v : SY} (I : i_Rel k u v) (hk : k + 2 ≤ 1024) (v1 : Int32) : wpX_depends (fun r u' => wpY_depends (fun r' v' => r' = r ∧ i_Rel (k + 2) u' v') v v1) u v1 := by
  refine qr_el (P := fun u v => wpX_depends (fun r u' => wpY_depends (fun r' v' => r' = r ∧ i_Rel (k + 2) u' v') v v1) u v1) ?_ I
  intro T n oc ge bi sn kn mo ak km on ow pa se st ac ar gn bb sto cf cc wh gk ar2 op2 pa2 kt O hkn hkp
  unfold wpX_depends
  dsimp only
  rcases pk_ix v1 (n := 6) (by decide) with h | h | ⟨b, hb, rfl⟩
  · refine br_t h ?_
    unfold wpY_depends
    exact ⟨1, qy_dp4o (Or.inl h) ⟨rfl, qr_in O hkn hkp⟩⟩
  · have h0 : ¬ v1 < 0 := Int32.not_lt.mpr (Int32.le_trans (by decide) h)
    have h5 : 5 < v1 := Int32.lt_of_lt_of_le (by decide) h
    refine br_f h0 (br_t h5 ?_)
    unfold wpY_depends
    exact ⟨1, qy_dp4o (Or.inr h5) ⟨rfl, qr_in O hkn hkp⟩⟩
  · have hf0 : ∀ K : Nat → Bool, (false = true ↔ ∃ i, i < 0 ∧ ¬ K i = K (i ^^^ 2 ^ b)) := fun K => ⟨fun z => absurd z (by decide), fun ⟨i, hi, _⟩ => by omega⟩
    refine br_f (nI_pos (by omega)) (pk_lt 5 b (fun h => by omega) (fun _ => qx_decide O (fun _ => rfl) hkn (fun e oc on ow pa se st ac ar => ?_) (fun e oc ge bi sn on ow pa se st ac ar gn bb sto cf cc => ?_)))
    · dsimp only
      refine br_t rfl ?_
      unfold wpY_depends
      dsimp only
      refine ⟨65, qy_dp4 hb O (fun _ => rfl) (fun ⟨i, _, hne⟩ => ?_) (fun _ wh ar op pa => ⟨rfl, qr_in O (Or.inl rfl) hkp⟩) 64 0 false _ _ _ _ (by omega) (hf0 (fun i => qd_cp T n && qd_TR T n i))⟩
      rw [e] at hne
      exact absurd rfl hne
    · dsimp only
      have hkn' : qr_kn T n 1 (qd_M T n) := Or.inr ⟨rfl, qd_cp_t.mp e, rfl⟩
      have heq : (∃ i, i < 64 ∧ ¬ (qd_cp T n && qd_TR T n i) = (qd_cp T n && qd_TR T n (i ^^^ 2 ^ b))) ↔ ∃ i, i < 64 ∧ ¬ qd_TR T n i = qd_TR T n (i ^^^ 2 ^ b) := by
        rw [e]; simp only [Bool.true_and]
      refine br_f (by decide) ⟨65, qx_dp20 (K := qd_TR T n) hb (fun hx => ?_) (fun hx => ?_) 64 0 (by omega) (fun i hi => by omega)⟩
      · unfold wpY_depends
        dsimp only
        exact ⟨65, qy_dp4 hb O (fun _ => rfl) (fun _ wh ar op pa => ⟨rfl, qr_in O hkn' hkp⟩) (fun z => absurd (heq.mpr hx) z) 64 0 false _ _ _ _ (by omega) (hf0 (fun i => qd_cp T n && qd_TR T n i))⟩
      · unfold wpY_depends
        dsimp only
        exact ⟨65, qy_dp4 hb O (fun _ => rfl) (fun z => absurd (heq.mp z) hx) (fun _ wh ar op pa => ⟨rfl, qr_in O hkn' hkp⟩) 64 0 false _ _ _ _ (by omega) (hf0 (fun i => qd_cp T n && qd_TR T n i))⟩
theorem i_vc_keep {k : Nat} {u : SX} {v : SY} (I : i_Rel k u v) (hk : k + 2 ≤ 1024) : wpX_keep (fun r u' => wpY_keep (fun r' v' => r' = r ∧ i_Rel (k + 2) u' v') v) u := by
  refine qr_el (P := fun u v => wpX_keep (fun r u' => wpY_keep (fun r' v' => r' = r ∧ i_Rel (k + 2) u' v') v) u) ?_ I
  intro T n oc ge bi sn kn mo ak km on ow pa se st ac ar gn bb sto cf cc wh gk ar2 op2 pa2 kt O hkn hkp
  unfold wpX_keep
  dsimp only
  refine qx_decide O (fun _ => rfl) hkn (fun e oc on ow pa se st ac ar => ?_) (fun e oc ge bi sn on ow pa se st ac ar gn bb sto cf cc => ?_)
  · dsimp only
    refine br_t rfl ?_
    unfold wpY_keep
    dsimp only
    refine qy_complete O (fun _ => rfl) (fun ar op _ => ?_)
    dsimp only
    rw [e]
    exact br_t rfl ⟨rfl, qr_in O (Or.inl rfl) hkp⟩
  · dsimp only
    have hkn' : qr_kn T n 1 (qd_M T n) := Or.inr ⟨rfl, qd_cp_t.mp e, rfl⟩
    refine br_f (by decide) ?_
    unfold wpY_keep
    dsimp only
    refine qy_complete O (fun _ => rfl) (fun ar op hA => ?_)
    dsimp only
    rw [e]
    exact br_f (by decide) ⟨65, qy_kp16 O ⟨O.2.1, qd_cp_t.mp e⟩ (fun _ => rfl) (fun j hj => hA j (by omega)) (fun pa kt' hkt => ⟨rfl, qr_in O hkn' (Or.inr ⟨qd_TR T n, rfl, rfl, rfl, hkt⟩)⟩) 64 0 _ _ (by omega) (fun j hj => by omega)⟩
theorem i_vc_impliesKept {k : Nat} {u : SX} {v : SY} (I : i_Rel k u v) (hk : k + 2 ≤ 1024) : wpX_impliesKept (fun r u' => wpY_impliesKept (fun r' v' => r' = r ∧ i_Rel (k + 2) u' v') v) u := by
  refine qr_el (P := fun u v => wpX_impliesKept (fun r u' => wpY_impliesKept (fun r' v' => r' = r ∧ i_Rel (k + 2) u' v') v) u) ?_ I
  intro T n oc ge bi sn kn mo ak km on ow pa se st ac ar gn bb sto cf cc wh gk ar2 op2 pa2 kt O hkn hkp
  unfold wpX_impliesKept
  dsimp only
  refine qx_decide O (fun _ => rfl) hkn (fun e oc on ow pa se st ac ar => ?_) (fun e oc ge bi sn on ow pa se st ac ar gn bb sto cf cc => ?_)
  · dsimp only
    refine br_t rfl ?_
    unfold wpY_impliesKept
    dsimp only
    refine qy_complete O (fun _ => rfl) (fun ar op _ => ?_)
    dsimp only
    rw [e]
    exact br_t rfl ⟨1, qy_im22z ⟨rfl, qr_in O (Or.inl rfl) hkp⟩⟩
  · dsimp only
    have hkn' : qr_kn T n 1 (qd_M T n) := Or.inr ⟨rfl, qd_cp_t.mp e, rfl⟩
    refine br_f (by decide) ?_
    rcases hkp with ⟨h1, h2⟩ | ⟨K, h1, h2, h3, h4⟩
    · subst h1 h2
      refine br_t rfl ?_
      unfold wpY_impliesKept
      dsimp only
      refine qy_complete O (fun _ => rfl) (fun ar op _ => ?_)
      dsimp only
      rw [e]
      exact br_f (by decide) (br_t rfl ⟨1, qy_im22z ⟨rfl, qr_in O hkn' (Or.inl ⟨rfl, rfl⟩)⟩⟩)
    · subst h1 h2 h3
      have hkp : qr_kp 1 (lN (qd_mod K 64)) 1 kt := Or.inr ⟨K, rfl, rfl, rfl, h4⟩
      have himp : (qd_M T n &&& (lN (qd_mod K 64) ^^^ (-1))) = 0 ↔ ∀ i, i < 64 → qd_TR T n i = true → K i = true := qi_limp _ _
      refine br_f (by decide) (br_c (fun h => ?_) (fun h => ?_))
      · unfold wpY_impliesKept
        dsimp only
        refine qy_complete O (fun _ => rfl) (fun ar op hA => ?_)
        dsimp only
        rw [e]
        exact br_f (by decide) (br_f (by decide) ⟨65, qy_im22 (K := K) O ⟨O.2.1, qd_cp_t.mp e⟩ (fun _ => rfl) (fun j hj => hA j (by omega)) h4 (fun _ pa => ⟨rfl, qr_in O hkn' hkp⟩) (fun z => absurd (himp.mp h) z) 64 0 _ (by omega) (fun j hj => by omega)⟩)
      · unfold wpY_impliesKept
        dsimp only
        refine qy_complete O (fun _ => rfl) (fun ar op hA => ?_)
        dsimp only
        rw [e]
        exact br_f (by decide) (br_f (by decide) ⟨65, qy_im22 (K := K) O ⟨O.2.1, qd_cp_t.mp e⟩ (fun _ => rfl) (fun j hj => hA j (by omega)) h4 (fun z => absurd (himp.mpr z) h) (fun _ pa => ⟨rfl, qr_in O hkn' hkp⟩) 64 0 _ (by omega) (fun j hj => by omega)⟩)
theorem i_vc_agreeing {k : Nat} {u : SX} {v : SY} (I : i_Rel k u v) (hk : k + 2 ≤ 1024) : wpX_agreeing (fun r u' => wpY_agreeing (fun r' v' => r' = r ∧ i_Rel (k + 2) u' v') v) u := by
  refine qr_el (P := fun u v => wpX_agreeing (fun r u' => wpY_agreeing (fun r' v' => r' = r ∧ i_Rel (k + 2) u' v') v) u) ?_ I
  intro T n oc ge bi sn kn mo ak km on ow pa se st ac ar gn bb sto cf cc wh gk ar2 op2 pa2 kt O hkn hkp
  unfold wpX_agreeing
  dsimp only
  refine qx_decide O (fun _ => rfl) hkn (fun e oc on ow pa se st ac ar => ?_) (fun e oc ge bi sn on ow pa se st ac ar gn bb sto cf cc => ?_)
  · dsimp only
    refine br_t rfl ?_
    unfold wpY_agreeing
    dsimp only
    refine qy_complete O (fun _ => rfl) (fun ar op _ => ?_)
    dsimp only
    rw [e]
    exact br_t rfl ⟨rfl, qr_in O (Or.inl rfl) hkp⟩
  · dsimp only
    have hkn' : qr_kn T n 1 (qd_M T n) := Or.inr ⟨rfl, qd_cp_t.mp e, rfl⟩
    refine br_f (by decide) ?_
    rcases hkp with ⟨h1, h2⟩ | ⟨K, h1, h2, h3, h4⟩
    · subst h1 h2
      refine br_t rfl ?_
      unfold wpY_agreeing
      dsimp only
      refine qy_complete O (fun _ => rfl) (fun ar op _ => ?_)
      dsimp only
      rw [e]
      exact br_f (by decide) (br_t rfl ⟨rfl, qr_in O hkn' (Or.inl ⟨rfl, rfl⟩)⟩)
    · subst h1 h2 h3
      have hkp : qr_kp 1 (lN (qd_mod K 64)) 1 kt := Or.inr ⟨K, rfl, rfl, rfl, h4⟩
      have hag : (qd_M T n ^^^ lN (qd_mod K 64)) ^^^ (-1) = lN (qd_mod (fun i => qd_TR T n i == K i) 64) := qi_lagr _ _
      refine br_f (by decide) ?_
      rw [hag]
      refine qx_ones ?_
      unfold wpY_agreeing
      dsimp only
      refine qy_complete O (fun _ => rfl) (fun ar op hA => ?_)
      dsimp only
      rw [e]
      exact br_f (by decide) (br_f (by decide) ⟨65, qy_ag20 (K := K) O ⟨O.2.1, qd_cp_t.mp e⟩ (fun _ => rfl) (fun j hj => hA j (by omega)) h4 (fun pa => ⟨rfl, qr_in O hkn' hkp⟩) 64 0 _ (by omega)⟩)
end
