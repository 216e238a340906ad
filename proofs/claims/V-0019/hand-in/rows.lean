section
/-! pure rows to paste: stores, nI and lN arithmetic, masks, shifts, narrowing, branches by naturals (pk_le, pk_lt, pk_eq), loops (lp1 .. lp16: the measure of the state; rp1 ..: recursion), negatives. Take what you need -/
theorem pk_us {f : Nat → Int32} {k : Nat} {x : Int32} : upd f k x k = x := if_pos rfl
theorem pk_un {f : Nat → Int32} {k j : Nat} {x : Int32} (h : j ≠ k) : upd f k x j = f j := if_neg h
theorem pk_uLs {f : Nat → Int64} {k : Nat} {x : Int64} : vp_updL f k x k = x := if_pos rfl
theorem pk_uLn {f : Nat → Int64} {k j : Nat} {x : Int64} (h : j ≠ k) : vp_updL f k x j = f j := if_neg h
theorem pk_sub {a b : Nat} (h : b ≤ a) : nI a - nI b = nI (a - b) := by
  obtain ⟨c, rfl⟩ : ∃ c, a = c + b := ⟨a - b, by omega⟩
  rw [← nI_add, Int32.add_sub_cancel, Nat.add_sub_cancel]
theorem pk_m1 (n : Nat) : nI (n + 1) + (-1) = nI n := by
  rw [← nI_1, Int32.add_assoc, show (1 : Int32) + (-1) = 0 from rfl, Int32.add_zero]
theorem pk_mul (a b : Nat) : nI a * nI b = nI (a * b) := (Int32.ofNat_mul a b).symm
theorem pk_div {a d : Nat} (ha : a < 2 ^ 31) (h0 : 0 < d) (hd : d < 2 ^ 31) : nI a / nI d = nI (a / d) := by
  apply Int32.toInt_inj.mp
  rw [lg_idiv_nonneg (by rw [nI_toInt ha]; omega) (by rw [nI_toInt hd]; omega), nI_toInt ha, nI_toInt hd, nI_toInt (Nat.lt_of_le_of_lt (Nat.div_le_self a d) ha)]
  first | rfl | exact (Int.natCast_ediv _ _).symm
theorem pk_rem {a d : Nat} (ha : a < 2 ^ 31) (h0 : 0 < d) (hd : d < 2 ^ 31) : nI a - nI a / nI d * nI d = nI (a % d) := by
  rw [pk_div ha h0 hd, pk_mul, pk_sub (Nat.div_mul_le_self a d)]
  exact congrArg nI (by have := Nat.div_add_mod' a d; omega)
theorem pk_sub_toInt {a b : Nat} (ha : a < 2 ^ 30) (hb : b < 2 ^ 30) : (nI a - nI b).toInt = (a : Int) - b := by
  rw [Int32.toInt_sub, nI_toInt (by omega), nI_toInt (by omega)]
  exact Int.bmod_eq_of_le (by omega) (by omega)
theorem pk_sneg {a b : Nat} (hb : b < 2 ^ 30) (h : a < b) : nI a - nI b < 0 := by
  rw [Int32.lt_iff_toInt_lt, pk_sub_toInt (by omega) hb, show (0 : Int32).toInt = 0 from by decide]
  omega
theorem pk_ix (x : Int32) {n : Nat} (hn : n < 2 ^ 31) : x < 0 ∨ nI n ≤ x ∨ ∃ j : Nat, j < n ∧ x = nI j := by
  by_cases h : x < 0
  · exact Or.inl h
  · obtain ⟨j, hj, rfl⟩ := nI_of h
    by_cases h2 : j < n
    · exact Or.inr (Or.inr ⟨j, h2, rfl⟩)
    · exact Or.inr (Or.inl (nI_le (by omega) hj))
theorem pk_le {x y : Int32} {A B : Prop} (a b : Nat) (f : a ≤ b → A) (g : b < a → B) (hx : x = nI a := by rfl) (hy : y = nI b := by rfl) (ha : a < 2 ^ 31 := by omega) (hb : b < 2 ^ 31 := by omega) : (x ≤ y → A) ∧ (¬ x ≤ y → B) := by
  subst hx hy
  rw [nI_leI ha hb]
  exact ⟨f, fun z => g (by omega)⟩
theorem pk_lt {x y : Int32} {A B : Prop} (a b : Nat) (f : a < b → A) (g : b ≤ a → B) (hx : x = nI a := by rfl) (hy : y = nI b := by rfl) (ha : a < 2 ^ 31 := by omega) (hb : b < 2 ^ 31 := by omega) : (x < y → A) ∧ (¬ x < y → B) := by
  subst hx hy
  rw [nI_ltI ha hb]
  exact ⟨f, fun z => g (by omega)⟩
theorem pk_eq {x y : Int32} {A B : Prop} (a b : Nat) (f : a = b → A) (g : a ≠ b → B) (hx : x = nI a := by rfl) (hy : y = nI b := by rfl) (ha : a < 2 ^ 31 := by omega) (hb : b < 2 ^ 31 := by omega) : (x = y → A) ∧ (¬ x = y → B) := by
  subst hx hy
  rw [nI_eq ha hb]
  exact ⟨f, g⟩
theorem pk_in {x : Int32} (n N : Nat) (h : n < N) (hx : x = nI n := by rfl) (hN : N < 2 ^ 31 := by omega) : vp_in x N := by
  subst hx
  exact vp_in_nI h hN
theorem pk_cl {x : Int32} (n : Nat) (hx : x = nI n := by rfl) (h : n < 2 ^ 31 := by omega) : x.toNatClampNeg = n := by
  subst hx
  exact nI_clamp h
theorem pk_tn {n : Nat} (h : n < 2 ^ 32) : (nI n).toBitVec.toNat = n := Nat.mod_eq_of_lt h
theorem pk_and (x : Int32) {m : Int32} (k : Nat) (hm : m.toBitVec.toNat = 2 ^ k - 1) : x &&& m = nI (x.toBitVec.toNat % 2 ^ k) := by
  apply Int32.toBitVec_inj.mp
  apply BitVec.eq_of_toNat_eq
  rw [Int32.toBitVec_and, BitVec.toNat_and, hm, Nat.and_two_pow_sub_one_eq_mod]
  show _ = (BitVec.ofNat 32 _).toNat
  rw [BitVec.toNat_ofNat]
  exact (Nat.mod_eq_of_lt (Nat.lt_of_le_of_lt (Nat.mod_le _ _) x.toBitVec.isLt)).symm
theorem pk_andN {n : Nat} (h : n < 2 ^ 32) {m : Int32} (k : Nat) (hm : m.toBitVec.toNat = 2 ^ k - 1) : nI n &&& m = nI (n % 2 ^ k) := by
  rw [pk_and _ k hm, pk_tn h]
theorem pk_andE (x : Int32) {m : Int32} (k : Nat) (hm : m.toBitVec.toNat = 2 ^ k - 1) : ∃ j : Nat, j < 2 ^ k ∧ x &&& m = nI j := ⟨_, Nat.mod_lt _ (Nat.two_pow_pos k), pk_and x k hm⟩
theorem pk_andIn (x : Int32) {m : Int32} (k : Nat) (hm : m.toBitVec.toNat = 2 ^ k - 1) (hk : k ≤ 30) : vp_in (x &&& m) (2 ^ k) := by
  obtain ⟨j, hj, e⟩ := pk_andE x k hm
  rw [e]
  exact vp_in_nI hj (Nat.lt_of_le_of_lt (Nat.pow_le_pow_right (by decide) hk) (by decide))
theorem pk_shl (a s : Int32) (k : Nat) (hs : (s.toBitVec.smod 32).toNat = k) : (a <<< s).toBitVec.toNat = a.toBitVec.toNat * 2 ^ k % 2 ^ 32 := by
  show (a.toBitVec <<< (s.toBitVec.smod 32).toNat).toNat = _
  rw [hs, BitVec.toNat_shiftLeft, Nat.shiftLeft_eq]
theorem pk_shlN {n : Nat} (s : Int32) (k : Nat) (hs : (s.toBitVec.smod 32).toNat = k) (h : n * 2 ^ k < 2 ^ 32) : nI n <<< s = nI (n * 2 ^ k) := by
  apply Int32.toBitVec_inj.mp
  apply BitVec.eq_of_toNat_eq
  have hn : n < 2 ^ 32 := Nat.lt_of_le_of_lt (Nat.le_mul_of_pos_right n (Nat.two_pow_pos k)) h
  rw [pk_shl _ _ k hs, pk_tn hn, pk_tn h, Nat.mod_eq_of_lt h]
theorem pk_shr (a s : Int32) (k : Nat) (hs : (s.toBitVec.smod 32).toNat = k) : (a >>> s).toInt = a.toInt >>> k := by
  show (a.toBitVec.sshiftRight (s.toBitVec.smod 32).toNat).toInt = _
  rw [hs, BitVec.toInt_sshiftRight]
  rfl
theorem pk_shrN {n : Nat} (h : n < 2 ^ 31) (s : Int32) (k : Nat) (hs : (s.toBitVec.smod 32).toNat = k) : nI n >>> s = nI (n / 2 ^ k) := by
  apply Int32.toInt_inj.mp
  have h2 : n / 2 ^ k ≤ n := Nat.div_le_self _ _
  rw [pk_shr _ _ k hs, nI_toInt h, nI_toInt (by omega), Int.shiftRight_eq_div_pow]
  rfl
theorem pk_ushr (x s : Int32) (k : Nat) (hs : ((s.toUInt32 &&& Int32.toUInt32 31).toBitVec % 32).toNat = k) : (x.toUInt32 >>> (s.toUInt32 &&& Int32.toUInt32 31)).toInt32.toBitVec.toNat = x.toBitVec.toNat / 2 ^ k := by
  have e : (x.toUInt32 >>> (s.toUInt32 &&& Int32.toUInt32 31)).toInt32.toBitVec = x.toBitVec >>> k := by
    rw [← hs]
    exact UInt32.toBitVec_shiftRight _ _
  rw [e, BitVec.toNat_ushiftRight, Nat.shiftRight_eq_div_pow]
theorem pk_ushrN {n : Nat} (hn : n < 2 ^ 32) (s : Int32) (k : Nat) (hs : ((s.toUInt32 &&& Int32.toUInt32 31).toBitVec % 32).toNat = k) : ((nI n).toUInt32 >>> (s.toUInt32 &&& Int32.toUInt32 31)).toInt32 = nI (n / 2 ^ k) := by
  apply Int32.toBitVec_inj.mp
  apply BitVec.eq_of_toNat_eq
  rw [pk_ushr _ s k hs, pk_tn hn, pk_tn (Nat.lt_of_le_of_lt (Nat.div_le_self _ _) hn)]
theorem pk_nb (z : Int32) : narrow .byte (.int z.toInt8.toInt32) = .int z.toInt8.toInt32 := congrArg Value.int (by simp)
theorem pk_ns (z : Int32) : narrow .short (.int z.toInt16.toInt32) = .int z.toInt16.toInt32 := congrArg Value.int (by simp)
theorem pk_fb (r : Int32) : fits .byte (.int r.toInt8.toInt32) = true := by
  have ⟨a, b⟩ := lg_i2b_range r
  have h1 : (-128 : Int32).toInt = -128 := by decide
  have h2 : (127 : Int32).toInt = 127 := by decide
  simp only [fits, Bool.and_eq_true, decide_eq_true_eq, Int32.le_iff_toInt_le, h1, h2]
  omega
theorem pk_fs (r : Int32) : fits .short (.int r.toInt16.toInt32) = true := by
  have ⟨a, b⟩ := lg_i2s_range r
  have h1 : (-32768 : Int32).toInt = -32768 := by decide
  have h2 : (32767 : Int32).toInt = 32767 := by decide
  simp only [fits, Bool.and_eq_true, decide_eq_true_eq, Int32.le_iff_toInt_le, h1, h2]
  omega
theorem pk_charN {q : Nat} (hq : q < 65536) : narrow .char (.int (nI q)) = .int (nI q) ∧ fits .char (.int (nI q)) = true := by
  constructor
  · have e : (nI q).toUInt32.toUInt16.toUInt32.toInt32 = nI q := by
      apply Int32.toBitVec_inj.mp
      apply BitVec.eq_of_toNat_eq
      show (nI q).toUInt32.toUInt16.toUInt32.toNat = q % 2 ^ 32
      rw [UInt16.toNat_toUInt32, UInt32.toNat_toUInt16, show (nI q).toUInt32.toNat = q % 2 ^ 32 from rfl]
      omega
    exact congrArg Value.int e
  · have a : (0 : Int32) ≤ nI q := nI_pos' (by omega)
    have b : nI q ≤ 65535 := nI_le (b := 65535) (by omega) (by decide)
    show (decide ((0 : Int32) ≤ nI q) && decide (nI q ≤ 65535)) = true
    rw [decide_eq_true a, decide_eq_true b]
    rfl
theorem pk_char (x : Int32) : (x.toUInt32 % 65536).toInt32 = nI (x.toBitVec.toNat % 65536) := by
  apply Int32.toBitVec_inj.mp
  apply BitVec.eq_of_toNat_eq
  rw [pk_tn (by omega)]
  show (x.toUInt32 % 65536).toNat = _
  rw [UInt32.toNat_mod]
  rfl
theorem pk_nc (x : Int32) : narrow .char (.int (x.toUInt32 % 65536).toInt32) = .int (x.toUInt32 % 65536).toInt32 := by
  rw [pk_char]
  exact (pk_charN (Nat.mod_lt _ (by decide))).1
theorem pk_fc (x : Int32) : fits .char (.int (x.toUInt32 % 65536).toInt32) = true := by
  rw [pk_char]
  exact (pk_charN (Nat.mod_lt _ (by decide))).2
theorem pk_vb (z : Int32) : vp_nar .byte z.toInt8.toInt32 = z.toInt8.toInt32 := by rw [vp_nar_byte]; simp
theorem pk_vs (z : Int32) : vp_nar .short z.toInt16.toInt32 = z.toInt16.toInt32 := by rw [vp_nar_short]; simp
theorem pk_vc (z : Int32) : vp_nar .char (z.toUInt32 % 65536).toInt32 = (z.toUInt32 % 65536).toInt32 := Value.int.inj (pk_nc z)
theorem pk_lT {n : Nat} (h : n < 2 ^ 63) : (lN n).toInt = (n : Int) := lg_ofNat_toInt h
theorem pk_lLT {a b : Nat} (ha : a < 2 ^ 63) (hb : b < 2 ^ 63) : lN a < lN b ↔ a < b := by
  rw [Int64.lt_iff_toInt_lt, pk_lT ha, pk_lT hb]; omega
theorem pk_lLE {a b : Nat} (ha : a < 2 ^ 63) (hb : b < 2 ^ 63) : lN a ≤ lN b ↔ a ≤ b := by
  rw [Int64.le_iff_toInt_le, pk_lT ha, pk_lT hb]; omega
theorem pk_lEQ {a b : Nat} (ha : a < 2 ^ 63) (hb : b < 2 ^ 63) : lN a = lN b ↔ a = b := by
  rw [← Int64.toInt_inj, pk_lT ha, pk_lT hb]; omega
theorem pk_lOf {x : Int64} (h : ¬ x < 0) : ∃ k : Nat, k < 2 ^ 63 ∧ x = lN k := by
  rw [Int64.lt_iff_toInt_lt] at h
  have h0 : (0 : Int64).toInt = 0 := by decide
  have hx := Int64.toInt_lt x
  refine ⟨x.toInt.toNat, by omega, Int64.toInt_inj.mp ?_⟩
  rw [pk_lT (by omega)]
  omega
theorem pk_lDiv {a b : Nat} (ha : a < 2 ^ 63) (h0 : 0 < b) (hb : b < 2 ^ 63) : lN a / lN b = lN (a / b) := by
  apply Int64.toInt_inj.mp
  rw [lg_ldiv_nonneg (by rw [pk_lT ha]; omega) (by rw [pk_lT hb]; omega), pk_lT ha, pk_lT hb, pk_lT (Nat.lt_of_le_of_lt (Nat.div_le_self a b) ha)]
  rfl
theorem pk_lRem {a b : Nat} (ha : a < 2 ^ 63) (h0 : 0 < b) (hb : b < 2 ^ 63) : lN a - lN a / lN b * lN b = lN (a % b) := by
  rw [pk_lDiv ha h0 hb, lN_mul, lN_sub (Nat.div_mul_le_self a b)]
  exact congrArg lN (by have := Nat.div_add_mod' a b; omega)
theorem pk_loop {σ : Type} (W : Nat → Nat → σ → Prop) (I : Nat → σ → Prop) (e i0 : Nat) (s : σ) (hi : i0 ≤ e) (h0 : I i0 s) (hx : ∀ n s, I e s → W (n + 1) e s)
    (hs : ∀ n i s, i < e → I i s → (∀ s', I (i + 1) s' → W n (i + 1) s') → W (n + 1) i s) : ∃ n, W n i0 s :=
  ⟨e + 1, loop_i W I e hx hs (e + 1) i0 s hi (by omega) h0⟩
theorem pk_loopD {σ : Type} (W : Nat → Nat → σ → Prop) (I : Nat → σ → Prop) (hx : ∀ n s, I 0 s → W (n + 1) 0 s)
    (hs : ∀ n i s, I (i + 1) s → (∀ s', I i s' → W n i s') → W (n + 1) (i + 1) s) : ∀ (e : Nat) (s : σ), I e s → W (e + 1) e s := by
  intro e
  induction e with
  | zero => exact fun s h => hx 0 s h
  | succ e ih => exact fun s h => hs (e + 1) e s h (fun s' h' => ih s' h')
theorem lp1 {A1 : Type} (W : Nat → A1 → Prop) (I : A1 → Prop) (μ : A1 → Nat) (hs : ∀ (n : Nat) (a1 : A1), I a1 → (∀ (b1 : A1), I b1 → μ b1 < μ a1 → W n b1) → W (n + 1) a1) (a1 : A1) (h : I a1) : ∃ n, W n a1 :=
  loop_m (σ := A1) (fun n s => W n s) (fun s => I s) (fun s => μ s) (fun n s hI hk => hs n s hI (fun b1 h9 hm => hk b1 h9 hm)) a1 h
theorem lp2 {A1 A2 : Type} (W : Nat → A1 → A2 → Prop) (I : A1 → A2 → Prop) (μ : A1 → A2 → Nat) (hs : ∀ (n : Nat) (a1 : A1) (a2 : A2), I a1 a2 → (∀ (b1 : A1) (b2 : A2), I b1 b2 → μ b1 b2 < μ a1 a2 → W n b1 b2) → W (n + 1) a1 a2) (a1 : A1) (a2 : A2) (h : I a1 a2) : ∃ n, W n a1 a2 :=
  loop_m (σ := A1 × A2) (fun n s => W n s.1 s.2) (fun s => I s.1 s.2) (fun s => μ s.1 s.2) (fun n s hI hk => hs n s.1 s.2 hI (fun b1 b2 h9 hm => hk (b1, b2) h9 hm)) (a1, a2) h
theorem lp3 {A1 A2 A3 : Type} (W : Nat → A1 → A2 → A3 → Prop) (I : A1 → A2 → A3 → Prop) (μ : A1 → A2 → A3 → Nat) (hs : ∀ (n : Nat) (a1 : A1) (a2 : A2) (a3 : A3), I a1 a2 a3 → (∀ (b1 : A1) (b2 : A2) (b3 : A3), I b1 b2 b3 → μ b1 b2 b3 < μ a1 a2 a3 → W n b1 b2 b3) → W (n + 1) a1 a2 a3) (a1 : A1) (a2 : A2) (a3 : A3) (h : I a1 a2 a3) : ∃ n, W n a1 a2 a3 :=
  loop_m (σ := A1 × A2 × A3) (fun n s => W n s.1 s.2.1 s.2.2) (fun s => I s.1 s.2.1 s.2.2) (fun s => μ s.1 s.2.1 s.2.2) (fun n s hI hk => hs n s.1 s.2.1 s.2.2 hI (fun b1 b2 b3 h9 hm => hk (b1, b2, b3) h9 hm)) (a1, a2, a3) h
theorem lp4 {A1 A2 A3 A4 : Type} (W : Nat → A1 → A2 → A3 → A4 → Prop) (I : A1 → A2 → A3 → A4 → Prop) (μ : A1 → A2 → A3 → A4 → Nat) (hs : ∀ (n : Nat) (a1 : A1) (a2 : A2) (a3 : A3) (a4 : A4), I a1 a2 a3 a4 → (∀ (b1 : A1) (b2 : A2) (b3 : A3) (b4 : A4), I b1 b2 b3 b4 → μ b1 b2 b3 b4 < μ a1 a2 a3 a4 → W n b1 b2 b3 b4) → W (n + 1) a1 a2 a3 a4) (a1 : A1) (a2 : A2) (a3 : A3) (a4 : A4) (h : I a1 a2 a3 a4) : ∃ n, W n a1 a2 a3 a4 :=
  loop_m (σ := A1 × A2 × A3 × A4) (fun n s => W n s.1 s.2.1 s.2.2.1 s.2.2.2) (fun s => I s.1 s.2.1 s.2.2.1 s.2.2.2) (fun s => μ s.1 s.2.1 s.2.2.1 s.2.2.2) (fun n s hI hk => hs n s.1 s.2.1 s.2.2.1 s.2.2.2 hI (fun b1 b2 b3 b4 h9 hm => hk (b1, b2, b3, b4) h9 hm)) (a1, a2, a3, a4) h
theorem lp5 {A1 A2 A3 A4 A5 : Type} (W : Nat → A1 → A2 → A3 → A4 → A5 → Prop) (I : A1 → A2 → A3 → A4 → A5 → Prop) (μ : A1 → A2 → A3 → A4 → A5 → Nat) (hs : ∀ (n : Nat) (a1 : A1) (a2 : A2) (a3 : A3) (a4 : A4) (a5 : A5), I a1 a2 a3 a4 a5 → (∀ (b1 : A1) (b2 : A2) (b3 : A3) (b4 : A4) (b5 : A5), I b1 b2 b3 b4 b5 → μ b1 b2 b3 b4 b5 < μ a1 a2 a3 a4 a5 → W n b1 b2 b3 b4 b5) → W (n + 1) a1 a2 a3 a4 a5) (a1 : A1) (a2 : A2) (a3 : A3) (a4 : A4) (a5 : A5) (h : I a1 a2 a3 a4 a5) : ∃ n, W n a1 a2 a3 a4 a5 :=
  loop_m (σ := A1 × A2 × A3 × A4 × A5) (fun n s => W n s.1 s.2.1 s.2.2.1 s.2.2.2.1 s.2.2.2.2) (fun s => I s.1 s.2.1 s.2.2.1 s.2.2.2.1 s.2.2.2.2) (fun s => μ s.1 s.2.1 s.2.2.1 s.2.2.2.1 s.2.2.2.2) (fun n s hI hk => hs n s.1 s.2.1 s.2.2.1 s.2.2.2.1 s.2.2.2.2 hI (fun b1 b2 b3 b4 b5 h9 hm => hk (b1, b2, b3, b4, b5) h9 hm)) (a1, a2, a3, a4, a5) h
theorem lp6 {A1 A2 A3 A4 A5 A6 : Type} (W : Nat → A1 → A2 → A3 → A4 → A5 → A6 → Prop) (I : A1 → A2 → A3 → A4 → A5 → A6 → Prop) (μ : A1 → A2 → A3 → A4 → A5 → A6 → Nat) (hs : ∀ (n : Nat) (a1 : A1) (a2 : A2) (a3 : A3) (a4 : A4) (a5 : A5) (a6 : A6), I a1 a2 a3 a4 a5 a6 → (∀ (b1 : A1) (b2 : A2) (b3 : A3) (b4 : A4) (b5 : A5) (b6 : A6), I b1 b2 b3 b4 b5 b6 → μ b1 b2 b3 b4 b5 b6 < μ a1 a2 a3 a4 a5 a6 → W n b1 b2 b3 b4 b5 b6) → W (n + 1) a1 a2 a3 a4 a5 a6) (a1 : A1) (a2 : A2) (a3 : A3) (a4 : A4) (a5 : A5) (a6 : A6) (h : I a1 a2 a3 a4 a5 a6) : ∃ n, W n a1 a2 a3 a4 a5 a6 :=
  loop_m (σ := A1 × A2 × A3 × A4 × A5 × A6) (fun n s => W n s.1 s.2.1 s.2.2.1 s.2.2.2.1 s.2.2.2.2.1 s.2.2.2.2.2) (fun s => I s.1 s.2.1 s.2.2.1 s.2.2.2.1 s.2.2.2.2.1 s.2.2.2.2.2) (fun s => μ s.1 s.2.1 s.2.2.1 s.2.2.2.1 s.2.2.2.2.1 s.2.2.2.2.2) (fun n s hI hk => hs n s.1 s.2.1 s.2.2.1 s.2.2.2.1 s.2.2.2.2.1 s.2.2.2.2.2 hI (fun b1 b2 b3 b4 b5 b6 h9 hm => hk (b1, b2, b3, b4, b5, b6) h9 hm)) (a1, a2, a3, a4, a5, a6) h
theorem lp7 {A1 A2 A3 A4 A5 A6 A7 : Type} (W : Nat → A1 → A2 → A3 → A4 → A5 → A6 → A7 → Prop) (I : A1 → A2 → A3 → A4 → A5 → A6 → A7 → Prop) (μ : A1 → A2 → A3 → A4 → A5 → A6 → A7 → Nat) (hs : ∀ (n : Nat) (a1 : A1) (a2 : A2) (a3 : A3) (a4 : A4) (a5 : A5) (a6 : A6) (a7 : A7), I a1 a2 a3 a4 a5 a6 a7 → (∀ (b1 : A1) (b2 : A2) (b3 : A3) (b4 : A4) (b5 : A5) (b6 : A6) (b7 : A7), I b1 b2 b3 b4 b5 b6 b7 → μ b1 b2 b3 b4 b5 b6 b7 < μ a1 a2 a3 a4 a5 a6 a7 → W n b1 b2 b3 b4 b5 b6 b7) → W (n + 1) a1 a2 a3 a4 a5 a6 a7) (a1 : A1) (a2 : A2) (a3 : A3) (a4 : A4) (a5 : A5) (a6 : A6) (a7 : A7) (h : I a1 a2 a3 a4 a5 a6 a7) : ∃ n, W n a1 a2 a3 a4 a5 a6 a7 :=
  loop_m (σ := A1 × A2 × A3 × A4 × A5 × A6 × A7) (fun n s => W n s.1 s.2.1 s.2.2.1 s.2.2.2.1 s.2.2.2.2.1 s.2.2.2.2.2.1 s.2.2.2.2.2.2) (fun s => I s.1 s.2.1 s.2.2.1 s.2.2.2.1 s.2.2.2.2.1 s.2.2.2.2.2.1 s.2.2.2.2.2.2) (fun s => μ s.1 s.2.1 s.2.2.1 s.2.2.2.1 s.2.2.2.2.1 s.2.2.2.2.2.1 s.2.2.2.2.2.2) (fun n s hI hk => hs n s.1 s.2.1 s.2.2.1 s.2.2.2.1 s.2.2.2.2.1 s.2.2.2.2.2.1 s.2.2.2.2.2.2 hI (fun b1 b2 b3 b4 b5 b6 b7 h9 hm => hk (b1, b2, b3, b4, b5, b6, b7) h9 hm)) (a1, a2, a3, a4, a5, a6, a7) h
theorem lp8 {A1 A2 A3 A4 A5 A6 A7 A8 : Type} (W : Nat → A1 → A2 → A3 → A4 → A5 → A6 → A7 → A8 → Prop) (I : A1 → A2 → A3 → A4 → A5 → A6 → A7 → A8 → Prop) (μ : A1 → A2 → A3 → A4 → A5 → A6 → A7 → A8 → Nat) (hs : ∀ (n : Nat) (a1 : A1) (a2 : A2) (a3 : A3) (a4 : A4) (a5 : A5) (a6 : A6) (a7 : A7) (a8 : A8), I a1 a2 a3 a4 a5 a6 a7 a8 → (∀ (b1 : A1) (b2 : A2) (b3 : A3) (b4 : A4) (b5 : A5) (b6 : A6) (b7 : A7) (b8 : A8), I b1 b2 b3 b4 b5 b6 b7 b8 → μ b1 b2 b3 b4 b5 b6 b7 b8 < μ a1 a2 a3 a4 a5 a6 a7 a8 → W n b1 b2 b3 b4 b5 b6 b7 b8) → W (n + 1) a1 a2 a3 a4 a5 a6 a7 a8) (a1 : A1) (a2 : A2) (a3 : A3) (a4 : A4) (a5 : A5) (a6 : A6) (a7 : A7) (a8 : A8) (h : I a1 a2 a3 a4 a5 a6 a7 a8) : ∃ n, W n a1 a2 a3 a4 a5 a6 a7 a8 :=
  loop_m (σ := A1 × A2 × A3 × A4 × A5 × A6 × A7 × A8) (fun n s => W n s.1 s.2.1 s.2.2.1 s.2.2.2.1 s.2.2.2.2.1 s.2.2.2.2.2.1 s.2.2.2.2.2.2.1 s.2.2.2.2.2.2.2) (fun s => I s.1 s.2.1 s.2.2.1 s.2.2.2.1 s.2.2.2.2.1 s.2.2.2.2.2.1 s.2.2.2.2.2.2.1 s.2.2.2.2.2.2.2) (fun s => μ s.1 s.2.1 s.2.2.1 s.2.2.2.1 s.2.2.2.2.1 s.2.2.2.2.2.1 s.2.2.2.2.2.2.1 s.2.2.2.2.2.2.2) (fun n s hI hk => hs n s.1 s.2.1 s.2.2.1 s.2.2.2.1 s.2.2.2.2.1 s.2.2.2.2.2.1 s.2.2.2.2.2.2.1 s.2.2.2.2.2.2.2 hI (fun b1 b2 b3 b4 b5 b6 b7 b8 h9 hm => hk (b1, b2, b3, b4, b5, b6, b7, b8) h9 hm)) (a1, a2, a3, a4, a5, a6, a7, a8) h
theorem lp9 {A1 A2 A3 A4 A5 A6 A7 A8 A9 : Type} (W : Nat → A1 → A2 → A3 → A4 → A5 → A6 → A7 → A8 → A9 → Prop) (I : A1 → A2 → A3 → A4 → A5 → A6 → A7 → A8 → A9 → Prop) (μ : A1 → A2 → A3 → A4 → A5 → A6 → A7 → A8 → A9 → Nat) (hs : ∀ (n : Nat) (a1 : A1) (a2 : A2) (a3 : A3) (a4 : A4) (a5 : A5) (a6 : A6) (a7 : A7) (a8 : A8) (a9 : A9), I a1 a2 a3 a4 a5 a6 a7 a8 a9 → (∀ (b1 : A1) (b2 : A2) (b3 : A3) (b4 : A4) (b5 : A5) (b6 : A6) (b7 : A7) (b8 : A8) (b9 : A9), I b1 b2 b3 b4 b5 b6 b7 b8 b9 → μ b1 b2 b3 b4 b5 b6 b7 b8 b9 < μ a1 a2 a3 a4 a5 a6 a7 a8 a9 → W n b1 b2 b3 b4 b5 b6 b7 b8 b9) → W (n + 1) a1 a2 a3 a4 a5 a6 a7 a8 a9) (a1 : A1) (a2 : A2) (a3 : A3) (a4 : A4) (a5 : A5) (a6 : A6) (a7 : A7) (a8 : A8) (a9 : A9) (h : I a1 a2 a3 a4 a5 a6 a7 a8 a9) : ∃ n, W n a1 a2 a3 a4 a5 a6 a7 a8 a9 :=
  loop_m (σ := A1 × A2 × A3 × A4 × A5 × A6 × A7 × A8 × A9) (fun n s => W n s.1 s.2.1 s.2.2.1 s.2.2.2.1 s.2.2.2.2.1 s.2.2.2.2.2.1 s.2.2.2.2.2.2.1 s.2.2.2.2.2.2.2.1 s.2.2.2.2.2.2.2.2) (fun s => I s.1 s.2.1 s.2.2.1 s.2.2.2.1 s.2.2.2.2.1 s.2.2.2.2.2.1 s.2.2.2.2.2.2.1 s.2.2.2.2.2.2.2.1 s.2.2.2.2.2.2.2.2) (fun s => μ s.1 s.2.1 s.2.2.1 s.2.2.2.1 s.2.2.2.2.1 s.2.2.2.2.2.1 s.2.2.2.2.2.2.1 s.2.2.2.2.2.2.2.1 s.2.2.2.2.2.2.2.2) (fun n s hI hk => hs n s.1 s.2.1 s.2.2.1 s.2.2.2.1 s.2.2.2.2.1 s.2.2.2.2.2.1 s.2.2.2.2.2.2.1 s.2.2.2.2.2.2.2.1 s.2.2.2.2.2.2.2.2 hI (fun b1 b2 b3 b4 b5 b6 b7 b8 b9 h9 hm => hk (b1, b2, b3, b4, b5, b6, b7, b8, b9) h9 hm)) (a1, a2, a3, a4, a5, a6, a7, a8, a9) h
theorem lp10 {A1 A2 A3 A4 A5 A6 A7 A8 A9 A10 : Type} (W : Nat → A1 → A2 → A3 → A4 → A5 → A6 → A7 → A8 → A9 → A10 → Prop) (I : A1 → A2 → A3 → A4 → A5 → A6 → A7 → A8 → A9 → A10 → Prop) (μ : A1 → A2 → A3 → A4 → A5 → A6 → A7 → A8 → A9 → A10 → Nat) (hs : ∀ (n : Nat) (a1 : A1) (a2 : A2) (a3 : A3) (a4 : A4) (a5 : A5) (a6 : A6) (a7 : A7) (a8 : A8) (a9 : A9) (a10 : A10), I a1 a2 a3 a4 a5 a6 a7 a8 a9 a10 → (∀ (b1 : A1) (b2 : A2) (b3 : A3) (b4 : A4) (b5 : A5) (b6 : A6) (b7 : A7) (b8 : A8) (b9 : A9) (b10 : A10), I b1 b2 b3 b4 b5 b6 b7 b8 b9 b10 → μ b1 b2 b3 b4 b5 b6 b7 b8 b9 b10 < μ a1 a2 a3 a4 a5 a6 a7 a8 a9 a10 → W n b1 b2 b3 b4 b5 b6 b7 b8 b9 b10) → W (n + 1) a1 a2 a3 a4 a5 a6 a7 a8 a9 a10) (a1 : A1) (a2 : A2) (a3 : A3) (a4 : A4) (a5 : A5) (a6 : A6) (a7 : A7) (a8 : A8) (a9 : A9) (a10 : A10) (h : I a1 a2 a3 a4 a5 a6 a7 a8 a9 a10) : ∃ n, W n a1 a2 a3 a4 a5 a6 a7 a8 a9 a10 :=
  loop_m (σ := A1 × A2 × A3 × A4 × A5 × A6 × A7 × A8 × A9 × A10) (fun n s => W n s.1 s.2.1 s.2.2.1 s.2.2.2.1 s.2.2.2.2.1 s.2.2.2.2.2.1 s.2.2.2.2.2.2.1 s.2.2.2.2.2.2.2.1 s.2.2.2.2.2.2.2.2.1 s.2.2.2.2.2.2.2.2.2) (fun s => I s.1 s.2.1 s.2.2.1 s.2.2.2.1 s.2.2.2.2.1 s.2.2.2.2.2.1 s.2.2.2.2.2.2.1 s.2.2.2.2.2.2.2.1 s.2.2.2.2.2.2.2.2.1 s.2.2.2.2.2.2.2.2.2) (fun s => μ s.1 s.2.1 s.2.2.1 s.2.2.2.1 s.2.2.2.2.1 s.2.2.2.2.2.1 s.2.2.2.2.2.2.1 s.2.2.2.2.2.2.2.1 s.2.2.2.2.2.2.2.2.1 s.2.2.2.2.2.2.2.2.2) (fun n s hI hk => hs n s.1 s.2.1 s.2.2.1 s.2.2.2.1 s.2.2.2.2.1 s.2.2.2.2.2.1 s.2.2.2.2.2.2.1 s.2.2.2.2.2.2.2.1 s.2.2.2.2.2.2.2.2.1 s.2.2.2.2.2.2.2.2.2 hI (fun b1 b2 b3 b4 b5 b6 b7 b8 b9 b10 h9 hm => hk (b1, b2, b3, b4, b5, b6, b7, b8, b9, b10) h9 hm)) (a1, a2, a3, a4, a5, a6, a7, a8, a9, a10) h
theorem lp11 {A1 A2 A3 A4 A5 A6 A7 A8 A9 A10 A11 : Type} (W : Nat → A1 → A2 → A3 → A4 → A5 → A6 → A7 → A8 → A9 → A10 → A11 → Prop) (I : A1 → A2 → A3 → A4 → A5 → A6 → A7 → A8 → A9 → A10 → A11 → Prop) (μ : A1 → A2 → A3 → A4 → A5 → A6 → A7 → A8 → A9 → A10 → A11 → Nat) (hs : ∀ (n : Nat) (a1 : A1) (a2 : A2) (a3 : A3) (a4 : A4) (a5 : A5) (a6 : A6) (a7 : A7) (a8 : A8) (a9 : A9) (a10 : A10) (a11 : A11), I a1 a2 a3 a4 a5 a6 a7 a8 a9 a10 a11 → (∀ (b1 : A1) (b2 : A2) (b3 : A3) (b4 : A4) (b5 : A5) (b6 : A6) (b7 : A7) (b8 : A8) (b9 : A9) (b10 : A10) (b11 : A11), I b1 b2 b3 b4 b5 b6 b7 b8 b9 b10 b11 → μ b1 b2 b3 b4 b5 b6 b7 b8 b9 b10 b11 < μ a1 a2 a3 a4 a5 a6 a7 a8 a9 a10 a11 → W n b1 b2 b3 b4 b5 b6 b7 b8 b9 b10 b11) → W (n + 1) a1 a2 a3 a4 a5 a6 a7 a8 a9 a10 a11) (a1 : A1) (a2 : A2) (a3 : A3) (a4 : A4) (a5 : A5) (a6 : A6) (a7 : A7) (a8 : A8) (a9 : A9) (a10 : A10) (a11 : A11) (h : I a1 a2 a3 a4 a5 a6 a7 a8 a9 a10 a11) : ∃ n, W n a1 a2 a3 a4 a5 a6 a7 a8 a9 a10 a11 :=
  loop_m (σ := A1 × A2 × A3 × A4 × A5 × A6 × A7 × A8 × A9 × A10 × A11) (fun n s => W n s.1 s.2.1 s.2.2.1 s.2.2.2.1 s.2.2.2.2.1 s.2.2.2.2.2.1 s.2.2.2.2.2.2.1 s.2.2.2.2.2.2.2.1 s.2.2.2.2.2.2.2.2.1 s.2.2.2.2.2.2.2.2.2.1 s.2.2.2.2.2.2.2.2.2.2) (fun s => I s.1 s.2.1 s.2.2.1 s.2.2.2.1 s.2.2.2.2.1 s.2.2.2.2.2.1 s.2.2.2.2.2.2.1 s.2.2.2.2.2.2.2.1 s.2.2.2.2.2.2.2.2.1 s.2.2.2.2.2.2.2.2.2.1 s.2.2.2.2.2.2.2.2.2.2) (fun s => μ s.1 s.2.1 s.2.2.1 s.2.2.2.1 s.2.2.2.2.1 s.2.2.2.2.2.1 s.2.2.2.2.2.2.1 s.2.2.2.2.2.2.2.1 s.2.2.2.2.2.2.2.2.1 s.2.2.2.2.2.2.2.2.2.1 s.2.2.2.2.2.2.2.2.2.2) (fun n s hI hk => hs n s.1 s.2.1 s.2.2.1 s.2.2.2.1 s.2.2.2.2.1 s.2.2.2.2.2.1 s.2.2.2.2.2.2.1 s.2.2.2.2.2.2.2.1 s.2.2.2.2.2.2.2.2.1 s.2.2.2.2.2.2.2.2.2.1 s.2.2.2.2.2.2.2.2.2.2 hI (fun b1 b2 b3 b4 b5 b6 b7 b8 b9 b10 b11 h9 hm => hk (b1, b2, b3, b4, b5, b6, b7, b8, b9, b10, b11) h9 hm)) (a1, a2, a3, a4, a5, a6, a7, a8, a9, a10, a11) h
theorem lp12 {A1 A2 A3 A4 A5 A6 A7 A8 A9 A10 A11 A12 : Type} (W : Nat → A1 → A2 → A3 → A4 → A5 → A6 → A7 → A8 → A9 → A10 → A11 → A12 → Prop) (I : A1 → A2 → A3 → A4 → A5 → A6 → A7 → A8 → A9 → A10 → A11 → A12 → Prop) (μ : A1 → A2 → A3 → A4 → A5 → A6 → A7 → A8 → A9 → A10 → A11 → A12 → Nat) (hs : ∀ (n : Nat) (a1 : A1) (a2 : A2) (a3 : A3) (a4 : A4) (a5 : A5) (a6 : A6) (a7 : A7) (a8 : A8) (a9 : A9) (a10 : A10) (a11 : A11) (a12 : A12), I a1 a2 a3 a4 a5 a6 a7 a8 a9 a10 a11 a12 → (∀ (b1 : A1) (b2 : A2) (b3 : A3) (b4 : A4) (b5 : A5) (b6 : A6) (b7 : A7) (b8 : A8) (b9 : A9) (b10 : A10) (b11 : A11) (b12 : A12), I b1 b2 b3 b4 b5 b6 b7 b8 b9 b10 b11 b12 → μ b1 b2 b3 b4 b5 b6 b7 b8 b9 b10 b11 b12 < μ a1 a2 a3 a4 a5 a6 a7 a8 a9 a10 a11 a12 → W n b1 b2 b3 b4 b5 b6 b7 b8 b9 b10 b11 b12) → W (n + 1) a1 a2 a3 a4 a5 a6 a7 a8 a9 a10 a11 a12) (a1 : A1) (a2 : A2) (a3 : A3) (a4 : A4) (a5 : A5) (a6 : A6) (a7 : A7) (a8 : A8) (a9 : A9) (a10 : A10) (a11 : A11) (a12 : A12) (h : I a1 a2 a3 a4 a5 a6 a7 a8 a9 a10 a11 a12) : ∃ n, W n a1 a2 a3 a4 a5 a6 a7 a8 a9 a10 a11 a12 :=
  loop_m (σ := A1 × A2 × A3 × A4 × A5 × A6 × A7 × A8 × A9 × A10 × A11 × A12) (fun n s => W n s.1 s.2.1 s.2.2.1 s.2.2.2.1 s.2.2.2.2.1 s.2.2.2.2.2.1 s.2.2.2.2.2.2.1 s.2.2.2.2.2.2.2.1 s.2.2.2.2.2.2.2.2.1 s.2.2.2.2.2.2.2.2.2.1 s.2.2.2.2.2.2.2.2.2.2.1 s.2.2.2.2.2.2.2.2.2.2.2) (fun s => I s.1 s.2.1 s.2.2.1 s.2.2.2.1 s.2.2.2.2.1 s.2.2.2.2.2.1 s.2.2.2.2.2.2.1 s.2.2.2.2.2.2.2.1 s.2.2.2.2.2.2.2.2.1 s.2.2.2.2.2.2.2.2.2.1 s.2.2.2.2.2.2.2.2.2.2.1 s.2.2.2.2.2.2.2.2.2.2.2) (fun s => μ s.1 s.2.1 s.2.2.1 s.2.2.2.1 s.2.2.2.2.1 s.2.2.2.2.2.1 s.2.2.2.2.2.2.1 s.2.2.2.2.2.2.2.1 s.2.2.2.2.2.2.2.2.1 s.2.2.2.2.2.2.2.2.2.1 s.2.2.2.2.2.2.2.2.2.2.1 s.2.2.2.2.2.2.2.2.2.2.2) (fun n s hI hk => hs n s.1 s.2.1 s.2.2.1 s.2.2.2.1 s.2.2.2.2.1 s.2.2.2.2.2.1 s.2.2.2.2.2.2.1 s.2.2.2.2.2.2.2.1 s.2.2.2.2.2.2.2.2.1 s.2.2.2.2.2.2.2.2.2.1 s.2.2.2.2.2.2.2.2.2.2.1 s.2.2.2.2.2.2.2.2.2.2.2 hI (fun b1 b2 b3 b4 b5 b6 b7 b8 b9 b10 b11 b12 h9 hm => hk (b1, b2, b3, b4, b5, b6, b7, b8, b9, b10, b11, b12) h9 hm)) (a1, a2, a3, a4, a5, a6, a7, a8, a9, a10, a11, a12) h
theorem lp13 {A1 A2 A3 A4 A5 A6 A7 A8 A9 A10 A11 A12 A13 : Type} (W : Nat → A1 → A2 → A3 → A4 → A5 → A6 → A7 → A8 → A9 → A10 → A11 → A12 → A13 → Prop) (I : A1 → A2 → A3 → A4 → A5 → A6 → A7 → A8 → A9 → A10 → A11 → A12 → A13 → Prop) (μ : A1 → A2 → A3 → A4 → A5 → A6 → A7 → A8 → A9 → A10 → A11 → A12 → A13 → Nat) (hs : ∀ (n : Nat) (a1 : A1) (a2 : A2) (a3 : A3) (a4 : A4) (a5 : A5) (a6 : A6) (a7 : A7) (a8 : A8) (a9 : A9) (a10 : A10) (a11 : A11) (a12 : A12) (a13 : A13), I a1 a2 a3 a4 a5 a6 a7 a8 a9 a10 a11 a12 a13 → (∀ (b1 : A1) (b2 : A2) (b3 : A3) (b4 : A4) (b5 : A5) (b6 : A6) (b7 : A7) (b8 : A8) (b9 : A9) (b10 : A10) (b11 : A11) (b12 : A12) (b13 : A13), I b1 b2 b3 b4 b5 b6 b7 b8 b9 b10 b11 b12 b13 → μ b1 b2 b3 b4 b5 b6 b7 b8 b9 b10 b11 b12 b13 < μ a1 a2 a3 a4 a5 a6 a7 a8 a9 a10 a11 a12 a13 → W n b1 b2 b3 b4 b5 b6 b7 b8 b9 b10 b11 b12 b13) → W (n + 1) a1 a2 a3 a4 a5 a6 a7 a8 a9 a10 a11 a12 a13) (a1 : A1) (a2 : A2) (a3 : A3) (a4 : A4) (a5 : A5) (a6 : A6) (a7 : A7) (a8 : A8) (a9 : A9) (a10 : A10) (a11 : A11) (a12 : A12) (a13 : A13) (h : I a1 a2 a3 a4 a5 a6 a7 a8 a9 a10 a11 a12 a13) : ∃ n, W n a1 a2 a3 a4 a5 a6 a7 a8 a9 a10 a11 a12 a13 :=
  loop_m (σ := A1 × A2 × A3 × A4 × A5 × A6 × A7 × A8 × A9 × A10 × A11 × A12 × A13) (fun n s => W n s.1 s.2.1 s.2.2.1 s.2.2.2.1 s.2.2.2.2.1 s.2.2.2.2.2.1 s.2.2.2.2.2.2.1 s.2.2.2.2.2.2.2.1 s.2.2.2.2.2.2.2.2.1 s.2.2.2.2.2.2.2.2.2.1 s.2.2.2.2.2.2.2.2.2.2.1 s.2.2.2.2.2.2.2.2.2.2.2.1 s.2.2.2.2.2.2.2.2.2.2.2.2) (fun s => I s.1 s.2.1 s.2.2.1 s.2.2.2.1 s.2.2.2.2.1 s.2.2.2.2.2.1 s.2.2.2.2.2.2.1 s.2.2.2.2.2.2.2.1 s.2.2.2.2.2.2.2.2.1 s.2.2.2.2.2.2.2.2.2.1 s.2.2.2.2.2.2.2.2.2.2.1 s.2.2.2.2.2.2.2.2.2.2.2.1 s.2.2.2.2.2.2.2.2.2.2.2.2) (fun s => μ s.1 s.2.1 s.2.2.1 s.2.2.2.1 s.2.2.2.2.1 s.2.2.2.2.2.1 s.2.2.2.2.2.2.1 s.2.2.2.2.2.2.2.1 s.2.2.2.2.2.2.2.2.1 s.2.2.2.2.2.2.2.2.2.1 s.2.2.2.2.2.2.2.2.2.2.1 s.2.2.2.2.2.2.2.2.2.2.2.1 s.2.2.2.2.2.2.2.2.2.2.2.2) (fun n s hI hk => hs n s.1 s.2.1 s.2.2.1 s.2.2.2.1 s.2.2.2.2.1 s.2.2.2.2.2.1 s.2.2.2.2.2.2.1 s.2.2.2.2.2.2.2.1 s.2.2.2.2.2.2.2.2.1 s.2.2.2.2.2.2.2.2.2.1 s.2.2.2.2.2.2.2.2.2.2.1 s.2.2.2.2.2.2.2.2.2.2.2.1 s.2.2.2.2.2.2.2.2.2.2.2.2 hI (fun b1 b2 b3 b4 b5 b6 b7 b8 b9 b10 b11 b12 b13 h9 hm => hk (b1, b2, b3, b4, b5, b6, b7, b8, b9, b10, b11, b12, b13) h9 hm)) (a1, a2, a3, a4, a5, a6, a7, a8, a9, a10, a11, a12, a13) h
theorem lp14 {A1 A2 A3 A4 A5 A6 A7 A8 A9 A10 A11 A12 A13 A14 : Type} (W : Nat → A1 → A2 → A3 → A4 → A5 → A6 → A7 → A8 → A9 → A10 → A11 → A12 → A13 → A14 → Prop) (I : A1 → A2 → A3 → A4 → A5 → A6 → A7 → A8 → A9 → A10 → A11 → A12 → A13 → A14 → Prop) (μ : A1 → A2 → A3 → A4 → A5 → A6 → A7 → A8 → A9 → A10 → A11 → A12 → A13 → A14 → Nat) (hs : ∀ (n : Nat) (a1 : A1) (a2 : A2) (a3 : A3) (a4 : A4) (a5 : A5) (a6 : A6) (a7 : A7) (a8 : A8) (a9 : A9) (a10 : A10) (a11 : A11) (a12 : A12) (a13 : A13) (a14 : A14), I a1 a2 a3 a4 a5 a6 a7 a8 a9 a10 a11 a12 a13 a14 → (∀ (b1 : A1) (b2 : A2) (b3 : A3) (b4 : A4) (b5 : A5) (b6 : A6) (b7 : A7) (b8 : A8) (b9 : A9) (b10 : A10) (b11 : A11) (b12 : A12) (b13 : A13) (b14 : A14), I b1 b2 b3 b4 b5 b6 b7 b8 b9 b10 b11 b12 b13 b14 → μ b1 b2 b3 b4 b5 b6 b7 b8 b9 b10 b11 b12 b13 b14 < μ a1 a2 a3 a4 a5 a6 a7 a8 a9 a10 a11 a12 a13 a14 → W n b1 b2 b3 b4 b5 b6 b7 b8 b9 b10 b11 b12 b13 b14) → W (n + 1) a1 a2 a3 a4 a5 a6 a7 a8 a9 a10 a11 a12 a13 a14) (a1 : A1) (a2 : A2) (a3 : A3) (a4 : A4) (a5 : A5) (a6 : A6) (a7 : A7) (a8 : A8) (a9 : A9) (a10 : A10) (a11 : A11) (a12 : A12) (a13 : A13) (a14 : A14) (h : I a1 a2 a3 a4 a5 a6 a7 a8 a9 a10 a11 a12 a13 a14) : ∃ n, W n a1 a2 a3 a4 a5 a6 a7 a8 a9 a10 a11 a12 a13 a14 :=
  loop_m (σ := A1 × A2 × A3 × A4 × A5 × A6 × A7 × A8 × A9 × A10 × A11 × A12 × A13 × A14) (fun n s => W n s.1 s.2.1 s.2.2.1 s.2.2.2.1 s.2.2.2.2.1 s.2.2.2.2.2.1 s.2.2.2.2.2.2.1 s.2.2.2.2.2.2.2.1 s.2.2.2.2.2.2.2.2.1 s.2.2.2.2.2.2.2.2.2.1 s.2.2.2.2.2.2.2.2.2.2.1 s.2.2.2.2.2.2.2.2.2.2.2.1 s.2.2.2.2.2.2.2.2.2.2.2.2.1 s.2.2.2.2.2.2.2.2.2.2.2.2.2) (fun s => I s.1 s.2.1 s.2.2.1 s.2.2.2.1 s.2.2.2.2.1 s.2.2.2.2.2.1 s.2.2.2.2.2.2.1 s.2.2.2.2.2.2.2.1 s.2.2.2.2.2.2.2.2.1 s.2.2.2.2.2.2.2.2.2.1 s.2.2.2.2.2.2.2.2.2.2.1 s.2.2.2.2.2.2.2.2.2.2.2.1 s.2.2.2.2.2.2.2.2.2.2.2.2.1 s.2.2.2.2.2.2.2.2.2.2.2.2.2) (fun s => μ s.1 s.2.1 s.2.2.1 s.2.2.2.1 s.2.2.2.2.1 s.2.2.2.2.2.1 s.2.2.2.2.2.2.1 s.2.2.2.2.2.2.2.1 s.2.2.2.2.2.2.2.2.1 s.2.2.2.2.2.2.2.2.2.1 s.2.2.2.2.2.2.2.2.2.2.1 s.2.2.2.2.2.2.2.2.2.2.2.1 s.2.2.2.2.2.2.2.2.2.2.2.2.1 s.2.2.2.2.2.2.2.2.2.2.2.2.2) (fun n s hI hk => hs n s.1 s.2.1 s.2.2.1 s.2.2.2.1 s.2.2.2.2.1 s.2.2.2.2.2.1 s.2.2.2.2.2.2.1 s.2.2.2.2.2.2.2.1 s.2.2.2.2.2.2.2.2.1 s.2.2.2.2.2.2.2.2.2.1 s.2.2.2.2.2.2.2.2.2.2.1 s.2.2.2.2.2.2.2.2.2.2.2.1 s.2.2.2.2.2.2.2.2.2.2.2.2.1 s.2.2.2.2.2.2.2.2.2.2.2.2.2 hI (fun b1 b2 b3 b4 b5 b6 b7 b8 b9 b10 b11 b12 b13 b14 h9 hm => hk (b1, b2, b3, b4, b5, b6, b7, b8, b9, b10, b11, b12, b13, b14) h9 hm)) (a1, a2, a3, a4, a5, a6, a7, a8, a9, a10, a11, a12, a13, a14) h
theorem lp15 {A1 A2 A3 A4 A5 A6 A7 A8 A9 A10 A11 A12 A13 A14 A15 : Type} (W : Nat → A1 → A2 → A3 → A4 → A5 → A6 → A7 → A8 → A9 → A10 → A11 → A12 → A13 → A14 → A15 → Prop) (I : A1 → A2 → A3 → A4 → A5 → A6 → A7 → A8 → A9 → A10 → A11 → A12 → A13 → A14 → A15 → Prop) (μ : A1 → A2 → A3 → A4 → A5 → A6 → A7 → A8 → A9 → A10 → A11 → A12 → A13 → A14 → A15 → Nat) (hs : ∀ (n : Nat) (a1 : A1) (a2 : A2) (a3 : A3) (a4 : A4) (a5 : A5) (a6 : A6) (a7 : A7) (a8 : A8) (a9 : A9) (a10 : A10) (a11 : A11) (a12 : A12) (a13 : A13) (a14 : A14) (a15 : A15), I a1 a2 a3 a4 a5 a6 a7 a8 a9 a10 a11 a12 a13 a14 a15 → (∀ (b1 : A1) (b2 : A2) (b3 : A3) (b4 : A4) (b5 : A5) (b6 : A6) (b7 : A7) (b8 : A8) (b9 : A9) (b10 : A10) (b11 : A11) (b12 : A12) (b13 : A13) (b14 : A14) (b15 : A15), I b1 b2 b3 b4 b5 b6 b7 b8 b9 b10 b11 b12 b13 b14 b15 → μ b1 b2 b3 b4 b5 b6 b7 b8 b9 b10 b11 b12 b13 b14 b15 < μ a1 a2 a3 a4 a5 a6 a7 a8 a9 a10 a11 a12 a13 a14 a15 → W n b1 b2 b3 b4 b5 b6 b7 b8 b9 b10 b11 b12 b13 b14 b15) → W (n + 1) a1 a2 a3 a4 a5 a6 a7 a8 a9 a10 a11 a12 a13 a14 a15) (a1 : A1) (a2 : A2) (a3 : A3) (a4 : A4) (a5 : A5) (a6 : A6) (a7 : A7) (a8 : A8) (a9 : A9) (a10 : A10) (a11 : A11) (a12 : A12) (a13 : A13) (a14 : A14) (a15 : A15) (h : I a1 a2 a3 a4 a5 a6 a7 a8 a9 a10 a11 a12 a13 a14 a15) : ∃ n, W n a1 a2 a3 a4 a5 a6 a7 a8 a9 a10 a11 a12 a13 a14 a15 :=
  loop_m (σ := A1 × A2 × A3 × A4 × A5 × A6 × A7 × A8 × A9 × A10 × A11 × A12 × A13 × A14 × A15) (fun n s => W n s.1 s.2.1 s.2.2.1 s.2.2.2.1 s.2.2.2.2.1 s.2.2.2.2.2.1 s.2.2.2.2.2.2.1 s.2.2.2.2.2.2.2.1 s.2.2.2.2.2.2.2.2.1 s.2.2.2.2.2.2.2.2.2.1 s.2.2.2.2.2.2.2.2.2.2.1 s.2.2.2.2.2.2.2.2.2.2.2.1 s.2.2.2.2.2.2.2.2.2.2.2.2.1 s.2.2.2.2.2.2.2.2.2.2.2.2.2.1 s.2.2.2.2.2.2.2.2.2.2.2.2.2.2) (fun s => I s.1 s.2.1 s.2.2.1 s.2.2.2.1 s.2.2.2.2.1 s.2.2.2.2.2.1 s.2.2.2.2.2.2.1 s.2.2.2.2.2.2.2.1 s.2.2.2.2.2.2.2.2.1 s.2.2.2.2.2.2.2.2.2.1 s.2.2.2.2.2.2.2.2.2.2.1 s.2.2.2.2.2.2.2.2.2.2.2.1 s.2.2.2.2.2.2.2.2.2.2.2.2.1 s.2.2.2.2.2.2.2.2.2.2.2.2.2.1 s.2.2.2.2.2.2.2.2.2.2.2.2.2.2) (fun s => μ s.1 s.2.1 s.2.2.1 s.2.2.2.1 s.2.2.2.2.1 s.2.2.2.2.2.1 s.2.2.2.2.2.2.1 s.2.2.2.2.2.2.2.1 s.2.2.2.2.2.2.2.2.1 s.2.2.2.2.2.2.2.2.2.1 s.2.2.2.2.2.2.2.2.2.2.1 s.2.2.2.2.2.2.2.2.2.2.2.1 s.2.2.2.2.2.2.2.2.2.2.2.2.1 s.2.2.2.2.2.2.2.2.2.2.2.2.2.1 s.2.2.2.2.2.2.2.2.2.2.2.2.2.2) (fun n s hI hk => hs n s.1 s.2.1 s.2.2.1 s.2.2.2.1 s.2.2.2.2.1 s.2.2.2.2.2.1 s.2.2.2.2.2.2.1 s.2.2.2.2.2.2.2.1 s.2.2.2.2.2.2.2.2.1 s.2.2.2.2.2.2.2.2.2.1 s.2.2.2.2.2.2.2.2.2.2.1 s.2.2.2.2.2.2.2.2.2.2.2.1 s.2.2.2.2.2.2.2.2.2.2.2.2.1 s.2.2.2.2.2.2.2.2.2.2.2.2.2.1 s.2.2.2.2.2.2.2.2.2.2.2.2.2.2 hI (fun b1 b2 b3 b4 b5 b6 b7 b8 b9 b10 b11 b12 b13 b14 b15 h9 hm => hk (b1, b2, b3, b4, b5, b6, b7, b8, b9, b10, b11, b12, b13, b14, b15) h9 hm)) (a1, a2, a3, a4, a5, a6, a7, a8, a9, a10, a11, a12, a13, a14, a15) h
theorem lp16 {A1 A2 A3 A4 A5 A6 A7 A8 A9 A10 A11 A12 A13 A14 A15 A16 : Type} (W : Nat → A1 → A2 → A3 → A4 → A5 → A6 → A7 → A8 → A9 → A10 → A11 → A12 → A13 → A14 → A15 → A16 → Prop) (I : A1 → A2 → A3 → A4 → A5 → A6 → A7 → A8 → A9 → A10 → A11 → A12 → A13 → A14 → A15 → A16 → Prop) (μ : A1 → A2 → A3 → A4 → A5 → A6 → A7 → A8 → A9 → A10 → A11 → A12 → A13 → A14 → A15 → A16 → Nat) (hs : ∀ (n : Nat) (a1 : A1) (a2 : A2) (a3 : A3) (a4 : A4) (a5 : A5) (a6 : A6) (a7 : A7) (a8 : A8) (a9 : A9) (a10 : A10) (a11 : A11) (a12 : A12) (a13 : A13) (a14 : A14) (a15 : A15) (a16 : A16), I a1 a2 a3 a4 a5 a6 a7 a8 a9 a10 a11 a12 a13 a14 a15 a16 → (∀ (b1 : A1) (b2 : A2) (b3 : A3) (b4 : A4) (b5 : A5) (b6 : A6) (b7 : A7) (b8 : A8) (b9 : A9) (b10 : A10) (b11 : A11) (b12 : A12) (b13 : A13) (b14 : A14) (b15 : A15) (b16 : A16), I b1 b2 b3 b4 b5 b6 b7 b8 b9 b10 b11 b12 b13 b14 b15 b16 → μ b1 b2 b3 b4 b5 b6 b7 b8 b9 b10 b11 b12 b13 b14 b15 b16 < μ a1 a2 a3 a4 a5 a6 a7 a8 a9 a10 a11 a12 a13 a14 a15 a16 → W n b1 b2 b3 b4 b5 b6 b7 b8 b9 b10 b11 b12 b13 b14 b15 b16) → W (n + 1) a1 a2 a3 a4 a5 a6 a7 a8 a9 a10 a11 a12 a13 a14 a15 a16) (a1 : A1) (a2 : A2) (a3 : A3) (a4 : A4) (a5 : A5) (a6 : A6) (a7 : A7) (a8 : A8) (a9 : A9) (a10 : A10) (a11 : A11) (a12 : A12) (a13 : A13) (a14 : A14) (a15 : A15) (a16 : A16) (h : I a1 a2 a3 a4 a5 a6 a7 a8 a9 a10 a11 a12 a13 a14 a15 a16) : ∃ n, W n a1 a2 a3 a4 a5 a6 a7 a8 a9 a10 a11 a12 a13 a14 a15 a16 :=
  loop_m (σ := A1 × A2 × A3 × A4 × A5 × A6 × A7 × A8 × A9 × A10 × A11 × A12 × A13 × A14 × A15 × A16) (fun n s => W n s.1 s.2.1 s.2.2.1 s.2.2.2.1 s.2.2.2.2.1 s.2.2.2.2.2.1 s.2.2.2.2.2.2.1 s.2.2.2.2.2.2.2.1 s.2.2.2.2.2.2.2.2.1 s.2.2.2.2.2.2.2.2.2.1 s.2.2.2.2.2.2.2.2.2.2.1 s.2.2.2.2.2.2.2.2.2.2.2.1 s.2.2.2.2.2.2.2.2.2.2.2.2.1 s.2.2.2.2.2.2.2.2.2.2.2.2.2.1 s.2.2.2.2.2.2.2.2.2.2.2.2.2.2.1 s.2.2.2.2.2.2.2.2.2.2.2.2.2.2.2) (fun s => I s.1 s.2.1 s.2.2.1 s.2.2.2.1 s.2.2.2.2.1 s.2.2.2.2.2.1 s.2.2.2.2.2.2.1 s.2.2.2.2.2.2.2.1 s.2.2.2.2.2.2.2.2.1 s.2.2.2.2.2.2.2.2.2.1 s.2.2.2.2.2.2.2.2.2.2.1 s.2.2.2.2.2.2.2.2.2.2.2.1 s.2.2.2.2.2.2.2.2.2.2.2.2.1 s.2.2.2.2.2.2.2.2.2.2.2.2.2.1 s.2.2.2.2.2.2.2.2.2.2.2.2.2.2.1 s.2.2.2.2.2.2.2.2.2.2.2.2.2.2.2) (fun s => μ s.1 s.2.1 s.2.2.1 s.2.2.2.1 s.2.2.2.2.1 s.2.2.2.2.2.1 s.2.2.2.2.2.2.1 s.2.2.2.2.2.2.2.1 s.2.2.2.2.2.2.2.2.1 s.2.2.2.2.2.2.2.2.2.1 s.2.2.2.2.2.2.2.2.2.2.1 s.2.2.2.2.2.2.2.2.2.2.2.1 s.2.2.2.2.2.2.2.2.2.2.2.2.1 s.2.2.2.2.2.2.2.2.2.2.2.2.2.1 s.2.2.2.2.2.2.2.2.2.2.2.2.2.2.1 s.2.2.2.2.2.2.2.2.2.2.2.2.2.2.2) (fun n s hI hk => hs n s.1 s.2.1 s.2.2.1 s.2.2.2.1 s.2.2.2.2.1 s.2.2.2.2.2.1 s.2.2.2.2.2.2.1 s.2.2.2.2.2.2.2.1 s.2.2.2.2.2.2.2.2.1 s.2.2.2.2.2.2.2.2.2.1 s.2.2.2.2.2.2.2.2.2.2.1 s.2.2.2.2.2.2.2.2.2.2.2.1 s.2.2.2.2.2.2.2.2.2.2.2.2.1 s.2.2.2.2.2.2.2.2.2.2.2.2.2.1 s.2.2.2.2.2.2.2.2.2.2.2.2.2.2.1 s.2.2.2.2.2.2.2.2.2.2.2.2.2.2.2 hI (fun b1 b2 b3 b4 b5 b6 b7 b8 b9 b10 b11 b12 b13 b14 b15 b16 h9 hm => hk (b1, b2, b3, b4, b5, b6, b7, b8, b9, b10, b11, b12, b13, b14, b15, b16) h9 hm)) (a1, a2, a3, a4, a5, a6, a7, a8, a9, a10, a11, a12, a13, a14, a15, a16) h
theorem pk_least (P : Nat → Prop) (h : ∃ k, P k) : ∃ k, P k ∧ ∀ j, j < k → ¬ P j := by
  obtain ⟨k, hk⟩ := h
  induction k using Nat.strongRecOn with
  | ind k ih =>
    by_cases e : ∃ j, j < k ∧ P j
    · obtain ⟨j, hj, pj⟩ := e
      exact ih j hj pj
    · exact ⟨k, hk, fun j hj pj => e ⟨j, hj, pj⟩⟩
theorem rp1 {ρ A1 : Type} (W : Nat → (ρ → Prop) → A1 → Prop) (ok : A1 → Prop) (μ : A1 → Nat) (val : A1 → ρ)
    (hs : ∀ (d : Nat) (post : ρ → Prop) (a1 : A1), ok a1 → post (val a1) → (∀ (post' : ρ → Prop) (b1 : A1), ok b1 → μ b1 < μ a1 → post' (val b1) → W d post' b1) → W (d + 1) post a1) :
    ∀ (d : Nat) (post : ρ → Prop) (a1 : A1), ok a1 → μ a1 < d → post (val a1) → W d post a1 := by
  intro d
  induction d with
  | zero => intro post a1 _ h; omega
  | succ d ih =>
    intro post a1 ho hm hp
    exact hs d post a1 ho hp (fun post' b1 ho' hm' hp' => ih post' b1 ho' (by omega) hp')
theorem rp2 {ρ A1 A2 : Type} (W : Nat → (ρ → Prop) → A1 → A2 → Prop) (ok : A1 → A2 → Prop) (μ : A1 → A2 → Nat) (val : A1 → A2 → ρ)
    (hs : ∀ (d : Nat) (post : ρ → Prop) (a1 : A1) (a2 : A2), ok a1 a2 → post (val a1 a2) → (∀ (post' : ρ → Prop) (b1 : A1) (b2 : A2), ok b1 b2 → μ b1 b2 < μ a1 a2 → post' (val b1 b2) → W d post' b1 b2) → W (d + 1) post a1 a2) :
    ∀ (d : Nat) (post : ρ → Prop) (a1 : A1) (a2 : A2), ok a1 a2 → μ a1 a2 < d → post (val a1 a2) → W d post a1 a2 := by
  intro d
  induction d with
  | zero => intro post a1 a2 _ h; omega
  | succ d ih =>
    intro post a1 a2 ho hm hp
    exact hs d post a1 a2 ho hp (fun post' b1 b2 ho' hm' hp' => ih post' b1 b2 ho' (by omega) hp')
theorem rp3 {ρ A1 A2 A3 : Type} (W : Nat → (ρ → Prop) → A1 → A2 → A3 → Prop) (ok : A1 → A2 → A3 → Prop) (μ : A1 → A2 → A3 → Nat) (val : A1 → A2 → A3 → ρ)
    (hs : ∀ (d : Nat) (post : ρ → Prop) (a1 : A1) (a2 : A2) (a3 : A3), ok a1 a2 a3 → post (val a1 a2 a3) → (∀ (post' : ρ → Prop) (b1 : A1) (b2 : A2) (b3 : A3), ok b1 b2 b3 → μ b1 b2 b3 < μ a1 a2 a3 → post' (val b1 b2 b3) → W d post' b1 b2 b3) → W (d + 1) post a1 a2 a3) :
    ∀ (d : Nat) (post : ρ → Prop) (a1 : A1) (a2 : A2) (a3 : A3), ok a1 a2 a3 → μ a1 a2 a3 < d → post (val a1 a2 a3) → W d post a1 a2 a3 := by
  intro d
  induction d with
  | zero => intro post a1 a2 a3 _ h; omega
  | succ d ih =>
    intro post a1 a2 a3 ho hm hp
    exact hs d post a1 a2 a3 ho hp (fun post' b1 b2 b3 ho' hm' hp' => ih post' b1 b2 b3 ho' (by omega) hp')
theorem rp4 {ρ A1 A2 A3 A4 : Type} (W : Nat → (ρ → Prop) → A1 → A2 → A3 → A4 → Prop) (ok : A1 → A2 → A3 → A4 → Prop) (μ : A1 → A2 → A3 → A4 → Nat) (val : A1 → A2 → A3 → A4 → ρ)
    (hs : ∀ (d : Nat) (post : ρ → Prop) (a1 : A1) (a2 : A2) (a3 : A3) (a4 : A4), ok a1 a2 a3 a4 → post (val a1 a2 a3 a4) → (∀ (post' : ρ → Prop) (b1 : A1) (b2 : A2) (b3 : A3) (b4 : A4), ok b1 b2 b3 b4 → μ b1 b2 b3 b4 < μ a1 a2 a3 a4 → post' (val b1 b2 b3 b4) → W d post' b1 b2 b3 b4) → W (d + 1) post a1 a2 a3 a4) :
    ∀ (d : Nat) (post : ρ → Prop) (a1 : A1) (a2 : A2) (a3 : A3) (a4 : A4), ok a1 a2 a3 a4 → μ a1 a2 a3 a4 < d → post (val a1 a2 a3 a4) → W d post a1 a2 a3 a4 := by
  intro d
  induction d with
  | zero => intro post a1 a2 a3 a4 _ h; omega
  | succ d ih =>
    intro post a1 a2 a3 a4 ho hm hp
    exact hs d post a1 a2 a3 a4 ho hp (fun post' b1 b2 b3 b4 ho' hm' hp' => ih post' b1 b2 b3 b4 ho' (by omega) hp')
theorem rp5 {ρ A1 A2 A3 A4 A5 : Type} (W : Nat → (ρ → Prop) → A1 → A2 → A3 → A4 → A5 → Prop) (ok : A1 → A2 → A3 → A4 → A5 → Prop) (μ : A1 → A2 → A3 → A4 → A5 → Nat) (val : A1 → A2 → A3 → A4 → A5 → ρ)
    (hs : ∀ (d : Nat) (post : ρ → Prop) (a1 : A1) (a2 : A2) (a3 : A3) (a4 : A4) (a5 : A5), ok a1 a2 a3 a4 a5 → post (val a1 a2 a3 a4 a5) → (∀ (post' : ρ → Prop) (b1 : A1) (b2 : A2) (b3 : A3) (b4 : A4) (b5 : A5), ok b1 b2 b3 b4 b5 → μ b1 b2 b3 b4 b5 < μ a1 a2 a3 a4 a5 → post' (val b1 b2 b3 b4 b5) → W d post' b1 b2 b3 b4 b5) → W (d + 1) post a1 a2 a3 a4 a5) :
    ∀ (d : Nat) (post : ρ → Prop) (a1 : A1) (a2 : A2) (a3 : A3) (a4 : A4) (a5 : A5), ok a1 a2 a3 a4 a5 → μ a1 a2 a3 a4 a5 < d → post (val a1 a2 a3 a4 a5) → W d post a1 a2 a3 a4 a5 := by
  intro d
  induction d with
  | zero => intro post a1 a2 a3 a4 a5 _ h; omega
  | succ d ih =>
    intro post a1 a2 a3 a4 a5 ho hm hp
    exact hs d post a1 a2 a3 a4 a5 ho hp (fun post' b1 b2 b3 b4 b5 ho' hm' hp' => ih post' b1 b2 b3 b4 b5 ho' (by omega) hp')
theorem rp6 {ρ A1 A2 A3 A4 A5 A6 : Type} (W : Nat → (ρ → Prop) → A1 → A2 → A3 → A4 → A5 → A6 → Prop) (ok : A1 → A2 → A3 → A4 → A5 → A6 → Prop) (μ : A1 → A2 → A3 → A4 → A5 → A6 → Nat) (val : A1 → A2 → A3 → A4 → A5 → A6 → ρ)
    (hs : ∀ (d : Nat) (post : ρ → Prop) (a1 : A1) (a2 : A2) (a3 : A3) (a4 : A4) (a5 : A5) (a6 : A6), ok a1 a2 a3 a4 a5 a6 → post (val a1 a2 a3 a4 a5 a6) → (∀ (post' : ρ → Prop) (b1 : A1) (b2 : A2) (b3 : A3) (b4 : A4) (b5 : A5) (b6 : A6), ok b1 b2 b3 b4 b5 b6 → μ b1 b2 b3 b4 b5 b6 < μ a1 a2 a3 a4 a5 a6 → post' (val b1 b2 b3 b4 b5 b6) → W d post' b1 b2 b3 b4 b5 b6) → W (d + 1) post a1 a2 a3 a4 a5 a6) :
    ∀ (d : Nat) (post : ρ → Prop) (a1 : A1) (a2 : A2) (a3 : A3) (a4 : A4) (a5 : A5) (a6 : A6), ok a1 a2 a3 a4 a5 a6 → μ a1 a2 a3 a4 a5 a6 < d → post (val a1 a2 a3 a4 a5 a6) → W d post a1 a2 a3 a4 a5 a6 := by
  intro d
  induction d with
  | zero => intro post a1 a2 a3 a4 a5 a6 _ h; omega
  | succ d ih =>
    intro post a1 a2 a3 a4 a5 a6 ho hm hp
    exact hs d post a1 a2 a3 a4 a5 a6 ho hp (fun post' b1 b2 b3 b4 b5 b6 ho' hm' hp' => ih post' b1 b2 b3 b4 b5 b6 ho' (by omega) hp')
theorem rec_p {σ ρ : Type} (W : Nat → (ρ → Prop) → σ → Prop) (ok : σ → Prop) (μ : σ → Nat) (val : σ → ρ)
    (hs : ∀ d s post, ok s → post (val s) → (∀ s' post', ok s' → μ s' < μ s → post' (val s') → W d post' s') → W (d + 1) post s) :
    ∀ d s post, ok s → μ s < d → post (val s) → W d post s := by
  intro d
  induction d with
  | zero => intro s post _ h; omega
  | succ d ih =>
    intro s post ho hm hp
    exact hs d s post ho hp (fun s' post' ho' hm' hp' => ih s' post' ho' (by omega) hp')
theorem rec_q {σ ρ : Type} (W : Nat → (ρ → Prop) → σ → Prop) (ok : σ → Prop) (μ : σ → Nat) (Q : σ → ρ → Prop)
    (hs : ∀ d s post, ok s → (∀ r, Q s r → post r) → (∀ s' post', ok s' → μ s' < μ s → (∀ r, Q s' r → post' r) → W d post' s') → W (d + 1) post s) :
    ∀ d s post, ok s → μ s < d → (∀ r, Q s r → post r) → W d post s := by
  intro d
  induction d with
  | zero => intro s post _ h; omega
  | succ d ih =>
    intro s post ho hm hp
    exact hs d s post ho hp (fun s' post' ho' hm' hp' => ih s' post' ho' (by omega) hp')
def bx_sum (f : Nat → Int32) : Nat → Int32
  | 0 => 0
  | n + 1 => bx_sum f n + f n
theorem ek_u {A : Prop} {B : Nat → Prop} {k N : Nat} (hk : k < N) (h : B k) : (some k = none → A) ∧ (∀ y : Nat, some k = some y → (y < N ∧ B y)) :=
  ⟨fun z => absurd z (Option.some_ne_none k), fun _ e => (by cases e; exact ⟨hk, h⟩)⟩
theorem ek_nu {A : Prop} {B : Nat → Prop} (h : A) : ((none : Option Nat) = none → A) ∧ (∀ y : Nat, (none : Option Nat) = some y → B y) :=
  ⟨fun _ => h, fun _ e => (by cases e)⟩
theorem ek_if {c d A B : Prop} (e : c ↔ d) (f : d → A) (g : ¬ d → B) : (c → A) ∧ (¬ c → B) :=
  ⟨fun z => f (e.mp z), fun z => g (fun y => z (e.mpr y))⟩
theorem ek_v {α : Sort _} {P : α → Prop} {a b : α} (e : a = b) (h : P b) : P a := e ▸ h
theorem co_some {x : Option Nat} {A : Prop} {B : Nat → Prop} (i : Nat) (h : B i) (hx : x = some i := by rfl) : (x = none → A) ∧ (∀ y : Nat, x = some y → B y) := by
  subst hx
  exact ⟨fun e => (nomatch e), fun y e => Option.some.inj e ▸ h⟩
theorem co_none {x : Option Nat} {A : Prop} {B : Nat → Prop} (h : A) (hx : x = none := by rfl) : (x = none → A) ∧ (∀ y : Nat, x = some y → B y) := by
  subst hx
  exact ⟨fun _ => h, fun y e => (nomatch e)⟩
theorem co_any {x : Option Nat} {A : Prop} {B : Nat → Prop} (hn : x = none → A) (hs : ∀ i : Nat, x = some i → B i) : (x = none → A) ∧ (∀ y : Nat, x = some y → B y) := ⟨hn, hs⟩
theorem co_2 {P : Nat → Prop} (h0 : P 0) (h1 : P 1) {i : Nat} (hi : i < 2) : P i :=
  match i, hi with
  | 0, _ => h0
  | 1, _ => h1
theorem co_3 {P : Nat → Prop} (h0 : P 0) (h1 : P 1) (h2 : P 2) {i : Nat} (hi : i < 3) : P i :=
  match i, hi with
  | 0, _ => h0
  | 1, _ => h1
  | 2, _ => h2
theorem co_4 {P : Nat → Prop} (h0 : P 0) (h1 : P 1) (h2 : P 2) (h3 : P 3) {i : Nat} (hi : i < 4) : P i :=
  match i, hi with
  | 0, _ => h0
  | 1, _ => h1
  | 2, _ => h2
  | 3, _ => h3
theorem co_dec {N : Nat} {P : Nat → Prop} [DecidablePred P] (h : (List.range N).all (fun i => decide (P i)) = true) {i : Nat} (hi : i < N) : P i := by
  have := List.all_eq_true.mp h i (List.mem_range.mpr hi)
  exact of_decide_eq_true this
theorem co_tab {α : Type} {l : List α} {d : α} {P : α → Prop} (h : ∀ a, a ∈ l → P a) {i : Nat} (hi : i < l.length) : P (l.getD i d) := by
  rw [List.getD_eq_getElem?_getD, List.getElem?_eq_getElem hi]
  exact h _ (List.getElem_mem hi)
theorem pk_mu {x : Int32} {L : Nat} (h0 : ¬ x < 0) (h : ¬ nI L ≤ x) (hL : L < 2 ^ 31) : ∃ j : Nat, j < L ∧ x = nI j ∧ x + 1 = nI (j + 1) ∧ x.toNatClampNeg = j ∧ L - (x + 1).toNatClampNeg < L - x.toNatClampNeg := by
  obtain ⟨j, hj, rfl⟩ := nI_of h0
  have hl : j < L := Nat.not_le.mp fun q => h (nI_le q hj)
  refine ⟨j, hl, rfl, nI_1 j, nI_clamp hj, ?_⟩
  rw [nI_1, nI_clamp (by omega), nI_clamp hj]
  omega
theorem op_s {α : Type} {r : Option α} {A : Prop} {B : α → Prop} {y : α} (h : r = some y) (b : B y) : (r = none → A) ∧ ∀ z, r = some z → B z :=
  ⟨fun e => (by rw [h] at e; cases e), fun z e => (by rw [h] at e; cases e; exact b)⟩
def l_holds {α : Type} (a : Nat → Option Nat) (LP : List Nat) (p : Nat → α) (c : Nat) (b : Nat → α) : Prop :=
  ∀ j, j < c → ∃ y, a j = some y ∧ y ∈ LP ∧ p y = b j
theorem l_holds_0 {α : Type} {a : Nat → Option Nat} {LP : List Nat} {p b : Nat → α} : l_holds a LP p 0 b := fun j h => absurd h (Nat.not_lt_zero j)
theorem l_in_new (LP : List Nat) (q : Nat) : q ∈ LP ++ [q] := List.mem_append.mpr (Or.inr (List.mem_singleton.mpr rfl))
def l_sum (b : Nat → Int32) : Nat → Int32
  | 0 => 0
  | k + 1 => l_sum b k + b k
theorem sb_shr0 (x : Int32) : x >>> ((0 : Int32) &&& 31) = x := by
  rw [show ((0 : Int32) &&& 31) = 0 by decide]
  simp
theorem sb_shl0 (x : Int32) : x <<< ((0 : Int32) &&& 31) = x := by
  rw [show ((0 : Int32) &&& 31) = 0 by decide]
  simp
theorem sb_cl0 : (0 : Int32).toNatClampNeg = 0 := by decide
theorem sb_m1 {p : Nat} (h : 0 < p) : nI p + (-1) = nI (p - 1) := by
  obtain ⟨q, rfl⟩ : ∃ q, p = q + 1 := ⟨p - 1, by omega⟩
  exact pk_m1 q
def sb_b (c : Nat) : Int32 := (nI c).toInt8.toInt32
theorem sb_byte : ∀ c, c < 256 → sb_b c &&& 255 = nI c ∧ ((nI c).toUInt32 % 65536).toInt32 = nI c ∧ nI c ≤ 255 := by decide +kernel
def sb_Fit (a : Nat → Int32) : Prop := ∀ j, fits .byte (.int (a j)) = true
def sb_Lat (t : Nat → Nat) (n : Nat) (a : Nat → Int32) : Prop := ∀ j, j < n → t j < 256 ∧ a j = sb_b (t j)
theorem sb_fitB (c : Nat) : fits .byte (.int (sb_b c)) = true := pk_fb _
theorem sb_fit0 : sb_Fit (fun _ => 0) := fun _ => by
  show fits .byte (.int 0) = true
  decide
theorem sb_fitU {a : Nat → Int32} {k : Nat} {x : Int32} (h : sb_Fit a) (hx : fits .byte (.int x) = true) : sb_Fit (upd a k x) := by
  intro j
  by_cases e : j = k
  · subst e
    rw [pk_us]
    exact hx
  · rw [pk_un e]
    exact h j
def sb_cat (t : Nat → Nat) (n : Nat) (s : Nat → Nat) : Nat → Nat := fun j => if j < n then t j else s (j - n)
theorem sb_cat_lo {t s : Nat → Nat} {n j : Nat} (h : j < n) : sb_cat t n s j = t j := if_pos h
theorem sb_cat_hi {t s : Nat → Nat} {n j : Nat} : sb_cat t n s (n + j) = s j := by
  show (if n + j < n then t (n + j) else s (n + j - n)) = s j
  rw [if_neg (by omega), Nat.add_sub_cancel_left]
theorem sb_latPut {t s : Nat → Nat} {n w : Nat} {a a' : Nat → Int32} (h : sb_Lat t n a) (hk : ∀ j, j < n → a' j = a j) (hs : ∀ i, i < w → s i < 256 ∧ a' (n + i) = sb_b (s i)) : sb_Lat (sb_cat t n s) (n + w) a' := by
  intro j hj
  by_cases e : j < n
  · rw [sb_cat_lo e, hk j e]
    exact h j e
  · obtain ⟨i, rfl⟩ : ∃ i, j = n + i := ⟨j - n, by omega⟩
    rw [sb_cat_hi]
    exact hs i (by omega)
theorem sb_latKeep {t : Nat → Nat} {n : Nat} {a a' : Nat → Int32} (h : sb_Lat t n a) (hk : ∀ j, j < n → a' j = a j) : sb_Lat t n a' := fun j hj => by
  rw [hk j hj]
  exact h j hj
def sb_cap (q m : Nat) : Nat := if q ≤ m then m else if 2 * m + 2 < q then q else 2 * m + 2
def sb_Room (q m mc ms : Nat) : Prop := q ≤ m ∨ (1 ≤ mc ∧ sb_cap q m ≤ ms ∧ sb_cap q m ≤ 65536)
theorem sb_cap_ge (q m : Nat) : q ≤ sb_cap q m := by
  unfold sb_cap
  split
  · omega
  · split <;> omega
theorem sb_cap_gem (q m : Nat) : m ≤ sb_cap q m := by
  unfold sb_cap
  split
  · omega
  · split <;> omega
theorem sb_cap_le {q m mc ms : Nat} (hm : m ≤ 65536) (hr : sb_Room q m mc ms) : sb_cap q m ≤ 65536 := by
  rcases hr with h | h
  · rw [sb_cap, if_pos h]
    exact hm
  · exact h.2.2
theorem sb_at {P : Int32 → Prop} {x y : Int32} (e : x = y) (h : P y) : P x := e ▸ h
def sb_dg (w : Nat) : Nat := if w < 10 then 1 else if w < 100 then 2 else if w < 1000 then 3 else if w < 10000 then 4 else if w < 100000 then 5 else if w < 1000000 then 6 else if w < 10000000 then 7 else if w < 100000000 then 8 else if w < 1000000000 then 9 else 10
def sb_dec (v : Nat) : Nat → Nat := fun i => 48 + v / 10 ^ (sb_dg v - 1 - i) % 10
theorem sb_dg_in (w : Nat) : 1 ≤ sb_dg w ∧ sb_dg w ≤ 10 := by
  unfold sb_dg
  constructor <;> (repeat' split) <;> omega
theorem sb_dg100 {w : Nat} (h : 100 ≤ w) (hw : w < 2 ^ 31) : sb_dg w = sb_dg (w / 100) + 2 := by
  rw [sb_dg, sb_dg, if_neg (show ¬ w < 10 by omega), if_neg (show ¬ w < 100 by omega)]
  by_cases h3 : w < 1000
  · rw [if_pos h3, if_pos (show w / 100 < 10 by omega)]
  rw [if_neg h3, if_neg (show ¬ w / 100 < 10 by omega)]
  by_cases h4 : w < 10000
  · rw [if_pos h4, if_pos (show w / 100 < 100 by omega)]
  rw [if_neg h4, if_neg (show ¬ w / 100 < 100 by omega)]
  by_cases h5 : w < 100000
  · rw [if_pos h5, if_pos (show w / 100 < 1000 by omega)]
  rw [if_neg h5, if_neg (show ¬ w / 100 < 1000 by omega)]
  by_cases h6 : w < 1000000
  · rw [if_pos h6, if_pos (show w / 100 < 10000 by omega)]
  rw [if_neg h6, if_neg (show ¬ w / 100 < 10000 by omega)]
  by_cases h7 : w < 10000000
  · rw [if_pos h7, if_pos (show w / 100 < 100000 by omega)]
  rw [if_neg h7, if_neg (show ¬ w / 100 < 100000 by omega)]
  by_cases h8 : w < 100000000
  · rw [if_pos h8, if_pos (show w / 100 < 1000000 by omega)]
  rw [if_neg h8, if_neg (show ¬ w / 100 < 1000000 by omega)]
  by_cases h9 : w < 1000000000
  · rw [if_pos h9, if_pos (show w / 100 < 10000000 by omega)]
  rw [if_neg h9, if_neg (show ¬ w / 100 < 10000000 by omega)]
  rw [if_pos (show w / 100 < 100000000 by omega)]
theorem sb_negT {w : Nat} (h : w < 2 ^ 31) : (-nI w).toInt = -(w : Int) := by
  rw [Int32.toInt_neg, nI_toInt h]
  exact Int.bmod_eq_of_le (by omega) (by omega)
theorem sb_nle {a b : Nat} (ha : a < 2 ^ 31) (hb : b < 2 ^ 31) : -nI a ≤ -nI b ↔ b ≤ a := by
  rw [Int32.le_iff_toInt_le, sb_negT ha, sb_negT hb]
  omega
theorem sb_nlt {a b : Nat} (ha : a < 2 ^ 31) (hb : b < 2 ^ 31) : -nI a < -nI b ↔ b < a := by
  rw [Int32.lt_iff_toInt_lt, sb_negT ha, sb_negT hb]
  omega
theorem sb_cmp {A B : Prop} {x : Int32} (v c : Nat) (f : c ≤ v → A) (g : v < c → B) (hv : v < 2 ^ 31) (hx : x = -nI c := by rfl) (hc : c < 2 ^ 31 := by omega) : (-nI v ≤ x → A) ∧ (¬ -nI v ≤ x → B) := by
  subst hx
  rw [sb_nle hv hc]
  exact ⟨f, fun z => g (by omega)⟩
theorem sb_ndiv {w : Nat} (hw : w < 2 ^ 31) : (-nI w) / 100 = -nI (w / 100) := by
  apply Int32.toInt_inj.mp
  have h100 : (100 : Int32).toInt = 100 := by decide
  rw [Int32.toInt_div, sb_negT hw, h100, sb_negT (by omega), Int.neg_tdiv, Int.tdiv_eq_ediv_of_nonneg (by omega), Int.bmod_eq_of_le (by omega) (by omega)]
  omega
theorem sb_nrem {w : Nat} (hw : w < 2 ^ 31) : (-nI (w / 100)) * 100 - (-nI w) = nI (w % 100) := by
  have h := pk_rem (a := w) (d := 100) hw (by decide) (by decide)
  rw [pk_div hw (by decide) (by decide)] at h
  rw [← h]
  show (-nI (w / 100)) * nI 100 - (-nI w) = nI w - nI (w / 100) * nI 100
  rw [Int32.neg_mul, Int32.sub_neg, Int32.add_comm, ← Int32.sub_eq_add_neg]
end
section
/-! rows on bits, shifts and unsigned numbers, to paste: each family out of a closed proof of our own, whole with what it rests on; each by itself clean at Lean in its own claim (generation 39, form 5). Take a family whole -/
/-! ===== Int32 by its bits: bt x i ===== -/
def bt (x : Int32) (i : Nat) : Bool := x.toBitVec.getLsbD i
theorem b_ext {x y : Int32} (h : ∀ i, i < 32 → bt x i = bt y i) : x = y := Int32.toBitVec_inj.mp (BitVec.eq_of_getLsbD_eq (fun i hi => h i hi))
theorem b_or (x y : Int32) (i : Nat) : bt (x ||| y) i = (bt x i || bt y i) := by unfold bt; rw [Int32.toBitVec_or, BitVec.getLsbD_or]
theorem b_and (x y : Int32) (i : Nat) : bt (x &&& y) i = (bt x i && bt y i) := by unfold bt; rw [Int32.toBitVec_and, BitVec.getLsbD_and]
theorem b_xor (x y : Int32) (i : Nat) : bt (x ^^^ y) i = (bt x i ^^ bt y i) := by unfold bt; rw [Int32.toBitVec_xor, BitVec.getLsbD_xor]
theorem b_big {x : Int32} {i : Nat} (h : 32 ≤ i) : bt x i = false := BitVec.getLsbD_of_ge _ _ h
theorem b_255 (i : Nat) : bt 255 i = decide (i < 8) := by
  rcases Nat.lt_or_ge i 32 with h | h
  · exact (by decide +kernel : ∀ i, i < 32 → bt 255 i = decide (i < 8)) i h
  · rw [b_big h, decide_eq_false (by omega)]
theorem b_65535 (i : Nat) : bt 65535 i = decide (i < 16) := by
  rcases Nat.lt_or_ge i 32 with h | h
  · exact (by decide +kernel : ∀ i, i < 32 → bt 65535 i = decide (i < 16)) i h
  · rw [b_big h, decide_eq_false (by omega)]
theorem b_m1 : ∀ i, i < 32 → bt (-1) i = true := by decide +kernel
theorem b_0 (i : Nat) : bt 0 i = false := BitVec.getLsbD_zero
theorem s_l : ∀ n, n < 32 → ((nI n &&& 31).toBitVec.smod 32).toNat = n := by decide +kernel
theorem s_u : ∀ n, n < 32 → (((nI n).toUInt32 &&& Int32.toUInt32 31).toBitVec % 32).toNat = n := by decide +kernel
theorem b_shl (n : Nat) (hn : n < 32) (x : Int32) {i : Nat} (hi : i < 32) : bt (x <<< (nI n &&& 31)) i = (decide (n ≤ i) && bt x (i - n)) := by
  unfold bt
  rw [Int32.toBitVec_shiftLeft]
  show (x.toBitVec <<< ((nI n &&& 31).toBitVec.smod 32).toNat).getLsbD i = _
  rw [s_l n hn, BitVec.getLsbD_shiftLeft]
  rcases Nat.lt_or_ge i n with h | h
  · simp [h, Nat.not_le.mpr h]
  · simp [hi, h, Nat.not_lt.mpr h]
theorem b_ushr (n : Nat) (hn : n < 32) (x : Int32) (i : Nat) : bt ((x.toUInt32 >>> ((nI n).toUInt32 &&& Int32.toUInt32 31)).toInt32) i = bt x (n + i) := by
  show (x.toUInt32 >>> ((nI n).toUInt32 &&& Int32.toUInt32 31)).toBitVec.getLsbD i = x.toUInt32.toBitVec.getLsbD (n + i)
  rw [UInt32.toBitVec_shiftRight]
  show (x.toUInt32.toBitVec >>> (((nI n).toUInt32 &&& Int32.toUInt32 31).toBitVec % 32).toNat).getLsbD i = _
  rw [s_u n hn, BitVec.getLsbD_ushiftRight]
theorem b_sshr (n : Nat) (hn : n < 32) (x : Int32) {i : Nat} (hi : i < 32) : bt (x >>> (nI n &&& 31)) i = if n + i < 32 then bt x (n + i) else bt x 31 := by
  unfold bt
  rw [Int32.toBitVec_shiftRight]
  show (x.toBitVec.sshiftRight ((nI n &&& 31).toBitVec.smod 32).toNat).getLsbD i = _
  rw [s_l n hn, BitVec.getLsbD_sshiftRight, BitVec.msb_eq_getLsbD_last]
  simp [hi]
theorem b_shl8 (x : Int32) {i : Nat} (hi : i < 32) : bt (x <<< ((8 : Int32) &&& 31)) i = (decide (8 ≤ i) && bt x (i - 8)) := b_shl 8 (by omega) x hi
theorem b_shl16 (x : Int32) {i : Nat} (hi : i < 32) : bt (x <<< ((16 : Int32) &&& 31)) i = (decide (16 ≤ i) && bt x (i - 16)) := b_shl 16 (by omega) x hi
theorem b_shl24 (x : Int32) {i : Nat} (hi : i < 32) : bt (x <<< ((24 : Int32) &&& 31)) i = (decide (24 ≤ i) && bt x (i - 24)) := b_shl 24 (by omega) x hi
theorem b_sshr8 (x : Int32) {i : Nat} (hi : i < 32) : bt (x >>> ((8 : Int32) &&& 31)) i = if 8 + i < 32 then bt x (8 + i) else bt x 31 := b_sshr 8 (by omega) x hi
end
section
/-! ===== base rows: stores, reads, branches, small numbers, bits, counts ===== -/
theorem zb_up {a : Nat → Int32} {v : Int32} {x : Int32} (k : Nat) (hx : x = nI k := by rfl) (h : k < 2 ^ 31 := by omega) : upd a x.toNatClampNeg v = upd a k v := by rw [hx, nI_clamp h]
theorem zb_rd {x : Int32} (k : Nat) (hx : x = nI k := by rfl) (h : k < 2 ^ 31 := by omega) : x.toNatClampNeg = k := by rw [hx, nI_clamp h]
theorem zb_ra {a : Nat → Int32} {x : Int32} (k : Nat) (hx : x = nI k := by rfl) (h : k < 2 ^ 31 := by omega) : a x.toNatClampNeg = a k := by rw [hx, nI_clamp h]
/-- a store -/
theorem zs_st {a : Nat → Int32} {x : Int32} {N : Nat} {v : Int32} {P : (Nat → Int32) → Prop} (k : Nat) (h : P (upd a k v)) (hk : k < N := by omega) (hx : x = nI k := by rfl) (hN : N < 2 ^ 31 := by decide) : vp_in x N ∧ ∀ a' : Nat → Int32, a' = upd a x.toNatClampNeg v → P a' :=
  ⟨pk_in k N hk hx hN, fun a' e => by rw [e, zb_up k hx (by omega)]; exact h⟩
/-- a read with a name -/
theorem zs_rn {a : Nat → Int32} {x : Int32} {N : Nat} {P : Int32 → Prop} (k : Nat) (h : P (a k)) (hk : k < N := by omega) (hx : x = nI k := by rfl) (hN : N < 2 ^ 31 := by decide) : vp_in x N ∧ ∀ y : Int32, y = a x.toNatClampNeg → P y :=
  ⟨pk_in k N hk hx hN, fun a' e => by rw [e, zb_rd k hx (by omega)]; exact h⟩
theorem zc_eq {a : Nat → Int32} {x c : Int32} {A B : Prop} (k : Nat) (f : a k = c → A) (g : ¬ a k = c → B) (hx : x = nI k := by rfl) (hk : k < 2 ^ 31 := by omega) : (a x.toNatClampNeg = c → A) ∧ (¬ a x.toNatClampNeg = c → B) := by
  rw [zb_rd k hx hk]; exact ⟨f, g⟩
theorem zc_lt {a : Nat → Int32} {x c : Int32} {A B : Prop} (k : Nat) (f : a k < c → A) (g : ¬ a k < c → B) (hx : x = nI k := by rfl) (hk : k < 2 ^ 31 := by omega) : (a x.toNatClampNeg < c → A) ∧ (¬ a x.toNatClampNeg < c → B) := by
  rw [zb_rd k hx hk]; exact ⟨f, g⟩
theorem zc_gt {a : Nat → Int32} {x c : Int32} {A B : Prop} (k : Nat) (f : c < a k → A) (g : ¬ c < a k → B) (hx : x = nI k := by rfl) (hk : k < 2 ^ 31 := by omega) : (c < a x.toNatClampNeg → A) ∧ (¬ c < a x.toNatClampNeg → B) := by
  rw [zb_rd k hx hk]; exact ⟨f, g⟩
theorem zc_le {a : Nat → Int32} {x c : Int32} {A B : Prop} (k : Nat) (f : a k ≤ c → A) (g : ¬ a k ≤ c → B) (hx : x = nI k := by rfl) (hk : k < 2 ^ 31 := by omega) : (a x.toNatClampNeg ≤ c → A) ∧ (¬ a x.toNatClampNeg ≤ c → B) := by
  rw [zb_rd k hx hk]; exact ⟨f, g⟩
theorem zc_ge {a : Nat → Int32} {x c : Int32} {A B : Prop} (k : Nat) (f : c ≤ a k → A) (g : ¬ c ≤ a k → B) (hx : x = nI k := by rfl) (hk : k < 2 ^ 31 := by omega) : (c ≤ a x.toNatClampNeg → A) ∧ (¬ c ≤ a x.toNatClampNeg → B) := by
  rw [zb_rd k hx hk]; exact ⟨f, g⟩
/-- a counted loop goes on, ends -/
theorem zc_go {x : Int32} {N i : Nat} {A B : Prop} (h : i < N) (b : B) (hx : x = nI N := by rfl) (hN : N < 2 ^ 31 := by omega) : (x ≤ nI i → A) ∧ (¬ x ≤ nI i → B) := by
  rw [hx]; exact br_f (nI_ge h hN) b
theorem zc_ex {x : Int32} {N : Nat} {A B : Prop} (a : A) (hx : x = nI N := by rfl) : (x ≤ nI N → A) ∧ (¬ x ≤ nI N → B) := by
  rw [hx]; exact br_t (Int32.le_refl _) a
/-- next turn: the counter's name -/
theorem zn_1 {i : Nat} {P : Int32 → Prop} (h : P (nI (i + 1))) : ∀ x, x = nI i + 1 → P x := nm_r (nI_1 i) h
/-- Booleans -/
def zb_i (b : Bool) : Int32 := if b = true then 1 else 0
theorem zb_it : zb_i true = 1 := rfl
theorem zb_if : zb_i false = 0 := rfl
theorem zb_i1 {b : Bool} : zb_i b = 1 ↔ b = true := by cases b <;> decide
theorem zb_i0 {b : Bool} : zb_i b = 0 ↔ b = false := by cases b <;> decide
theorem zb_nar (b : Bool) : narrow .boolean (.int (zb_i b)) = .int (zb_i b) := by cases b <;> rfl
theorem zb_na0 : vp_nar .boolean 0 = 0 := rfl
theorem zb_na1 : vp_nar .boolean 1 = 1 := rfl
theorem zc_b {A B : Prop} {b : Bool} (f : b = false → A) (g : b = true → B) : (zb_i b = 0 → A) ∧ (¬ zb_i b = 0 → B) := by
  cases b
  · exact br_t rfl (f rfl)
  · exact br_f (by decide) (g rfl)
theorem zc_b1 {A B : Prop} {b : Bool} (f : b = true → A) (g : b = false → B) : (zb_i b = 1 → A) ∧ (¬ zb_i b = 1 → B) := by
  cases b
  · exact br_f (by decide) (g rfl)
  · exact br_t rfl (f rfl)
/-- a Bool of a Prop -/
noncomputable def zb_d (P : Prop) : Bool := @decide P (Classical.propDecidable P)
theorem zb_dt {P : Prop} : zb_d P = true ↔ P := @decide_eq_true_iff P (Classical.propDecidable P)
theorem zb_df {P : Prop} : zb_d P = false ↔ ¬ P := @decide_eq_false_iff_not P (Classical.propDecidable P)
theorem zb_eq {P Q : Prop} (h : P ↔ Q) : zb_d P = zb_d Q := by
  have e : P = Q := propext h
  rw [e]
theorem zb_dd {P : Prop} [Decidable P] : zb_d P = decide P := by
  by_cases h : P
  · rw [zb_dt.mpr h, decide_eq_true h]
  · rw [zb_df.mpr h, decide_eq_false h]
theorem zb_bd {P : Prop} {b : Bool} (h : b = true ↔ P) : b = zb_d P := by
  cases b
  · exact (zb_df.mpr (fun p => Bool.noConfusion (h.mpr p))).symm
  · exact (zb_dt.mpr (h.mp rfl)).symm
theorem zb_ext {a b : Bool} (h : a = true ↔ b = true) : a = b := by
  cases a <;> cases b <;> simp_all
theorem zb_nt {b : Bool} (h : ¬ b = true) : b = false := by cases b <;> simp_all
/-- indices -/
theorem zi_4 (a : Nat) : nI a * 4 = nI (a * 4) := pk_mul a 4
theorem zi_4k (a k : Nat) : nI a * 4 + nI k = nI (a * 4 + k) := by rw [zi_4, nI_add]
theorem zi_4a (a : Nat) : nI a * 4 + 1 = nI (a * 4 + 1) := zi_4k a 1
theorem zi_4b (a : Nat) : nI a * 4 + 2 = nI (a * 4 + 2) := zi_4k a 2
theorem zi_4c (a : Nat) : nI a * 4 + 3 = nI (a * 4 + 3) := zi_4k a 3
theorem zi_6 (a b : Nat) : nI a * 6 + nI b = nI (a * 6 + b) := by rw [← nI_add, ← pk_mul]; rfl
theorem zi_10 (a b : Nat) : nI a * 10 + nI b = nI (a * 10 + b) := by rw [← nI_add, ← pk_mul]; rfl
theorem zi_100 (a b : Nat) : nI a * 100 + nI b = nI (a * 100 + b) := by rw [← nI_add, ← pk_mul]; rfl
theorem zi_64 (a b : Nat) : nI a * 64 + nI b = nI (a * 64 + b) := by rw [← nI_add, ← pk_mul]; rfl
theorem zi_128 (a b : Nat) : nI a * 128 + nI b = nI (a * 128 + b) := by rw [← nI_add, ← pk_mul]; rfl
theorem zi_2 (a b : Nat) : 2 * nI a + nI b = nI (2 * a + b) := by rw [← nI_add, ← pk_mul]; rfl
theorem zi_20 (a : Nat) : 2 * nI a = nI (2 * a) := by rw [← pk_mul]; rfl
theorem zi_h {e : Nat} (h : e < 2 ^ 31) : nI e >>> ((1 : Int32) &&& 31) = nI (e / 2) := pk_shrN h _ 1 (by decide)
theorem zi_a {e : Nat} (h : e < 2 ^ 31) : nI e &&& 1 = nI (e % 2) := pk_andN (by omega) 1 (by decide)
theorem zi_d {e : Nat} (h : e < 2 ^ 31) : nI e / 2 = nI (e / 2) := pk_div (d := 2) h (by decide) (by decide)
theorem zi_r {e : Nat} (h : e < 2 ^ 31) : nI e - nI e / 2 * 2 = nI (e % 2) := pk_rem (d := 2) h (by decide) (by decide)
theorem zi_m1 {b : Nat} (h : 1 ≤ b) : nI b - 1 = nI (b - 1) := pk_sub h
theorem zi_neg {x : Nat} (h : x < 2 ^ 31) : ¬ nI x = -1 := fun e => by
  have := congrArg Int32.toInt e
  rw [nI_toInt h] at this
  have h2 : (-1 : Int32).toInt = -1 := by decide
  omega
theorem zi_inj {a b : Nat} (h : nI a = nI b) (ha : a < 2 ^ 31 := by omega) (hb : b < 2 ^ 31 := by omega) : a = b := (nI_eq ha hb).mp h
theorem zi_m1lt : (-1 : Int32) < 0 := by decide
theorem zi_nlt {k : Nat} (h : k < 2 ^ 31 := by omega) : ¬ nI k < 0 := nI_pos h
/-- bits -/
theorem zt_1 : ∀ i, i < 32 → bt 1 i = decide (i = 0) := by decide +kernel
theorem zt_has (m : Int32) {b : Nat} (hb : b < 32) : ((m >>> (nI b &&& 31)) &&& 1) = 0 ↔ bt m b = false := by
  have h0 : bt (m >>> (nI b &&& 31)) 0 = bt m b := by
    rw [b_sshr b hb m (by decide : (0 : Nat) < 32), if_pos (by omega)]; rfl
  constructor
  · intro h
    have := congrArg (fun z => bt z 0) h
    simp only [b_and, b_0, h0, zt_1 0 (by decide), decide_true, Bool.and_true] at this
    exact this
  · intro h
    apply b_ext
    intro i hi
    rw [b_and, b_0, zt_1 i hi]
    rcases Nat.eq_zero_or_pos i with z | z
    · subst z; rw [h0, h]; rfl
    · rw [decide_eq_false (by omega), Bool.and_false]
theorem zt_one {t i : Nat} (ht : t < 32) (hi : i < 32) : bt ((1 : Int32) <<< (nI t &&& 31)) i = decide (i = t) := by
  rw [b_shl t ht 1 hi]
  rcases Nat.lt_or_ge i t with z | z
  · rw [decide_eq_false (by omega : ¬ t ≤ i), decide_eq_false (by omega : ¬ i = t)]; rfl
  · rw [decide_eq_true z, zt_1 _ (by omega), Bool.true_and]
    by_cases q : i = t
    · rw [decide_eq_true q, decide_eq_true (by omega)]
    · rw [decide_eq_false q, decide_eq_false (by omega)]
theorem zt_not (x : Int32) {i : Nat} (hi : i < 32) : bt (x ^^^ (-1)) i = !(bt x i) := by
  rw [b_xor, b_m1 i hi]; cases bt x i <;> rfl
theorem zt_set (m : Int32) {t i : Nat} (ht : t < 32) (hi : i < 32) : bt (m ||| ((1 : Int32) <<< (nI t &&& 31))) i = true ↔ bt m i = true ∨ i = t := by
  rw [b_or, zt_one ht hi, Bool.or_eq_true, decide_eq_true_iff]
/-- counts -/
def zk_c (f : Nat → Bool) : Nat → Nat
  | 0 => 0
  | k + 1 => zk_c f k + (if f k = true then 1 else 0)
theorem zk_le (f : Nat → Bool) : ∀ N, zk_c f N ≤ N
  | 0 => Nat.le_refl _
  | N + 1 => by
    have := zk_le f N
    simp only [zk_c]
    split <;> omega
theorem zk_mono {f g : Nat → Bool} : ∀ {N : Nat}, (∀ k, k < N → f k = true → g k = true) → zk_c f N ≤ zk_c g N
  | 0, _ => Nat.le_refl _
  | N + 1, h => by
    have a := zk_mono (f := f) (g := g) (N := N) (fun k hk => h k (by omega))
    simp only [zk_c]
    by_cases z : f N = true
    · rw [if_pos z, if_pos (h N (by omega) z)]; omega
    · rw [if_neg z]; omega
theorem zk_lt {f g : Nat → Bool} {a : Nat} (hf : ¬ f a = true) (hg : g a = true) : ∀ {N : Nat}, (∀ k, k < N → f k = true → g k = true) → a < N → zk_c f N < zk_c g N
  | 0, _, h => by omega
  | N + 1, h, ha => by
    simp only [zk_c]
    rcases Nat.lt_or_ge a N with z | z
    · have x := zk_lt hf hg (N := N) (fun k hk => h k (by omega)) z
      by_cases w : f N = true
      · rw [if_pos w, if_pos (h N (by omega) w)]; omega
      · rw [if_neg w]; omega
    · have e : a = N := by omega
      subst e
      have x := zk_mono (f := f) (g := g) (N := a) (fun k hk => h k (by omega))
      rw [if_pos hg, if_neg hf]; omega
theorem zk_congr {f g : Nat → Bool} {N : Nat} (h : ∀ k, k < N → f k = g k) : zk_c f N = zk_c g N :=
  Nat.le_antisymm (zk_mono fun k hk e => (h k hk) ▸ e) (zk_mono fun k hk e => (h k hk).symm ▸ e)
theorem zk_all {f : Nat → Bool} : ∀ {N : Nat}, (∀ k, k < N → f k = false) → zk_c f N = 0
  | 0, _ => rfl
  | N + 1, h => by
    simp only [zk_c]
    rw [zk_all (fun k hk => h k (by omega)), h N (by omega)]; rfl
theorem zk_pos {f : Nat → Bool} {a : Nat} (h : f a = true) : ∀ {N : Nat}, a < N → 1 ≤ zk_c f N
  | 0, k => by omega
  | N + 1, k => by
    simp only [zk_c]
    rcases Nat.lt_or_ge a N with z | z
    · have := zk_pos h z; omega
    · have e : a = N := by omega
      subst e; rw [if_pos h]; omega
/-- the last one below k -/
noncomputable def zl_s (P : Nat → Prop) : Nat → Int32
  | 0 => -1
  | k + 1 => @ite _ (P k) (Classical.propDecidable _) (nI k) (zl_s P k)
theorem zl_t {P : Nat → Prop} {k : Nat} (h : P k) : zl_s P (k + 1) = nI k := by simp only [zl_s]; rw [if_pos h]
theorem zl_f {P : Nat → Prop} {k : Nat} (h : ¬ P k) : zl_s P (k + 1) = zl_s P k := by simp only [zl_s]; rw [if_neg h]
theorem zl_congr {P Q : Nat → Prop} : ∀ {k : Nat}, (∀ i, i < k → (P i ↔ Q i)) → zl_s P k = zl_s Q k
  | 0, _ => rfl
  | k + 1, h => by
    have a := zl_congr (k := k) (fun i hi => h i (by omega))
    by_cases z : P k
    · rw [zl_t z, zl_t ((h k (by omega)).mp z)]
    · rw [zl_f z, zl_f (fun q => z ((h k (by omega)).mpr q)), a]
theorem zl_ext {P : Nat → Prop} {k : Nat} : ∀ {d : Nat}, (∀ i, k ≤ i → i < k + d → ¬ P i) → zl_s P (k + d) = zl_s P k
  | 0, _ => rfl
  | d + 1, h => by
    have := zl_ext (P := P) (k := k) (d := d) (fun i h1 h2 => h i h1 (by omega))
    rw [← this]; exact zl_f (h (k + d) (by omega) (by omega))
theorem zl_or {P : Nat → Prop} : ∀ {k : Nat}, zl_s P k = -1 ∨ ∃ i, i < k ∧ P i ∧ zl_s P k = nI i
  | 0 => Or.inl rfl
  | k + 1 => by
    by_cases z : P k
    · exact Or.inr ⟨k, by omega, z, zl_t z⟩
    · rw [zl_f z]
      rcases zl_or (P := P) (k := k) with h | ⟨i, h1, h2, h3⟩
      · exact Or.inl h
      · exact Or.inr ⟨i, by omega, h2, h3⟩
/-- the first k cells filled with x -/
def zb_fl (k : Nat) (x : Int32) (f : Nat → Int32) : Nat → Int32 := fun j => if j < k then x else f j
theorem zb_fl_t {k j : Nat} {x : Int32} {f : Nat → Int32} (h : j < k) : zb_fl k x f j = x := if_pos h
theorem zb_fl_f {k j : Nat} {x : Int32} {f : Nat → Int32} (h : ¬ j < k) : zb_fl k x f j = f j := if_neg h
theorem zb_fl_0 {x : Int32} {f : Nat → Int32} : zb_fl 0 x f = f := by
  funext j; exact zb_fl_f (by omega)
theorem zb_fl_s {k : Nat} {x : Int32} {f : Nat → Int32} : upd (zb_fl k x f) k x = zb_fl (k + 1) x f := by
  funext j
  by_cases w : j = k
  · rw [w, pk_us, zb_fl_t (by omega)]
  · rw [pk_un w]
    by_cases y : j < k
    · rw [zb_fl_t y, zb_fl_t (by omega)]
    · rw [zb_fl_f y, zb_fl_f (by omega)]
end
section
/-! ===== the flow graph: rt e is the target written for edge e (block e/2), -1 if none ===== -/
def gr_E (rt : Nat → Int32) (a b : Nat) : Prop := ∃ e, e < 20 ∧ e / 2 = a ∧ rt e = nI b
def gr_V (rt : Nat → Int32) (nb : Nat) : Prop := 1 ≤ nb ∧ nb ≤ 10 ∧ ∀ e, e < 20 → rt e = -1 ∨ (e / 2 < nb ∧ ∃ t, 1 ≤ t ∧ t < nb ∧ rt e = nI t)
def gr_RA (rt : Nat → Int32) (av : Int32) (b : Nat) : Prop :=
  ∀ S : Nat → Prop, (¬ av = 0 → S 0) → (∀ x y, y < 10 → S x → gr_E rt x y → ¬ nI y = av → S y) → S b
theorem gr_E_lt {rt : Nat → Int32} {nb a b : Nat} (V : gr_V rt nb) (hb : b < 10) (h : gr_E rt a b) : a < nb ∧ 1 ≤ b ∧ b < nb := by
  obtain ⟨e, he, ha, hr⟩ := h
  have h10 := V.2.1
  rcases V.2.2 e he with z | ⟨z1, t, t1, t2, t3⟩
  · exact absurd (hr.symm.trans z) (zi_neg (by omega))
  · have : b = t := zi_inj (hr.symm.trans t3)
    subst this; subst ha
    exact ⟨z1, t1, t2⟩
theorem gr_RA_0 {rt : Nat → Int32} {av : Int32} (h : ¬ av = 0) : gr_RA rt av 0 := fun _ h0 _ => h0 h
theorem gr_RA_s {rt : Nat → Int32} {av : Int32} {x y : Nat} (hx : gr_RA rt av x) (hy : y < 10) (e : gr_E rt x y) (h : ¬ nI y = av) : gr_RA rt av y :=
  fun S h0 hs => hs x y hy (hx S h0 hs) e h
theorem gr_RA_lt {rt : Nat → Int32} {nb : Nat} {av : Int32} {b : Nat} (V : gr_V rt nb) (h : gr_RA rt av b) : b < nb :=
  h (fun y => y < nb) (fun _ => V.1) (fun _ _ hy _ e _ => (gr_E_lt V hy e).2.2)
theorem gr_RA_ne {rt : Nat → Int32} {av : Int32} {b : Nat} (h : gr_RA rt av b) : ¬ nI b = av :=
  h (fun y => ¬ nI y = av) (fun h0 e => h0 (e.symm.trans nI_0)) (fun _ _ _ _ _ hn => hn)
theorem gr_RA_mono {rt : Nat → Int32} {av : Int32} {b : Nat} (h : gr_RA rt av b) : gr_RA rt (-1) b :=
  h (gr_RA rt (-1)) (fun _ => gr_RA_0 (by decide)) (fun _ _ hy hx e _ => gr_RA_s hx hy e (zi_neg (by omega)))
noncomputable def gr_rc (rt : Nat → Int32) (b : Nat) : Bool := zb_d (gr_RA rt (-1) b)
noncomputable def gr_dm (rt : Nat → Int32) (a b : Nat) : Bool := zb_d (gr_RA rt (-1) a ∧ gr_RA rt (-1) b ∧ ¬ gr_RA rt (nI a) b)
theorem gr_rc_t {rt : Nat → Int32} {b : Nat} : gr_rc rt b = true ↔ gr_RA rt (-1) b := zb_dt
theorem gr_rc_0 {rt : Nat → Int32} : gr_rc rt 0 = true := zb_dt.mpr (gr_RA_0 (by decide))
theorem gr_rc_lt {rt : Nat → Int32} {nb b : Nat} (V : gr_V rt nb) (h : gr_rc rt b = true) : b < nb := gr_RA_lt V (gr_rc_t.mp h)
theorem gr_rc_s {rt : Nat → Int32} {x y : Nat} (h : gr_rc rt x = true) (hy : y < 10) (e : gr_E rt x y) : gr_rc rt y = true :=
  gr_rc_t.mpr (gr_RA_s (gr_rc_t.mp h) hy e (zi_neg (by omega)))
theorem gr_dm_t {rt : Nat → Int32} {a b : Nat} : gr_dm rt a b = true ↔ gr_RA rt (-1) a ∧ gr_RA rt (-1) b ∧ ¬ gr_RA rt (nI a) b := zb_dt
theorem gr_dm_rc {rt : Nat → Int32} {a b : Nat} (h : gr_dm rt a b = true) : gr_rc rt a = true ∧ gr_rc rt b = true :=
  ⟨gr_rc_t.mpr (gr_dm_t.mp h).1, gr_rc_t.mpr (gr_dm_t.mp h).2.1⟩
theorem gr_dm_lt {rt : Nat → Int32} {nb a b : Nat} (V : gr_V rt nb) (h : gr_dm rt a b = true) : a < nb ∧ b < nb :=
  ⟨gr_rc_lt V (gr_dm_rc h).1, gr_rc_lt V (gr_dm_rc h).2⟩
theorem gr_dm_self {rt : Nat → Int32} {a : Nat} (h : gr_rc rt a = true) : gr_dm rt a a = true :=
  gr_dm_t.mpr ⟨gr_rc_t.mp h, gr_rc_t.mp h, fun r => gr_RA_ne r rfl⟩
theorem gr_dm_0 {rt : Nat → Int32} {nb a : Nat} (V : gr_V rt nb) (h : gr_dm rt a 0 = true) : a = 0 := by
  have hl := (gr_dm_lt V h).1
  have h10 := V.2.1
  rcases Nat.eq_zero_or_pos a with z | z
  · exact z
  · exact absurd (gr_RA_0 (nI_ne0 z (by omega))) (gr_dm_t.mp h).2.2
theorem gr_dm_trans {rt : Nat → Int32} {nb c a b : Nat} (V : gr_V rt nb) (h1 : gr_dm rt c a = true) (h2 : gr_dm rt a b = true) : gr_dm rt c b = true := by
  obtain ⟨c1, a1, n1⟩ := gr_dm_t.mp h1
  obtain ⟨_, b1, n2⟩ := gr_dm_t.mp h2
  have ha := gr_RA_lt V a1
  have h10 := V.2.1
  refine gr_dm_t.mpr ⟨c1, b1, fun r => ?_⟩
  by_cases ca : nI a = nI c
  · rw [ca] at n2; exact n2 r
  have key : gr_RA rt (nI c) b ∧ gr_RA rt (nI a) b := by
    refine r (fun y => gr_RA rt (nI c) y ∧ gr_RA rt (nI a) y) (fun hc => ⟨gr_RA_0 hc, ?_⟩) ?_
    · by_cases z : nI a = 0
      · refine absurd (gr_RA_0 (rt := rt) hc) ?_
        have : a = 0 := zi_inj (z.trans nI_0.symm)
        subst this
        exact n1
      · exact gr_RA_0 z
    · intro x y hy hS e hn
      have p := gr_RA_s hS.1 hy e hn
      refine ⟨p, ?_⟩
      by_cases z : nI y = nI a
      · have : y = a := zi_inj z
        subst this
        exact absurd p n1
      · exact gr_RA_s hS.2 hy e z
  exact n2 key.2
theorem gr_dm_anti {rt : Nat → Int32} {nb a b : Nat} (V : gr_V rt nb) (h1 : gr_dm rt a b = true) (h2 : gr_dm rt b a = true) : a = b := by
  obtain ⟨a1, b1, n1⟩ := gr_dm_t.mp h1
  obtain ⟨_, _, n2⟩ := gr_dm_t.mp h2
  have ha := gr_RA_lt V a1
  have hb := gr_RA_lt V b1
  have h10 := V.2.1
  rcases Classical.em (a = b) with q | q
  · exact q
  exfalso
  have key : ¬ a = a ∧ ¬ a = b ∧ gr_RA rt (nI a) a ∧ gr_RA rt (nI b) a := by
    refine a1 (fun y => ¬ y = a ∧ ¬ y = b ∧ gr_RA rt (nI a) y ∧ gr_RA rt (nI b) y) (fun _ => ?_) ?_
    · have za : ¬ 0 = a := fun z => by
        subst z; exact n2 (gr_RA_0 (nI_ne0 (by omega) (by omega)))
      have zb : ¬ 0 = b := fun z => by
        subst z; exact n1 (gr_RA_0 (nI_ne0 (by omega) (by omega)))
      exact ⟨za, zb, gr_RA_0 (nI_ne0 (by omega) (by omega)), gr_RA_0 (nI_ne0 (by omega) (by omega))⟩
    · intro x y hy hS e _
      obtain ⟨s1, s2, s3, s4⟩ := hS
      have za : ¬ y = a := fun z => by
        subst z; exact n2 (gr_RA_s s4 hy e (fun w => q (zi_inj w)))
      have zb : ¬ y = b := fun z => by
        subst z; exact n1 (gr_RA_s s3 hy e (fun w => q (zi_inj w).symm))
      exact ⟨za, zb, gr_RA_s s3 hy e (fun w => za (zi_inj w)), gr_RA_s s4 hy e (fun w => zb (zi_inj w))⟩
  exact key.1 rfl
/-- the immediate dominator -/
def gr_ic (rt : Nat → Int32) (b a : Nat) : Prop := a ≠ b ∧ gr_dm rt a b = true ∧ ∀ c, c < 10 → c ≠ b → gr_dm rt c b = true → gr_dm rt c a = true
noncomputable def gr_id (rt : Nat → Int32) (b : Nat) : Int32 := @ite _ (b ≠ 0 ∧ gr_rc rt b = true) (Classical.propDecidable _) (zl_s (gr_ic rt b) 10) (-1)
theorem gr_id_t {rt : Nat → Int32} {b : Nat} (h0 : b ≠ 0) (h : gr_rc rt b = true) : gr_id rt b = zl_s (gr_ic rt b) 10 := by unfold gr_id; rw [if_pos ⟨h0, h⟩]
theorem gr_id_f {rt : Nat → Int32} {b : Nat} (h : ¬ (b ≠ 0 ∧ gr_rc rt b = true)) : gr_id rt b = -1 := by unfold gr_id; rw [if_neg h]
theorem gr_id_or {rt : Nat → Int32} {b : Nat} : gr_id rt b = -1 ∨ ∃ a, a < 10 ∧ gr_ic rt b a ∧ gr_id rt b = nI a := by
  by_cases h : b ≠ 0 ∧ gr_rc rt b = true
  · rw [gr_id_t h.1 h.2]; exact zl_or
  · exact Or.inl (gr_id_f h)
noncomputable def gr_cd (rt : Nat → Int32) (b : Nat) : Nat := zk_c (fun a => gr_dm rt a b) 10
theorem gr_cd_le {rt : Nat → Int32} {b : Nat} : gr_cd rt b ≤ 10 := zk_le _ _
theorem gr_cd_lt {rt : Nat → Int32} {nb a b : Nat} (V : gr_V rt nb) (h : gr_ic rt b a) : gr_cd rt a < gr_cd rt b := by
  have hb := (gr_dm_lt V h.2.1).2
  have h10 := V.2.1
  refine zk_lt (f := fun x => gr_dm rt x a) (g := fun x => gr_dm rt x b) (a := b) (fun q => h.1 (gr_dm_anti V h.2.1 q)) (gr_dm_self (gr_dm_rc h.2.1).2) (fun k _ q => gr_dm_trans V q h.2.1) (by omega)
/-- the masks of the component say the same -/
theorem gr_ic_x {rt : Nat → Int32} {nb a b : Nat} {D : Nat → Int32} (V : gr_V rt nb) (hD : ∀ b, b < 10 → ∀ a, a < 32 → bt (D b) a = gr_dm rt a b) (hb : b < 10) (ha : a < 10) :
    (bt (D b &&& (((1 : Int32) <<< (nI b &&& 31)) ^^^ (-1))) a = true ∧ D a = D b &&& (((1 : Int32) <<< (nI b &&& 31)) ^^^ (-1))) ↔ gr_ic rt b a := by
  have hs : ∀ c, c < 32 → (bt (D b &&& (((1 : Int32) <<< (nI b &&& 31)) ^^^ (-1))) c = true ↔ gr_dm rt c b = true ∧ c ≠ b) := by
    intro c hc
    rw [b_and, zt_not _ hc, zt_one (by omega) hc, hD b hb c hc, Bool.and_eq_true]
    by_cases q : c = b
    · simp [q]
    · simp [q]
  have h10 := V.2.1
  constructor
  · rintro ⟨h1, h2⟩
    have h3 := (hs a (by omega)).mp h1
    refine ⟨h3.2, h3.1, fun c hc hcb hd => ?_⟩
    have h4 := (hs c (by omega)).mpr ⟨hd, hcb⟩
    rw [← h2, hD a ha c (by omega)] at h4
    exact h4
  · rintro ⟨h1, h2, h3⟩
    refine ⟨(hs a (by omega)).mpr ⟨h2, h1⟩, b_ext fun c hc => zb_ext ?_⟩
    rw [hs c hc, hD a ha c hc]
    constructor
    · intro q
      exact ⟨gr_dm_trans V q h2, fun e => h1 (gr_dm_anti V h2 (e ▸ q))⟩
    · rintro ⟨q1, q2⟩
      exact h3 c (by have := (gr_dm_lt V q1).1; omega) q2 q1
/-- edges with a reachable start, frontiers -/
noncomputable def gr_ee (rt : Nat → Int32) (e : Nat) : Int32 := if gr_rc rt (e / 2) = true then rt e else -1
theorem gr_ee_t {rt : Nat → Int32} {e : Nat} (h : gr_rc rt (e / 2) = true) : gr_ee rt e = rt e := by unfold gr_ee; rw [if_pos h]
theorem gr_ee_f {rt : Nat → Int32} {e : Nat} (h : gr_rc rt (e / 2) = false) : gr_ee rt e = -1 := by unfold gr_ee; rw [h]; rfl
theorem gr_ee_or {rt : Nat → Int32} {nb e : Nat} (V : gr_V rt nb) (he : e < 20) : gr_ee rt e = -1 ∨ (gr_rc rt (e / 2) = true ∧ e / 2 < nb ∧ ∃ t, 1 ≤ t ∧ t < nb ∧ gr_ee rt e = nI t ∧ rt e = nI t ∧ gr_rc rt t = true ∧ gr_E rt (e / 2) t) := by
  have h10 := V.2.1
  by_cases h : gr_rc rt (e / 2) = true
  · rw [gr_ee_t h]
    rcases V.2.2 e he with z | ⟨z1, t, t1, t2, t3⟩
    · exact Or.inl z
    · exact Or.inr ⟨h, z1, t, t1, t2, t3, t3, gr_rc_s h (by omega) ⟨e, he, rfl, t3⟩, ⟨e, he, rfl, t3⟩⟩
  · exact Or.inl (gr_ee_f (zb_nt h))
theorem gr_ee_E {rt : Nat → Int32} {a b : Nat} : (gr_rc rt a = true ∧ gr_E rt a b) ↔ (∃ e, e < 20 ∧ e / 2 = a ∧ gr_ee rt e = nI b ∧ gr_rc rt a = true) := by
  constructor
  · rintro ⟨h, e, he, ha, hr⟩
    refine ⟨e, he, ha, ?_, h⟩
    rw [gr_ee_t (by rw [ha]; exact h)]; exact hr
  · rintro ⟨e, he, ha, hr, h⟩
    refine ⟨h, e, he, ha, ?_⟩
    rw [gr_ee_t (by rw [ha]; exact h)] at hr; exact hr
def gr_fp (rt : Nat → Int32) (a b e : Nat) : Prop := gr_ee rt e = nI b ∧ gr_dm rt a (e / 2) = true ∧ ¬ (a ≠ b ∧ gr_dm rt a b = true)
noncomputable def gr_fr (rt : Nat → Int32) (a b : Nat) : Bool := zb_d (∃ e, e < 20 ∧ gr_fp rt a b e)
theorem gr_fr_lt {rt : Nat → Int32} {nb a b : Nat} (V : gr_V rt nb) (hb : b < 32) (h : gr_fr rt a b = true) : a < nb ∧ 1 ≤ b ∧ b < nb ∧ gr_rc rt b = true := by
  obtain ⟨e, he, h1, h2, _⟩ := zb_dt.mp h
  have h10 := V.2.1
  rcases gr_ee_or V he with z | ⟨z1, z2, t, t1, t2, t3, t4, t5, t6⟩
  · exact absurd (h1.symm.trans z) (zi_neg (by omega))
  · have : b = t := zi_inj (h1.symm.trans t3)
    subst this
    exact ⟨(gr_dm_lt V h2).1, t1, t2, t5⟩
/-- liveness of one variable: ue (a use ahead of every definition), df (a definition) by blocks -/
def gr_LV (rt : Nat → Int32) (ue df : Nat → Bool) (b : Nat) : Prop :=
  ∀ S : Nat → Prop, (∀ x, x < 10 → gr_rc rt x = true → ue x = true → S x) → (∀ x y, y < 10 → gr_rc rt x = true → gr_E rt x y → df x = false → S y → S x) → S b
def gr_FW (rt : Nat → Int32) (df : Nat → Bool) (b c : Nat) : Prop :=
  ∀ S : Nat → Prop, S b → (∀ x y, y < 10 → S x → gr_rc rt x = true → gr_E rt x y → df x = false → S y) → S c
theorem gr_FW_s {rt : Nat → Int32} {df : Nat → Bool} {b x y : Nat} (h : gr_FW rt df b x) (hy : y < 10) (hr : gr_rc rt x = true) (e : gr_E rt x y) (hd : df x = false) : gr_FW rt df b y :=
  fun S h0 hs => hs x y hy (h S h0 hs) hr e hd
theorem gr_FW_p {rt : Nat → Int32} {df : Nat → Bool} {a b c : Nat} (hb : b < 10) (hr : gr_rc rt a = true) (e : gr_E rt a b) (hd : df a = false) (h : gr_FW rt df b c) : gr_FW rt df a c :=
  h (gr_FW rt df a) (fun _ h0 hs => hs a b hb h0 hr e hd) (fun _ _ hy hx hrx ex hdx => gr_FW_s hx hy hrx ex hdx)
theorem gr_LV_iff {rt : Nat → Int32} {ue df : Nat → Bool} {b : Nat} : gr_LV rt ue df b ↔ ∃ c, c < 10 ∧ gr_FW rt df b c ∧ gr_rc rt c = true ∧ ue c = true := by
  constructor
  · intro h
    refine h (fun b => ∃ c, c < 10 ∧ gr_FW rt df b c ∧ gr_rc rt c = true ∧ ue c = true) ?_ ?_
    · intro x hx hr hu; exact ⟨x, hx, fun _ h0 _ => h0, hr, hu⟩
    · rintro x y hy hr e hd ⟨c, hc, hf, hcr, hu⟩
      exact ⟨c, hc, gr_FW_p hy hr e hd hf, hcr, hu⟩
  · rintro ⟨c, hc, hf, hr, hu⟩
    have : gr_LV rt ue df c → gr_LV rt ue df b :=
      hf (fun c => gr_LV rt ue df c → gr_LV rt ue df b) id
        (fun x y hy hx hrx e hd hl => hx (fun S h1 h2 => h2 x y hy hrx e hd (hl S h1 h2)))
    exact this (fun S h1 _ => h1 c hc hr hu)
/-- iterated frontier of one variable -/
def gr_IF (rt : Nat → Int32) (df : Nat → Bool) (b : Nat) : Prop :=
  ∀ S : Nat → Prop, (∀ a y, a < 10 → y < 10 → ((gr_rc rt a = true ∧ df a = true) ∨ S a) → gr_fr rt a y = true → S y) → S b
theorem gr_IF_s {rt : Nat → Int32} {df : Nat → Bool} {a y : Nat} (ha : a < 10) (hy : y < 10) (h : (gr_rc rt a = true ∧ df a = true) ∨ gr_IF rt df a) (hf : gr_fr rt a y = true) : gr_IF rt df y :=
  fun S hs => hs a y ha hy (h.imp id (fun q => q S hs)) hf
theorem gr_IF_lt {rt : Nat → Int32} {nb : Nat} {df : Nat → Bool} {b : Nat} (V : gr_V rt nb) (h : gr_IF rt df b) : 1 ≤ b ∧ b < nb ∧ gr_rc rt b = true :=
  h (fun b => 1 ≤ b ∧ b < nb ∧ gr_rc rt b = true) (fun _ _ _ hy _ hf => (gr_fr_lt V (by omega) hf).2)
end
section
/-! ===== the source form: blocks, operands, targets ===== -/
def sc_tc (op : Nat → Int32) : Nat → Nat
  | 0 => 0
  | i + 1 => if op i < 9 then sc_tc op i else sc_tc op i + 1
theorem sc_tc_n {op : Nat → Int32} {i : Nat} (h : op i < 9) : sc_tc op (i + 1) = sc_tc op i := by simp only [sc_tc]; rw [if_pos h]
theorem sc_tc_t {op : Nat → Int32} {i : Nat} (h : ¬ op i < 9) : sc_tc op (i + 1) = sc_tc op i + 1 := by simp only [sc_tc]; rw [if_neg h]
theorem sc_tc_le (op : Nat → Int32) : ∀ i, sc_tc op i ≤ i
  | 0 => Nat.le_refl _
  | i + 1 => by
    have := sc_tc_le op i
    simp only [sc_tc]; split <;> omega
/-- blocks: b runs from bf b to be b (excluded) -/
def sc_BL (op : Nat → Int32) (n nb : Nat) (bf be : Nat → Nat) : Prop :=
  n ≤ 40 ∧ nb ≤ 10 ∧ (n = 0 → nb = 0) ∧ (0 < n → 0 < nb ∧ bf 0 = 0 ∧ be (nb - 1) = n) ∧
  (∀ b, b + 1 < nb → bf (b + 1) = be b ∧ ¬ op (be b - 1) < 9) ∧
  (∀ b, b < nb → bf b < be b ∧ ∀ i, bf b ≤ i → i + 1 < be b → op i < 9)
section
variable {op : Nat → Int32} {n nb : Nat} {bf be : Nat → Nat}
theorem sc_be_le (B : sc_BL op n nb bf be) : ∀ b, b < nb → be b ≤ n := by
  have h0 : 0 < nb → 0 < n := fun h => by
    rcases Nat.eq_zero_or_pos n with z | z
    · have := B.2.2.1 z; omega
    · exact z
  intro b hb
  obtain ⟨d, hd⟩ : ∃ d, b + d + 1 = nb := ⟨nb - b - 1, by omega⟩
  induction d generalizing b with
  | zero =>
    have := (B.2.2.2.1 (h0 (by omega))).2.2
    have e : nb - 1 = b := by omega
    rw [e] at this; omega
  | succ d ih =>
    have h1 := ih (b + 1) (by omega) (by omega)
    have h2 := (B.2.2.2.2.1 b (by omega)).1
    have h3 := (B.2.2.2.2.2 (b + 1) (by omega)).1
    omega
theorem sc_tc_bf (B : sc_BL op n nb bf be) : ∀ b, b < nb → sc_tc op (bf b) = b ∧ ∀ i, bf b ≤ i → i < be b → sc_tc op i = b := by
  have h0 : 0 < nb → 0 < n := fun h => by
    rcases Nat.eq_zero_or_pos n with z | z
    · have := B.2.2.1 z; omega
    · exact z
  have key : ∀ b, b < nb → sc_tc op (bf b) = b → ∀ i, bf b ≤ i → i < be b → sc_tc op i = b := by
    intro b hb h1 i h2 h3
    obtain ⟨d, hd⟩ : ∃ d, i = bf b + d := ⟨i - bf b, by omega⟩
    induction d generalizing i with
    | zero => have : i = bf b := by omega
              rw [this]; exact h1
    | succ d ih =>
      have := ih (i - 1) (by omega) (by omega) (by omega)
      have e : i = i - 1 + 1 := by omega
      rw [e, sc_tc_n ((B.2.2.2.2.2 b hb).2 (i - 1) (by omega) (by omega))]; exact this
  intro b
  induction b with
  | zero =>
    intro hb
    have h1 : sc_tc op (bf 0) = 0 := by rw [(B.2.2.2.1 (h0 hb)).2.1]; rfl
    exact ⟨h1, key 0 hb h1⟩
  | succ b ih =>
    intro hb
    have h1 : sc_tc op (bf (b + 1)) = b + 1 := by
      have h2 := B.2.2.2.2.1 b hb
      have h3 := (B.2.2.2.2.2 b (by omega)).1
      have h4 := (ih (by omega)).2 (be b - 1) (by omega) (by omega)
      have e : be b = be b - 1 + 1 := by omega
      rw [h2.1, e, sc_tc_t h2.2, h4]
    exact ⟨h1, key (b + 1) hb h1⟩
theorem sc_loc (B : sc_BL op n nb bf be) : ∀ i, i < n → sc_tc op i < nb ∧ bf (sc_tc op i) ≤ i ∧ i < be (sc_tc op i) := by
  intro i
  induction i with
  | zero =>
    intro hi
    have h := B.2.2.2.1 hi
    have := (B.2.2.2.2.2 0 h.1).1
    refine ⟨h.1, ?_, ?_⟩
    · show bf 0 ≤ 0
      omega
    · show 0 < be 0
      omega
  | succ i ih =>
    intro hi
    obtain ⟨h1, h2, h3⟩ := ih (by omega)
    rcases Nat.lt_or_ge (i + 1) (be (sc_tc op i)) with z | z
    · have := (sc_tc_bf B _ h1).2 (i + 1) (by omega) z
      rw [this]; exact ⟨h1, by omega, z⟩
    · have e : be (sc_tc op i) = i + 1 := by omega
      have hb : sc_tc op i + 1 < nb := by
        rcases Nat.lt_or_ge (sc_tc op i + 1) nb with w | w
        · exact w
        · have h5 := (B.2.2.2.1 (by omega)).2.2
          have h6 : nb - 1 = sc_tc op i := by omega
          rw [h6] at h5; omega
      have h7 := B.2.2.2.2.1 _ hb
      have h8 := (B.2.2.2.2.2 _ hb).1
      have h9 := (sc_tc_bf B _ hb).1
      rw [h7.1, e] at h9
      rw [h9]
      exact ⟨hb, by omega, by omega⟩
theorem sc_nb (B : sc_BL op n nb bf be) (h : 0 < n) : sc_tc op (n - 1) + 1 = nb := by
  have h1 := B.2.2.2.1 h
  have h2 := (B.2.2.2.2.2 (nb - 1) (by omega)).1
  have := (sc_tc_bf B (nb - 1) (by omega)).2 (n - 1) (by omega) (by omega)
  omega
/-- every block has its terminator -/
def sc_CL (op : Nat → Int32) (n : Nat) : Prop := 0 < n ∧ ¬ op (n - 1) < 9
theorem sc_term (B : sc_BL op n nb bf be) (C : sc_CL op n) : ∀ b, b < nb → ¬ op (be b - 1) < 9 := by
  intro b hb
  rcases Nat.lt_or_ge (b + 1) nb with z | z
  · exact (B.2.2.2.2.1 b z).2
  · have h1 := B.2.2.2.1 C.1
    have e : nb - 1 = b := by omega
    rw [e] at h1
    rw [h1.2.2]; exact C.2
/-- a terminator ahead of b's last instruction is another block's -/
theorem sc_tne (B : sc_BL op n nb bf be) {b i : Nat} (hb : b < nb) (hi : i + 1 < be b) (h : ¬ op i < 9) : sc_tc op i ≠ b := by
  intro e
  have := sc_be_le B b hb
  obtain ⟨h1, h2, h3⟩ := sc_loc B i (by omega)
  rw [e] at h2 h3
  exact h ((B.2.2.2.2.2 b hb).2 i h2 hi)
theorem sc_mono (op : Nat → Int32) : ∀ d i, sc_tc op i ≤ sc_tc op (i + d)
  | 0, _ => Nat.le_refl _
  | d + 1, i => by
    have := sc_mono op d i
    have e : i + (d + 1) = i + d + 1 := by omega
    rw [e]; simp only [sc_tc]; split <;> omega
theorem sc_lt_bf (B : sc_BL op n nb bf be) {b i : Nat} (hb : b < nb) (hi : i < bf b) : sc_tc op i < b := by
  have h1 := (B.2.2.2.2.2 b hb).1
  have h2 := sc_be_le B b hb
  obtain ⟨d, hd⟩ : ∃ d, bf b = i + d := ⟨bf b - i, by omega⟩
  have h3 := sc_mono op d i
  rw [← hd, (sc_tc_bf B b hb).1] at h3
  rcases Nat.lt_or_ge (sc_tc op i) b with z | z
  · exact z
  · have h4 := (sc_loc B i (by omega)).2.1
    have e : sc_tc op i = b := by omega
    rw [e] at h4; omega
theorem sc_bf_0 (B : sc_BL op n nb bf be) {b : Nat} (hb : b < nb) : bf b = 0 ∨ (0 < bf b ∧ ¬ op (bf b - 1) < 9) := by
  rcases Nat.eq_zero_or_pos b with z | z
  · left
    have h0 : 0 < n := by
      rcases Nat.eq_zero_or_pos n with w | w
      · have := B.2.2.1 w; omega
      · exact w
    subst z; exact (B.2.2.2.1 h0).2.1
  · right
    have h := B.2.2.2.2.1 (b - 1) (by omega)
    have e : b - 1 + 1 = b := by omega
    rw [e] at h
    have h3 := (B.2.2.2.2.2 (b - 1) (by omega)).1
    rw [h.1]; exact ⟨by omega, h.2⟩
end
/-- classes of operations -/
def sc_df (op : Int32) : Bool := decide (¬ 6 < op)
def sc_rx (op : Int32) : Bool := decide (op = 7) || (decide (op = 8) || decide (op = 10))
def sc_ry (op : Int32) : Bool := decide (¬ op < 1) && decide (¬ 6 < op)
def sc_rz (op : Int32) : Bool := decide (¬ op < 2) && decide (¬ 5 < op)
/-- instruction i uses, defines v -/
def sc_us (op fx fy fz : Nat → Int32) (i : Nat) (v : Int32) : Bool := (sc_rx (op i) && decide (fx i = v)) || ((sc_ry (op i) && decide (fy i = v)) || (sc_rz (op i) && decide (fz i = v)))
def sc_de (op fx : Nat → Int32) (i : Nat) (v : Int32) : Bool := sc_df (op i) && decide (fx i = v)
/-- source form in order -/
def sc_SV (mb mv n : Nat) (op fx fy fz : Nat → Int32) : Prop := ∀ i, i < n →
  (∃ k, k ≤ 11 ∧ op i = nI k) ∧ ((sc_df (op i) = true ∨ sc_rx (op i) = true) → ∃ x, x < mv ∧ fx i = nI x) ∧
  (sc_ry (op i) = true → ∃ y, y < mv ∧ fy i = nI y) ∧ (sc_rz (op i) = true → ∃ z, z < mv ∧ fz i = nI z) ∧
  (op i = 9 → ∃ x, 1 ≤ x ∧ x < mb ∧ fx i = nI x) ∧
  (op i = 10 → ∃ y z, 1 ≤ y ∧ y < mb ∧ 1 ≤ z ∧ z < mb ∧ y ≠ z ∧ fy i = nI y ∧ fz i = nI z)
/-- the target written for edge e -/
def sc_rt (op fx fy fz : Nat → Int32) (nb : Nat) (be : Nat → Nat) (e : Nat) : Int32 :=
  if e / 2 < nb then
    (if op (be (e / 2) - 1) = 9 then (if e % 2 = 0 then fx (be (e / 2) - 1) else -1)
     else if op (be (e / 2) - 1) = 10 then (if e % 2 = 0 then fy (be (e / 2) - 1) else fz (be (e / 2) - 1)) else -1)
  else -1
/-- all targets are blocks -/
def sc_TG (op fx fy fz : Nat → Int32) (n nb : Nat) : Prop := ∀ i, i < n → (op i = 9 → fx i < nI nb) ∧ (op i = 10 → fy i < nI nb ∧ fz i < nI nb)
theorem sc_V {mb mv n nb : Nat} {op fx fy fz : Nat → Int32} {bf be : Nat → Nat} (B : sc_BL op n nb bf be) (C : sc_CL op n) (S : sc_SV mb mv n op fx fy fz) (hmb : mb ≤ 10) (T : sc_TG op fx fy fz n nb) :
    gr_V (sc_rt op fx fy fz nb be) nb := by
  have hp := (B.2.2.2.1 C.1).1
  have h10 := B.2.1
  refine ⟨hp, h10, fun e he => ?_⟩
  unfold sc_rt
  by_cases hb : e / 2 < nb
  · rw [if_pos hb]
    have h1 := sc_be_le B _ hb
    have h2 := (B.2.2.2.2.2 _ hb).1
    have hS := S (be (e / 2) - 1) (by omega)
    have hT := T (be (e / 2) - 1) (by omega)
    by_cases h9 : op (be (e / 2) - 1) = 9
    · rw [if_pos h9]
      by_cases p : e % 2 = 0
      · rw [if_pos p]
        obtain ⟨x, x1, x2, x3⟩ := hS.2.2.2.2.1 h9
        have := hT.1 h9
        rw [x3, nI_ltI (by omega) (by omega)] at this
        exact Or.inr ⟨hb, x, x1, this, x3⟩
      · rw [if_neg p]; exact Or.inl rfl
    · rw [if_neg h9]
      by_cases h0 : op (be (e / 2) - 1) = 10
      · rw [if_pos h0]
        obtain ⟨y, z, y1, y2, z1, z2, _, y3, z3⟩ := hS.2.2.2.2.2 h0
        have := hT.2 h0
        rw [y3, z3, nI_ltI (by omega) (by omega), nI_ltI (by omega) (by omega)] at this
        by_cases p : e % 2 = 0
        · rw [if_pos p]; exact Or.inr ⟨hb, y, y1, this.1, y3⟩
        · rw [if_neg p]; exact Or.inr ⟨hb, z, z1, this.2, z3⟩
      · rw [if_neg h0]; exact Or.inl rfl
  · rw [if_neg hb]; exact Or.inl rfl
/-- Y keeps four words an instruction -/
def sc_YS (ysr op fx fy fz : Nat → Int32) : Prop := ∀ i, i < 40 → ysr (i * 4) = op i ∧ ysr (i * 4 + 1) = fx i ∧ ysr (i * 4 + 2) = fy i ∧ ysr (i * 4 + 3) = fz i
end
section
/-! ===== the reference's small readers ===== -/
def sc_bc (op : Nat → Int32) : Nat → Nat
  | 0 => 0
  | i + 1 => sc_tc op i + 1
theorem sc_bc_b {op : Nat → Int32} {i : Nat} (h : i = 0 ∨ ¬ op (i - 1) < 9) : sc_bc op i = sc_tc op i := by
  cases i with
  | zero => rfl
  | succ j =>
    rcases h with h | h
    · omega
    · exact (sc_tc_t (i := j) h).symm
theorem sc_bc_n {op : Nat → Int32} {i : Nat} (h0 : 0 < i) (h : op (i - 1) < 9) : sc_bc op (i + 1) = sc_bc op i := by
  cases i with
  | zero => omega
  | succ j => show sc_tc op (j + 1) + 1 = sc_tc op j + 1; rw [sc_tc_n (i := j) h]
def sc_of (o k : Int32) : Int32 := if k = 0 then (if sc_ry o = true then 2 else if sc_rx o = true then 1 else -1) else if k = 1 then (if sc_rz o = true then 3 else -1) else -1
theorem sc_opf {o : Int32} (h : ∃ k, k ≤ 11 ∧ o = nI k) : (sc_ry o = true → sc_rx o = false) ∧ (sc_rz o = true → sc_ry o = true) ∧ (sc_df o = true → sc_rx o = false) ∧ (sc_ry o = true → sc_df o = true) ∧ ¬ o < 0 ∧ (sc_df o = true → o < 9) := by
  obtain ⟨k, hk, rfl⟩ := h
  have : ∀ k : Fin 12, (sc_ry (nI k.val) = true → sc_rx (nI k.val) = false) ∧ (sc_rz (nI k.val) = true → sc_ry (nI k.val) = true) ∧ (sc_df (nI k.val) = true → sc_rx (nI k.val) = false) ∧ (sc_ry (nI k.val) = true → sc_df (nI k.val) = true) ∧ ¬ nI k.val < 0 ∧ (sc_df (nI k.val) = true → nI k.val < 9) := by decide +kernel
  exact this ⟨k, by omega⟩
section
variable {mb mi mv oc ni : Nat} {ph ync ycl : Int32} {ysr yin ymk yre ydm yid yfr ylv yis yph yar yrs yas yfo ycd yfi ypd yps yss ytu ybl you yot yrg yrv : Nat → Int32} {op fx fy fz : Nat → Int32} {nb : Nat} {bf be : Nat → Nat}
theorem y_opOf {post : Int32 → Prop} (hn : ni ≤ 40) (hs : sc_YS ysr op fx fy fz) {i : Nat} (hi : i < ni) (h : post (op i)) : wpY_opOf post ((nI mb), (nI mi), (nI mv), (nI oc), ph, (nI ni), ync, ycl, ysr, yin, ymk, yre, ydm, yid, yfr, ylv, yis, yph, yar, yrs, yas, yfo, ycd, yfi, ypd, yps, yss, ytu, ybl, you, yot, yrg, yrv) (nI i) := by
  refine br_f zi_nlt (br_f (nI_ge hi (by omega)) (br_t (nI_lt (b := 40) (by omega) (by decide)) ⟨pk_in (i * 4) 160 (by omega) (zi_4 i), ?_⟩))
  rw [zb_rd (i * 4) (zi_4 i), (hs i (by omega)).1]; exact h
theorem y_blockOf {post : Int32 → Prop} (hn : ni ≤ 40) (hs : sc_YS ysr op fx fy fz) {i : Nat} (hi : i ≤ ni) (h : post (nI (sc_tc op i))) : wpY_blockOf post ((nI mb), (nI mi), (nI mv), (nI oc), ph, (nI ni), ync, ycl, ysr, yin, ymk, yre, ydm, yid, yfr, ylv, yis, yph, yar, yrs, yas, yfo, ycd, yfi, ypd, yps, yss, ytu, ybl, you, yot, yrg, yrv) (nI i) := by
  refine loop_0 (fun n j (s : Int32) => wY_blockOf_4 post (nI i) (nI mb) (nI mi) (nI mv) (nI oc) ph (nI ni) ync ycl ysr yin ymk yre ydm yid yfr ylv yis yph yar yrs yas yfo ycd yfi ypd yps yss ytu ybl you yot yrg yrv n s (nI j)) (fun j s => s = nI (sc_tc op j)) i 0 rfl ?_ ?_
  · intro n s hI
    exact zc_ex (by rw [hI]; exact h)
  · intro n j s hj hI ih
    refine zc_go hj (zc_go (show j < ni by omega) ⟨pk_in (j * 4) 160 (by omega) (zi_4 j), zc_lt (j * 4) (fun q => zn_1 (ih _ ?_)) (fun q => nm_e (zn_1 (ih _ ?_))) (zi_4 j)⟩)
    · rw [(hs j (by omega)).1] at q; rw [hI, sc_tc_n q]
    · rw [(hs j (by omega)).1] at q; rw [hI, sc_tc_t q, nI_1]
theorem y_blocks {post : Int32 → Prop} (hs : sc_YS ysr op fx fy fz) (B : sc_BL op ni nb bf be) (h : post (nI nb)) : wpY_blocks post ((nI mb), (nI mi), (nI mv), (nI oc), ph, (nI ni), ync, ycl, ysr, yin, ymk, yre, ydm, yid, yfr, ylv, yis, yph, yar, yrs, yas, yfo, ycd, yfi, ypd, yps, yss, ytu, ybl, you, yot, yrg, yrv) := by
  have hn := B.1
  refine loop_0 (fun n j (s : Int32) => wY_blocks_4 post (nI mb) (nI mi) (nI mv) (nI oc) ph (nI ni) ync ycl ysr yin ymk yre ydm yid yfr ylv yis yph yar yrs yas yfo ycd yfi ypd yps yss ytu ybl you yot yrg yrv n s (nI j)) (fun j s => s = nI (sc_bc op j)) ni 0 rfl ?_ ?_
  · intro n s hI
    refine zc_ex ?_
    have : nI (sc_bc op ni) = nI nb := by
      rcases Nat.eq_zero_or_pos ni with z | z
      · rw [z, B.2.2.1 z]; rfl
      · have := sc_nb B z
        obtain ⟨m, rfl⟩ : ∃ m, ni = m + 1 := ⟨ni - 1, by omega⟩
        rw [← this]; rfl
    rw [hI, this]; exact h
  · intro n j s hj hI ih
    refine zc_go hj (pk_eq j 0 (fun z => nm_e (zn_1 (ih _ ?_))) (fun z => ?_))
    · subst z; rw [hI]; rfl
    · have e : (nI j - 1) * 4 = nI ((j - 1) * 4) := by rw [zi_m1 (by omega), zi_4]
      refine ⟨pk_in ((j - 1) * 4) 160 (by omega) e, zc_lt ((j - 1) * 4) (fun q => zn_1 (ih _ ?_)) (fun q => nm_e (zn_1 (ih _ ?_))) e⟩
      · rw [(hs (j - 1) (by omega)).1] at q
        rw [hI, sc_bc_n (by omega) q]
      · rw [(hs (j - 1) (by omega)).1] at q
        rw [hI, nI_1, sc_bc_b (Or.inr q)]; rfl
theorem y_isOpen {post : Int32 → Prop} (hn : ni ≤ 40) (hs : sc_YS ysr op fx fy fz) (h : post (zb_i (decide (0 < ni) && decide (op (ni - 1) < 9)))) : wpY_isOpen post ((nI mb), (nI mi), (nI mv), (nI oc), ph, (nI ni), ync, ycl, ysr, yin, ymk, yre, ydm, yid, yfr, ylv, yis, yph, yar, yrs, yas, yfo, ycd, yfi, ypd, yps, yss, ytu, ybl, you, yot, yrg, yrv) := by
  rcases Nat.eq_zero_or_pos ni with z | z
  · subst z
    refine br_f (by decide) ?_
    exact h
  · rw [decide_eq_true z, Bool.true_and] at h
    have e : (nI ni - 1) * 4 = nI ((ni - 1) * 4) := by rw [zi_m1 (by omega), zi_4]
    refine br_t (nI_lt (a := 0) z (by omega)) ⟨pk_in ((ni - 1) * 4) 160 (by omega) e, zc_ge ((ni - 1) * 4) (fun q => ?_) (fun q => ?_) e⟩
    · rw [(hs (ni - 1) (by omega)).1] at q
      rw [decide_eq_false (Int32.not_lt.mpr q)] at h; exact h
    · rw [(hs (ni - 1) (by omega)).1] at q
      rw [decide_eq_true (Int32.not_le.mp q)] at h; exact h
theorem y_fo_step {post : Int32 → Prop} {J : Int32 → Int32 → Prop} (hn : ni ≤ 40) (hs : sc_YS ysr op fx fy fz) {x1 s : Int32} {i : Nat} (hi : i < ni) (hI : s = nI (sc_bc op i) - 1)
    (f : (i = 0 ∨ ¬ op (i - 1) < 9) → nI (sc_tc op i) = x1 → post (nI i)) (g : ((i = 0 ∨ ¬ op (i - 1) < 9) → ¬ nI (sc_tc op i) = x1) → J (nI (sc_bc op (i + 1)) - 1) (nI (i + 1))) :
    (nI i = 0 → wY_firstOf_21 post J x1 s (nI i) 1 (nI mb) (nI mi) (nI mv) (nI oc) ph (nI ni) ync ycl ysr yin ymk yre ydm yid yfr ylv yis yph yar yrs yas yfo ycd yfi ypd yps yss ytu ybl you yot yrg yrv) ∧ (¬ nI i = 0 → wY_firstOf_21 post J x1 s (nI i) 0 (nI mb) (nI mi) (nI mv) (nI oc) ph (nI ni) ync ycl ysr yin ymk yre ydm yid yfr ylv yis yph yar yrs yas yfo ycd yfi ypd yps yss ytu ybl you yot yrg yrv) := by
  have hb : (i = 0 ∨ ¬ op (i - 1) < 9) → wY_firstOf_49 post J x1 s (nI i) 1 (nI mb) (nI mi) (nI mv) (nI oc) ph (nI ni) ync ycl ysr yin ymk yre ydm yid yfr ylv yis yph yar yrs yas yfo ycd yfi ypd yps yss ytu ybl you yot yrg yrv := by
    intro q
    have e : s + 1 = nI (sc_tc op i) := by rw [hI, Int32.sub_add_cancel, sc_bc_b q]
    refine br_f (by decide) (nm_r e ⟨fun w => f q w, fun w => zn_1 ?_⟩)
    have e2 : nI (sc_bc op (i + 1)) - 1 = nI (sc_tc op i) := by
      show nI (sc_tc op i + 1) - 1 = _
      exact nI_pred _
    rw [← e2]
    exact g (fun _ => w)
  refine pk_eq i 0 (fun z => ?_) (fun z => ?_)
  · subst z
    exact br_t (by decide) (hb (Or.inl rfl))
  · have e : (nI i - 1) * 4 = nI ((i - 1) * 4) := by rw [zi_m1 (by omega), zi_4]
    refine br_f (nI_nle (by omega) (by omega)) ⟨pk_in ((i - 1) * 4) 160 (by omega) e, zc_lt ((i - 1) * 4) (fun q => ?_) (fun q => ?_) e⟩
    · rw [(hs (i - 1) (by omega)).1] at q
      refine br_t rfl (zn_1 ?_)
      rw [hI, ← sc_bc_n (by omega) q]
      exact g (fun w => by rcases w with w | w <;> first | omega | exact absurd q w)
    · rw [(hs (i - 1) (by omega)).1] at q
      exact hb (Or.inr q)
theorem y_firstOf {post : Int32 → Prop} (hs : sc_YS ysr op fx fy fz) (B : sc_BL op ni nb bf be) {b : Nat} (hb : b < nb) (h : post (nI (bf b))) : wpY_firstOf post ((nI mb), (nI mi), (nI mv), (nI oc), ph, (nI ni), ync, ycl, ysr, yin, ymk, yre, ydm, yid, yfr, ylv, yis, yph, yar, yrs, yas, yfo, ycd, yfi, ypd, yps, yss, ytu, ybl, you, yot, yrg, yrv) (nI b) := by
  have hn := B.1
  have h1 := sc_be_le B b hb
  have h2 := (B.2.2.2.2.2 b hb).1
  have hnb := B.2.1
  refine loop_0 (fun n j (s : Int32) => wY_firstOf_4 post (nI b) (nI mb) (nI mi) (nI mv) (nI oc) ph (nI ni) ync ycl ysr yin ymk yre ydm yid yfr ylv yis yph yar yrs yas yfo ycd yfi ypd yps yss ytu ybl you yot yrg yrv n s (nI j)) (fun j s => s = nI (sc_bc op j) - 1) (bf b) (-1) (show (-1 : Int32) = nI 0 - 1 by decide) ?_ ?_
  · intro n s hI
    refine zc_go (show bf b < ni by omega) (y_fo_step hn hs (by omega) hI (fun _ _ => h) (fun q => absurd (congrArg nI (sc_tc_bf B b hb).1) (q ?_)))
    rcases sc_bf_0 B hb with z | z
    · exact Or.inl z
    · exact Or.inr z.2
  · intro n j s hj hI ih
    have h3 := sc_lt_bf B hb hj
    refine zc_go (show j < ni by omega) (y_fo_step hn hs (by omega) hI (fun _ q => ?_) (fun _ => ih _ rfl))
    have := zi_inj q
    omega
theorem y_firstOf_no {post : Int32 → Prop} (hs : sc_YS ysr op fx fy fz) (B : sc_BL op ni nb bf be) {x : Int32} (hx : ∀ b, b < nb → ¬ nI b = x) (h : post (-1)) : wpY_firstOf post ((nI mb), (nI mi), (nI mv), (nI oc), ph, (nI ni), ync, ycl, ysr, yin, ymk, yre, ydm, yid, yfr, ylv, yis, yph, yar, yrs, yas, yfo, ycd, yfi, ypd, yps, yss, ytu, ybl, you, yot, yrg, yrv) x := by
  have hn := B.1
  refine loop_0 (fun n j (s : Int32) => wY_firstOf_4 post x (nI mb) (nI mi) (nI mv) (nI oc) ph (nI ni) ync ycl ysr yin ymk yre ydm yid yfr ylv yis yph yar yrs yas yfo ycd yfi ypd yps yss ytu ybl you yot yrg yrv n s (nI j)) (fun j s => s = nI (sc_bc op j) - 1) ni (-1) (show (-1 : Int32) = nI 0 - 1 by decide) ?_ ?_
  · intro n s hI
    exact zc_ex h
  · intro n j s hj hI ih
    exact zc_go hj (y_fo_step hn hs (by omega) hI (fun _ q => absurd q (hx _ (sc_loc B j hj).1)) (fun _ => ih _ rfl))
theorem y_termOf {post : Int32 → Prop} (hs : sc_YS ysr op fx fy fz) (B : sc_BL op ni nb bf be) (C : sc_CL op ni) {b : Nat} (hb : b < nb) (h : post (nI (be b - 1))) : wpY_termOf post ((nI mb), (nI mi), (nI mv), (nI oc), ph, (nI ni), ync, ycl, ysr, yin, ymk, yre, ydm, yid, yfr, ylv, yis, yph, yar, yrs, yas, yfo, ycd, yfi, ypd, yps, yss, ytu, ybl, you, yot, yrg, yrv) (nI b) := by
  have hn := B.1
  have h1 := sc_be_le B b hb
  have h2 := (B.2.2.2.2.2 b hb).1
  have hnb := B.2.1
  refine loop_0 (fun n j (s : Int32) => wY_termOf_4 post (nI b) (nI mb) (nI mi) (nI mv) (nI oc) ph (nI ni) ync ycl ysr yin ymk yre ydm yid yfr ylv yis yph yar yrs yas yfo ycd yfi ypd yps yss ytu ybl you yot yrg yrv n s (nI j)) (fun j s => s = nI (sc_tc op j)) (be b - 1) 0 rfl ?_ ?_
  · intro n s hI
    refine zc_go (show be b - 1 < ni by omega) ⟨pk_in ((be b - 1) * 4) 160 (by omega) (zi_4 _), zc_lt ((be b - 1) * 4) (fun q => ?_) (fun q => br_t ?_ h) (zi_4 _)⟩
    · rw [(hs (be b - 1) (by omega)).1] at q
      exact absurd q (sc_term B C b hb)
    · rw [hI, (sc_tc_bf B b hb).2 (be b - 1) (by omega) (by omega)]
  · intro n j s hj hI ih
    refine zc_go (show j < ni by omega) ⟨pk_in (j * 4) 160 (by omega) (zi_4 _), zc_lt (j * 4) (fun q => zn_1 (ih _ ?_)) (fun q => br_f ?_ (nm_e (zn_1 (ih _ ?_)))) (zi_4 _)⟩
    · rw [(hs j (by omega)).1] at q; rw [hI, sc_tc_n q]
    · rw [(hs j (by omega)).1] at q
      rw [hI]
      have h5 := (sc_loc B j (by omega)).1
      exact fun w => sc_tne B hb (by omega) q (zi_inj w)
    · rw [(hs j (by omega)).1] at q; rw [hI, sc_tc_t q, nI_1]
theorem y_termOf_no {post : Int32 → Prop} (hs : sc_YS ysr op fx fy fz) (B : sc_BL op ni nb bf be) {x : Int32} (hx : ∀ b, b < nb → ¬ nI b = x) (h : post (-1)) : wpY_termOf post ((nI mb), (nI mi), (nI mv), (nI oc), ph, (nI ni), ync, ycl, ysr, yin, ymk, yre, ydm, yid, yfr, ylv, yis, yph, yar, yrs, yas, yfo, ycd, yfi, ypd, yps, yss, ytu, ybl, you, yot, yrg, yrv) x := by
  have hn := B.1
  refine loop_0 (fun n j (s : Int32) => wY_termOf_4 post x (nI mb) (nI mi) (nI mv) (nI oc) ph (nI ni) ync ycl ysr yin ymk yre ydm yid yfr ylv yis yph yar yrs yas yfo ycd yfi ypd yps yss ytu ybl you yot yrg yrv n s (nI j)) (fun j s => s = nI (sc_tc op j)) ni 0 rfl ?_ ?_
  · intro n s hI
    exact zc_ex h
  · intro n j s hj hI ih
    refine zc_go hj ⟨pk_in (j * 4) 160 (by omega) (zi_4 _), zc_lt (j * 4) (fun q => zn_1 (ih _ ?_)) (fun q => br_f ?_ (nm_e (zn_1 (ih _ ?_)))) (zi_4 _)⟩
    · rw [(hs j (by omega)).1] at q; rw [hI, sc_tc_n q]
    · rw [hI]; exact hx _ (sc_loc B j hj).1
    · rw [(hs j (by omega)).1] at q; rw [hI, sc_tc_t q, nI_1]
theorem y_operandField {post : Int32 → Prop} {o k : Int32} (h : post (sc_of o k)) : wpY_operandField post ((nI mb), (nI mi), (nI mv), (nI oc), ph, (nI ni), ync, ycl, ysr, yin, ymk, yre, ydm, yid, yfr, ylv, yis, yph, yar, yrs, yas, yfo, ycd, yfi, ypd, yps, yss, ytu, ybl, you, yot, yrg, yrv) o k := by
  unfold sc_of sc_ry sc_rx sc_rz at h
  refine ⟨fun e0 => ?_, fun e0 => ?_⟩
  · rw [if_pos e0] at h
    subst e0
    have r17 : post (if (decide (o = 7) || (decide (o = 8) || decide (o = 10))) = true then 1 else -1) → wY_operandField_17 post o 0 (nI mb) (nI mi) (nI mv) (nI oc) ph (nI ni) ync ycl ysr yin ymk yre ydm yid yfr ylv yis yph yar yrs yas yfo ycd yfi ypd yps yss ytu ybl you yot yrg yrv := by
      intro h
      refine ⟨fun e => ?_, fun e => ⟨fun e' => ?_, fun e' => ⟨fun e'' => ?_, fun e'' => br_f (by decide) ?_⟩⟩⟩
      · rw [e] at h; exact h
      · rw [e'] at h; exact h
      · rw [e''] at h; exact h
      · simp only [e, e', e'', decide_false, Bool.or_false, Bool.false_eq_true, if_false] at h; exact h
    refine ⟨fun e1 => r17 ?_, fun e1 => ⟨fun e2 => r17 ?_, fun e2 => ?_⟩⟩
    · simp only [e1, not_true, decide_false, Bool.false_and, Bool.false_eq_true, if_false] at h; exact h
    · simp only [e2, not_true, decide_false, Bool.and_false, Bool.false_eq_true, if_false] at h; exact h
    · simp only [e1, e2, not_false_iff, decide_true, Bool.and_true, if_true] at h; exact h
  · rw [if_neg e0] at h
    refine ⟨fun e1 => ?_, fun e1 => ?_⟩
    · rw [if_pos e1] at h
      refine ⟨fun e2 => ?_, fun e2 => ⟨fun e3 => ?_, fun e3 => ?_⟩⟩
      · simp only [e2, not_true, decide_false, Bool.false_and, Bool.false_eq_true, if_false] at h; exact h
      · simp only [e3, not_true, decide_false, Bool.and_false, Bool.false_eq_true, if_false] at h; exact h
      · simp only [e2, e3, not_false_iff, decide_true, Bool.and_true, if_true] at h; exact h
    · rw [if_neg e1] at h; exact h
theorem y_uses {post : Int32 → Prop} (hn : ni ≤ 40) (hs : sc_YS ysr op fx fy fz) {mb' mv' : Nat} (S : sc_SV mb' mv' ni op fx fy fz) {i : Nat} {v : Int32} (hi : i < ni) (h : post (zb_i (sc_us op fx fy fz i v))) : wpY_uses post ((nI mb), (nI mi), (nI mv), (nI oc), ph, (nI ni), ync, ycl, ysr, yin, ymk, yre, ydm, yid, yfr, ylv, yis, yph, yar, yrs, yas, yfo, ycd, yfi, ypd, yps, yss, ytu, ybl, you, yot, yrg, yrv) (nI i) v := by
  obtain ⟨o1, o2, o3, o4, o5, o6⟩ := sc_opf (S i hi).1
  obtain ⟨s0, s1, s2, s3⟩ := hs i (by omega)
  unfold sc_us at h
  unfold wpY_uses
  refine y_opOf hn hs hi ?_
  refine br_t (Int32.not_lt.mp o5) ⟨3, ?_⟩
  refine br_f (by decide) (y_operandField ?_)
  have step1 : post (zb_i (sc_rz (op i) && decide (fz i = v))) → ∀ y, y = (0 : Int32) + 1 → wY_uses_15 post (nI i) v (op i) (nI mb) (nI mi) (nI mv) (nI oc) ph (nI ni) ync ycl ysr yin ymk yre ydm yid yfr ylv yis yph yar yrs yas yfo ycd yfi ypd yps yss ytu ybl you yot yrg yrv 2 y := by
    intro h y ey
    subst ey
    refine br_f (by decide) (y_operandField ?_)
    show _ ∧ _
    cases hz : sc_rz (op i)
    · have : sc_of (op i) (0 + 1) = -1 := by
        unfold sc_of; rw [if_neg (by decide), if_pos (by decide), hz]; rfl
      rw [this]
      rw [hz] at h
      exact br_t (by decide) (nm_e (br_t (by decide) h))
    · have : sc_of (op i) (0 + 1) = 3 := by
        unfold sc_of; rw [if_neg (by decide), if_pos (by decide), hz]; rfl
      rw [this]
      rw [hz, Bool.true_and] at h
      have e : nI i * 4 + 3 = nI (i * 4 + 3) := zi_4k i 3
      refine br_f (by decide) ⟨pk_in (i * 4 + 3) 160 (by omega) e, zc_eq (i * 4 + 3) (fun q => ?_) (fun q => nm_e (br_t (by decide) ?_)) e⟩
      · rw [s3] at q; rw [decide_eq_true q] at h; exact h
      · rw [s3] at q; rw [decide_eq_false q] at h; exact h
  show _ ∧ _
  cases hy : sc_ry (op i)
  · cases hx : sc_rx (op i)
    · have : sc_of (op i) 0 = -1 := by
        unfold sc_of; rw [if_pos rfl, hy, hx]; rfl
      rw [this]
      rw [hx, hy] at h
      exact br_t (by decide) (step1 h)
    · have : sc_of (op i) 0 = 1 := by
        unfold sc_of; rw [if_pos rfl, hy, hx]; rfl
      rw [this]
      have hz : sc_rz (op i) = false := by
        cases hz : sc_rz (op i)
        · rfl
        · have := o2 hz; rw [hy] at this; exact absurd this (by decide)
      rw [hx, hy, hz] at h
      have e : nI i * 4 + 1 = nI (i * 4 + 1) := zi_4k i 1
      refine br_f (by decide) ⟨pk_in (i * 4 + 1) 160 (by omega) e, zc_eq (i * 4 + 1) (fun q => ?_) (fun q => step1 ?_) e⟩
      · rw [s1] at q; rw [decide_eq_true q] at h; exact h
      · rw [s1] at q; rw [decide_eq_false q] at h; rw [hz]; exact h
  · have : sc_of (op i) 0 = 2 := by
      unfold sc_of; rw [if_pos rfl, hy]; rfl
    rw [this]
    rw [o1 hy, hy, Bool.false_and, Bool.false_or, Bool.true_and] at h
    have e : nI i * 4 + 2 = nI (i * 4 + 2) := zi_4k i 2
    refine br_f (by decide) ⟨pk_in (i * 4 + 2) 160 (by omega) e, zc_eq (i * 4 + 2) (fun q => ?_) (fun q => step1 ?_) e⟩
    · rw [s2] at q; rw [decide_eq_true q] at h; exact h
    · rw [s2] at q; rw [decide_eq_false q, Bool.false_or] at h; exact h
theorem y_defines {post : Int32 → Prop} (hn : ni ≤ 40) (hs : sc_YS ysr op fx fy fz) {mb' mv' : Nat} (S : sc_SV mb' mv' ni op fx fy fz) {i : Nat} {v : Int32} (hi : i < ni) (h : post (zb_i (sc_de op fx i v))) : wpY_defines post ((nI mb), (nI mi), (nI mv), (nI oc), ph, (nI ni), ync, ycl, ysr, yin, ymk, yre, ydm, yid, yfr, ylv, yis, yph, yar, yrs, yas, yfo, ycd, yfi, ypd, yps, yss, ytu, ybl, you, yot, yrg, yrv) (nI i) v := by
  obtain ⟨o1, o2, o3, o4, o5, o6⟩ := sc_opf (S i hi).1
  obtain ⟨s0, s1, s2, s3⟩ := hs i (by omega)
  unfold sc_de sc_df at h
  unfold wpY_defines
  refine y_opOf hn hs hi ?_
  refine br_f o5 ⟨fun q => ?_, fun q => ?_⟩
  · have e : nI i * 4 + 1 = nI (i * 4 + 1) := zi_4k i 1
    rw [decide_eq_true (Int32.not_lt.mpr q), Bool.true_and] at h
    refine ⟨pk_in (i * 4 + 1) 160 (by omega) e, zc_eq (i * 4 + 1) (fun q => ?_) (fun q => ?_) e⟩
    · rw [s1] at q; rw [decide_eq_true q] at h; exact h
    · rw [s1] at q; rw [decide_eq_false q] at h; exact h
  · rw [decide_eq_false (not_not_intro (Int32.not_le.mp q)), Bool.false_and] at h; exact h
theorem y_rawTarget {post : Int32 → Prop} (hs : sc_YS ysr op fx fy fz) (B : sc_BL op ni nb bf be) (C : sc_CL op ni) {e : Nat} (he : e < 20) (h : post (sc_rt op fx fy fz nb be e)) : wpY_rawTarget post ((nI mb), (nI mi), (nI mv), (nI oc), ph, (nI ni), ync, ycl, ysr, yin, ymk, yre, ydm, yid, yfr, ylv, yis, yph, yar, yrs, yas, yfo, ycd, yfi, ypd, yps, yss, ytu, ybl, you, yot, yrg, yrv) (nI e) := by
  have hn := B.1
  refine br_f zi_nlt (br_t (nI_lt (b := 20) he (by decide)) ⟨by decide, nm_r (zi_d (by omega)) ?_⟩)
  by_cases hb : e / 2 < nb
  · have h1 := sc_be_le B _ hb
    have h2 := (B.2.2.2.2.2 _ hb).1
    obtain ⟨s0, s1, s2, s3⟩ := hs (be (e / 2) - 1) (by omega)
    unfold sc_rt at h
    rw [if_pos hb] at h
    refine y_termOf hs B C hb (br_t (nI_pos' (by omega)) ?_)
    refine zs_rn ((be (e / 2) - 1) * 4) ?_ (by omega) (zi_4 _)
    rw [s0]
    refine ⟨by decide, pk_eq (e % 2) 0 (fun p => ?_) (fun p => ?_) (zi_r (by omega))⟩
    · refine ⟨fun q => ⟨pk_in ((be (e / 2) - 1) * 4 + 1) 160 (by omega) (zi_4a _), ?_⟩, fun q => ⟨fun q' => ⟨pk_in ((be (e / 2) - 1) * 4 + 2) 160 (by omega) (zi_4b _), ?_⟩, fun q' => ?_⟩⟩
      · rw [zb_rd ((be (e / 2) - 1) * 4 + 1) (zi_4a _), s1]
        rw [if_pos q, if_pos p] at h; exact h
      · rw [zb_rd ((be (e / 2) - 1) * 4 + 2) (zi_4b _), s2]
        rw [if_neg q, if_pos q', if_pos p] at h; exact h
      · rw [if_neg q, if_neg q'] at h; exact h
    · refine ⟨fun q' => ⟨pk_in ((be (e / 2) - 1) * 4 + 3) 160 (by omega) (zi_4c _), ?_⟩, fun q' => ?_⟩
      · rw [zb_rd ((be (e / 2) - 1) * 4 + 3) (zi_4c _), s3]
        rw [if_neg (by rw [q']; decide), if_pos q', if_neg p] at h; exact h
      · rw [if_neg q', if_neg p] at h
        split at h <;> exact h
  · unfold sc_rt at h
    rw [if_neg hb] at h
    have h10 := B.2.1
    refine y_termOf_no hs B (fun b hb' q => hb (by have := zi_inj q; omega)) (br_f (by decide) h)
theorem y_edgeEnd {post : Int32 → Prop} (hs : sc_YS ysr op fx fy fz) (B : sc_BL op ni nb bf be) (C : sc_CL op ni) (V : gr_V (sc_rt op fx fy fz nb be) nb)
    (hr : ∀ b, b < 10 → yre b = zb_i (gr_rc (sc_rt op fx fy fz nb be) b)) {e : Nat} (he : e < 20) (h : post (gr_ee (sc_rt op fx fy fz nb be) e)) : wpY_edgeEnd post ((nI mb), (nI mi), (nI mv), (nI oc), ph, (nI ni), ync, ycl, ysr, yin, ymk, yre, ydm, yid, yfr, ylv, yis, yph, yar, yrs, yas, yfo, ycd, yfi, ypd, yps, yss, ytu, ybl, you, yot, yrg, yrv) (nI e) := by
  have h10 := V.2.1
  refine br_f zi_nlt (br_t (nI_lt (b := 20) he (by decide)) ⟨by decide, pk_in (e / 2) 10 (by omega) (zi_d (by omega)), zc_eq (e / 2) (fun q => ?_) (fun q => ?_) (zi_d (by omega))⟩)
  · rw [hr _ (by omega), zb_i0] at q
    rw [gr_ee_f q] at h; exact h
  · rw [hr _ (by omega), zb_i0] at q
    have q' : gr_rc (sc_rt op fx fy fz nb be) (e / 2) = true := by
      cases w : gr_rc (sc_rt op fx fy fz nb be) (e / 2)
      · exact absurd w q
      · rfl
    rw [gr_ee_t q'] at h
    refine y_rawTarget hs B C he ?_
    rcases V.2.2 e he with z | ⟨z1, t, t1, t2, t3⟩
    · rw [z] at h ⊢
      exact br_t (by decide) h
    · rw [t3] at h ⊢
      exact br_f zi_nlt (br_t (nI_lt (b := 10) (by omega) (by decide)) h)
end
end
section
/-! ===== the component's small readers, reachability, edges ===== -/
section
variable {mb mi mv oc ni nb : Nat} {ph xrm xnc xcc xsc xpc : Int32} {xop xsx xsy xsz xbo xbf xbe xin xee xdm xid xfm xgm xkm xlm xnb xnp xnv xph xln xpa xrs xax xay xaz xfo xsr xso xst xco xcx xcy xcz xcb xpd xps xss xtu xcu xou xot xrg : Nat → Int32} {bf be : Nat → Nat}
theorem x_hasBit {post : Int32 → Prop} {m : Int32} {b : Nat} (hb : b < 32) (h : post (zb_i (bt m b))) : wpX_hasBit post ((nI mb), (nI mi), (nI mv), (nI oc), ph, (nI ni), (nI nb), xrm, xnc, xcc, xsc, xpc, xop, xsx, xsy, xsz, xbo, xbf, xbe, xin, xee, xdm, xid, xfm, xgm, xkm, xlm, xnb, xnp, xnv, xph, xln, xpa, xrs, xax, xay, xaz, xfo, xsr, xso, xst, xco, xcx, xcy, xcz, xcb, xpd, xps, xss, xtu, xcu, xou, xot, xrg) m (nI b) := by
  refine ⟨fun q => ?_, fun q => ?_⟩
  · rw [(zt_has m hb).mp q] at h; exact h
  · have : bt m b = true := by
      cases w : bt m b
      · exact absurd ((zt_has m hb).mpr w) q
      · rfl
    rw [this] at h; exact h
theorem x_reachable {post : Int32 → Prop} {b : Nat} (hb : b < 32) (h : post (zb_i (bt xrm b))) : wpX_reachable post ((nI mb), (nI mi), (nI mv), (nI oc), ph, (nI ni), (nI nb), xrm, xnc, xcc, xsc, xpc, xop, xsx, xsy, xsz, xbo, xbf, xbe, xin, xee, xdm, xid, xfm, xgm, xkm, xlm, xnb, xnp, xnv, xph, xln, xpa, xrs, xax, xay, xaz, xfo, xsr, xso, xst, xco, xcx, xcy, xcz, xcb, xpd, xps, xss, xtu, xcu, xou, xot, xrg) (nI b) := by
  unfold wpX_reachable
  exact x_hasBit hb ⟨zb_nar _, h⟩
theorem x_definesX {post : Int32 → Prop} {o : Int32} (h : post (zb_i (sc_df o))) : wpX_definesX post ((nI mb), (nI mi), (nI mv), (nI oc), ph, (nI ni), (nI nb), xrm, xnc, xcc, xsc, xpc, xop, xsx, xsy, xsz, xbo, xbf, xbe, xin, xee, xdm, xid, xfm, xgm, xkm, xlm, xnb, xnp, xnv, xph, xln, xpa, xrs, xax, xay, xaz, xfo, xsr, xso, xst, xco, xcx, xcy, xcz, xcb, xpd, xps, xss, xtu, xcu, xou, xot, xrg) o := by
  unfold sc_df at h
  refine ⟨fun q => ?_, fun q => ?_⟩
  · rw [decide_eq_false (not_not_intro q)] at h; exact h
  · rw [decide_eq_true q] at h; exact h
theorem x_readsX {post : Int32 → Prop} {o : Int32} (h : post (zb_i (sc_rx o))) : wpX_readsX post ((nI mb), (nI mi), (nI mv), (nI oc), ph, (nI ni), (nI nb), xrm, xnc, xcc, xsc, xpc, xop, xsx, xsy, xsz, xbo, xbf, xbe, xin, xee, xdm, xid, xfm, xgm, xkm, xlm, xnb, xnp, xnv, xph, xln, xpa, xrs, xax, xay, xaz, xfo, xsr, xso, xst, xco, xcx, xcy, xcz, xcb, xpd, xps, xss, xtu, xcu, xou, xot, xrg) o := by
  unfold sc_rx at h
  refine ⟨fun e => ?_, fun e => ⟨fun e' => ?_, fun e' => ⟨fun e'' => ?_, fun e'' => ?_⟩⟩⟩
  · rw [e] at h; exact h
  · rw [e'] at h; exact h
  · rw [e''] at h; exact h
  · simp only [e, e', e'', decide_false, Bool.or_false] at h; exact h
theorem x_readsY {post : Int32 → Prop} {o : Int32} (h : post (zb_i (sc_ry o))) : wpX_readsY post ((nI mb), (nI mi), (nI mv), (nI oc), ph, (nI ni), (nI nb), xrm, xnc, xcc, xsc, xpc, xop, xsx, xsy, xsz, xbo, xbf, xbe, xin, xee, xdm, xid, xfm, xgm, xkm, xlm, xnb, xnp, xnv, xph, xln, xpa, xrs, xax, xay, xaz, xfo, xsr, xso, xst, xco, xcx, xcy, xcz, xcb, xpd, xps, xss, xtu, xcu, xou, xot, xrg) o := by
  unfold sc_ry at h
  refine ⟨fun e => ?_, fun e => ⟨fun e' => ?_, fun e' => ?_⟩⟩
  · rw [decide_eq_false (not_not_intro e), Bool.false_and] at h; exact h
  · rw [decide_eq_false (not_not_intro e'), Bool.and_false] at h; exact h
  · rw [decide_eq_true e, decide_eq_true e'] at h; exact h
theorem x_readsZ {post : Int32 → Prop} {o : Int32} (h : post (zb_i (sc_rz o))) : wpX_readsZ post ((nI mb), (nI mi), (nI mv), (nI oc), ph, (nI ni), (nI nb), xrm, xnc, xcc, xsc, xpc, xop, xsx, xsy, xsz, xbo, xbf, xbe, xin, xee, xdm, xid, xfm, xgm, xkm, xlm, xnb, xnp, xnv, xph, xln, xpa, xrs, xax, xay, xaz, xfo, xsr, xso, xst, xco, xcx, xcy, xcz, xcb, xpd, xps, xss, xtu, xcu, xou, xot, xrg) o := by
  unfold sc_rz at h
  refine ⟨fun e => ?_, fun e => ⟨fun e' => ?_, fun e' => ?_⟩⟩
  · rw [decide_eq_false (not_not_intro e), Bool.false_and] at h; exact h
  · rw [decide_eq_false (not_not_intro e'), Bool.and_false] at h; exact h
  · rw [decide_eq_true e, decide_eq_true e'] at h; exact h
theorem x_blockIsOpen {post : Int32 → Prop} (hn : ni ≤ 40) (h : post (zb_i (decide (0 < ni) && decide (xop (ni - 1) < 9)))) : wpX_blockIsOpen post ((nI mb), (nI mi), (nI mv), (nI oc), ph, (nI ni), (nI nb), xrm, xnc, xcc, xsc, xpc, xop, xsx, xsy, xsz, xbo, xbf, xbe, xin, xee, xdm, xid, xfm, xgm, xkm, xlm, xnb, xnp, xnv, xph, xln, xpa, xrs, xax, xay, xaz, xfo, xsr, xso, xst, xco, xcx, xcy, xcz, xcb, xpd, xps, xss, xtu, xcu, xou, xot, xrg) := by
  rcases Nat.eq_zero_or_pos ni with z | z
  · subst z
    exact br_t (by decide) h
  · rw [decide_eq_true z, Bool.true_and] at h
    have e : nI ni - 1 = nI (ni - 1) := zi_m1 (by omega)
    refine br_f (nI_nle z (by omega)) ⟨pk_in (ni - 1) 40 (by omega) e, zc_ge (ni - 1) (fun q => ?_) (fun q => ?_) e⟩
    · rw [decide_eq_false (Int32.not_lt.mpr q)] at h; exact h
    · rw [decide_eq_true (Int32.not_le.mp q)] at h; exact h
theorem x_targetOf {post : Int32 → Prop} (B : sc_BL xop ni nb bf be) (hbe : ∀ b, b < nb → xbe b = nI (be b)) {b s : Nat} (hb : b < nb) (h2 : s < 2) (h : post (sc_rt xop xsx xsy xsz nb be (2 * b + s))) : wpX_targetOf post ((nI mb), (nI mi), (nI mv), (nI oc), ph, (nI ni), (nI nb), xrm, xnc, xcc, xsc, xpc, xop, xsx, xsy, xsz, xbo, xbf, xbe, xin, xee, xdm, xid, xfm, xgm, xkm, xlm, xnb, xnp, xnv, xph, xln, xpa, xrs, xax, xay, xaz, xfo, xsr, xso, xst, xco, xcx, xcy, xcz, xcb, xpd, xps, xss, xtu, xcu, xou, xot, xrg) (nI b) (nI s) := by
  have hn := B.1
  have h10 := B.2.1
  have h1 := sc_be_le B _ hb
  have h3 := (B.2.2.2.2.2 _ hb).1
  unfold sc_rt at h
  have e1 : (2 * b + s) / 2 = b := by omega
  have e2 : (2 * b + s) % 2 = s := by omega
  rw [e1, e2, if_pos hb] at h
  have e3 : xbe (nI b).toNatClampNeg - 1 = nI (be b - 1) := by rw [zb_rd b, hbe b hb, zi_m1 (by omega)]
  have hi : vp_in (nI (be b - 1)) 40 := pk_in (be b - 1) 40 (by omega)
  refine ⟨pk_in b 10 (by omega), nm_r e3 ⟨hi, zc_eq (be b - 1) (fun q => pk_eq s 0 (fun p => ⟨hi, ?_⟩) (fun p => ?_)) (fun q => ⟨hi, zc_eq (be b - 1) (fun q' => pk_eq s 0 (fun p => ⟨hi, ?_⟩) (fun p => ⟨hi, ?_⟩)) (fun q' => ?_)⟩)⟩⟩
  · rw [zb_rd (be b - 1)]; rw [if_pos q, if_pos p] at h; exact h
  · rw [if_pos q, if_neg p] at h; exact h
  · rw [zb_rd (be b - 1)]; rw [if_neg q, if_pos q', if_pos p] at h; exact h
  · rw [zb_rd (be b - 1)]; rw [if_neg q, if_pos q', if_neg p] at h; exact h
  · rw [if_neg q, if_neg q'] at h; exact h
theorem x_addTargets {post : SX → Prop} {rt : Nat → Int32} (B : sc_BL xop ni nb bf be) (hbe : ∀ b, b < nb → xbe b = nI (be b)) (hrt : rt = sc_rt xop xsx xsy xsz nb be) (V : gr_V rt nb) {b : Nat} (hb : b < nb)
    (h : ∀ rm, (∀ i, i < 32 → (bt rm i = true ↔ bt xrm i = true ∨ gr_E rt b i)) → post ((nI mb), (nI mi), (nI mv), (nI oc), ph, (nI ni), (nI nb), rm, xnc, xcc, xsc, xpc, xop, xsx, xsy, xsz, xbo, xbf, xbe, xin, xee, xdm, xid, xfm, xgm, xkm, xlm, xnb, xnp, xnv, xph, xln, xpa, xrs, xax, xay, xaz, xfo, xsr, xso, xst, xco, xcx, xcy, xcz, xcb, xpd, xps, xss, xtu, xcu, xou, xot, xrg)) : wpX_addTargets post ((nI mb), (nI mi), (nI mv), (nI oc), ph, (nI ni), (nI nb), xrm, xnc, xcc, xsc, xpc, xop, xsx, xsy, xsz, xbo, xbf, xbe, xin, xee, xdm, xid, xfm, xgm, xkm, xlm, xnb, xnp, xnv, xph, xln, xpa, xrs, xax, xay, xaz, xfo, xsr, xso, xst, xco, xcx, xcy, xcz, xcb, xpd, xps, xss, xtu, xcu, xou, xot, xrg) (nI b) := by
  have h10 := V.2.1
  refine loop_0 (fun n s (rm : Int32) => wX_addTargets_2 post (nI b) (nI mb) (nI mi) (nI mv) (nI oc) ph (nI ni) (nI nb) xnc xcc xsc xpc xop xsx xsy xsz xbo xbf xbe xin xee xdm xid xfm xgm xkm xlm xnb xnp xnv xph xln xpa xrs xax xay xaz xfo xsr xso xst xco xcx xcy xcz xcb xpd xps xss xtu xcu xou xot xrg n (nI s) rm) (fun s rm => ∀ i, i < 32 → (bt rm i = true ↔ bt xrm i = true ∨ ∃ s', s' < s ∧ rt (2 * b + s') = nI i)) 2 xrm ?_ ?_ ?_
  · intro i hi
    exact ⟨Or.inl, fun q => q.elim id (fun ⟨s', hs', _⟩ => by omega)⟩
  · intro n rm hI
    refine zc_ex (h rm fun i hi => ?_)
    rw [hI i hi]
    refine or_congr_right ⟨fun ⟨s', hs', e⟩ => ⟨2 * b + s', by omega, by omega, e⟩, fun ⟨e, he, hb', hr⟩ => ⟨e - 2 * b, by omega, ?_⟩⟩
    have : 2 * b + (e - 2 * b) = e := by omega
    rw [this]; exact hr
  · intro n s rm hs hI ih
    refine zc_go hs (x_targetOf B hbe hb (by omega) ?_)
    rw [← hrt]
    rcases V.2.2 (2 * b + s) (by omega) with z | ⟨z1, t, t1, t2, t3⟩
    · rw [z]
      refine br_t (by decide) (zn_1 (ih _ fun i hi => ?_))
      rw [hI i hi]
      refine or_congr_right ⟨fun ⟨s', hs', e⟩ => ⟨s', by omega, e⟩, fun ⟨s', hs', e⟩ => ?_⟩
      rcases Nat.lt_or_ge s' s with w | w
      · exact ⟨s', w, e⟩
      · have : s' = s := by omega
        rw [this, z] at e
        exact absurd e.symm (zi_neg (by omega))
    · rw [t3]
      refine br_f zi_nlt (nm_e (zn_1 (ih _ fun i hi => ?_)))
      rw [zt_set _ (by omega) hi, hI i hi]
      constructor
      · rintro ((q | ⟨s', hs', e⟩) | q)
        · exact Or.inl q
        · exact Or.inr ⟨s', by omega, e⟩
        · exact Or.inr ⟨s, by omega, by rw [t3, q]⟩
      · rintro (q | ⟨s', hs', e⟩)
        · exact Or.inl (Or.inl q)
        · rcases Nat.lt_or_ge s' s with w | w
          · exact Or.inl (Or.inr ⟨s', w, e⟩)
          · have : s' = s := by omega
            rw [this, t3] at e
            exact Or.inr (zi_inj e).symm
end
end
section
/-! ===== the component finds the reachable blocks and the edges ===== -/
section
variable {mb mi mv oc ni nb : Nat} {ph xrm xnc xcc xsc xpc : Int32} {xop xsx xsy xsz xbo xbf xbe xin xee xdm xid xfm xgm xkm xlm xnb xnp xnv xph xln xpa xrs xax xay xaz xfo xsr xso xst xco xcx xcy xcz xcb xpd xps xss xtu xcu xou xot xrg : Nat → Int32} {bf be : Nat → Nat} {rt : Nat → Int32}
def xr_S (rt : Nat → Int32) (rm : Int32) : Prop := ∀ i, i < 32 → bt rm i = true → gr_RA rt (-1) i
def xr_C (rt : Nat → Int32) (k : Nat) (rm : Int32) : Prop := ∀ a y, a < k → y < 10 → bt rm a = true → gr_E rt a y → bt rm y = true
theorem xr_max {nb : Nat} {rm : Int32} (V : gr_V rt nb) (h0 : bt rm 0 = true) (hC : xr_C rt nb rm) {i : Nat} (h : gr_RA rt (-1) i) : bt rm i = true :=
  h (fun y => bt rm y = true) (fun _ => h0) (fun x y hy hx e _ => hC x y (gr_E_lt V hy e).1 hy hx e)
theorem x_findReachable {post : SX → Prop} (B : sc_BL xop ni nb bf be) (hbe : ∀ b, b < nb → xbe b = nI (be b)) (hrt : rt = sc_rt xop xsx xsy xsz nb be) (V : gr_V rt nb)
    (h : ∀ rm, (∀ i, i < 32 → bt rm i = gr_rc rt i) → post ((nI mb), (nI mi), (nI mv), (nI oc), ph, (nI ni), (nI nb), rm, xnc, xcc, xsc, xpc, xop, xsx, xsy, xsz, xbo, xbf, xbe, xin, xee, xdm, xid, xfm, xgm, xkm, xlm, xnb, xnp, xnv, xph, xln, xpa, xrs, xax, xay, xaz, xfo, xsr, xso, xst, xco, xcx, xcy, xcz, xcb, xpd, xps, xss, xtu, xcu, xou, xot, xrg)) : wpX_findReachable post ((nI mb), (nI mi), (nI mv), (nI oc), ph, (nI ni), (nI nb), xrm, xnc, xcc, xsc, xpc, xop, xsx, xsy, xsz, xbo, xbf, xbe, xin, xee, xdm, xid, xfm, xgm, xkm, xlm, xnb, xnp, xnv, xph, xln, xpa, xrs, xax, xay, xaz, xfo, xsr, xso, xst, xco, xcx, xcy, xcz, xcb, xpd, xps, xss, xtu, xcu, xou, xot, xrg) := by
  have h10 := V.2.1
  have hp := V.1
  refine loop_0 (fun n k (rm : Int32) => wX_findReachable_7 post n (nI k) (nI mb) (nI mi) (nI mv) (nI oc) ph (nI ni) (nI nb) rm xnc xcc xsc xpc xop xsx xsy xsz xbo xbf xbe xin xee xdm xid xfm xgm xkm xlm xnb xnp xnv xph xln xpa xrs xax xay xaz xfo xsr xso xst xco xcx xcy xcz xcb xpd xps xss xtu xcu xou xot xrg) (fun k rm => xr_S rt rm ∧ bt rm 0 = true ∧ (xr_C rt nb rm ∨ k + 1 ≤ zk_c (bt rm) nb)) nb 1 ?_ ?_ ?_
  · refine ⟨fun i hi q => ?_, by decide, Or.inr (zk_pos (a := 0) (by decide) (by omega))⟩
    rw [zt_1 i hi, decide_eq_true_iff] at q
    rw [q]; exact gr_RA_0 (by decide)
  · rintro n rm ⟨hS, h0, hC⟩
    refine zc_ex (h rm fun i hi => zb_ext ?_)
    have hC' : xr_C rt nb rm := hC.resolve_right (fun q => by have := zk_le (bt rm) nb; omega)
    rw [gr_rc_t]
    exact ⟨hS i hi, xr_max V h0 hC'⟩
  · rintro n k rm hk ⟨hS, h0, hC⟩ ih
    refine zc_go hk ?_
    refine loop_0 (fun n' b (rm' : Int32) => wX_findReachable_17 post (wX_findReachable_7 post n) (nI k) n' (nI b) (nI mb) (nI mi) (nI mv) (nI oc) ph (nI ni) (nI nb) rm' xnc xcc xsc xpc xop xsx xsy xsz xbo xbf xbe xin xee xdm xid xfm xgm xkm xlm xnb xnp xnv xph xln xpa xrs xax xay xaz xfo xsr xso xst xco xcx xcy xcz xcb xpd xps xss xtu xcu xou xot xrg)
      (fun b rm' => xr_S rt rm' ∧ (∀ i, i < 32 → bt rm i = true → bt rm' i = true) ∧ ((rm' = rm ∧ xr_C rt b rm) ∨ zk_c (bt rm) nb < zk_c (bt rm') nb)) nb rm ?_ ?_ ?_
    · exact ⟨hS, fun _ _ q => q, Or.inl ⟨rfl, fun a y ha => by omega⟩⟩
    · rintro n' rm' ⟨hS', hM, hD⟩
      refine zc_ex (zn_1 (ih rm' ⟨hS', hM 0 (by decide) h0, ?_⟩))
      rcases hD with ⟨e, hc⟩ | hc
      · rw [e]; exact Or.inl hc
      · rcases hC with hC | hC
        · have := zk_mono (f := bt rm') (g := bt rm) (N := nb) (fun i hi q => xr_max V h0 hC (hS' i (by omega) q))
          omega
        · exact Or.inr (by omega)
    · rintro n' b rm' hb ⟨hS', hM, hD⟩ ih'
      refine zc_go hb (x_reachable (by omega) (zc_b (fun q => zn_1 (ih' rm' ⟨hS', hM, ?_⟩)) (fun q => ?_)))
      · rcases hD with ⟨e, hc⟩ | hc
        · refine Or.inl ⟨e, fun a y ha hy qa qe => ?_⟩
          rcases Nat.lt_or_ge a b with w | w
          · exact hc a y w hy qa qe
          · have : a = b := by omega
            rw [this, ← e, q] at qa
            exact absurd qa (by decide)
        · exact Or.inr hc
      · refine x_addTargets B hbe hrt V hb fun rm'' hrm => zn_1 (ih' rm'' ⟨fun i hi w => ?_, fun i hi w => (hrm i hi).mpr (Or.inl (hM i hi w)), ?_⟩)
        · rcases (hrm i hi).mp w with w | w
          · exact hS' i hi w
          · by_cases hi' : i < 10
            · exact gr_RA_s (hS' b (by omega) q) hi' w (zi_neg (by omega))
            · obtain ⟨e, he, hb', hr⟩ := w
              rcases V.2.2 e he with z | ⟨z1, t, t1, t2, t3⟩
              · exact absurd (hr.symm.trans z) (zi_neg (by omega))
              · have := zi_inj (hr.symm.trans t3); omega
        · by_cases hx : ∃ i, i < 32 ∧ bt rm'' i = true ∧ ¬ bt rm' i = true
          · obtain ⟨i, hi, w1, w2⟩ := hx
            have hE := ((hrm i hi).mp w1).resolve_left w2
            have hi' : i < nb := by
              obtain ⟨e, he, hb', hr⟩ := hE
              rcases V.2.2 e he with z | ⟨z1, t, t1, t2, t3⟩
              · exact absurd (hr.symm.trans z) (zi_neg (by omega))
              · have := zi_inj (hr.symm.trans t3); omega
            have := zk_lt (f := bt rm') (g := bt rm'') (N := nb) w2 w1 (fun k hk' z => (hrm k (by omega)).mpr (Or.inl z)) hi'
            rcases hD with ⟨e, _⟩ | hc
            · rw [e] at this; exact Or.inr this
            · exact Or.inr (by omega)
          · have e2 : rm'' = rm' := by
              refine b_ext fun i hi => zb_ext ⟨fun w => ?_, fun w => (hrm i hi).mpr (Or.inl w)⟩
              exact Classical.byContradiction fun w2 => hx ⟨i, hi, w, w2⟩
            rcases hD with ⟨e, hc⟩ | hc
            · refine Or.inl ⟨e2.trans e, fun a y ha hy qa qe => ?_⟩
              rcases Nat.lt_or_ge a b with w | w
              · exact hc a y w hy qa qe
              · have : a = b := by omega
                rw [this] at qe
                rw [← e, ← e2]
                exact (hrm y (by omega)).mpr (Or.inr qe)
            · rw [e2]; exact Or.inr hc
theorem x_findEdges {post : SX → Prop} (B : sc_BL xop ni nb bf be) (hbe : ∀ b, b < nb → xbe b = nI (be b)) (hrt : rt = sc_rt xop xsx xsy xsz nb be) (V : gr_V rt nb)
    (hrm : ∀ i, i < 32 → bt xrm i = gr_rc rt i) (h : ∀ E : Nat → Int32, (∀ e, e < 20 → E e = gr_ee rt e) → post ((nI mb), (nI mi), (nI mv), (nI oc), ph, (nI ni), (nI nb), xrm, xnc, xcc, xsc, xpc, xop, xsx, xsy, xsz, xbo, xbf, xbe, xin, E, xdm, xid, xfm, xgm, xkm, xlm, xnb, xnp, xnv, xph, xln, xpa, xrs, xax, xay, xaz, xfo, xsr, xso, xst, xco, xcx, xcy, xcz, xcb, xpd, xps, xss, xtu, xcu, xou, xot, xrg)) : wpX_findEdges post ((nI mb), (nI mi), (nI mv), (nI oc), ph, (nI ni), (nI nb), xrm, xnc, xcc, xsc, xpc, xop, xsx, xsy, xsz, xbo, xbf, xbe, xin, xee, xdm, xid, xfm, xgm, xkm, xlm, xnb, xnp, xnv, xph, xln, xpa, xrs, xax, xay, xaz, xfo, xsr, xso, xst, xco, xcx, xcy, xcz, xcb, xpd, xps, xss, xtu, xcu, xou, xot, xrg) := by
  have h10 := V.2.1
  refine loop_0 (fun n e (E : Nat → Int32) => wX_findEdges_2 post (nI mb) (nI mi) (nI mv) (nI oc) ph (nI ni) (nI nb) xrm xnc xcc xsc xpc n (nI e) xop xsx xsy xsz xbo xbf xbe xin E xdm xid xfm xgm xkm xlm xnb xnp xnv xph xln xpa xrs xax xay xaz xfo xsr xso xst xco xcx xcy xcz xcb xpd xps xss xtu xcu xou xot xrg) (fun e E => ∀ e', e' < e → E e' = gr_ee rt e') 20 xee (fun e' he' => by omega) ?_ ?_
  · intro n E hI
    exact zc_ex (h E hI)
  · intro n e E he hI ih
    have hnext : ∀ x : Int32, x = gr_ee rt e → ∀ e', e' < e + 1 → upd E e x e' = gr_ee rt e' := by
      intro x hx e' he'
      rcases Nat.lt_or_ge e' e with w | w
      · rw [pk_un (by omega)]; exact hI e' w
      · have : e' = e := by omega
        rw [this, pk_us]; exact hx
    refine zc_go he (nm_r (zi_h (by omega)) (zs_st e (pk_le nb (e / 2) (fun q => zn_1 (ih _ (hnext _ ?_))) (fun q => x_reachable (by omega) (zc_b (fun q' => zn_1 (ih _ (hnext _ ?_))) (fun q' => ?_))))))
    · have : gr_rc rt (e / 2) = false := by
        cases w : gr_rc rt (e / 2)
        · rfl
        · have := gr_rc_lt V w; omega
      rw [gr_ee_f this]
    · rw [hrm _ (by omega)] at q'
      rw [gr_ee_f q']
    · rw [hrm _ (by omega)] at q'
      rw [zi_a (by omega)]
      refine x_targetOf B hbe q (by omega) ?_
      have e1 : 2 * (e / 2) + e % 2 = e := by omega
      rw [e1, ← hrt]
      refine zs_st e (zn_1 (ih _ ?_))
      have e2 : upd (upd E e (-1)) e (rt e) = upd E e (rt e) := by
        funext j
        by_cases w : j = e
        · rw [w, pk_us, pk_us]
        · rw [pk_un w, pk_un w, pk_un w]
      rw [e2]
      exact hnext _ (gr_ee_t q').symm
end
end
section
/-! ===== the component finds the dominators ===== -/
theorem gr_dm_pred {rt : Nat → Int32} {nb a b p : Nat} (V : gr_V rt nb) (h : gr_dm rt a b = true) (hn : a ≠ b) (hp : gr_rc rt p = true) (e : gr_E rt p b) : gr_dm rt a p = true := by
  obtain ⟨a1, b1, n1⟩ := gr_dm_t.mp h
  have ha := gr_RA_lt V a1
  have hb := gr_RA_lt V b1
  have h10 := V.2.1
  exact gr_dm_t.mpr ⟨a1, gr_rc_t.mp hp, fun r => n1 (gr_RA_s r (by omega) e (fun w => hn (zi_inj w).symm))⟩
def xd_F (rt : Nat → Int32) (D : Nat → Int32) (b a : Nat) : Prop := a = b ∨ (gr_RA rt (-1) a ∧ ∀ e, e < 20 → gr_ee rt e = nI b → bt (D (e / 2)) a = true)
def xd_I (rt : Nat → Int32) (D : Nat → Int32) : Prop :=
  (∀ b, b < 10 → ∀ a, a < 32 → bt (D b) a = true → gr_RA rt (-1) a ∧ gr_RA rt (-1) b) ∧ (∀ a b, gr_dm rt a b = true → bt (D b) a = true) ∧ D 0 = 1 ∧
  (∀ b, 1 ≤ b → b < 10 → gr_rc rt b = true → ∀ a, a < 32 → xd_F rt D b a → bt (D b) a = true)
def xd_X (rt : Nat → Int32) (D : Nat → Int32) (b : Nat) : Prop := ∀ a, a < 32 → bt (D b) a = true → xd_F rt D b a
def xd_M (D : Nat → Int32) : Nat := zk_c (fun j => bt (D (j / 10)) (j % 10)) 100
theorem xd_upd {rt : Nat → Int32} {nb : Nat} {D : Nat → Int32} {b : Nat} {m : Int32} (V : gr_V rt nb) (hI : xd_I rt D) (h1 : 1 ≤ b) (hb : b < 10) (hr : gr_rc rt b = true) (hm : ∀ a, a < 32 → (bt m a = true ↔ xd_F rt D b a)) :
    xd_I rt (upd D b m) ∧ (m = D b ∨ xd_M (upd D b m) < xd_M D) := by
  obtain ⟨i1, i2, i3, i4⟩ := hI
  have h10 := V.2.1
  have hsub : ∀ a, a < 32 → bt m a = true → bt (D b) a = true := fun a ha q => i4 b h1 hb hr a ha ((hm a ha).mp q)
  have hle : ∀ p a, a < 32 → bt (upd D b m p) a = true → bt (D p) a = true := by
    intro p a ha q
    by_cases w : p = b
    · rw [w, pk_us] at q; rw [w]; exact hsub a ha q
    · rw [pk_un w] at q; exact q
  have hF : ∀ b' a, a < 32 → xd_F rt (upd D b m) b' a → xd_F rt D b' a := by
    intro b' a ha q
    rcases q with q | ⟨q1, q2⟩
    · exact Or.inl q
    · exact Or.inr ⟨q1, fun e he w => hle _ a ha (q2 e he w)⟩
  refine ⟨⟨?_, ?_, ?_, ?_⟩, ?_⟩
  · intro b' hb' a ha q
    exact i1 b' hb' a ha (hle b' a ha q)
  · intro a b' q
    by_cases w : b' = b
    · rw [w, pk_us]
      rw [w] at q
      have hal := (gr_dm_lt V q).1
      refine (hm a (by omega)).mpr ?_
      by_cases z : a = b
      · exact Or.inl z
      · refine Or.inr ⟨(gr_dm_t.mp q).1, fun e he hee => ?_⟩
        rcases gr_ee_or V he with z' | ⟨z1, z2, t, t1, t2, t3, t4, t5, t6⟩
        · exact absurd (hee.symm.trans z') (zi_neg (by omega))
        · have : b = t := zi_inj (hee.symm.trans t3)
          subst this
          exact i2 a _ (gr_dm_pred V q z z1 t6)
    · rw [pk_un w]; exact i2 a b' q
  · rw [pk_un (by omega)]; exact i3
  · intro b' h1' hb' hr' a ha q
    have q' := hF b' a ha q
    by_cases w : b' = b
    · rw [w, pk_us]; rw [w] at q'; exact (hm a ha).mpr q'
    · rw [pk_un w]; exact i4 b' h1' hb' hr' a ha q'
  · by_cases hx : ∃ a, a < 32 ∧ bt (D b) a = true ∧ ¬ bt m a = true
    · obtain ⟨a, ha, q1, q2⟩ := hx
      have ha' := gr_RA_lt V (i1 b hb a ha q1).1
      right
      have e1 : (b * 10 + a) / 10 = b := by omega
      have e2 : (b * 10 + a) % 10 = a := by omega
      refine zk_lt (a := b * 10 + a) ?_ ?_ (fun k _ q => hle _ _ (by omega) q) (by omega)
      · show ¬ bt (upd D b m ((b * 10 + a) / 10)) ((b * 10 + a) % 10) = true
        rw [e1, e2, pk_us]; exact q2
      · show bt (D ((b * 10 + a) / 10)) ((b * 10 + a) % 10) = true
        rw [e1, e2]; exact q1
    · left
      refine b_ext fun a ha => zb_ext ⟨hsub a ha, fun q => ?_⟩
      exact Classical.byContradiction fun w => hx ⟨a, ha, q, w⟩
theorem xd_fin {rt : Nat → Int32} {nb : Nat} {D : Nat → Int32} (V : gr_V rt nb) (hI : xd_I rt D) (hX : ∀ b, 1 ≤ b → b < nb → gr_rc rt b = true → xd_X rt D b) : ∀ b, b < 10 → ∀ a, a < 32 → bt (D b) a = gr_dm rt a b := by
  obtain ⟨i1, i2, i3, i4⟩ := hI
  have h10 := V.2.1
  intro b hb a ha
  refine zb_ext ⟨fun q => ?_, i2 a b⟩
  obtain ⟨r1, r2⟩ := i1 b hb a ha q
  have hal := gr_RA_lt V r1
  refine gr_dm_t.mpr ⟨r1, r2, fun r => ?_⟩
  have key : gr_RA rt (-1) b ∧ ¬ bt (D b) a = true := by
    refine r (fun y => gr_RA rt (-1) y ∧ ¬ bt (D y) a = true) (fun hz => ⟨gr_RA_0 (by decide), ?_⟩) ?_
    · rw [i3, zt_1 a ha]
      intro w
      rw [decide_eq_true_iff] at w
      exact hz (by rw [w]; rfl)
    · intro x y hy hS e hn
      obtain ⟨s1, s2⟩ := hS
      have hl := gr_E_lt V hy e
      have ry := gr_RA_s s1 hy e (zi_neg (by omega))
      refine ⟨ry, fun w => ?_⟩
      rcases hX y hl.2.1 hl.2.2 (gr_rc_t.mpr ry) a ha w with z | ⟨_, z⟩
      · exact hn (by rw [z])
      · obtain ⟨e', he', hx', hr'⟩ := e
        have := z e' he' (by rw [gr_ee_t (by rw [hx']; exact gr_rc_t.mpr s1)]; exact hr')
        rw [hx'] at this
        exact s2 this
  exact key.2 q
section
variable {mb mi mv oc ni nb : Nat} {ph xrm xnc xcc xsc xpc : Int32} {xop xsx xsy xsz xbo xbf xbe xin xee xdm xid xfm xgm xkm xlm xnb xnp xnv xph xln xpa xrs xax xay xaz xfo xsr xso xst xco xcx xcy xcz xcb xpd xps xss xtu xcu xou xot xrg : Nat → Int32} {bf be : Nat → Nat} {rt : Nat → Int32}
theorem x_meetOfStarts {post : Int32 → Prop} {b : Nat}
    (h : ∀ m, (∀ a, a < 32 → (bt m a = true ↔ bt xrm a = true ∧ ∀ e, e < 20 → xee e = nI b → bt (xdm (e / 2)) a = true)) → post m) : wpX_meetOfStarts post ((nI mb), (nI mi), (nI mv), (nI oc), ph, (nI ni), (nI nb), xrm, xnc, xcc, xsc, xpc, xop, xsx, xsy, xsz, xbo, xbf, xbe, xin, xee, xdm, xid, xfm, xgm, xkm, xlm, xnb, xnp, xnv, xph, xln, xpa, xrs, xax, xay, xaz, xfo, xsr, xso, xst, xco, xcx, xcy, xcz, xcb, xpd, xps, xss, xtu, xcu, xou, xot, xrg) (nI b) := by
  refine loop_0 (fun n e (m : Int32) => wX_meetOfStarts_7 post (nI b) (nI mb) (nI mi) (nI mv) (nI oc) ph (nI ni) (nI nb) xrm xnc xcc xsc xpc xop xsx xsy xsz xbo xbf xbe xin xee xdm xid xfm xgm xkm xlm xnb xnp xnv xph xln xpa xrs xax xay xaz xfo xsr xso xst xco xcx xcy xcz xcb xpd xps xss xtu xcu xou xot xrg n m (nI e)) (fun e m => ∀ a, a < 32 → (bt m a = true ↔ bt xrm a = true ∧ ∀ e', e' < e → xee e' = nI b → bt (xdm (e' / 2)) a = true)) 20 xrm ?_ ?_ ?_
  · intro a ha
    exact ⟨fun q => ⟨q, fun e' he' => by omega⟩, fun q => q.1⟩
  · intro n m hI
    exact zc_ex (h m hI)
  · intro n e m he hI ih
    refine zc_go he ⟨pk_in e 20 he, zc_eq e (fun q => ⟨pk_in (e / 2) 10 (by omega) (zi_h (by omega)), nm_r (congrArg (m &&& ·) (zb_ra (e / 2) (zi_h (by omega)))) (zn_1 (ih _ ?_))⟩) (fun q => zn_1 (ih _ ?_))⟩
    · intro a ha
      rw [b_and, Bool.and_eq_true, hI a ha]
      constructor
      · rintro ⟨⟨q1, q2⟩, q3⟩
        refine ⟨q1, fun e' he' w => ?_⟩
        rcases Nat.lt_or_ge e' e with z | z
        · exact q2 e' z w
        · have : e' = e := by omega
          rw [this]; exact q3
      · rintro ⟨q1, q2⟩
        exact ⟨⟨q1, fun e' he' w => q2 e' (by omega) w⟩, q2 e (by omega) q⟩
    · intro a ha
      rw [hI a ha]
      constructor
      · rintro ⟨q1, q2⟩
        refine ⟨q1, fun e' he' w => ?_⟩
        rcases Nat.lt_or_ge e' e with z | z
        · exact q2 e' z w
        · have : e' = e := by omega
          rw [this] at w; exact absurd w q
      · rintro ⟨q1, q2⟩
        exact ⟨q1, fun e' he' w => q2 e' (by omega) w⟩
theorem x_findIdom {post : SX → Prop} (V : gr_V rt nb) (hD : ∀ b, b < 10 → ∀ a, a < 32 → bt (xdm b) a = gr_dm rt a b) {b : Nat} (hb : b < nb) (hid : xid b = -1)
    (h : ∀ I : Nat → Int32, I b = zl_s (gr_ic rt b) 10 → (∀ j, j ≠ b → I j = xid j) → post ((nI mb), (nI mi), (nI mv), (nI oc), ph, (nI ni), (nI nb), xrm, xnc, xcc, xsc, xpc, xop, xsx, xsy, xsz, xbo, xbf, xbe, xin, xee, xdm, I, xfm, xgm, xkm, xlm, xnb, xnp, xnv, xph, xln, xpa, xrs, xax, xay, xaz, xfo, xsr, xso, xst, xco, xcx, xcy, xcz, xcb, xpd, xps, xss, xtu, xcu, xou, xot, xrg)) : wpX_findIdom post ((nI mb), (nI mi), (nI mv), (nI oc), ph, (nI ni), (nI nb), xrm, xnc, xcc, xsc, xpc, xop, xsx, xsy, xsz, xbo, xbf, xbe, xin, xee, xdm, xid, xfm, xgm, xkm, xlm, xnb, xnp, xnv, xph, xln, xpa, xrs, xax, xay, xaz, xfo, xsr, xso, xst, xco, xcx, xcy, xcz, xcb, xpd, xps, xss, xtu, xcu, xou, xot, xrg) (nI b) := by
  have h10 := V.2.1
  refine ⟨pk_in b 10 (by omega), nm_r (congrArg (· &&& _) (zb_ra b)) ?_⟩
  refine loop_0 (fun n a (I : Nat → Int32) => wX_findIdom_15 post (nI b) (xdm b &&& (((1 : Int32) <<< (nI b &&& 31)) ^^^ (-1))) (nI mb) (nI mi) (nI mv) (nI oc) ph (nI ni) (nI nb) xrm xnc xcc xsc xpc n (nI a) xop xsx xsy xsz xbo xbf xbe xin xee xdm I xfm xgm xkm xlm xnb xnp xnv xph xln xpa xrs xax xay xaz xfo xsr xso xst xco xcx xcy xcz xcb xpd xps xss xtu xcu xou xot xrg) (fun a I => I b = zl_s (gr_ic rt b) a ∧ ∀ j, j ≠ b → I j = xid j) nb xid ⟨hid, fun _ _ => rfl⟩ ?_ ?_
  · rintro n I ⟨h1, h2⟩
    refine zc_ex (h I ?_ h2)
    rw [h1]
    have := zl_ext (P := gr_ic rt b) (k := nb) (d := 10 - nb) (fun i hi _ q => by have := (gr_dm_lt V q.2.1).1; omega)
    have e : nb + (10 - nb) = 10 := by omega
    rw [e] at this; exact this.symm
  · rintro n a I ha ⟨h1, h2⟩ ih
    have hx := gr_ic_x V hD (b := b) (a := a) (by omega) (by omega)
    refine zc_go ha (x_hasBit (by omega) (zc_b (fun q => zn_1 (ih I ⟨?_, h2⟩)) (fun q => ⟨pk_in a 10 (by omega), zc_eq a (fun q' => ?_) (fun q' => zn_1 (ih I ⟨?_, h2⟩))⟩)))
    · rw [h1, zl_f]
      intro w
      rw [(hx.mpr w).1] at q; exact absurd q (by decide)
    · refine zs_st b (zn_1 (ih _ ⟨?_, fun j hj => ?_⟩)) (by omega)
      · rw [pk_us, zl_t (hx.mp ⟨q, q'⟩)]
      · rw [pk_un hj]; exact h2 j hj
    · rw [h1, zl_f]
      intro w
      exact q' (hx.mpr w).2
theorem x_dom_rest {post : SX → Prop} (V : gr_V rt nb) (hrm : ∀ i, i < 32 → bt xrm i = gr_rc rt i) (hD : ∀ b, b < 10 → ∀ a, a < 32 → bt (xdm b) a = gr_dm rt a b)
    (h : ∀ I : Nat → Int32, (∀ b, b < 10 → I b = gr_id rt b) → post ((nI mb), (nI mi), (nI mv), (nI oc), ph, (nI ni), (nI nb), xrm, xnc, xcc, xsc, xpc, xop, xsx, xsy, xsz, xbo, xbf, xbe, xin, xee, xdm, I, xfm, xgm, xkm, xlm, xnb, xnp, xnv, xph, xln, xpa, xrs, xax, xay, xaz, xfo, xsr, xso, xst, xco, xcx, xcy, xcz, xcb, xpd, xps, xss, xtu, xcu, xou, xot, xrg)) : ∃ n : Nat, wX_findDominators_123 post (nI mb) (nI mi) (nI mv) (nI oc) ph (nI ni) (nI nb) xrm xnc xcc xsc xpc n 0 xop xsx xsy xsz xbo xbf xbe xin xee xdm xid xfm xgm xkm xlm xnb xnp xnv xph xln xpa xrs xax xay xaz xfo xsr xso xst xco xcx xcy xcz xcb xpd xps xss xtu xcu xou xot xrg := by
  have h10 := V.2.1
  refine loop_0 (fun n b (I : Nat → Int32) => wX_findDominators_123 post (nI mb) (nI mi) (nI mv) (nI oc) ph (nI ni) (nI nb) xrm xnc xcc xsc xpc n (nI b) xop xsx xsy xsz xbo xbf xbe xin xee xdm I xfm xgm xkm xlm xnb xnp xnv xph xln xpa xrs xax xay xaz xfo xsr xso xst xco xcx xcy xcz xcb xpd xps xss xtu xcu xou xot xrg) (fun b I => ∀ j, j < b → I j = -1) 10 xid (fun j hj => by omega) ?_ ?_
  · intro n I hI
    refine zc_ex ?_
    refine pk_loop (fun n b (I : Nat → Int32) => wX_findDominators_144 post n (nI b) (nI mb) (nI mi) (nI mv) (nI oc) ph (nI ni) (nI nb) xrm xnc xcc xsc xpc xop xsx xsy xsz xbo xbf xbe xin xee xdm I xfm xgm xkm xlm xnb xnp xnv xph xln xpa xrs xax xay xaz xfo xsr xso xst xco xcx xcy xcz xcb xpd xps xss xtu xcu xou xot xrg) (fun b I => 1 ≤ b ∧ ∀ j, j < 10 → I j = if j < b then gr_id rt j else -1) nb 1 I V.1 ⟨by omega, fun j hj => ?_⟩ ?_ ?_
    · rw [hI j hj]
      by_cases w : j < 1
      · have : j = 0 := by omega
        rw [if_pos w, this, gr_id_f (fun q => q.1 rfl)]
      · rw [if_neg w]
    · rintro n I ⟨_, hI⟩
      refine zc_ex (h I fun b hb => ?_)
      rw [hI b hb]
      by_cases w : b < nb
      · rw [if_pos w]
      · rw [if_neg w, gr_id_f (fun q => w (gr_rc_lt V q.2))]
    · rintro n b I hb ⟨hb0, hI⟩ ih
      refine zc_go hb (x_reachable (by omega) (zc_b (fun q => zn_1 (ih I ⟨by omega, fun j hj => ?_⟩)) (fun q => ?_)))
      · rw [hrm b (by omega)] at q
        rw [hI j hj]
        rcases Nat.lt_or_ge j b with w | w
        · rw [if_pos w, if_pos (by omega)]
        · rw [if_neg (by omega)]
          by_cases z : j = b
          · rw [if_pos (by omega), z, gr_id_f (fun w => by rw [q] at w; exact absurd w.2 (by decide))]
          · rw [if_neg (by omega)]
      · rw [hrm b (by omega)] at q
        refine x_findIdom V hD hb (by rw [hI b (by omega), if_neg (by omega)]) fun I' h1 h2 => zn_1 (ih I' ⟨by omega, fun j hj => ?_⟩)
        by_cases w : j = b
        · rw [w, if_pos (by omega), h1, gr_id_t (by omega) q]
        · rw [h2 j w, hI j hj]
          rcases Nat.lt_or_ge j b with z | z
          · rw [if_pos z, if_pos (by omega)]
          · rw [if_neg (by omega), if_neg (by omega)]
  · intro n b I hb hI ih
    refine zc_go hb (zs_st b (zn_1 (ih _ fun j hj => ?_)))
    by_cases w : j = b
    · rw [w, pk_us]
    · rw [pk_un w]; exact hI j (by omega)
theorem x_findDominators {post : SX → Prop} (V : gr_V rt nb) (hrm : ∀ i, i < 32 → bt xrm i = gr_rc rt i) (hee : ∀ e, e < 20 → xee e = gr_ee rt e)
    (h : ∀ D I : Nat → Int32, (∀ b, b < 10 → ∀ a, a < 32 → bt (D b) a = gr_dm rt a b) → (∀ b, b < 10 → I b = gr_id rt b) → post ((nI mb), (nI mi), (nI mv), (nI oc), ph, (nI ni), (nI nb), xrm, xnc, xcc, xsc, xpc, xop, xsx, xsy, xsz, xbo, xbf, xbe, xin, xee, D, I, xfm, xgm, xkm, xlm, xnb, xnp, xnv, xph, xln, xpa, xrs, xax, xay, xaz, xfo, xsr, xso, xst, xco, xcx, xcy, xcz, xcb, xpd, xps, xss, xtu, xcu, xou, xot, xrg)) : wpX_findDominators post ((nI mb), (nI mi), (nI mv), (nI oc), ph, (nI ni), (nI nb), xrm, xnc, xcc, xsc, xpc, xop, xsx, xsy, xsz, xbo, xbf, xbe, xin, xee, xdm, xid, xfm, xgm, xkm, xlm, xnb, xnp, xnv, xph, xln, xpa, xrs, xax, xay, xaz, xfo, xsr, xso, xst, xco, xcx, xcy, xcz, xcb, xpd, xps, xss, xtu, xcu, xou, xot, xrg) := by
  have h10 := V.2.1
  refine loop_0 (fun n b (D : Nat → Int32) => wX_findDominators_2 post (nI mb) (nI mi) (nI mv) (nI oc) ph (nI ni) (nI nb) xrm xnc xcc xsc xpc n (nI b) xop xsx xsy xsz xbo xbf xbe xin xee D xid xfm xgm xkm xlm xnb xnp xnv xph xln xpa xrs xax xay xaz xfo xsr xso xst xco xcx xcy xcz xcb xpd xps xss xtu xcu xou xot xrg) (fun b D => ∀ j, j < b → D j = if gr_rc rt j = true then xrm else 0) 10 xdm (fun j hj => by omega) ?_ ?_
  · intro n D0 hD0
    have hI0 : xd_I rt (upd D0 0 1) := by
      refine ⟨fun b hb a ha q => ?_, fun a b q => ?_, pk_us, fun b h1 hb hr a ha q => ?_⟩
      · by_cases w : b = 0
        · rw [w, pk_us, zt_1 a ha, decide_eq_true_iff] at q
          rw [w, q]; exact ⟨gr_RA_0 (by decide), gr_RA_0 (by decide)⟩
        · rw [pk_un w, hD0 b hb] at q
          by_cases z : gr_rc rt b = true
          · rw [if_pos z, hrm a ha] at q
            exact ⟨gr_rc_t.mp q, gr_rc_t.mp z⟩
          · rw [if_neg z, b_0] at q; exact absurd q (by decide)
      · have hl := gr_dm_lt V q
        by_cases w : b = 0
        · rw [w] at q
          rw [w, pk_us, gr_dm_0 V q]; decide
        · rw [pk_un w, hD0 b (by omega), if_pos (gr_dm_rc q).2, hrm a (by omega)]
          exact (gr_dm_rc q).1
      · rw [pk_un (by omega), hD0 b hb, if_pos hr, hrm a ha]
        rcases q with q | q
        · rw [q]; exact hr
        · exact gr_rc_t.mpr q.1
    refine zc_ex (nm_e ?_)
    have hdone : ∀ D, xd_I rt D → (∀ b, 1 ≤ b → b < nb → gr_rc rt b = true → xd_X rt D b) → ∃ n : Nat, wX_findDominators_123 post (nI mb) (nI mi) (nI mv) (nI oc) ph (nI ni) (nI nb) xrm xnc xcc xsc xpc n 0 xop xsx xsy xsz xbo xbf xbe xin xee D xid xfm xgm xkm xlm xnb xnp xnv xph xln xpa xrs xax xay xaz xfo xsr xso xst xco xcx xcy xcz xcb xpd xps xss xtu xcu xou xot xrg := fun D q1 q2 =>
      x_dom_rest (xdm := D) V hrm (xd_fin V q1 q2) (fun I hI => h D I (xd_fin V q1 q2) hI)
    refine loop_0 (fun n k (s : Int32 × (Nat → Int32)) => wX_findDominators_47 post (nI mb) (nI mi) (nI mv) (nI oc) ph (nI ni) (nI nb) xrm xnc xcc xsc xpc n s.1 (nI k) xop xsx xsy xsz xbo xbf xbe xin xee s.2 xid xfm xgm xkm xlm xnb xnp xnv xph xln xpa xrs xax xay xaz xfo xsr xso xst xco xcx xcy xcz xcb xpd xps xss xtu xcu xou xot xrg)
      (fun k s => xd_I rt s.2 ∧ ((s.1 = 0 ∧ ∀ b, 1 ≤ b → b < nb → gr_rc rt b = true → xd_X rt s.2 b) ∨ (s.1 = 1 ∧ xd_M s.2 + k ≤ 100))) 101 (1, upd D0 0 1) ⟨hI0, Or.inr ⟨rfl, zk_le _ _⟩⟩ ?_ ?_
    · rintro n ⟨f, D⟩ ⟨q1, q2⟩
      refine br_t (nI_lt (a := 100) (b := 101) (by decide) (by decide)) ?_
      rcases q2 with q2 | q2
      · exact hdone D q1 q2.2
      · have := q2.2; omega
    · rintro n k ⟨f, D⟩ hk ⟨q1, q2⟩ ih
      refine br_f (nI_nlt (a := 100) (by omega) (by decide)) ?_
      rcases q2 with ⟨qf, q2⟩ | ⟨qf, q2⟩
      · exact br_t qf (hdone D q1 q2)
      · have qf' : ¬ f = 0 := fun w => absurd (qf.symm.trans w) (by decide)
        refine br_f qf' ?_
        refine pk_loop (fun n' b (s : Int32 × (Nat → Int32)) => wX_findDominators_61 post (wX_findDominators_47 post (nI mb) (nI mi) (nI mv) (nI oc) ph (nI ni) (nI nb) xrm xnc xcc xsc xpc n) (nI k) (nI mb) (nI mi) (nI mv) (nI oc) ph (nI ni) (nI nb) xrm xnc xcc xsc xpc n' s.1 (nI b) xop xsx xsy xsz xbo xbf xbe xin xee s.2 xid xfm xgm xkm xlm xnb xnp xnv xph xln xpa xrs xax xay xaz xfo xsr xso xst xco xcx xcy xcz xcb xpd xps xss xtu xcu xou xot xrg)
          (fun b s => 1 ≤ b ∧ xd_I rt s.2 ∧ ((s.1 = 0 ∧ s.2 = D ∧ ∀ b', 1 ≤ b' → b' < b → gr_rc rt b' = true → xd_X rt D b') ∨ (s.1 = 1 ∧ xd_M s.2 < xd_M D))) nb 1 (0, D) V.1 ⟨by omega, q1, Or.inl ⟨rfl, rfl, fun b' h1 h2 => by omega⟩⟩ ?_ ?_
        · rintro n' ⟨f', D'⟩ ⟨_, p1, p2⟩
          refine zc_ex (zn_1 (ih (f', D') ⟨p1, ?_⟩))
          rcases p2 with ⟨pf, pe, p2⟩ | ⟨pf, p2⟩
          · refine Or.inl ⟨pf, ?_⟩
            have pe' : D' = D := pe
            rw [pe']; exact p2
          · refine Or.inr ⟨pf, ?_⟩
            have p2' : xd_M D' < xd_M D := p2
            show xd_M D' + (k + 1) ≤ 100
            have q2' : xd_M D + k ≤ 100 := q2
            omega
        · rintro n' b ⟨f', D'⟩ hb ⟨hb1, p1, p2⟩ ih'
          refine zc_go hb (x_reachable (by omega) (zc_b (fun q => zn_1 (ih' (f', D') ⟨by omega, p1, ?_⟩)) (fun q => ?_)))
          · rcases p2 with ⟨pf, pe, p2⟩ | p2
            · refine Or.inl ⟨pf, pe, fun b' h1 h2 h3 => ?_⟩
              rcases Nat.lt_or_ge b' b with w | w
              · exact p2 b' h1 w h3
              · have : b' = b := by omega
                rw [hrm b (by omega)] at q
                rw [this, q] at h3
                exact absurd h3 (by decide)
            · exact Or.inr p2
          · rw [hrm b (by omega)] at q
            refine x_meetOfStarts fun m hm => nm_e ⟨pk_in b 10 (by omega), ?_⟩
            have hm' : ∀ a, a < 32 → (bt (m ||| ((1 : Int32) <<< (nI b &&& 31))) a = true ↔ xd_F rt D' b a) := by
              intro a ha
              rw [zt_set _ (by omega) ha, hm a ha, hrm a ha, gr_rc_t]
              unfold xd_F
              constructor
              · rintro (⟨w1, w2⟩ | w)
                · exact Or.inr ⟨w1, fun e he z => w2 e he ((hee e he).trans z)⟩
                · exact Or.inl w
              · rintro (w | ⟨w1, w2⟩)
                · exact Or.inr w
                · exact Or.inl ⟨w1, fun e he z => w2 e he ((hee e he).symm.trans z)⟩
            dsimp only
            rw [zb_ra (a := D') b]
            refine ⟨fun w => zn_1 (ih' (f', D') ⟨by omega, p1, ?_⟩), fun w => ?_⟩
            · rcases p2 with ⟨pf, pe, p2⟩ | p2
              · refine Or.inl ⟨pf, pe, fun b' h1 h2 h3 => ?_⟩
                rcases Nat.lt_or_ge b' b with z | z
                · exact p2 b' h1 z h3
                · have : b' = b := by omega
                  subst this
                  have pe' : D' = D := pe
                  rw [pe'] at hm' w
                  intro a ha z
                  rw [← w] at z
                  exact (hm' a ha).mp z
              · exact Or.inr p2
            · obtain ⟨u1, u2⟩ := xd_upd V p1 (by omega) (by omega) q hm'
              refine zs_st b (zn_1 (ih' (1, upd D' b _) ⟨by omega, u1, Or.inr ⟨rfl, ?_⟩⟩)) (by omega)
              have u3 : xd_M (upd D' b (m ||| ((1 : Int32) <<< (nI b &&& 31)))) < xd_M D' := u2.resolve_left w
              show xd_M (upd D' b (m ||| ((1 : Int32) <<< (nI b &&& 31)))) < xd_M D
              rcases p2 with ⟨pf, pe, p2⟩ | ⟨pf, p2⟩
              · have pe' : D' = D := pe
                rw [pe'] at u3 ⊢; exact u3
              · have p2' : xd_M D' < xd_M D := p2
                omega
  · intro n b D hb hI ih
    have hnext : ∀ x : Int32, x = (if gr_rc rt b = true then xrm else 0) → ∀ j, j < b + 1 → upd D b x j = if gr_rc rt j = true then xrm else 0 := by
      intro x hx j hj
      by_cases w : j = b
      · rw [w, pk_us]; exact hx
      · rw [pk_un w]; exact hI j (by omega)
    refine zc_go hb (x_reachable (by omega) (zc_b (fun q => zs_st b (zn_1 (ih _ (hnext _ ?_)))) (fun q => zs_st b (zn_1 (ih _ (hnext _ ?_))))))
    · rw [hrm b (by omega)] at q; rw [q]; rfl
    · rw [hrm b (by omega)] at q; rw [q]; rfl
end
end
section
/-! ===== the component finds the frontiers ===== -/
section
variable {mb mi mv oc ni nb : Nat} {ph xrm xnc xcc xsc xpc : Int32} {xop xsx xsy xsz xbo xbf xbe xin xee xdm xid xfm xgm xkm xlm xnb xnp xnv xph xln xpa xrs xax xay xaz xfo xsr xso xst xco xcx xcy xcz xcb xpd xps xss xtu xcu xou xot xrg : Nat → Int32} {rt : Nat → Int32}
def xf_P (rt : Nat → Int32) (a e : Nat) (F : Nat → Int32) : Prop := ∀ a', a' < 10 → ∀ b, b < 32 → (bt (F a') b = true ↔ (a' < a ∧ ∃ e', e' < 20 ∧ gr_fp rt a' b e') ∨ (a' = a ∧ ∃ e', e' < e ∧ gr_fp rt a' b e'))
theorem xf_no {a e : Nat} {F : Nat → Int32} (hI : xf_P rt a e F) (h : ∀ b, b < 32 → ¬ gr_fp rt a b e) : xf_P rt a (e + 1) F := by
  intro a' ha' b hb
  rw [hI a' ha' b hb]
  refine or_congr_right ⟨fun ⟨q, e', he', w⟩ => ⟨q, e', by omega, w⟩, fun ⟨q, e', he', w⟩ => ⟨q, e', ?_, w⟩⟩
  rcases Nat.lt_or_ge e' e with z | z
  · exact z
  · have : e' = e := by omega
    rw [this, q] at w; exact absurd w (h b hb)
theorem xf_yes {a e t : Nat} {F : Nat → Int32} (hI : xf_P rt a e F) (ht : t < 10) (he : gr_ee rt e = nI t) (h : gr_fp rt a t e) : xf_P rt a (e + 1) (upd F a (F a ||| ((1 : Int32) <<< (nI t &&& 31)))) := by
  intro a' ha' b hb
  by_cases w : a' = a
  · subst w
    rw [pk_us, zt_set _ (by omega) hb, hI a' ha' b hb]
    constructor
    · rintro ((q | ⟨q, e', he', z⟩) | q)
      · exact Or.inl q
      · exact Or.inr ⟨q, e', by omega, z⟩
      · rw [q]; exact Or.inr ⟨rfl, e, by omega, h⟩
    · rintro (q | ⟨q, e', he', z⟩)
      · exact Or.inl (Or.inl q)
      · rcases Nat.lt_or_ge e' e with y | y
        · exact Or.inl (Or.inr ⟨q, e', y, z⟩)
        · have : e' = e := by omega
          rw [this] at z
          exact Or.inr (zi_inj (z.1.symm.trans he))
  · rw [pk_un w, hI a' ha' b hb]
    refine or_congr_right ⟨fun q => absurd q.1 w, fun q => absurd q.1 w⟩
theorem x_findFrontiers {post : SX → Prop} (V : gr_V rt nb) (hee : ∀ e, e < 20 → xee e = gr_ee rt e) (hD : ∀ b, b < 10 → ∀ a, a < 32 → bt (xdm b) a = gr_dm rt a b)
    (h : ∀ F : Nat → Int32, (∀ a, a < 10 → ∀ b, b < 32 → bt (F a) b = gr_fr rt a b) → post ((nI mb), (nI mi), (nI mv), (nI oc), ph, (nI ni), (nI nb), xrm, xnc, xcc, xsc, xpc, xop, xsx, xsy, xsz, xbo, xbf, xbe, xin, xee, xdm, xid, F, xgm, xkm, xlm, xnb, xnp, xnv, xph, xln, xpa, xrs, xax, xay, xaz, xfo, xsr, xso, xst, xco, xcx, xcy, xcz, xcb, xpd, xps, xss, xtu, xcu, xou, xot, xrg)) : wpX_findFrontiers post ((nI mb), (nI mi), (nI mv), (nI oc), ph, (nI ni), (nI nb), xrm, xnc, xcc, xsc, xpc, xop, xsx, xsy, xsz, xbo, xbf, xbe, xin, xee, xdm, xid, xfm, xgm, xkm, xlm, xnb, xnp, xnv, xph, xln, xpa, xrs, xax, xay, xaz, xfo, xsr, xso, xst, xco, xcx, xcy, xcz, xcb, xpd, xps, xss, xtu, xcu, xou, xot, xrg) := by
  have h10 := V.2.1
  refine loop_0 (fun n a (F : Nat → Int32) => wX_findFrontiers_2 post (nI mb) (nI mi) (nI mv) (nI oc) ph (nI ni) (nI nb) xrm xnc xcc xsc xpc n (nI a) xop xsx xsy xsz xbo xbf xbe xin xee xdm xid F xgm xkm xlm xnb xnp xnv xph xln xpa xrs xax xay xaz xfo xsr xso xst xco xcx xcy xcz xcb xpd xps xss xtu xcu xou xot xrg) (fun a F => ∀ j, j < a → F j = 0) 10 xfm (fun j hj => by omega) ?_ ?_
  · intro n F hF
    refine zc_ex ?_
    refine loop_0 (fun n a (F : Nat → Int32) => wX_findFrontiers_23 post (nI mb) (nI mi) (nI mv) (nI oc) ph (nI ni) (nI nb) xrm xnc xcc xsc xpc n (nI a) xop xsx xsy xsz xbo xbf xbe xin xee xdm xid F xgm xkm xlm xnb xnp xnv xph xln xpa xrs xax xay xaz xfo xsr xso xst xco xcx xcy xcz xcb xpd xps xss xtu xcu xou xot xrg) (fun a F => xf_P rt a 0 F) nb F ?_ ?_ ?_
    · intro a' ha' b hb
      rw [hF a' ha', b_0]
      refine ⟨fun q => absurd q (by decide), ?_⟩
      rintro (⟨q, _⟩ | ⟨_, e', he', _⟩) <;> omega
    · intro n F hI
      refine zc_ex (h F fun a ha b hb => zb_bd ?_)
      rw [hI a ha b hb]
      constructor
      · rintro (⟨_, q⟩ | ⟨_, e', he', _⟩)
        · exact q
        · omega
      · rintro ⟨e', he', q⟩
        exact Or.inl ⟨(gr_dm_lt V q.2.1).1, e', he', q⟩
    · intro n a F ha hI ih
      refine zc_go ha ?_
      refine loop_0 (fun n' e (F : Nat → Int32) => wX_findFrontiers_33 post (wX_findFrontiers_23 post (nI mb) (nI mi) (nI mv) (nI oc) ph (nI ni) (nI nb) xrm xnc xcc xsc xpc n) (nI a) (nI mb) (nI mi) (nI mv) (nI oc) ph (nI ni) (nI nb) xrm xnc xcc xsc xpc n' (nI e) xop xsx xsy xsz xbo xbf xbe xin xee xdm xid F xgm xkm xlm xnb xnp xnv xph xln xpa xrs xax xay xaz xfo xsr xso xst xco xcx xcy xcz xcb xpd xps xss xtu xcu xou xot xrg) (fun e F => xf_P rt a e F) 20 F hI ?_ ?_
      · intro n' F hI
        refine zc_ex (zn_1 (ih F fun a' ha' b hb => ?_))
        rw [hI a' ha' b hb]
        constructor
        · rintro (⟨q, w⟩ | ⟨q, w⟩)
          · exact Or.inl ⟨by omega, w⟩
          · exact Or.inl ⟨by omega, w⟩
        · rintro (⟨q, w⟩ | ⟨_, e', he', _⟩)
          · rcases Nat.lt_or_ge a' a with z | z
            · exact Or.inl ⟨z, w⟩
            · exact Or.inr ⟨by omega, w⟩
          · omega
      · intro n' e F he hI ih'
        refine zc_go he (zs_rn e ?_)
        rw [hee e he]
        rcases gr_ee_or V he with z | ⟨z1, z2, t, t1, t2, t3, t4, t5, t6⟩
        · rw [z]
          refine br_t (by decide) (zn_1 (ih' F (xf_no hI fun b hb q => ?_)))
          exact absurd (q.1.symm.trans z) (zi_neg (by omega))
        · rw [t3]
          have hst : gr_fp rt a t e → wX_findFrontiers_90 post (wX_findFrontiers_23 post (nI mb) (nI mi) (nI mv) (nI oc) ph (nI ni) (nI nb) xrm xnc xcc xsc xpc n) (wX_findFrontiers_33 post (wX_findFrontiers_23 post (nI mb) (nI mi) (nI mv) (nI oc) ph (nI ni) (nI nb) xrm xnc xcc xsc xpc n) (nI a) (nI mb) (nI mi) (nI mv) (nI oc) ph (nI ni) (nI nb) xrm xnc xcc xsc xpc n') (nI a) (nI e) (nI t) 0 (nI mb) (nI mi) (nI mv) (nI oc) ph (nI ni) (nI nb) xrm xnc xcc xsc xpc xop xsx xsy xsz xbo xbf xbe xin xee xdm xid F xgm xkm xlm xnb xnp xnv xph xln xpa xrs xax xay xaz xfo xsr xso xst xco xcx xcy xcz xcb xpd xps xss xtu xcu xou xot xrg := by
            intro q
            refine br_t rfl ⟨pk_in a 10 (by omega), zs_st a ?_ (by omega)⟩
            rw [zb_ra (a := F) a]
            exact zn_1 (ih' _ (xf_yes hI (by omega) t3 q))
          refine br_f zi_nlt ⟨pk_in (e / 2) 10 (by omega) (zi_h (by omega)), ?_⟩
          rw [zb_ra (a := xdm) (e / 2) (zi_h (by omega))]
          refine x_hasBit (by omega) (zc_b (fun q => zn_1 (ih' F (xf_no hI fun b hb w => ?_))) (fun q => ?_))
          · rw [hD _ (by omega) _ (by omega)] at q
            rw [w.2.1] at q; exact absurd q (by decide)
          · rw [hD _ (by omega) _ (by omega)] at q
            refine pk_eq a t (fun w => hst ⟨t3, q, fun z => z.1 w⟩) (fun w => ⟨pk_in t 10 (by omega), ?_⟩)
            rw [zb_ra (a := xdm) t]
            refine x_hasBit (by omega) (zc_b (fun q' => hst ⟨t3, q, fun z => ?_⟩) (fun q' => ?_))
            · rw [hD _ (by omega) _ (by omega), z.2] at q'
              exact absurd q' (by decide)
            · rw [hD _ (by omega) _ (by omega)] at q'
              refine br_f (by decide) (zn_1 (ih' F (xf_no hI fun b hb z => ?_)))
              have : b = t := zi_inj (z.1.symm.trans t3)
              subst this
              exact z.2.2 ⟨w, q'⟩
  · intro n a F ha hI ih
    refine zc_go ha (zs_st a (zn_1 (ih _ fun j hj => ?_)))
    by_cases w : j = a
    · rw [w, pk_us]
    · rw [pk_un w]; exact hI j (by omega)
end
end
section
/-! ===== the component finds what is live ===== -/
noncomputable def sc_ue (op fx fy fz : Nat → Int32) (lo hi : Nat) (v : Int32) : Bool := zb_d (∃ j, lo ≤ j ∧ j < hi ∧ sc_us op fx fy fz j v = true ∧ ∀ j', lo ≤ j' → j' < j → sc_de op fx j' v = false)
noncomputable def sc_dd (op fx : Nat → Int32) (lo hi : Nat) (v : Int32) : Bool := zb_d (∃ j, lo ≤ j ∧ j < hi ∧ sc_de op fx j v = true)
section
variable {op fx fy fz : Nat → Int32} {lo i : Nat} {v : Int32}
theorem sc_dd_s (h : lo ≤ i) : sc_dd op fx lo (i + 1) v = true ↔ sc_dd op fx lo i v = true ∨ sc_de op fx i v = true := by
  unfold sc_dd
  rw [zb_dt, zb_dt]
  constructor
  · rintro ⟨j, h1, h2, h3⟩
    rcases Nat.lt_or_ge j i with z | z
    · exact Or.inl ⟨j, h1, z, h3⟩
    · have : j = i := by omega
      rw [this] at h3; exact Or.inr h3
  · rintro (⟨j, h1, h2, h3⟩ | q)
    · exact ⟨j, h1, by omega, h3⟩
    · exact ⟨i, h, by omega, q⟩
theorem sc_dd_f : sc_dd op fx lo i v = false ↔ ∀ j, lo ≤ j → j < i → sc_de op fx j v = false := by
  unfold sc_dd
  rw [zb_df]
  constructor
  · intro h j h1 h2
    exact zb_nt fun w => h ⟨j, h1, h2, w⟩
  · rintro h ⟨j, h1, h2, h3⟩
    rw [h j h1 h2] at h3; exact absurd h3 (by decide)
theorem sc_ue_s (h : lo ≤ i) : sc_ue op fx fy fz lo (i + 1) v = true ↔ sc_ue op fx fy fz lo i v = true ∨ (sc_us op fx fy fz i v = true ∧ sc_dd op fx lo i v = false) := by
  unfold sc_ue
  rw [zb_dt, zb_dt, sc_dd_f]
  constructor
  · rintro ⟨j, h1, h2, h3, h4⟩
    rcases Nat.lt_or_ge j i with z | z
    · exact Or.inl ⟨j, h1, z, h3, h4⟩
    · have : j = i := by omega
      rw [this] at h3 h4; exact Or.inr ⟨h3, h4⟩
  · rintro (⟨j, h1, h2, h3, h4⟩ | ⟨q1, q2⟩)
    · exact ⟨j, h1, by omega, h3, h4⟩
    · exact ⟨i, h, by omega, q1, q2⟩
theorem sc_ue_0 : sc_ue op fx fy fz lo lo v = false := zb_df.mpr fun ⟨j, h1, h2, _⟩ => by omega
theorem sc_dd_0 : sc_dd op fx lo lo v = false := zb_df.mpr fun ⟨j, h1, h2, _⟩ => by omega
end
section
variable {mb mi mv oc ni nb : Nat} {ph xrm xnc xcc xsc xpc : Int32} {xop xsx xsy xsz xbo xbf xbe xin xee xdm xid xfm xgm xkm xlm xnb xnp xnv xph xln xpa xrs xax xay xaz xfo xsr xso xst xco xcx xcy xcz xcb xpd xps xss xtu xcu xou xot xrg : Nat → Int32} {bf be : Nat → Nat} {rt : Nat → Int32}
theorem x_um47 {post : Int32 → Prop} {i : Nat} {m : Int32} (hi : i < 40) (hz : sc_rz (xop i) = true → ∃ z, z < 32 ∧ xsz i = nI z)
    (h : ∀ m', (∀ v, v < 32 → (bt m' v = true ↔ bt m v = true ∨ (sc_rz (xop i) = true ∧ xsz i = nI v))) → post m') : wX_useMask_47 post (nI i) (xop i) m (nI mb) (nI mi) (nI mv) (nI oc) ph (nI ni) (nI nb) xrm xnc xcc xsc xpc xop xsx xsy xsz xbo xbf xbe xin xee xdm xid xfm xgm xkm xlm xnb xnp xnv xph xln xpa xrs xax xay xaz xfo xsr xso xst xco xcx xcy xcz xcb xpd xps xss xtu xcu xou xot xrg := by
  refine x_readsZ (zc_b (fun q => h m fun v hv => ?_) (fun q => ⟨pk_in i 40 hi, ?_⟩))
  · rw [q]; exact ⟨Or.inl, fun w => w.elim id (fun w => absurd w.1 (by decide))⟩
  · obtain ⟨z, hz1, hz2⟩ := hz q
    rw [zb_ra (a := xsz) i, hz2]
    refine nm_e (h _ fun v hv => ?_)
    rw [zt_set _ hz1 hv, q, hz2]
    exact or_congr_right ⟨fun w => ⟨rfl, by rw [w]⟩, fun w => (zi_inj w.2).symm⟩
theorem x_um28 {post : Int32 → Prop} {i : Nat} {m : Int32} (hi : i < 40) (hy : sc_ry (xop i) = true → ∃ z, z < 32 ∧ xsy i = nI z) (hz : sc_rz (xop i) = true → ∃ z, z < 32 ∧ xsz i = nI z)
    (h : ∀ m', (∀ v, v < 32 → (bt m' v = true ↔ bt m v = true ∨ (sc_ry (xop i) = true ∧ xsy i = nI v) ∨ (sc_rz (xop i) = true ∧ xsz i = nI v))) → post m') : wX_useMask_28 post (nI i) (xop i) m (nI mb) (nI mi) (nI mv) (nI oc) ph (nI ni) (nI nb) xrm xnc xcc xsc xpc xop xsx xsy xsz xbo xbf xbe xin xee xdm xid xfm xgm xkm xlm xnb xnp xnv xph xln xpa xrs xax xay xaz xfo xsr xso xst xco xcx xcy xcz xcb xpd xps xss xtu xcu xou xot xrg := by
  refine x_readsY (zc_b (fun q => x_um47 hi hz fun m' hm => h m' fun v hv => ?_) (fun q => ⟨pk_in i 40 hi, ?_⟩))
  · rw [hm v hv, q]
    exact or_congr_right ⟨Or.inr, fun w => w.elim (fun w => absurd w.1 (by decide)) id⟩
  · obtain ⟨y, hy1, hy2⟩ := hy q
    rw [zb_ra (a := xsy) i, hy2]
    refine nm_e (x_um47 hi hz fun m' hm => h m' fun v hv => ?_)
    rw [hm v hv, zt_set _ hy1 hv, q, hy2, or_assoc]
    exact or_congr_right (or_congr_left ⟨fun w => ⟨rfl, by rw [w]⟩, fun w => (zi_inj w.2).symm⟩)
theorem x_useMask {post : Int32 → Prop} {i : Nat} (hn : ni ≤ 40) (hmv : mv ≤ 6) {mb' : Nat} (S : sc_SV mb' mv ni xop xsx xsy xsz) (hi : i < ni)
    (h : ∀ m, (∀ v, v < 32 → (bt m v = true ↔ sc_us xop xsx xsy xsz i (nI v) = true)) → post m) : wpX_useMask post ((nI mb), (nI mi), (nI mv), (nI oc), ph, (nI ni), (nI nb), xrm, xnc, xcc, xsc, xpc, xop, xsx, xsy, xsz, xbo, xbf, xbe, xin, xee, xdm, xid, xfm, xgm, xkm, xlm, xnb, xnp, xnv, xph, xln, xpa, xrs, xax, xay, xaz, xfo, xsr, xso, xst, xco, xcx, xcy, xcz, xcb, xpd, xps, xss, xtu, xcu, xou, xot, xrg) (nI i) := by
  obtain ⟨s1, s2, s3, s4, _⟩ := S i hi
  have hy : sc_ry (xop i) = true → ∃ z, z < 32 ∧ xsy i = nI z := fun q => by obtain ⟨z, z1, z2⟩ := s3 q; exact ⟨z, by omega, z2⟩
  have hz : sc_rz (xop i) = true → ∃ z, z < 32 ∧ xsz i = nI z := fun q => by obtain ⟨z, z1, z2⟩ := s4 q; exact ⟨z, by omega, z2⟩
  have hus : ∀ v : Nat, sc_us xop xsx xsy xsz i (nI v) = true ↔ (sc_rx (xop i) = true ∧ xsx i = nI v) ∨ (sc_ry (xop i) = true ∧ xsy i = nI v) ∨ (sc_rz (xop i) = true ∧ xsz i = nI v) := by
    intro v
    unfold sc_us
    simp only [Bool.or_eq_true, Bool.and_eq_true, decide_eq_true_iff]
  refine zs_rn i (x_readsX (zc_b (fun q => x_um28 (by omega) hy hz fun m hm => h m fun v hv => ?_) (fun q => ⟨pk_in i 40 (by omega), ?_⟩))) (by omega)
  · rw [hm v hv, hus, q, b_0]
    constructor
    · rintro (w | w)
      · exact absurd w (by decide)
      · exact Or.inr w
    · rintro (w | w)
      · exact absurd w.1 (by decide)
      · exact Or.inr w
  · obtain ⟨x, hx1, hx2⟩ := s2 (Or.inr q)
    rw [zb_ra (a := xsx) i, hx2]
    refine nm_e (x_um28 (by omega) hy hz fun m hm => h m fun v hv => ?_)
    rw [hm v hv, hus, zt_set _ (by omega) hv, q, hx2, b_0]
    refine or_congr_left ⟨fun w => ⟨rfl, ?_⟩, fun w => Or.inr (zi_inj w.2).symm⟩
    rcases w with w | w
    · exact absurd w (by decide)
    · rw [w]
theorem x_findGenAndKill {post : SX → Prop} {b : Nat} (B : sc_BL xop ni nb bf be) (hbf : ∀ b, b < nb → xbf b = nI (bf b)) (hbe : ∀ b, b < nb → xbe b = nI (be b)) (hmv : mv ≤ 6) {mb' : Nat} (S : sc_SV mb' mv ni xop xsx xsy xsz) (hb : b < nb)
    (h : ∀ g k : Int32, (∀ v, v < 32 → bt g v = sc_ue xop xsx xsy xsz (bf b) (be b) (nI v)) → (∀ v, v < 32 → bt k v = sc_dd xop xsx (bf b) (be b) (nI v)) → post ((nI mb), (nI mi), (nI mv), (nI oc), ph, (nI ni), (nI nb), xrm, xnc, xcc, xsc, xpc, xop, xsx, xsy, xsz, xbo, xbf, xbe, xin, xee, xdm, xid, xfm, upd xgm b g, upd xkm b k, xlm, xnb, xnp, xnv, xph, xln, xpa, xrs, xax, xay, xaz, xfo, xsr, xso, xst, xco, xcx, xcy, xcz, xcb, xpd, xps, xss, xtu, xcu, xou, xot, xrg)) : wpX_findGenAndKill post ((nI mb), (nI mi), (nI mv), (nI oc), ph, (nI ni), (nI nb), xrm, xnc, xcc, xsc, xpc, xop, xsx, xsy, xsz, xbo, xbf, xbe, xin, xee, xdm, xid, xfm, xgm, xkm, xlm, xnb, xnp, xnv, xph, xln, xpa, xrs, xax, xay, xaz, xfo, xsr, xso, xst, xco, xcx, xcy, xcz, xcb, xpd, xps, xss, xtu, xcu, xou, xot, xrg) (nI b) := by
  have hn := B.1
  have h10 := B.2.1
  have h1 := sc_be_le B b hb
  have h2 := (B.2.2.2.2.2 b hb).1
  refine zs_rn b ?_ (by omega)
  rw [hbf b hb]
  have he : xbe (nI b).toNatClampNeg = nI (be b) := by rw [zb_rd b, hbe b hb]
  refine pk_loop (fun n i (s : Int32 × Int32) => wX_findGenAndKill_12 post (nI b) (nI mb) (nI mi) (nI mv) (nI oc) ph (nI ni) (nI nb) xrm xnc xcc xsc xpc xop xsx xsy xsz xbo xbf xbe xin xee xdm xid xfm xgm xkm xlm xnb xnp xnv xph xln xpa xrs xax xay xaz xfo xsr xso xst xco xcx xcy xcz xcb xpd xps xss xtu xcu xou xot xrg n s.1 s.2 (nI i))
    (fun i s => bf b ≤ i ∧ (∀ v, v < 32 → bt s.1 v = sc_ue xop xsx xsy xsz (bf b) i (nI v)) ∧ (∀ v, v < 32 → bt s.2 v = sc_dd xop xsx (bf b) i (nI v))) (be b) (bf b) (0, 0) (by omega) ⟨by omega, fun v _ => ?_, fun v _ => ?_⟩ ?_ ?_
  · rw [sc_ue_0]; exact b_0 v
  · rw [sc_dd_0]; exact b_0 v
  · rintro n ⟨g, k⟩ ⟨_, q1, q2⟩
    refine ⟨pk_in b 10 (by omega), ?_⟩
    rw [he]
    exact zc_ex (zs_st b (zs_st b (h g k q1 q2) (by omega)) (by omega))
  · rintro n i ⟨g, k⟩ hi ⟨hlo, q1, q2⟩ ih
    refine ⟨pk_in b 10 (by omega), ?_⟩
    rw [he]
    refine zc_go hi (x_useMask hn hmv S (by omega) fun m hm => nm_e ⟨pk_in i 40 (by omega), ?_⟩)
    rw [zb_ra (a := xop) i]
    have hg : ∀ v, v < 32 → bt (g ||| (m &&& (k ^^^ (-1)))) v = sc_ue xop xsx xsy xsz (bf b) (i + 1) (nI v) := by
      intro v hv
      refine zb_ext ?_
      rw [sc_ue_s hlo, b_or, b_and, zt_not _ hv, Bool.or_eq_true, Bool.and_eq_true, Bool.not_eq_true', hm v hv]
      have e1 : bt g v = _ := q1 v hv
      have e2 : bt k v = _ := q2 v hv
      rw [e1, e2]
    refine x_definesX (zc_b (fun q => zn_1 (ih (_, k) ⟨by omega, hg, fun v hv => ?_⟩)) (fun q => ⟨pk_in i 40 (by omega), ?_⟩))
    · refine zb_ext ?_
      rw [sc_dd_s hlo]
      have e2 : bt k v = _ := q2 v hv
      show bt k v = true ↔ _
      rw [e2]
      refine ⟨Or.inl, fun w => w.elim id (fun w => ?_)⟩
      unfold sc_de at w
      rw [q, Bool.false_and] at w; exact absurd w (by decide)
    · obtain ⟨x, hx1, hx2⟩ := (S i (by omega)).2.1 (Or.inl q)
      rw [zb_ra (a := xsx) i, hx2]
      refine nm_e (zn_1 (ih (_, _) ⟨by omega, hg, fun v hv => zb_ext ?_⟩))
      show bt (k ||| _) v = true ↔ _
      rw [zt_set _ (by omega) hv, sc_dd_s hlo]
      have e2 : bt k v = _ := q2 v hv
      rw [e2]
      refine or_congr_right ?_
      unfold sc_de
      rw [q, hx2, Bool.true_and, decide_eq_true_iff]
      exact ⟨fun w => by rw [w], fun w => (zi_inj w).symm⟩
end
end
section
/-! ===== the component's rounds for liveness ===== -/
section
variable {rt : Nat → Int32} {U D : Nat → Nat → Bool} {nb : Nat}
def xl_G (rt : Nat → Int32) (U D : Nat → Nat → Bool) (L : Nat → Int32) (b v : Nat) : Prop := gr_rc rt b = true ∧ (U v b = true ∨ (D v b = false ∧ ∃ t, t < 10 ∧ gr_E rt b t ∧ bt (L t) v = true))
def xl_I (rt : Nat → Int32) (U D : Nat → Nat → Bool) (L : Nat → Int32) : Prop := ∀ b, b < 10 → ∀ v, v < 32 → bt (L b) v = true → gr_LV rt (U v) (D v) b ∧ xl_G rt U D L b v
def xl_M (L : Nat → Int32) : Nat := zk_c (fun j => bt (L (j / 6)) (j % 6)) 60
theorem xl_LV {L : Nat → Int32} {b v : Nat} (hI : xl_I rt U D L) (hb : b < 10) (hv : v < 32) (h : xl_G rt U D L b v) : gr_LV rt (U v) (D v) b := by
  obtain ⟨h1, h2 | ⟨h2, t, ht, he, hl⟩⟩ := h
  · exact fun S q1 _ => q1 b hb h1 h2
  · exact fun S q1 q2 => q2 b t ht h1 he h2 ((hI t ht v hv hl).1 S q1 q2)
theorem xl_upd {L : Nat → Int32} {b : Nat} {m : Int32} (hI : xl_I rt U D L) (hb : b < 10) (hm : ∀ v, v < 32 → (bt m v = true ↔ xl_G rt U D L b v)) (hV : ∀ v b, v < 32 → gr_LV rt (U v) (D v) b → v < 6) :
    xl_I rt U D (upd L b m) ∧ (m = L b ∨ xl_M L < xl_M (upd L b m)) := by
  have hsub : ∀ v, v < 32 → bt (L b) v = true → bt m v = true := fun v hv q => (hm v hv).mpr (hI b hb v hv q).2
  have hle : ∀ p v, v < 32 → bt (L p) v = true → bt (upd L b m p) v = true := by
    intro p v hv q
    by_cases w : p = b
    · rw [w, pk_us]; rw [w] at q; exact hsub v hv q
    · rw [pk_un w]; exact q
  have hG : ∀ b' v, v < 32 → xl_G rt U D L b' v → xl_G rt U D (upd L b m) b' v := by
    rintro b' v hv ⟨q1, q2 | ⟨q2, t, ht, he, hl⟩⟩
    · exact ⟨q1, Or.inl q2⟩
    · exact ⟨q1, Or.inr ⟨q2, t, ht, he, hle t v hv hl⟩⟩
  refine ⟨fun b' hb' v hv q => ?_, ?_⟩
  · by_cases w : b' = b
    · rw [w, pk_us] at q
      have g := (hm v hv).mp q
      rw [w]
      exact ⟨xl_LV hI hb hv g, hG b v hv g⟩
    · rw [pk_un w] at q
      have := hI b' hb' v hv q
      exact ⟨this.1, hG b' v hv this.2⟩
  · by_cases hx : ∃ v, v < 32 ∧ bt m v = true ∧ ¬ bt (L b) v = true
    · obtain ⟨v, hv, q1, q2⟩ := hx
      have hv6 := hV v b hv (xl_LV hI hb hv ((hm v hv).mp q1))
      right
      have e1 : (b * 6 + v) / 6 = b := by omega
      have e2 : (b * 6 + v) % 6 = v := by omega
      refine zk_lt (a := b * 6 + v) ?_ ?_ (fun k _ q => hle _ _ (by omega) q) (by omega)
      · show ¬ bt (L ((b * 6 + v) / 6)) ((b * 6 + v) % 6) = true
        rw [e1, e2]; exact q2
      · show bt (upd L b m ((b * 6 + v) / 6)) ((b * 6 + v) % 6) = true
        rw [e1, e2, pk_us]; exact q1
    · left
      refine b_ext fun v hv => zb_ext ⟨fun q => ?_, hsub v hv⟩
      exact Classical.byContradiction fun w => hx ⟨v, hv, q, w⟩
theorem xl_fin {L : Nat → Int32} (V : gr_V rt nb) (hI : xl_I rt U D L) (hX : ∀ b, b < nb → ∀ v, v < 32 → xl_G rt U D L b v → bt (L b) v = true) : ∀ b, b < 10 → ∀ v, v < 32 → bt (L b) v = zb_d (gr_LV rt (U v) (D v) b) := by
  intro b hb v hv
  refine zb_bd ⟨fun q => (hI b hb v hv q).1, fun q => ?_⟩
  exact q (fun x => bt (L x) v = true) (fun x _ h1 h2 => hX x (gr_rc_lt V h1) v hv ⟨h1, Or.inl h2⟩)
    (fun x y hy h1 he h2 h3 => hX x (gr_rc_lt V h1) v hv ⟨h1, Or.inr ⟨h2, y, hy, he, h3⟩⟩)
end
theorem zi_dn (i : Nat) : nI i + (-1) = nI i - 1 := by
  rw [Int32.sub_eq_add_neg]
section
variable {mb mi mv oc ni nb : Nat} {ph xrm xnc xcc xsc xpc : Int32} {xop xsx xsy xsz xbo xbf xbe xin xee xdm xid xfm xgm xkm xlm xnb xnp xnv xph xln xpa xrs xax xay xaz xfo xsr xso xst xco xcx xcy xcz xcb xpd xps xss xtu xcu xou xot xrg : Nat → Int32} {bf be : Nat → Nat} {rt : Nat → Int32} {U D : Nat → Nat → Bool}
theorem x_liveOut {post : Int32 → Prop} {b : Nat} (V : gr_V rt nb) (hee : ∀ e, e < 20 → xee e = gr_ee rt e) (hb : b < 10)
    (h : ∀ m, (∀ v, v < 32 → (bt m v = true ↔ gr_rc rt b = true ∧ ∃ t, t < 10 ∧ gr_E rt b t ∧ bt (xlm t) v = true)) → post m) : wpX_liveOut post ((nI mb), (nI mi), (nI mv), (nI oc), ph, (nI ni), (nI nb), xrm, xnc, xcc, xsc, xpc, xop, xsx, xsy, xsz, xbo, xbf, xbe, xin, xee, xdm, xid, xfm, xgm, xkm, xlm, xnb, xnp, xnv, xph, xln, xpa, xrs, xax, xay, xaz, xfo, xsr, xso, xst, xco, xcx, xcy, xcz, xcb, xpd, xps, xss, xtu, xcu, xou, xot, xrg) (nI b) := by
  have h10 := V.2.1
  refine loop_0 (fun n s (m : Int32) => wX_liveOut_4 post (nI b) (nI mb) (nI mi) (nI mv) (nI oc) ph (nI ni) (nI nb) xrm xnc xcc xsc xpc xop xsx xsy xsz xbo xbf xbe xin xee xdm xid xfm xgm xkm xlm xnb xnp xnv xph xln xpa xrs xax xay xaz xfo xsr xso xst xco xcx xcy xcz xcb xpd xps xss xtu xcu xou xot xrg n m (nI s)) (fun s m => ∀ v, v < 32 → (bt m v = true ↔ ∃ s', s' < s ∧ ∃ t, t < 10 ∧ gr_ee rt (2 * b + s') = nI t ∧ bt (xlm t) v = true)) 2 0 ?_ ?_ ?_
  · intro v hv
    rw [b_0]
    exact ⟨fun q => absurd q (by decide), fun ⟨s', hs', _⟩ => by omega⟩
  · intro n m hI
    refine zc_ex (h m fun v hv => ?_)
    rw [hI v hv]
    constructor
    · rintro ⟨s', hs', t, ht, he, hl⟩
      rcases gr_ee_or V (e := 2 * b + s') (by omega) with z | ⟨z1, z2, t', t1, t2, t3, t4, t5, t6⟩
      · exact absurd (he.symm.trans z) (zi_neg (by omega))
      · have e1 : (2 * b + s') / 2 = b := by omega
        rw [e1] at z1 t6
        have : t = t' := zi_inj (he.symm.trans t3)
        subst this
        exact ⟨z1, t, ht, t6, hl⟩
    · rintro ⟨hr, t, ht, ⟨e, he, hb', hr'⟩, hl⟩
      refine ⟨e - 2 * b, by omega, t, ht, ?_, hl⟩
      have e1 : 2 * b + (e - 2 * b) = e := by omega
      rw [e1, gr_ee_t (by rw [hb']; exact hr)]; exact hr'
  · intro n s m hs hI ih
    refine zc_go hs (zs_rn (2 * b + s) ?_ (by omega) (zi_2 b s))
    rw [hee _ (by omega)]
    rcases gr_ee_or V (e := 2 * b + s) (by omega) with z | ⟨z1, z2, t, t1, t2, t3, t4, t5, t6⟩
    · rw [z]
      refine br_t (by decide) (zn_1 (ih m fun v hv => ?_))
      rw [hI v hv]
      constructor
      · rintro ⟨s', hs', w⟩
        exact ⟨s', by omega, w⟩
      · rintro ⟨s', hs', t, ht, he, hl⟩
        rcases Nat.lt_or_ge s' s with w | w
        · exact ⟨s', w, t, ht, he, hl⟩
        · have : s' = s := by omega
          rw [this] at he
          exact absurd (he.symm.trans z) (zi_neg (by omega))
    · rw [t3]
      refine br_f zi_nlt ⟨pk_in t 10 (by omega), ?_⟩
      rw [zb_ra (a := xlm) t]
      refine nm_e (zn_1 (ih _ fun v hv => ?_))
      rw [b_or, Bool.or_eq_true, hI v hv]
      constructor
      · rintro (⟨s', hs', w⟩ | w)
        · exact ⟨s', by omega, w⟩
        · exact ⟨s, by omega, t, by omega, t3, w⟩
      · rintro ⟨s', hs', t', ht', he, hl⟩
        rcases Nat.lt_or_ge s' s with w | w
        · exact Or.inl ⟨s', w, t', ht', he, hl⟩
        · have e1 : s' = s := by omega
          rw [e1] at he
          have : t' = t := zi_inj (he.symm.trans t3)
          rw [this] at hl; exact Or.inr hl
theorem x_live_rounds {post : SX → Prop} (V : gr_V rt nb) (hee : ∀ e, e < 20 → xee e = gr_ee rt e)
    (hg : ∀ b, b < 10 → ∀ v, v < 32 → bt (xgm b) v = (gr_rc rt b && U v b)) (hk : ∀ b, b < 10 → ∀ v, v < 32 → bt (xkm b) v = (gr_rc rt b && D v b)) (h0 : ∀ b, b < 10 → xlm b = 0)
    (hV : ∀ v b, v < 32 → gr_LV rt (U v) (D v) b → v < 6)
    (h : ∀ L : Nat → Int32, (∀ b, b < 10 → ∀ v, v < 32 → bt (L b) v = zb_d (gr_LV rt (U v) (D v) b)) → post ((nI mb), (nI mi), (nI mv), (nI oc), ph, (nI ni), (nI nb), xrm, xnc, xcc, xsc, xpc, xop, xsx, xsy, xsz, xbo, xbf, xbe, xin, xee, xdm, xid, xfm, xgm, xkm, L, xnb, xnp, xnv, xph, xln, xpa, xrs, xax, xay, xaz, xfo, xsr, xso, xst, xco, xcx, xcy, xcz, xcb, xpd, xps, xss, xtu, xcu, xou, xot, xrg)) : ∃ n : Nat, wX_findLive_68 post (nI mb) (nI mi) (nI mv) (nI oc) ph (nI ni) (nI nb) xrm xnc xcc xsc xpc n 1 0 xop xsx xsy xsz xbo xbf xbe xin xee xdm xid xfm xgm xkm xlm xnb xnp xnv xph xln xpa xrs xax xay xaz xfo xsr xso xst xco xcx xcy xcz xcb xpd xps xss xtu xcu xou xot xrg := by
  have h10 := V.2.1
  have hnew : ∀ (L : Nat → Int32) b m, b < 10 → (∀ v, v < 32 → (bt m v = true ↔ gr_rc rt b = true ∧ ∃ t, t < 10 ∧ gr_E rt b t ∧ bt (L t) v = true)) →
      ∀ v, v < 32 → (bt (xgm b ||| (m &&& (xkm b ^^^ (-1)))) v = true ↔ xl_G rt U D L b v) := by
    intro L b m hb hm v hv
    rw [b_or, b_and, zt_not _ hv, hg b hb v hv, hk b hb v hv, Bool.or_eq_true, Bool.and_eq_true, Bool.and_eq_true, hm v hv]
    unfold xl_G
    constructor
    · rintro (⟨w1, w2⟩ | ⟨⟨w1, w2⟩, w3⟩)
      · exact ⟨w1, Or.inl w2⟩
      · rw [w1] at w3
        refine ⟨w1, Or.inr ⟨?_, w2⟩⟩
        cases z : D v b
        · rfl
        · rw [z] at w3; exact absurd w3 (by decide)
    · rintro ⟨w1, w2 | ⟨w2, w3⟩⟩
      · exact Or.inl ⟨w1, w2⟩
      · refine Or.inr ⟨⟨w1, w3⟩, ?_⟩
        rw [w2, Bool.and_false]; rfl
  refine loop_0 (fun n k (s : Int32 × (Nat → Int32)) => wX_findLive_68 post (nI mb) (nI mi) (nI mv) (nI oc) ph (nI ni) (nI nb) xrm xnc xcc xsc xpc n s.1 (nI k) xop xsx xsy xsz xbo xbf xbe xin xee xdm xid xfm xgm xkm s.2 xnb xnp xnv xph xln xpa xrs xax xay xaz xfo xsr xso xst xco xcx xcy xcz xcb xpd xps xss xtu xcu xou xot xrg)
    (fun k s => xl_I rt U D s.2 ∧ ((s.1 = 0 ∧ ∀ b, b < nb → ∀ v, v < 32 → xl_G rt U D s.2 b v → bt (s.2 b) v = true) ∨ (s.1 = 1 ∧ k ≤ xl_M s.2))) 61 (1, xlm) ⟨fun b hb v hv q => ?_, Or.inr ⟨rfl, Nat.zero_le _⟩⟩ ?_ ?_
  · have q' : bt (xlm b) v = true := q
    rw [h0 b hb, b_0] at q'; exact absurd q' (by decide)
  · rintro n ⟨f, L⟩ ⟨q1, q2⟩
    refine br_t (nI_lt (a := 60) (b := 61) (by decide) (by decide)) ?_
    rcases q2 with q2 | q2
    · exact h L (xl_fin V q1 q2.2)
    · have h1 : 61 ≤ xl_M L := q2.2
      have h2 : xl_M L ≤ 60 := zk_le _ _
      omega
  · rintro n k ⟨f, L⟩ hk' ⟨q1, q2⟩ ih
    refine br_f (nI_nlt (a := 60) (by omega) (by decide)) ?_
    rcases q2 with ⟨qf, q2⟩ | ⟨qf, q2⟩
    · exact br_t qf (h L (xl_fin V q1 q2))
    · have qf' : ¬ f = 0 := fun w => absurd (qf.symm.trans w) (by decide)
      refine br_f qf' (nm_e ⟨nb + 1, ?_⟩)
      refine pk_loopD (fun n' i (s : Int32 × (Nat → Int32)) => wX_findLive_87 post (wX_findLive_68 post (nI mb) (nI mi) (nI mv) (nI oc) ph (nI ni) (nI nb) xrm xnc xcc xsc xpc n) (nI k) (nI mb) (nI mi) (nI mv) (nI oc) ph (nI ni) (nI nb) xrm xnc xcc xsc xpc n' s.1 (nI i - 1) xop xsx xsy xsz xbo xbf xbe xin xee xdm xid xfm xgm xkm s.2 xnb xnp xnv xph xln xpa xrs xax xay xaz xfo xsr xso xst xco xcx xcy xcz xcb xpd xps xss xtu xcu xou xot xrg)
        (fun i s => i ≤ nb ∧ xl_I rt U D s.2 ∧ ((s.1 = 0 ∧ s.2 = L ∧ ∀ b, i ≤ b → b < nb → ∀ v, v < 32 → xl_G rt U D L b v → bt (L b) v = true) ∨ (s.1 = 1 ∧ xl_M L < xl_M s.2))) ?_ ?_ nb (0, L) ⟨by omega, q1, Or.inl ⟨rfl, rfl, fun b h1 h2 => by omega⟩⟩
      · rintro n' ⟨f', L'⟩ ⟨_, p1, p2⟩
        refine br_t (by decide) (zn_1 (ih (f', L') ⟨p1, ?_⟩))
        rcases p2 with ⟨pf, pe, p2⟩ | ⟨pf, p2⟩
        · refine Or.inl ⟨pf, ?_⟩
          have pe' : L' = L := pe
          rw [pe']; exact fun b hb => p2 b (by omega) hb
        · refine Or.inr ⟨pf, ?_⟩
          have p2' : xl_M L < xl_M L' := p2
          show k + 1 ≤ xl_M L'
          have q2' : k ≤ xl_M L := q2
          omega
      · rintro n' b ⟨f', L'⟩ ⟨hb, p1, p2⟩ ih'
        have e1 : nI (b + 1) - 1 = nI b := nI_pred b
        have en : ∀ {P : Int32 → Prop}, P (nI b - 1) → ∀ x, x = nI b + (-1) → P x := fun hP => nm_r (zi_dn b) hP
        show wX_findLive_87 post (wX_findLive_68 post (nI mb) (nI mi) (nI mv) (nI oc) ph (nI ni) (nI nb) xrm xnc xcc xsc xpc n) (nI k) (nI mb) (nI mi) (nI mv) (nI oc) ph (nI ni) (nI nb) xrm xnc xcc xsc xpc (n' + 1) f' (nI (b + 1) - 1) xop xsx xsy xsz xbo xbf xbe xin xee xdm xid xfm xgm xkm L' xnb xnp xnv xph xln xpa xrs xax xay xaz xfo xsr xso xst xco xcx xcy xcz xcb xpd xps xss xtu xcu xou xot xrg
        rw [e1]
        refine br_f zi_nlt ⟨pk_in b 10 (by omega), x_liveOut V hee (by omega) fun m hm => ⟨pk_in b 10 (by omega), ?_⟩⟩
        rw [zb_ra (a := xgm) b, zb_ra (a := xkm) b]
        have hm' := hnew L' b m (by omega) hm
        refine nm_e ⟨pk_in b 10 (by omega), ?_⟩
        rw [zb_ra (a := L') b]
        refine ⟨fun w => en (ih' (f', L') ⟨by omega, p1, ?_⟩), fun w => ?_⟩
        · rcases p2 with ⟨pf, pe, p2⟩ | p2
          · refine Or.inl ⟨pf, pe, fun b' h1 h2 v hv z => ?_⟩
            rcases Nat.lt_or_ge b b' with y | y
            · exact p2 b' (by omega) h2 v hv z
            · have e2 : b' = b := by omega
              have pe' : L' = L := pe
              rw [pe'] at hm' w
              rw [e2] at z ⊢
              rw [← w]
              exact (hm' v hv).mpr z
          · exact Or.inr p2
        · obtain ⟨u1, u2⟩ := xl_upd p1 (by omega) hm' hV
          refine zs_st b (en (ih' (1, upd L' b _) ⟨by omega, u1, Or.inr ⟨rfl, ?_⟩⟩)) (by omega)
          have u3 : xl_M L' < xl_M (upd L' b (xgm b ||| (m &&& (xkm b ^^^ (-1))))) := u2.resolve_left w
          show xl_M L < xl_M (upd L' b (xgm b ||| (m &&& (xkm b ^^^ (-1)))))
          rcases p2 with ⟨pf, pe, p2⟩ | ⟨pf, p2⟩
          · have pe' : L' = L := pe
            rw [pe'] at u3 ⊢; exact u3
          · have p2' : xl_M L < xl_M L' := p2
            omega
theorem x_findLive {post : SX → Prop} (V : gr_V rt nb) (hee : ∀ e, e < 20 → xee e = gr_ee rt e) (hrm : ∀ i, i < 32 → bt xrm i = gr_rc rt i)
    (B : sc_BL xop ni nb bf be) (hbf : ∀ b, b < nb → xbf b = nI (bf b)) (hbe : ∀ b, b < nb → xbe b = nI (be b)) (hmv : mv ≤ 6) {mb' : Nat} (S : sc_SV mb' mv ni xop xsx xsy xsz)
    (hU : U = fun v b => sc_ue xop xsx xsy xsz (bf b) (be b) (nI v)) (hDD : D = fun v b => sc_dd xop xsx (bf b) (be b) (nI v)) (hV : ∀ v b, v < 32 → gr_LV rt (U v) (D v) b → v < 6)
    (h : ∀ L G K : Nat → Int32, (∀ b, b < 10 → ∀ v, v < 32 → bt (L b) v = zb_d (gr_LV rt (U v) (D v) b)) → (∀ b, b < 10 → ∀ v, v < 32 → bt (K b) v = (gr_rc rt b && D v b)) → post ((nI mb), (nI mi), (nI mv), (nI oc), ph, (nI ni), (nI nb), xrm, xnc, xcc, xsc, xpc, xop, xsx, xsy, xsz, xbo, xbf, xbe, xin, xee, xdm, xid, xfm, G, K, L, xnb, xnp, xnv, xph, xln, xpa, xrs, xax, xay, xaz, xfo, xsr, xso, xst, xco, xcx, xcy, xcz, xcb, xpd, xps, xss, xtu, xcu, xou, xot, xrg)) : wpX_findLive post ((nI mb), (nI mi), (nI mv), (nI oc), ph, (nI ni), (nI nb), xrm, xnc, xcc, xsc, xpc, xop, xsx, xsy, xsz, xbo, xbf, xbe, xin, xee, xdm, xid, xfm, xgm, xkm, xlm, xnb, xnp, xnv, xph, xln, xpa, xrs, xax, xay, xaz, xfo, xsr, xso, xst, xco, xcx, xcy, xcz, xcb, xpd, xps, xss, xtu, xcu, xou, xot, xrg) := by
  have h10 := V.2.1
  refine loop_0 (fun n b (s : (Nat → Int32) × (Nat → Int32) × (Nat → Int32)) => wX_findLive_2 post (nI mb) (nI mi) (nI mv) (nI oc) ph (nI ni) (nI nb) xrm xnc xcc xsc xpc n (nI b) xop xsx xsy xsz xbo xbf xbe xin xee xdm xid xfm s.2.1 s.2.2 s.1 xnb xnp xnv xph xln xpa xrs xax xay xaz xfo xsr xso xst xco xcx xcy xcz xcb xpd xps xss xtu xcu xou xot xrg) (fun b s => ∀ j, j < b → s.1 j = 0 ∧ s.2.1 j = 0 ∧ s.2.2 j = 0) 10 (xlm, xgm, xkm) (fun j hj => by omega) ?_ ?_
  · rintro n ⟨L, G, K⟩ hz
    refine zc_ex ?_
    refine loop_0 (fun n b (s : (Nat → Int32) × (Nat → Int32)) => wX_findLive_37 post n (nI b) (nI mb) (nI mi) (nI mv) (nI oc) ph (nI ni) (nI nb) xrm xnc xcc xsc xpc xop xsx xsy xsz xbo xbf xbe xin xee xdm xid xfm s.1 s.2 L xnb xnp xnv xph xln xpa xrs xax xay xaz xfo xsr xso xst xco xcx xcy xcz xcb xpd xps xss xtu xcu xou xot xrg)
      (fun b s => ∀ j, j < 10 → ∀ v, v < 32 → bt (s.1 j) v = (decide (j < b) && (gr_rc rt j && U v j)) ∧ bt (s.2 j) v = (decide (j < b) && (gr_rc rt j && D v j))) nb (G, K) ?_ ?_ ?_
    · intro j hj v hv
      have := hz j hj
      refine ⟨?_, ?_⟩
      · show bt (G j) v = _
        have e : G j = 0 := this.2.1
        rw [e, b_0, decide_eq_false (by omega)]; rfl
      · show bt (K j) v = _
        have e : K j = 0 := this.2.2
        rw [e, b_0, decide_eq_false (by omega)]; rfl
    · rintro n ⟨G, K⟩ hI
      have hb' : ∀ j, j < 10 → ∀ x : Bool, (decide (j < nb) && (gr_rc rt j && x)) = (gr_rc rt j && x) := by
        intro j hj x
        cases w : gr_rc rt j
        · rw [Bool.false_and, Bool.and_false]
        · rw [decide_eq_true (gr_rc_lt V w), Bool.true_and]
      have hK : ∀ b, b < 10 → ∀ v, v < 32 → bt (K b) v = (gr_rc rt b && D v b) := fun b hb v hv => (hI b hb v hv).2.trans (hb' b hb _)
      refine zc_ex (x_live_rounds (xlm := L) (xgm := G) (xkm := K) V hee (fun b hb v hv => (hI b hb v hv).1.trans (hb' b hb _)) hK (fun b hb => (hz b hb).1) hV fun L' hL => h L' G K hL hK)
    · rintro n b ⟨G, K⟩ hb hI ih
      refine zc_go hb (x_reachable (by omega) (zc_b (fun q => zn_1 (ih (G, K) fun j hj v hv => ?_)) (fun q => ?_)))
      · rw [hrm b (by omega)] at q
        have := hI j hj v hv
        rw [this.1, this.2]
        rcases Nat.lt_or_ge j b with w | w
        · rw [decide_eq_true w, decide_eq_true (by omega : j < b + 1)]; exact ⟨rfl, rfl⟩
        · rw [decide_eq_false (by omega : ¬ j < b)]
          by_cases z : j = b
          · rw [z, q, decide_eq_true (by omega)]; exact ⟨rfl, rfl⟩
          · rw [decide_eq_false (by omega)]; exact ⟨rfl, rfl⟩
      · rw [hrm b (by omega)] at q
        refine x_findGenAndKill B hbf hbe hmv S hb fun g k hg hk => zn_1 (ih (upd G b g, upd K b k) fun j hj v hv => ?_)
        by_cases z : j = b
        · subst z
          show bt (upd G j g j) v = _ ∧ bt (upd K j k j) v = _
          rw [pk_us, pk_us, hg v hv, hk v hv, q, decide_eq_true (by omega), hU, hDD]; exact ⟨rfl, rfl⟩
        · show bt (upd G b g j) v = _ ∧ bt (upd K b k j) v = _
          rw [pk_un z, pk_un z]
          have := hI j hj v hv
          have e1 : bt (G j) v = _ := this.1
          have e2 : bt (K j) v = _ := this.2
          rw [e1, e2]
          rcases Nat.lt_or_ge j b with w | w
          · rw [decide_eq_true w, decide_eq_true (by omega : j < b + 1)]; exact ⟨rfl, rfl⟩
          · rw [decide_eq_false (by omega : ¬ j < b), decide_eq_false (by omega : ¬ j < b + 1)]; exact ⟨rfl, rfl⟩
  · rintro n b ⟨L, G, K⟩ hb hI ih
    refine zc_go hb (zs_st b (zs_st b (zs_st b (zn_1 (ih (upd L b 0, upd G b 0, upd K b 0) fun j hj => ?_)))))
    show upd L b 0 j = 0 ∧ upd G b 0 j = 0 ∧ upd K b 0 j = 0
    by_cases w : j = b
    · rw [w, pk_us, pk_us, pk_us]; exact ⟨rfl, rfl, rfl⟩
    · rw [pk_un w, pk_un w, pk_un w]; exact hI j (by omega)
end
end
section
/-! ===== the component places the phi functions ===== -/
noncomputable def xp_p (f : Nat → Int32) (Q : Nat → Prop) (j : Nat) : Int32 := if j < 60 then @ite _ (Q j) (Classical.propDecidable _) 0 (-1) else f j
theorem xp_t {f : Nat → Int32} {Q : Nat → Prop} {j : Nat} (hj : j < 60) (h : Q j) : xp_p f Q j = 0 := by unfold xp_p; rw [if_pos hj, if_pos h]
theorem xp_f {f : Nat → Int32} {Q : Nat → Prop} {j : Nat} (hj : j < 60) (h : ¬ Q j) : xp_p f Q j = -1 := by unfold xp_p; rw [if_pos hj, if_neg h]
theorem xp_o {f : Nat → Int32} {Q : Nat → Prop} {j : Nat} (hj : ¬ j < 60) : xp_p f Q j = f j := by unfold xp_p; rw [if_neg hj]
theorem xp_congr {f : Nat → Int32} {Q Q' : Nat → Prop} (h : ∀ j, j < 60 → (Q j ↔ Q' j)) : xp_p f Q = xp_p f Q' := by
  funext j
  by_cases hj : j < 60
  · by_cases q : Q j
    · rw [xp_t hj q, xp_t hj ((h j hj).mp q)]
    · rw [xp_f hj q, xp_f hj (fun w => q ((h j hj).mpr w))]
  · rw [xp_o hj, xp_o hj]
theorem xp_upd {f : Nat → Int32} {Q Q' : Nat → Prop} {k : Nat} (hk : k < 60) (h : ∀ j, j < 60 → (Q' j ↔ Q j ∨ j = k)) : upd (xp_p f Q) k 0 = xp_p f Q' := by
  funext j
  by_cases w : j = k
  · rw [w, pk_us, xp_t hk ((h k hk).mpr (Or.inr rfl))]
  · rw [pk_un w]
    by_cases hj : j < 60
    · by_cases q : Q j
      · rw [xp_t hj q, xp_t hj ((h j hj).mpr (Or.inl q))]
      · rw [xp_f hj q, xp_f hj (fun z => ((h j hj).mp z).elim q w)]
    · rw [xp_o hj, xp_o hj]
section
variable {mb mi mv oc ni nb : Nat} {ph xrm xnc xcc xsc xpc : Int32} {xop xsx xsy xsz xbo xbf xbe xin xee xdm xid xfm xgm xkm xlm xnb xnp xnv xph xln xpa xrs xax xay xaz xfo xsr xso xst xco xcx xcy xcz xcb xpd xps xss xtu xcu xou xot xrg : Nat → Int32} {rt : Nat → Int32} {U D : Nat → Nat → Bool}
def xi_C (rt : Nat → Int32) (df : Nat → Bool) (k : Nat) (m : Int32) : Prop := ∀ a y, a < k → y < 10 → ((gr_rc rt a = true ∧ df a = true) ∨ bt m a = true) → gr_fr rt a y = true → bt m y = true
theorem xi_max {df : Nat → Bool} {m : Int32} {nb b : Nat} (V : gr_V rt nb) (hC : xi_C rt df nb m) (h : gr_IF rt df b) : bt m b = true :=
  h (fun y => bt m y = true) (fun a y _ hy q hf => hC a y (gr_fr_lt V (by omega) hf).1 hy q hf)
theorem x_iteratedFrontier {post : Int32 → Prop} {v : Nat} (V : gr_V rt nb) (hv : v < 32) (hk : ∀ b, b < 10 → ∀ v, v < 32 → bt (xkm b) v = (gr_rc rt b && D v b))
    (hf : ∀ a, a < 10 → ∀ b, b < 32 → bt (xfm a) b = gr_fr rt a b) (h : ∀ m, (∀ b, b < 32 → (bt m b = true ↔ gr_IF rt (D v) b)) → post m) : wpX_iteratedFrontier post ((nI mb), (nI mi), (nI mv), (nI oc), ph, (nI ni), (nI nb), xrm, xnc, xcc, xsc, xpc, xop, xsx, xsy, xsz, xbo, xbf, xbe, xin, xee, xdm, xid, xfm, xgm, xkm, xlm, xnb, xnp, xnv, xph, xln, xpa, xrs, xax, xay, xaz, xfo, xsr, xso, xst, xco, xcx, xcy, xcz, xcb, xpd, xps, xss, xtu, xcu, xou, xot, xrg) (nI v) := by
  have h10 := V.2.1
  refine loop_0 (fun n b (m : Int32) => wX_iteratedFrontier_4 post (nI v) (nI mb) (nI mi) (nI mv) (nI oc) ph (nI ni) (nI nb) xrm xnc xcc xsc xpc xop xsx xsy xsz xbo xbf xbe xin xee xdm xid xfm xgm xkm xlm xnb xnp xnv xph xln xpa xrs xax xay xaz xfo xsr xso xst xco xcx xcy xcz xcb xpd xps xss xtu xcu xou xot xrg n m (nI b)) (fun b m => ∀ a, a < 32 → (bt m a = true ↔ a < b ∧ gr_rc rt a = true ∧ D v a = true)) nb 0 ?_ ?_ ?_
  · intro a ha
    rw [b_0]
    exact ⟨fun q => absurd q (by decide), fun q => by omega⟩
  · intro n d hd
    refine zc_ex ?_
    refine loop_0 (fun n k (m : Int32) => wX_iteratedFrontier_43 post d (nI mb) (nI mi) (nI mv) (nI oc) ph (nI ni) (nI nb) xrm xnc xcc xsc xpc xop xsx xsy xsz xbo xbf xbe xin xee xdm xid xfm xgm xkm xlm xnb xnp xnv xph xln xpa xrs xax xay xaz xfo xsr xso xst xco xcx xcy xcz xcb xpd xps xss xtu xcu xou xot xrg n m (nI k)) (fun k m => (∀ b, b < 32 → bt m b = true → gr_IF rt (D v) b) ∧ (xi_C rt (D v) nb m ∨ k ≤ zk_c (bt m) nb)) (nb + 1) 0 ⟨fun b _ q => ?_, Or.inr (Nat.zero_le _)⟩ ?_ ?_
    · rw [b_0] at q; exact absurd q (by decide)
    · rintro n m ⟨q1, q2⟩
      refine br_t (nI_lt (by omega) (by omega)) (h m fun b hb => ⟨q1 b hb, ?_⟩)
      refine xi_max V (q2.resolve_right fun w => ?_)
      have := zk_le (bt m) nb; omega
    · rintro n k m hk' ⟨q1, q2⟩ ih
      refine br_f (nI_nlt (by omega) (by omega)) ?_
      refine loop_0 (fun n' a (m' : Int32) => wX_iteratedFrontier_55 post (wX_iteratedFrontier_43 post d (nI mb) (nI mi) (nI mv) (nI oc) ph (nI ni) (nI nb) xrm xnc xcc xsc xpc xop xsx xsy xsz xbo xbf xbe xin xee xdm xid xfm xgm xkm xlm xnb xnp xnv xph xln xpa xrs xax xay xaz xfo xsr xso xst xco xcx xcy xcz xcb xpd xps xss xtu xcu xou xot xrg n) d (nI k) (nI mb) (nI mi) (nI mv) (nI oc) ph (nI ni) (nI nb) xrm xnc xcc xsc xpc xop xsx xsy xsz xbo xbf xbe xin xee xdm xid xfm xgm xkm xlm xnb xnp xnv xph xln xpa xrs xax xay xaz xfo xsr xso xst xco xcx xcy xcz xcb xpd xps xss xtu xcu xou xot xrg n' m' (nI a))
        (fun a m' => (∀ b, b < 32 → bt m' b = true → gr_IF rt (D v) b) ∧ (∀ b, b < 32 → bt m b = true → bt m' b = true) ∧ ((m' = m ∧ xi_C rt (D v) a m) ∨ zk_c (bt m) nb < zk_c (bt m') nb)) nb m ⟨q1, fun _ _ q => q, Or.inl ⟨rfl, fun a y ha => by omega⟩⟩ ?_ ?_
      · rintro n' m' ⟨p1, p2, p3⟩
        refine zc_ex (zn_1 (ih m' ⟨p1, ?_⟩))
        rcases p3 with ⟨e, hc⟩ | hc
        · rw [e]; exact Or.inl hc
        · rcases q2 with q2 | q2
          · have := zk_mono (f := bt m') (g := bt m) (N := nb) (fun i hi q => xi_max V q2 (p1 i (by omega) q))
            omega
          · exact Or.inr (by omega)
      · rintro n' a m' ha ⟨p1, p2, p3⟩ ih'
        refine zc_go ha (x_hasBit (by omega) (zc_b (fun q => zn_1 (ih' m' ⟨p1, p2, ?_⟩)) (fun q => ⟨pk_in a 10 (by omega), ?_⟩)))
        · rw [b_or] at q
          obtain ⟨z1, z2⟩ := Bool.or_eq_false_iff.mp q
          rcases p3 with ⟨e, hc⟩ | hc
          · refine Or.inl ⟨e, fun a' y ha' hy w wf => ?_⟩
            rcases Nat.lt_or_ge a' a with x | x
            · exact hc a' y x hy w wf
            · have ea : a' = a := by omega
              rw [ea] at w
              rcases w with w | w
              · rw [(hd a (by omega)).mpr ⟨ha, w⟩] at z1
                exact absurd z1 (by decide)
              · rw [e, w] at z2
                exact absurd z2 (by decide)
          · exact Or.inr hc
        · rw [zb_ra (a := xfm) a]
          have hsrc : (gr_rc rt a = true ∧ D v a = true) ∨ bt m' a = true := by
            rw [b_or, Bool.or_eq_true] at q
            exact q.imp (fun w => ((hd a (by omega)).mp w).2) id
          have hnew : ∀ b, b < 32 → (bt (m' ||| xfm a) b = true ↔ bt m' b = true ∨ gr_fr rt a b = true) := by
            intro b hb
            rw [b_or, Bool.or_eq_true, hf a (by omega) b hb]
          refine nm_e (zn_1 (ih' _ ⟨fun b hb w => ?_, fun b hb w => (hnew b hb).mpr (Or.inl (p2 b hb w)), ?_⟩))
          · rcases (hnew b hb).mp w with w | w
            · exact p1 b hb w
            · have hl := gr_fr_lt V hb w
              exact gr_IF_s (by omega) (by omega) (hsrc.imp id (p1 a (by omega))) w
          · by_cases hx : ∃ b, b < 32 ∧ bt (m' ||| xfm a) b = true ∧ ¬ bt m' b = true
            · obtain ⟨b, hb, w1, w2⟩ := hx
              have hl := gr_fr_lt V hb (((hnew b hb).mp w1).resolve_left w2)
              have := zk_lt (f := bt m') (g := bt (m' ||| xfm a)) (N := nb) w2 w1 (fun k hk' z => (hnew k (by omega)).mpr (Or.inl z)) hl.2.2.1
              rcases p3 with ⟨e, _⟩ | hc
              · rw [e] at this ⊢; exact Or.inr this
              · exact Or.inr (by omega)
            · have e2 : m' ||| xfm a = m' := by
                refine b_ext fun b hb => zb_ext ⟨fun w => ?_, fun w => (hnew b hb).mpr (Or.inl w)⟩
                exact Classical.byContradiction fun w2 => hx ⟨b, hb, w, w2⟩
              rcases p3 with ⟨e, hc⟩ | hc
              · refine Or.inl ⟨e2.trans e, fun a' y ha' hy w wf => ?_⟩
                rcases Nat.lt_or_ge a' a with x | x
                · exact hc a' y x hy w wf
                · have ea : a' = a := by omega
                  rw [ea] at wf
                  rw [← e, ← e2]
                  exact (hnew y (by omega)).mpr (Or.inr wf)
              · rw [e2]; exact Or.inr hc
  · intro n b m hb hI ih
    refine zc_go hb ⟨pk_in b 10 (by omega), ?_⟩
    rw [zb_ra (a := xkm) b]
    refine x_hasBit (by omega) (zc_b (fun q => zn_1 (ih m fun a ha => ?_)) (fun q => nm_e (zn_1 (ih _ fun a ha => ?_))))
    · rw [hk b (by omega) v (by omega)] at q
      rw [hI a ha]
      constructor
      · rintro ⟨w1, w2⟩
        exact ⟨by omega, w2⟩
      · rintro ⟨w1, w2, w3⟩
        refine ⟨?_, w2, w3⟩
        rcases Nat.lt_or_ge a b with x | x
        · exact x
        · have ea : a = b := by omega
          rw [ea] at w2 w3
          rw [w2, w3] at q; exact absurd q (by decide)
    · rw [hk b (by omega) v (by omega), Bool.and_eq_true] at q
      rw [zt_set _ (by omega) ha, hI a ha]
      constructor
      · rintro (⟨w1, w2⟩ | w)
        · exact ⟨by omega, w2⟩
        · rw [w]; exact ⟨by omega, q⟩
      · rintro ⟨w1, w2⟩
        rcases Nat.lt_or_ge a b with x | x
        · exact Or.inl ⟨x, w2⟩
        · exact Or.inr (by omega)
/-- where a phi function is wanted -/
def xp_W (rt : Nat → Int32) (U D : Nat → Nat → Bool) (mv : Nat) (j : Nat) : Prop := j % 6 < mv ∧ gr_IF rt (D (j % 6)) (j / 6) ∧ gr_LV rt (U (j % 6)) (D (j % 6)) (j / 6)
theorem x_placePhis {post : SX → Prop} (V : gr_V rt nb) (hmv : mv ≤ 6) (hk : ∀ b, b < 10 → ∀ v, v < 32 → bt (xkm b) v = (gr_rc rt b && D v b))
    (hf : ∀ a, a < 10 → ∀ b, b < 32 → bt (xfm a) b = gr_fr rt a b) (hl : ∀ b, b < 10 → ∀ v, v < 32 → bt (xlm b) v = zb_d (gr_LV rt (U v) (D v) b))
    (h : ∀ ln : Nat → Int32, (∀ j, j < 60 → ln j = -1) → post ((nI mb), (nI mi), (nI mv), (nI oc), ph, (nI ni), (nI nb), xrm, xnc, xcc, xsc, xpc, xop, xsx, xsy, xsz, xbo, xbf, xbe, xin, xee, xdm, xid, xfm, xgm, xkm, xlm, xnb, xnp, xnv, xp_p xph (xp_W rt U D mv), ln, xpa, xrs, xax, xay, xaz, xfo, xsr, xso, xst, xco, xcx, xcy, xcz, xcb, xpd, xps, xss, xtu, xcu, xou, xot, xrg)) : wpX_placePhis post ((nI mb), (nI mi), (nI mv), (nI oc), ph, (nI ni), (nI nb), xrm, xnc, xcc, xsc, xpc, xop, xsx, xsy, xsz, xbo, xbf, xbe, xin, xee, xdm, xid, xfm, xgm, xkm, xlm, xnb, xnp, xnv, xph, xln, xpa, xrs, xax, xay, xaz, xfo, xsr, xso, xst, xco, xcx, xcy, xcz, xcb, xpd, xps, xss, xtu, xcu, xou, xot, xrg) := by
  have h10 := V.2.1
  refine loop_0 (fun n p (s : (Nat → Int32) × (Nat → Int32)) => wX_placePhis_2 post (nI mb) (nI mi) (nI mv) (nI oc) ph (nI ni) (nI nb) xrm xnc xcc xsc xpc n (nI p) xop xsx xsy xsz xbo xbf xbe xin xee xdm xid xfm xgm xkm xlm xnb xnp xnv s.1 s.2 xpa xrs xax xay xaz xfo xsr xso xst xco xcx xcy xcz xcb xpd xps xss xtu xcu xou xot xrg) (fun p s => (∀ j, s.1 j = if j < p then -1 else xph j) ∧ ∀ j, j < p → s.2 j = -1) 60 (xph, xln) ⟨fun j => ?_, fun j hj => by omega⟩ ?_ ?_
  · rw [if_neg (by omega)]
  · rintro n ⟨P, ln⟩ ⟨hP, hln⟩
    have eP : P = xp_p xph (fun j => j % 6 < 0 ∧ xp_W rt U D mv j) := by
      funext j
      have := hP j
      by_cases w : j < 60
      · rw [xp_f w (fun q => by omega)]
        have e : P j = _ := this
        rw [e, if_pos w]
      · rw [xp_o w]
        have e : P j = _ := this
        rw [e, if_neg w]
    refine zc_ex ?_
    show ∃ n30 : Nat, wX_placePhis_30 post (nI mb) (nI mi) (nI mv) (nI oc) ph (nI ni) (nI nb) xrm xnc xcc xsc xpc n30 0 xop xsx xsy xsz xbo xbf xbe xin xee xdm xid xfm xgm xkm xlm xnb xnp xnv P ln xpa xrs xax xay xaz xfo xsr xso xst xco xcx xcy xcz xcb xpd xps xss xtu xcu xou xot xrg
    rw [eP]
    refine loop_0 (fun n v (P : Nat → Int32) => wX_placePhis_30 post (nI mb) (nI mi) (nI mv) (nI oc) ph (nI ni) (nI nb) xrm xnc xcc xsc xpc n (nI v) xop xsx xsy xsz xbo xbf xbe xin xee xdm xid xfm xgm xkm xlm xnb xnp xnv P ln xpa xrs xax xay xaz xfo xsr xso xst xco xcx xcy xcz xcb xpd xps xss xtu xcu xou xot xrg) (fun v P => P = xp_p xph (fun j => j % 6 < v ∧ xp_W rt U D mv j)) mv _ rfl ?_ ?_
    · intro n P hI
      refine zc_ex ?_
      have : P = xp_p xph (xp_W rt U D mv) := hI.trans (xp_congr fun j _ => ⟨fun q => q.2, fun q => ⟨q.1, q⟩⟩)
      rw [this]
      exact h ln hln
    · intro n v P hv hI ih
      refine zc_go hv (x_iteratedFrontier V (by omega) hk hf fun m hm => ?_)
      refine loop_0 (fun n' b (P : Nat → Int32) => wX_placePhis_46 post (wX_placePhis_30 post (nI mb) (nI mi) (nI mv) (nI oc) ph (nI ni) (nI nb) xrm xnc xcc xsc xpc n) (nI v) m (nI mb) (nI mi) (nI mv) (nI oc) ph (nI ni) (nI nb) xrm xnc xcc xsc xpc n' (nI b) xop xsx xsy xsz xbo xbf xbe xin xee xdm xid xfm xgm xkm xlm xnb xnp xnv P ln xpa xrs xax xay xaz xfo xsr xso xst xco xcx xcy xcz xcb xpd xps xss xtu xcu xou xot xrg) (fun b P => P = xp_p xph (fun j => (j % 6 < v ∨ (j % 6 = v ∧ j / 6 < b)) ∧ xp_W rt U D mv j)) nb P (hI.trans (xp_congr fun j _ => ?_)) ?_ ?_
      · constructor
        · rintro ⟨q1, q2⟩; exact ⟨Or.inl q1, q2⟩
        · rintro ⟨q1 | q1, q2⟩
          · exact ⟨q1, q2⟩
          · omega
      · intro n' P hI
        refine zc_ex (zn_1 (ih P (hI.trans (xp_congr fun j hj => ?_))))
        constructor
        · rintro ⟨q1, q2⟩; exact ⟨by omega, q2⟩
        · rintro ⟨q1, q2⟩
          have := (gr_IF_lt V q2.2.1).2.1
          exact ⟨by omega, q2⟩
      · intro n' b P hb hI ih'
        have hskip : ¬ (gr_IF rt (D v) b ∧ gr_LV rt (U v) (D v) b) → P = xp_p xph (fun j => (j % 6 < v ∨ (j % 6 = v ∧ j / 6 < b + 1)) ∧ xp_W rt U D mv j) := by
          intro hq
          refine hI.trans (xp_congr fun j hj => ?_)
          constructor
          · rintro ⟨q1, q2⟩; exact ⟨by omega, q2⟩
          · rintro ⟨q1, q2⟩
            refine ⟨?_, q2⟩
            rcases q1 with q1 | ⟨q1, q3⟩
            · exact Or.inl q1
            · rcases Nat.lt_or_ge (j / 6) b with x | x
              · exact Or.inr ⟨q1, x⟩
              · have e : j / 6 = b := by omega
                have := q2.2
                rw [q1, e] at this
                exact absurd this hq
        refine zc_go hb (x_hasBit (by omega) (zc_b (fun q => zn_1 (ih' P (hskip fun w => ?_))) (fun q => ⟨pk_in b 10 (by omega), ?_⟩)))
        · rw [(hm b (by omega)).mpr w.1] at q; exact absurd q (by decide)
        · rw [zb_ra (a := xlm) b]
          refine x_hasBit (by omega) (zc_b (fun q' => zn_1 (ih' P (hskip fun w => ?_))) (fun q' => zs_st (b * 6 + v) (zn_1 (ih' _ ?_)) (by omega) (zi_6 b v)))
          · rw [hl b (by omega) v (by omega), zb_df] at q'; exact q' w.2
          · rw [hl b (by omega) v (by omega), zb_dt] at q'
            rw [hI]
            refine xp_upd (by omega) fun j hj => ?_
            have e1 : (b * 6 + v) % 6 = v := by omega
            have e2 : (b * 6 + v) / 6 = b := by omega
            constructor
            · rintro ⟨q1, q2⟩
              rcases q1 with q1 | ⟨q1, q3⟩
              · exact Or.inl ⟨Or.inl q1, q2⟩
              · rcases Nat.lt_or_ge (j / 6) b with x | x
                · exact Or.inl ⟨Or.inr ⟨q1, x⟩, q2⟩
                · exact Or.inr (by omega)
            · rintro (⟨q1, q2⟩ | w)
              · exact ⟨by omega, q2⟩
              · rw [w]
                refine ⟨Or.inr ⟨e1, by omega⟩, ?_⟩
                unfold xp_W
                rw [e1, e2]
                exact ⟨by omega, (hm b (by omega)).mp q, q'⟩
  · rintro n p ⟨P, ln⟩ hp ⟨hP, hln⟩ ih
    refine zc_go hp (zs_st p (zs_st p (zn_1 (ih (upd P p (-1), upd ln p (-1)) ⟨fun j => ?_, fun j hj => ?_⟩))))
    · show upd P p (-1) j = _
      by_cases w : j = p
      · rw [w, pk_us, if_pos (by omega)]
      · rw [pk_un w]
        have e : P j = _ := hP j
        rw [e]
        by_cases x : j < p
        · rw [if_pos x, if_pos (by omega)]
        · rw [if_neg x, if_neg (by omega)]
    · show upd ln p (-1) j = _
      by_cases w : j = p
      · rw [w, pk_us]
      · rw [pk_un w]; exact hln j (by omega)
end
end
section
/-! ===== names: the pure numbering and what it gives ===== -/
def nu_v (b v : Nat) (s : Nat × (Nat → Int32)) : Nat × (Nat → Int32) := if s.2 (b * 6 + v) < 0 then s else (s.1 + 1, upd s.2 (b * 6 + v) (nI s.1))
def nu_vs (b : Nat) (s : Nat × (Nat → Int32)) : Nat → Nat × (Nat → Int32)
  | 0 => s
  | k + 1 => nu_v b k (nu_vs b s k)
def nu_i (op : Nat → Int32) (i : Nat) (s : Nat × (Nat → Int32)) : Nat × (Nat → Int32) := if sc_df (op i) = true then (s.1 + 1, upd s.2 i (nI s.1)) else s
def nu_is (op : Nat → Int32) (lo : Nat) (s : Nat × (Nat → Int32)) : Nat → Nat × (Nat → Int32)
  | 0 => s
  | k + 1 => nu_i op (lo + k) (nu_is op lo s k)
noncomputable def nu_1 (rt op : Nat → Int32) (bf be : Nat → Nat) (mv b : Nat) (s : Nat × (Nat → Int32) × (Nat → Int32)) : Nat × (Nat → Int32) × (Nat → Int32) :=
  if gr_rc rt b = true then
    ((nu_is op (bf b) ((nu_vs b (s.1, s.2.1) mv).1, s.2.2) (be b - bf b)).1, (nu_vs b (s.1, s.2.1) mv).2, (nu_is op (bf b) ((nu_vs b (s.1, s.2.1) mv).1, s.2.2) (be b - bf b)).2)
  else s
noncomputable def nu_b (rt op : Nat → Int32) (bf be : Nat → Nat) (mv : Nat) (s : Nat × (Nat → Int32) × (Nat → Int32)) : Nat → Nat × (Nat → Int32) × (Nat → Int32)
  | 0 => s
  | b + 1 => nu_1 rt op bf be mv b (nu_b rt op bf be mv s b)
/-- the last definition of v among the k instructions from lo on -/
def nu_ld (op fx R : Nat → Int32) (v : Int32) (lo : Nat) : Nat → Int32
  | 0 => -1
  | k + 1 => if sc_de op fx (lo + k) v = true then R (lo + k) else nu_ld op fx R v lo k
theorem nu_ld_congr {op fx R R' : Nat → Int32} {v : Int32} {lo : Nat} : ∀ {k : Nat}, (∀ j, j < k → R (lo + j) = R' (lo + j)) → nu_ld op fx R v lo k = nu_ld op fx R' v lo k
  | 0, _ => rfl
  | k + 1, h => by
    have := nu_ld_congr (op := op) (fx := fx) (v := v) (k := k) (fun j hj => h j (by omega))
    simp only [nu_ld]
    rw [this, h k (by omega)]
def nu_N (rt op fx : Nat → Int32) (mv ni J I c : Nat) (P R nB nP nV : Nat → Int32) : Prop :=
  1 ≤ mv ∧ mv ≤ c ∧ (∀ k, k < mv → nB k = 0 ∧ nP k = -1 ∧ nV k = nI k) ∧
  (∀ j, j < 60 → P j = -1 ∨ (J ≤ j ∧ P j = 0) ∨ (j < J ∧ ∃ k, mv ≤ k ∧ k < c ∧ P j = nI k ∧ nP k = -1 ∧ nB k = nI (j / 6) ∧ nV k = nI (j % 6))) ∧
  (∀ i, i < 40 → R i = -1 ∨ (i < I ∧ i < ni ∧ sc_df (op i) = true ∧ gr_rc rt (sc_tc op i) = true ∧ ∃ k, mv ≤ k ∧ k < c ∧ R i = nI k ∧ nP k = nI i ∧ nB k = nI (sc_tc op i) ∧ nV k = fx i)) ∧
  (∀ i, i < I → i < ni → gr_rc rt (sc_tc op i) = true → sc_df (op i) = true → ¬ R i = -1) ∧
  (∀ k, mv ≤ k → k < c → (∃ j, j < 60 ∧ P j = nI k) ∨ (∃ i, i < ni ∧ R i = nI k)) ∧
  (∀ j j' k k', j < j' → j' < J → j' < 60 → j / 6 = j' / 6 → k < c → k' < c → P j = nI k → P j' = nI k' → k < k') ∧
  (∀ j, j < 60 → P j = -1 ∨ (j % 6 < mv ∧ gr_rc rt (j / 6) = true))
section
variable {rt op fx : Nat → Int32} {mv ni J I c : Nat} {P R nB nP nV : Nat → Int32}
theorem nu_N_phi (N : nu_N rt op fx mv ni J I c P R nB nP nV) (hc : c < 1000) (hJ : J < 60) (hP : ¬ P J < 0) :
    nu_N rt op fx mv ni (J + 1) I (c + 1) (upd P J (nI c)) R (upd nB c (nI (J / 6))) (upd nP c (-1)) (upd nV c (nI (J % 6))) := by
  obtain ⟨n1, n2, n3, n4, n5, n6, n7, n8, n9⟩ := N
  have hm1 : ¬ P J = -1 := fun w => hP (by rw [w]; decide)
  have hP0 : P J = 0 := by
    rcases n4 J hJ with w | w | w
    · exact absurd w hm1
    · exact w.2
    · omega
  refine ⟨n1, by omega, fun k hk => ?_, fun j hj => ?_, fun i hi => ?_, n6, fun k h1 h2 => ?_, fun j j' k k' h1 h2 h3 h4 h5 h6 h7 h8 => ?_, fun j hj => ?_⟩
  · rw [pk_un (by omega), pk_un (by omega), pk_un (by omega)]; exact n3 k hk
  · by_cases w : j = J
    · subst w
      rw [pk_us]
      exact Or.inr (Or.inr ⟨by omega, c, n2, by omega, rfl, pk_us, pk_us, pk_us⟩)
    · rw [pk_un w]
      rcases n4 j hj with x | x | ⟨x, k, k1, k2, k3, k4, k5, k6⟩
      · exact Or.inl x
      · exact Or.inr (Or.inl ⟨by omega, x.2⟩)
      · refine Or.inr (Or.inr ⟨by omega, k, k1, by omega, k3, ?_⟩)
        rw [pk_un (by omega), pk_un (by omega), pk_un (by omega)]; exact ⟨k4, k5, k6⟩
  · rcases n5 i hi with x | ⟨x1, x2, x3, x4, k, k1, k2, k3, k4, k5, k6⟩
    · exact Or.inl x
    · refine Or.inr ⟨x1, x2, x3, x4, k, k1, by omega, k3, ?_⟩
      rw [pk_un (by omega), pk_un (by omega), pk_un (by omega)]; exact ⟨k4, k5, k6⟩
  · by_cases w : k = c
    · subst w; exact Or.inl ⟨J, hJ, pk_us⟩
    · rcases n7 k h1 (by omega) with ⟨j, x1, x2⟩ | x
      · refine Or.inl ⟨j, x1, ?_⟩
        rw [pk_un (fun e => ?_)]
        · exact x2
        · rw [e, hP0] at x2
          exact nI_ne0 (by omega) (by omega) x2.symm
      · exact Or.inr x
  · have hj : j ≠ J := by omega
    rw [pk_un hj] at h7
    have hk : k < c := by
      rcases n4 j (by omega) with x | x | ⟨x, k0, k1, k2, k3, _⟩
      · exact absurd (h7.symm.trans x) (zi_neg (by omega))
      · omega
      · rw [zi_inj (h7.symm.trans k3)]; exact k2
    by_cases w : j' = J
    · rw [w, pk_us] at h8
      have := zi_inj h8; omega
    · rw [pk_un w] at h8
      have hk' : k' < c := by
        rcases n4 j' h3 with x | x | ⟨x, k0, k1, k2, k3, _⟩
        · exact absurd (h8.symm.trans x) (zi_neg (by omega))
        · omega
        · rw [zi_inj (h8.symm.trans k3)]; exact k2
      exact n8 j j' k k' h1 (by omega) h3 h4 hk hk' h7 h8
  · by_cases w : j = J
    · subst w; exact Or.inr ((n9 j hj).resolve_left hm1)
    · rw [pk_un w]; exact n9 j hj
theorem nu_N_skip {J' : Nat} (N : nu_N rt op fx mv ni J I c P R nB nP nV) (hc : c < 1000) (hJ : J ≤ J') (hP : ∀ j, J ≤ j → j < J' → j < 60 → P j = -1) : nu_N rt op fx mv ni J' I c P R nB nP nV := by
  obtain ⟨n1, n2, n3, n4, n5, n6, n7, n8, n9⟩ := N
  refine ⟨n1, n2, n3, fun j hj => ?_, n5, n6, n7, fun j j' k k' h1 h2 h3 h4 h5 h6 h7 h8 => ?_, n9⟩
  · rcases n4 j hj with x | x | ⟨x, y⟩
    · exact Or.inl x
    · rcases Nat.lt_or_ge j J' with w | w
      · exact Or.inl (hP j x.1 w hj)
      · exact Or.inr (Or.inl ⟨w, x.2⟩)
    · exact Or.inr (Or.inr ⟨by omega, y⟩)
  · rcases Nat.lt_or_ge j' J with w | w
    · exact n8 j j' k k' h1 w h3 h4 h5 h6 h7 h8
    · rw [hP j' w h2 h3] at h8
      exact absurd h8.symm (zi_neg (by omega))
theorem nu_N_ins (N : nu_N rt op fx mv ni J I c P R nB nP nV) (hc : c < 1000) (hI : I < ni) (hn : ni ≤ 40) (hd : sc_df (op I) = true) (hr : gr_rc rt (sc_tc op I) = true) :
    nu_N rt op fx mv ni J (I + 1) (c + 1) P (upd R I (nI c)) (upd nB c (nI (sc_tc op I))) (upd nP c (nI I)) (upd nV c (fx I)) := by
  obtain ⟨n1, n2, n3, n4, n5, n6, n7, n8, n9⟩ := N
  refine ⟨n1, by omega, fun k hk => ?_, fun j hj => ?_, fun i hi => ?_, fun i h1 h2 h3 h4 => ?_, fun k h1 h2 => ?_, fun j j' k k' h1 h2 h3 h4 h5 h6 h7 h8 => ?_, n9⟩
  · rw [pk_un (by omega), pk_un (by omega), pk_un (by omega)]; exact n3 k hk
  · rcases n4 j hj with x | x | ⟨x, k, k1, k2, k3, k4, k5, k6⟩
    · exact Or.inl x
    · exact Or.inr (Or.inl x)
    · refine Or.inr (Or.inr ⟨x, k, k1, by omega, k3, ?_⟩)
      rw [pk_un (by omega), pk_un (by omega), pk_un (by omega)]; exact ⟨k4, k5, k6⟩
  · by_cases w : i = I
    · subst w
      rw [pk_us]
      exact Or.inr ⟨by omega, hI, hd, hr, c, n2, by omega, rfl, pk_us, pk_us, pk_us⟩
    · rw [pk_un w]
      rcases n5 i hi with x | ⟨x1, x2, x3, x4, k, k1, k2, k3, k4, k5, k6⟩
      · exact Or.inl x
      · refine Or.inr ⟨by omega, x2, x3, x4, k, k1, by omega, k3, ?_⟩
        rw [pk_un (by omega), pk_un (by omega), pk_un (by omega)]; exact ⟨k4, k5, k6⟩
  · by_cases w : i = I
    · rw [w, pk_us]; exact zi_neg (by omega)
    · rw [pk_un w]; exact n6 i (by omega) h2 h3 h4
  · by_cases w : k = c
    · subst w; exact Or.inr ⟨I, hI, pk_us⟩
    · rcases n7 k h1 (by omega) with x | ⟨i, x1, x2⟩
      · exact Or.inl x
      · refine Or.inr ⟨i, x1, ?_⟩
        by_cases e : i = I
        · rcases n5 i (by omega) with x | ⟨x, _⟩
          · exact absurd (x2.symm.trans x) (zi_neg (by omega))
          · omega
        · rw [pk_un e]; exact x2
  · have hlt : ∀ j k, j < J → j < 60 → k < c + 1 → P j = nI k → k < c := by
      intro j k hj hj' hk hk'
      rcases n4 j hj' with x | x | ⟨x, k0, k1, k2, k3, _⟩
      · exact absurd (hk'.symm.trans x) (zi_neg (by omega))
      · omega
      · rw [zi_inj (hk'.symm.trans k3)]; exact k2
    exact n8 j j' k k' h1 h2 h3 h4 (hlt j k (by omega) (by omega) h5 h7) (hlt j' k' h2 h3 h6 h8) h7 h8
theorem nu_N_skipI {I' : Nat} (N : nu_N rt op fx mv ni J I c P R nB nP nV) (hI : I ≤ I') (h : ∀ i, I ≤ i → i < I' → i < ni → gr_rc rt (sc_tc op i) = true → sc_df (op i) = true → False) : nu_N rt op fx mv ni J I' c P R nB nP nV := by
  obtain ⟨n1, n2, n3, n4, n5, n6, n7, n8, n9⟩ := N
  refine ⟨n1, n2, n3, n4, fun i hi => ?_, fun i h1 h2 h3 h4 => ?_, n7, n8, n9⟩
  · rcases n5 i hi with x | ⟨x1, x2⟩
    · exact Or.inl x
    · exact Or.inr ⟨by omega, x2⟩
  · rcases Nat.lt_or_ge i I with w | w
    · exact n6 i w h2 h3 h4
    · exact absurd (h i w h1 h2 h3 h4) id
end
end
section
/-! ===== the component gives the names ===== -/
def nu_st (bf : Nat → Nat) (ni nb b : Nat) : Nat := if b < nb then bf b else ni
theorem nu_st_s {op : Nat → Int32} {ni nb : Nat} {bf be : Nat → Nat} {b : Nat} (B : sc_BL op ni nb bf be) (hb : b < nb) : nu_st bf ni nb (b + 1) = be b := by
  unfold nu_st
  by_cases h : b + 1 < nb
  · rw [if_pos h]; exact (B.2.2.2.2.1 b h).1
  · rw [if_neg h]
    have hn : 0 < ni := by
      rcases Nat.eq_zero_or_pos ni with z | z
      · have := B.2.2.1 z; omega
      · exact z
    have := (B.2.2.2.1 hn).2.2
    have e : nb - 1 = b := by omega
    rw [e] at this; exact this.symm
def nu_L (rt op fx : Nat → Int32) (bf be : Nat → Nat) (k : Nat) (R ln : Nat → Int32) : Prop := ∀ b, b < 10 → ∀ v, v < 6 → ln (b * 6 + v) = if b < k ∧ gr_rc rt b = true then nu_ld op fx R (nI v) (bf b) (be b - bf b) else -1
section
variable {mb mi mv oc ni nb : Nat} {ph xrm xnc xcc xsc xpc : Int32} {xop xsx xsy xsz xbo xbf xbe xin xee xdm xid xfm xgm xkm xlm xnb xnp xnv xph xln xpa xrs xax xay xaz xfo xsr xso xst xco xcx xcy xcz xcb xpd xps xss xtu xcu xou xot xrg : Nat → Int32} {rt : Nat → Int32} {bf be : Nat → Nat}
theorem x_newName {post : Int32 → SX → Prop} {c : Nat} {q0 q1 q2 : Int32} (hc : c < 99) (h : post (nI c) ((nI mb), (nI mi), (nI mv), (nI oc), ph, (nI ni), (nI nb), xrm, nI (c + 1), xcc, xsc, xpc, xop, xsx, xsy, xsz, xbo, xbf, xbe, xin, xee, xdm, xid, xfm, xgm, xkm, xlm, upd xnb c q0, upd xnp c q1, upd xnv c q2, xph, xln, xpa, xrs, xax, xay, xaz, xfo, xsr, xso, xst, xco, xcx, xcy, xcz, xcb, xpd, xps, xss, xtu, xcu, xou, xot, xrg)) : wpX_newName post ((nI mb), (nI mi), (nI mv), (nI oc), ph, (nI ni), (nI nb), xrm, nI c, xcc, xsc, xpc, xop, xsx, xsy, xsz, xbo, xbf, xbe, xin, xee, xdm, xid, xfm, xgm, xkm, xlm, xnb, xnp, xnv, xph, xln, xpa, xrs, xax, xay, xaz, xfo, xsr, xso, xst, xco, xcx, xcy, xcz, xcb, xpd, xps, xss, xtu, xcu, xou, xot, xrg) q0 q1 q2 :=
  br_t (nI_lt (b := 99) hc (by decide)) (zs_st c (zs_st c (zs_st c (zn_1 h))))
theorem x_nbd_ins {post : SX → Prop} {b c : Nat} (B : sc_BL xop ni nb bf be) (C : sc_CL xop ni) (hbe : ∀ b, b < nb → xbe b = nI (be b)) (hmv : mv ≤ 6) {mb' : Nat} (S : sc_SV mb' mv ni xop xsx xsy xsz) (hb : b < nb) (hr : gr_rc rt b = true) {J : Nat}
    (N : nu_N rt xop xsx mv ni J (bf b) c xph xrs xnb xnp xnv) (hc : c ≤ 12 + 5 * b + bf b) (hl : ∀ v, v < 6 → xln (b * 6 + v) = -1)
    (h : ∀ (c' : Nat) (R nB nP nV ln : Nat → Int32), (c', R) = nu_is xop (bf b) (c, xrs) (be b - bf b) → nu_N rt xop xsx mv ni J (be b) c' xph R nB nP nV → c' + 1 ≤ 12 + 5 * b + be b →
      (∀ j, j < bf b → R j = xrs j) → (∀ b', b' < 10 → b' ≠ b → ∀ v, v < 6 → ln (b' * 6 + v) = xln (b' * 6 + v)) → (∀ v, v < 6 → ln (b * 6 + v) = nu_ld xop xsx R (nI v) (bf b) (be b - bf b)) →
      post ((nI mb), (nI mi), (nI mv), (nI oc), ph, (nI ni), (nI nb), xrm, nI c', xcc, xsc, xpc, xop, xsx, xsy, xsz, xbo, xbf, xbe, xin, xee, xdm, xid, xfm, xgm, xkm, xlm, nB, nP, nV, xph, ln, xpa, R, xax, xay, xaz, xfo, xsr, xso, xst, xco, xcx, xcy, xcz, xcb, xpd, xps, xss, xtu, xcu, xou, xot, xrg)) : ∃ n : Nat, wX_nameBlockDefinitions_55 post (nI b) n (nI (bf b)) (nI mb) (nI mi) (nI mv) (nI oc) ph (nI ni) (nI nb) xrm (nI c) xcc xsc xpc xop xsx xsy xsz xbo xbf xbe xin xee xdm xid xfm xgm xkm xlm xnb xnp xnv xph xln xpa xrs xax xay xaz xfo xsr xso xst xco xcx xcy xcz xcb xpd xps xss xtu xcu xou xot xrg := by
  have hn := B.1
  have h10 := B.2.1
  have h1 := sc_be_le B b hb
  have h2 := (B.2.2.2.2.2 b hb).1
  have he : xbe (nI b).toNatClampNeg = nI (be b) := by rw [zb_rd b, hbe b hb]
  refine pk_loop (fun n i (s : Nat × (Nat → Int32) × (Nat → Int32) × (Nat → Int32) × (Nat → Int32) × (Nat → Int32)) => wX_nameBlockDefinitions_55 post (nI b) n (nI i) (nI mb) (nI mi) (nI mv) (nI oc) ph (nI ni) (nI nb) xrm (nI s.1) xcc xsc xpc xop xsx xsy xsz xbo xbf xbe xin xee xdm xid xfm xgm xkm xlm s.2.2.1 s.2.2.2.1 s.2.2.2.2.1 xph s.2.2.2.2.2 xpa s.2.1 xax xay xaz xfo xsr xso xst xco xcx xcy xcz xcb xpd xps xss xtu xcu xou xot xrg)
    (fun i s => bf b ≤ i ∧ (s.1, s.2.1) = nu_is xop (bf b) (c, xrs) (i - bf b) ∧ nu_N rt xop xsx mv ni J i s.1 xph s.2.1 s.2.2.1 s.2.2.2.1 s.2.2.2.2.1 ∧ s.1 ≤ 12 + 5 * b + i ∧ (i = be b → s.1 + 1 ≤ 12 + 5 * b + i) ∧
      (∀ j, j < bf b → s.2.1 j = xrs j) ∧ (∀ b', b' < 10 → b' ≠ b → ∀ v, v < 6 → s.2.2.2.2.2 (b' * 6 + v) = xln (b' * 6 + v)) ∧ (∀ v, v < 6 → s.2.2.2.2.2 (b * 6 + v) = nu_ld xop xsx s.2.1 (nI v) (bf b) (i - bf b)))
    (be b) (bf b) (c, xrs, xnb, xnp, xnv, xln) (by omega) ⟨by omega, ?_, N, hc, fun w => by omega, fun _ _ => rfl, fun _ _ _ _ _ => rfl, fun v hv => ?_⟩ ?_ ?_
  · rw [Nat.sub_self]; rfl
  · rw [Nat.sub_self]; exact hl v hv
  · rintro n ⟨c', R, nB, nP, nV, ln⟩ ⟨_, q1, q2, q3, q4, q5, q6, q7⟩
    refine ⟨pk_in b 10 (by omega), ?_⟩
    rw [he]
    exact zc_ex (h c' R nB nP nV ln q1 q2 (q4 rfl) q5 q6 q7)
  · rintro n i ⟨c', R, nB, nP, nV, ln⟩ hi ⟨hlo, q1, q2, q3, q4, q5, q6, q7⟩ ih
    have q1' : (c', R) = nu_is xop (bf b) (c, xrs) (i - bf b) := q1
    have q3' : c' ≤ 12 + 5 * b + i := q3
    have hi' : i < ni := by omega
    have ek : i + 1 - bf b = i - bf b + 1 := by omega
    have ei : bf b + (i - bf b) = i := by omega
    have et : sc_tc xop i = b := (sc_tc_bf B b hb).2 i hlo hi
    obtain ⟨o1, o2, o3, o4, o5, o6⟩ := sc_opf (S i hi').1
    refine ⟨pk_in b 10 (by omega), ?_⟩
    rw [he]
    refine zc_go hi ⟨pk_in i 40 (by omega), ?_⟩
    rw [zb_ra (a := xop) i]
    refine x_definesX (zc_b (fun q => zn_1 (ih (c', R, nB, nP, nV, ln) ⟨by omega, ?_, ?_, ?_, ?_, q5, q6, fun v hv => ?_⟩)) (fun q => zs_rn i ?_ (by omega)))
    · show (c', R) = _
      rw [ek]
      show _ = nu_i xop (bf b + (i - bf b)) (nu_is xop (bf b) (c, xrs) (i - bf b))
      rw [ei, ← q1']
      unfold nu_i
      rw [q]; rfl
    · refine nu_N_skipI q2 (by omega) fun i' w1 w2 w3 w4 w5 => ?_
      have : i' = i := by omega
      rw [this, q] at w5; exact absurd w5 (by decide)
    · show c' ≤ 12 + 5 * b + (i + 1)
      omega
    · intro _
      show c' + 1 ≤ 12 + 5 * b + (i + 1)
      omega
    · show ln (b * 6 + v) = _
      have e := q7 v hv
      have e' : ln (b * 6 + v) = nu_ld xop xsx R (nI v) (bf b) (i - bf b) := e
      rw [ek]
      simp only [nu_ld]
      rw [ei, e', if_neg]
      intro w
      unfold sc_de at w
      rw [q, Bool.false_and] at w; exact absurd w (by decide)
    · obtain ⟨x, hx1, hx2⟩ := (S i hi').2.1 (Or.inl q)
      rw [hx2]
      have hbe' : i + 1 ≠ be b := by
        intro w
        have := sc_term B C b hb
        have e : be b - 1 = i := by omega
        rw [e] at this; exact this (o6 q)
      refine x_newName (by omega) (zs_st i ⟨pk_in i 40 (by omega), zs_st (b * 6 + x) (zn_1 (ih (c' + 1, upd R i (nI c'), _, _, _, _) ⟨by omega, ?_, ?_, ?_, fun w => absurd w hbe', fun j hj => ?_, fun b' hb' hne v hv => ?_, fun v hv => ?_⟩)) (by omega) (zi_6 b x)⟩ (by omega))
      · show (c' + 1, upd R i (nI c')) = _
        rw [ek]
        show _ = nu_i xop (bf b + (i - bf b)) (nu_is xop (bf b) (c, xrs) (i - bf b))
        rw [ei, ← q1']
        unfold nu_i
        rw [if_pos q]
      · have := nu_N_ins q2 (by show c' < 1000; omega) hi' hn q (by rw [et]; exact hr)
        rw [et, hx2] at this
        exact this
      · show c' + 1 ≤ 12 + 5 * b + (i + 1)
        omega
      · show upd R i (nI c') j = xrs j
        rw [pk_un (by omega)]; exact q5 j hj
      · show upd ln (b * 6 + x) _ (b' * 6 + v) = _
        rw [pk_un (by omega)]; exact q6 b' hb' hne v hv
      · show upd ln (b * 6 + x) (upd R i (nI c') (nI i).toNatClampNeg) (b * 6 + v) = nu_ld xop xsx (upd R i (nI c')) (nI v) (bf b) (i + 1 - bf b)
        rw [zb_ra (a := upd R i (nI c')) i, ek]
        simp only [nu_ld]
        rw [ei]
        by_cases w : v = x
        · subst w
          rw [pk_us, if_pos]
          unfold sc_de
          rw [q, hx2, decide_eq_true rfl]; rfl
        · rw [pk_un (by omega), if_neg]
          · have e' : ln (b * 6 + v) = nu_ld xop xsx R (nI v) (bf b) (i - bf b) := q7 v hv
            rw [e']
            exact nu_ld_congr fun j hj => by rw [pk_un (by omega)]
          · intro w'
            unfold sc_de at w'
            rw [q, hx2, Bool.true_and, decide_eq_true_iff] at w'
            exact w (zi_inj w').symm
theorem x_nameBlockDefinitions {post : SX → Prop} {b c : Nat} (B : sc_BL xop ni nb bf be) (C : sc_CL xop ni) (hbf : ∀ b, b < nb → xbf b = nI (bf b)) (hbe : ∀ b, b < nb → xbe b = nI (be b)) (hmv : mv ≤ 6) {mb' : Nat} (S : sc_SV mb' mv ni xop xsx xsy xsz) (hb : b < nb) (hr : gr_rc rt b = true)
    (N : nu_N rt xop xsx mv ni (b * 6) (bf b) c xph xrs xnb xnp xnv) (hc : c ≤ 6 + 5 * b + bf b) (hl : ∀ v, v < 6 → xln (b * 6 + v) = -1)
    (h : ∀ (c' : Nat) (P R nB nP nV ln : Nat → Int32), (c', P, R) = nu_1 rt xop bf be mv b (c, xph, xrs) → nu_N rt xop xsx mv ni ((b + 1) * 6) (be b) c' P R nB nP nV → c' ≤ 6 + 5 * (b + 1) + be b →
      (∀ j, j < bf b → R j = xrs j) → (∀ b', b' < 10 → b' ≠ b → ∀ v, v < 6 → ln (b' * 6 + v) = xln (b' * 6 + v)) → (∀ v, v < 6 → ln (b * 6 + v) = nu_ld xop xsx R (nI v) (bf b) (be b - bf b)) →
      post ((nI mb), (nI mi), (nI mv), (nI oc), ph, (nI ni), (nI nb), xrm, nI c', xcc, xsc, xpc, xop, xsx, xsy, xsz, xbo, xbf, xbe, xin, xee, xdm, xid, xfm, xgm, xkm, xlm, nB, nP, nV, P, ln, xpa, R, xax, xay, xaz, xfo, xsr, xso, xst, xco, xcx, xcy, xcz, xcb, xpd, xps, xss, xtu, xcu, xou, xot, xrg)) : wpX_nameBlockDefinitions post ((nI mb), (nI mi), (nI mv), (nI oc), ph, (nI ni), (nI nb), xrm, nI c, xcc, xsc, xpc, xop, xsx, xsy, xsz, xbo, xbf, xbe, xin, xee, xdm, xid, xfm, xgm, xkm, xlm, xnb, xnp, xnv, xph, xln, xpa, xrs, xax, xay, xaz, xfo, xsr, xso, xst, xco, xcx, xcy, xcz, xcb, xpd, xps, xss, xtu, xcu, xou, xot, xrg) (nI b) := by
  have hn := B.1
  have h10 := B.2.1
  have h1 := sc_be_le B b hb
  have h2 := (B.2.2.2.2.2 b hb).1
  refine loop_0 (fun n v (s : Nat × (Nat → Int32) × (Nat → Int32) × (Nat → Int32) × (Nat → Int32)) => wX_nameBlockDefinitions_2 post (nI b) n (nI v) (nI mb) (nI mi) (nI mv) (nI oc) ph (nI ni) (nI nb) xrm (nI s.1) xcc xsc xpc xop xsx xsy xsz xbo xbf xbe xin xee xdm xid xfm xgm xkm xlm s.2.2.1 s.2.2.2.1 s.2.2.2.2 s.2.1 xln xpa xrs xax xay xaz xfo xsr xso xst xco xcx xcy xcz xcb xpd xps xss xtu xcu xou xot xrg)
    (fun v s => (s.1, s.2.1) = nu_vs b (c, xph) v ∧ nu_N rt xop xsx mv ni (b * 6 + v) (bf b) s.1 s.2.1 xrs s.2.2.1 s.2.2.2.1 s.2.2.2.2 ∧ s.1 ≤ c + v) mv (c, xph, xnb, xnp, xnv) ⟨rfl, N, Nat.le_refl _⟩ ?_ ?_
  · rintro n ⟨c1, P, nB, nP, nV⟩ ⟨q1, q2, q3⟩
    have q3' : c1 ≤ c + mv := q3
    refine zc_ex (zs_rn b ?_ (by omega))
    rw [hbf b hb]
    have N2 : nu_N rt xop xsx mv ni ((b + 1) * 6) (bf b) c1 P xrs nB nP nV := by
      refine nu_N_skip q2 (by show c1 < 1000; omega) (by omega) fun j w1 w2 w3 => ?_
      rcases q2.2.2.2.2.2.2.2.2 j w3 with x | x
      · exact x
      · omega
    refine x_nbd_ins (xph := P) (xnb := nB) (xnp := nP) (xnv := nV) B C hbe hmv S hb hr N2 (by omega) hl fun c' R nB' nP' nV' ln p1 p2 p3 p4 p5 p6 => h c' P R nB' nP' nV' ln ?_ p2 (by omega) p4 p5 p6
    unfold nu_1
    rw [if_pos hr]
    have q1' : nu_vs b (c, xph) mv = (c1, P) := q1.symm
    show (c', P, R) = ((nu_is xop (bf b) ((nu_vs b (c, xph) mv).1, xrs) (be b - bf b)).1, (nu_vs b (c, xph) mv).2, (nu_is xop (bf b) ((nu_vs b (c, xph) mv).1, xrs) (be b - bf b)).2)
    rw [q1']
    show (c', P, R) = ((nu_is xop (bf b) (c1, xrs) (be b - bf b)).1, P, (nu_is xop (bf b) (c1, xrs) (be b - bf b)).2)
    rw [← p1]
  · rintro n v ⟨c1, P, nB, nP, nV⟩ hv ⟨q1, q2, q3⟩ ih
    have q3' : c1 ≤ c + v := q3
    have q1' : nu_vs b (c, xph) v = (c1, P) := q1.symm
    refine zc_go hv ⟨pk_in (b * 6 + v) 60 (by omega) (zi_6 b v), zc_lt (b * 6 + v) (fun q => zn_1 (ih (c1, P, nB, nP, nV) ⟨?_, ?_, ?_⟩)) (fun q => ?_) (zi_6 b v)⟩
    · show (c1, P) = nu_v b v (nu_vs b (c, xph) v)
      rw [q1']
      unfold nu_v
      rw [if_pos q]
    · refine nu_N_skip q2 (by show c1 < 1000; omega) (by omega) fun j w1 w2 w3 => ?_
      have e : j = b * 6 + v := by omega
      rw [e]
      rcases q2.2.2.2.1 (b * 6 + v) (by omega) with x | x | ⟨x, _⟩
      · exact x
      · have e0 : P (b * 6 + v) = 0 := x.2
        have q' : P (b * 6 + v) < 0 := q
        rw [e0] at q'; exact absurd q' (by decide)
      · omega
    · show c1 ≤ c + (v + 1)
      omega
    · refine x_newName (by omega) (zs_st (b * 6 + v) (zn_1 (ih (c1 + 1, upd P (b * 6 + v) (nI c1), _, _, _) ⟨?_, ?_, ?_⟩)) (by omega) (zi_6 b v))
      · show (c1 + 1, upd P (b * 6 + v) (nI c1)) = nu_v b v (nu_vs b (c, xph) v)
        rw [q1']
        unfold nu_v
        rw [if_neg q]
      · have := nu_N_phi q2 (by show c1 < 1000; omega) (by omega) q
        have e1 : (b * 6 + v) / 6 = b := by omega
        have e2 : (b * 6 + v) % 6 = v := by omega
        rw [e1, e2] at this
        exact this
      · show c1 + 1 ≤ c + (v + 1)
        omega
theorem x_giveNames {post : SX → Prop} (B : sc_BL xop ni nb bf be) (C : sc_CL xop ni) (hbf : ∀ b, b < nb → xbf b = nI (bf b)) (hbe : ∀ b, b < nb → xbe b = nI (be b)) (hmv1 : 1 ≤ mv) (hmv : mv ≤ 6) {mb' : Nat} (S : sc_SV mb' mv ni xop xsx xsy xsz) (V : gr_V rt nb)
    (hrm : ∀ i, i < 32 → bt xrm i = gr_rc rt i) (hP : ∀ j, j < 60 → xph j = -1 ∨ (xph j = 0 ∧ j % 6 < mv ∧ gr_rc rt (j / 6) = true)) (hl : ∀ j, j < 60 → xln j = -1)
    (h : ∀ (c : Nat) (P R nB nP nV ln : Nat → Int32), (c, P, R) = nu_b rt xop bf be mv (mv, xph, zb_fl 40 (-1) xrs) nb → nu_N rt xop xsx mv ni 60 ni c P R nB nP nV → c ≤ 96 → nu_L rt xop xsx bf be nb R ln →
      post ((nI mb), (nI mi), (nI mv), (nI oc), ph, (nI ni), (nI nb), xrm, nI c, xcc, xsc, xpc, xop, xsx, xsy, xsz, xbo, xbf, xbe, xin, xee, xdm, xid, xfm, xgm, xkm, xlm, nB, nP, nV, P, ln, xpa, R, xax, xay, xaz, zb_fl 40 0 xfo, xsr, xso, xst, xco, xcx, xcy, xcz, xcb, xpd, xps, xss, xtu, xcu, xou, xot, xrg)) : wpX_giveNames post ((nI mb), (nI mi), (nI mv), (nI oc), ph, (nI ni), (nI nb), xrm, xnc, xcc, xsc, xpc, xop, xsx, xsy, xsz, xbo, xbf, xbe, xin, xee, xdm, xid, xfm, xgm, xkm, xlm, xnb, xnp, xnv, xph, xln, xpa, xrs, xax, xay, xaz, xfo, xsr, xso, xst, xco, xcx, xcy, xcz, xcb, xpd, xps, xss, xtu, xcu, xou, xot, xrg) := by
  have hn := B.1
  have h10 := B.2.1
  have hp := V.1
  refine loop_0 (fun n i (s : (Nat → Int32) × (Nat → Int32)) => wX_giveNames_7 post (nI mb) (nI mi) (nI mv) (nI oc) ph (nI ni) (nI nb) xrm 0 xcc xsc xpc n (nI i) xop xsx xsy xsz xbo xbf xbe xin xee xdm xid xfm xgm xkm xlm xnb xnp xnv xph xln xpa s.1 xax xay xaz s.2 xsr xso xst xco xcx xcy xcz xcb xpd xps xss xtu xcu xou xot xrg) (fun i s => s.1 = (zb_fl i (-1) xrs) ∧ s.2 = (zb_fl i 0 xfo)) 40 (xrs, xfo) ⟨?_, ?_⟩ ?_ ?_
  · exact zb_fl_0.symm
  · exact zb_fl_0.symm
  · rintro n ⟨R0, F0⟩ ⟨e1, e2⟩
    have e1' : R0 = zb_fl 40 (-1) xrs := e1
    have e2' : F0 = zb_fl 40 0 xfo := e2
    subst e1' e2'
    refine zc_ex ?_
    refine loop_0 (fun n v (s : (Nat → Int32) × (Nat → Int32) × (Nat → Int32)) => wX_giveNames_35 post n (nI v) (nI mb) (nI mi) (nI mv) (nI oc) ph (nI ni) (nI nb) xrm (nI v) xcc xsc xpc xop xsx xsy xsz xbo xbf xbe xin xee xdm xid xfm xgm xkm xlm s.1 s.2.1 s.2.2 xph xln xpa (zb_fl 40 (-1) xrs) xax xay xaz (zb_fl 40 0 xfo) xsr xso xst xco xcx xcy xcz xcb xpd xps xss xtu xcu xou xot xrg)
      (fun v s => ∀ k, k < v → s.1 k = 0 ∧ s.2.1 k = -1 ∧ s.2.2 k = nI k) mv (xnb, xnp, xnv) (fun k hk => by omega) ?_ ?_
    · rintro n ⟨nB, nP, nV⟩ hI
      refine zc_ex ?_
      have N0 : nu_N rt xop xsx mv ni (0 * 6) (nu_st bf ni nb 0) mv xph (zb_fl 40 (-1) xrs) nB nP nV := by
        refine ⟨hmv1, Nat.le_refl _, hI, fun j hj => ?_, fun i hi => Or.inl (zb_fl_t hi), fun i h1 h2 => ?_, fun k h1 h2 => by omega, fun j j' k k' h1 h2 => by omega, fun j hj => ?_⟩
        · rcases hP j hj with x | x
          · exact Or.inl x
          · exact Or.inr (Or.inl ⟨by omega, x.1⟩)
        · unfold nu_st at h1
          rw [if_pos (show 0 < nb from hp), (B.2.2.2.1 C.1).2.1] at h1
          omega
        · exact (hP j hj).imp id (fun x => x.2)
      refine loop_0 (fun n b (s : Nat × (Nat → Int32) × (Nat → Int32) × (Nat → Int32) × (Nat → Int32) × (Nat → Int32) × (Nat → Int32)) => wX_giveNames_59 post n (nI b) (nI mb) (nI mi) (nI mv) (nI oc) ph (nI ni) (nI nb) xrm (nI s.1) xcc xsc xpc xop xsx xsy xsz xbo xbf xbe xin xee xdm xid xfm xgm xkm xlm s.2.2.2.1 s.2.2.2.2.1 s.2.2.2.2.2.1 s.2.1 s.2.2.2.2.2.2 xpa s.2.2.1 xax xay xaz (zb_fl 40 0 xfo) xsr xso xst xco xcx xcy xcz xcb xpd xps xss xtu xcu xou xot xrg)
        (fun b s => (s.1, s.2.1, s.2.2.1) = nu_b rt xop bf be mv (mv, xph, zb_fl 40 (-1) xrs) b ∧ nu_N rt xop xsx mv ni (b * 6) (nu_st bf ni nb b) s.1 s.2.1 s.2.2.1 s.2.2.2.1 s.2.2.2.2.1 s.2.2.2.2.2.1 ∧ s.1 ≤ 6 + 5 * b + nu_st bf ni nb b ∧ nu_L rt xop xsx bf be b s.2.2.1 s.2.2.2.2.2.2)
        nb (mv, xph, (zb_fl 40 (-1) xrs), nB, nP, nV, xln) ⟨rfl, N0, by show mv ≤ _; omega, fun b hb v hv => ?_⟩ ?_ ?_
      · rw [if_neg (by omega)]; exact hl (b * 6 + v) (by omega)
      · rintro n ⟨c, P, R, nB, nP, nV, ln⟩ ⟨q1, q2, q3, q4⟩
        have es : nu_st bf ni nb nb = ni := by unfold nu_st; rw [if_neg (by omega)]
        have q2' : nu_N rt xop xsx mv ni (nb * 6) (nu_st bf ni nb nb) c P R nB nP nV := q2
        have q3' : c ≤ 6 + 5 * nb + nu_st bf ni nb nb := q3
        rw [es] at q2' q3'
        refine zc_ex (h c P R nB nP nV ln q1 (nu_N_skip q2' (by omega) (by omega) fun j w1 w2 w3 => ?_) (by omega) q4)
        rcases q2'.2.2.2.2.2.2.2.2 j w3 with x | x
        · exact x
        · have := gr_rc_lt V x.2; omega
      · rintro n b ⟨c, P, R, nB, nP, nV, ln⟩ hb ⟨q1, q2, q3, q4⟩ ih
        have es : nu_st bf ni nb b = bf b := by unfold nu_st; rw [if_pos hb]
        have es' := nu_st_s B hb
        have hb2 := (B.2.2.2.2.2 b hb).1
        have hb3 := sc_be_le B b hb
        have q1' : nu_b rt xop bf be mv (mv, xph, zb_fl 40 (-1) xrs) b = (c, P, R) := q1.symm
        have q2' : nu_N rt xop xsx mv ni (b * 6) (nu_st bf ni nb b) c P R nB nP nV := q2
        have q3' : c ≤ 6 + 5 * b + nu_st bf ni nb b := q3
        have q4' : nu_L rt xop xsx bf be b R ln := q4
        rw [es] at q2' q3'
        refine zc_go hb (x_reachable (by omega) (zc_b (fun q => zn_1 (ih (c, P, R, nB, nP, nV, ln) ⟨?_, ?_, ?_, fun b' hb' v hv => ?_⟩)) (fun q => ?_)))
        · rw [hrm b (by omega)] at q
          show (c, P, R) = nu_1 rt xop bf be mv b (nu_b rt xop bf be mv _ b)
          rw [q1']
          unfold nu_1
          rw [q]; rfl
        · rw [hrm b (by omega)] at q
          rw [es']
          refine nu_N_skipI (nu_N_skip q2' (by omega) (by omega) fun j w1 w2 w3 => ?_) (by omega) fun i w1 w2 w3 w4 w5 => ?_
          · rcases q2'.2.2.2.2.2.2.2.2 j w3 with x | x
            · exact x
            · have e : j / 6 = b := by omega
              rw [e, q] at x; exact absurd x.2 (by decide)
          · rw [(sc_tc_bf B b hb).2 i w1 w2, q] at w4; exact absurd w4 (by decide)
        · show c ≤ 6 + 5 * (b + 1) + nu_st bf ni nb (b + 1)
          rw [es']; omega
        · rw [hrm b (by omega)] at q
          show ln (b' * 6 + v) = _
          rw [q4' b' hb' v hv]
          rcases Nat.lt_or_ge b' b with w | w
          · by_cases z : gr_rc rt b' = true
            · rw [if_pos ⟨w, z⟩, if_pos ⟨by omega, z⟩]
            · rw [if_neg (fun y => z y.2), if_neg (fun y => z y.2)]
          · rw [if_neg (fun y => by omega), if_neg (fun y => ?_)]
            have e : b' = b := by omega
            rw [e, q] at y; exact absurd y.2 (by decide)
        · rw [hrm b (by omega)] at q
          refine x_nameBlockDefinitions (xph := P) (xrs := R) (xnb := nB) (xnp := nP) (xnv := nV) (xln := ln) (xfo := zb_fl 40 0 xfo) B C hbf hbe hmv S hb q q2' q3' (fun v hv => by rw [q4' b (by omega) v hv, if_neg (fun y => by omega)])
            fun c' P' R' nB' nP' nV' ln' p1 p2 p3 p4 p5 p6 => zn_1 (ih (c', P', R', nB', nP', nV', ln') ⟨?_, ?_, ?_, fun b' hb' v hv => ?_⟩)
          · show (c', P', R') = nu_1 rt xop bf be mv b (nu_b rt xop bf be mv _ b)
            rw [q1']; exact p1
          · rw [es']; exact p2
          · show c' ≤ 6 + 5 * (b + 1) + nu_st bf ni nb (b + 1)
            rw [es']; exact p3
          · show ln' (b' * 6 + v) = _
            by_cases e : b' = b
            · subst e
              rw [p6 v hv, if_pos ⟨by omega, q⟩]
            · rw [p5 b' hb' e v hv, q4' b' hb' v hv]
              by_cases w : b' < b ∧ gr_rc rt b' = true
              · rw [if_pos w, if_pos ⟨by omega, w.2⟩]
                refine nu_ld_congr fun j hj => (p4 _ ?_).symm
                have y1 := (sc_tc_bf B b' (by omega)).2 (be b' - 1)
                have y2 := (B.2.2.2.2.2 b' (by omega)).1
                have y3 : be b' ≤ bf b := by
                  rcases Nat.lt_or_ge (bf b) (be b') with z | z
                  · have z1 := sc_lt_bf B (b := b) (i := bf b') hb
                    have z2 := (sc_tc_bf B b hb).1
                    have z3 : bf b' ≤ bf b ∨ bf b < bf b' := by omega
                    rcases z3 with z3 | z3
                    · have := (sc_tc_bf B b' (by omega)).2 (bf b) z3 z
                      omega
                    · have := sc_lt_bf B (b := b') (i := bf b) (by omega) z3
                      omega
                  · exact z
                omega
              · rw [if_neg w, if_neg (fun y => w ⟨by omega, y.2⟩)]
    · rintro n v ⟨nB, nP, nV⟩ hv hI ih
      refine zc_go hv (x_newName (by omega) (zn_1 (ih (upd nB v 0, upd nP v (-1), upd nV v (nI v)) fun k hk => ?_)))
      show upd nB v 0 k = 0 ∧ upd nP v (-1) k = -1 ∧ upd nV v (nI v) k = nI k
      by_cases w : k = v
      · rw [w, pk_us, pk_us, pk_us]; exact ⟨rfl, rfl, rfl⟩
      · rw [pk_un w, pk_un w, pk_un w]; exact hI k (by omega)
  · rintro n i ⟨R0, F0⟩ hi ⟨e1, e2⟩ ih
    have e1' : R0 = zb_fl i (-1) xrs := e1
    have e2' : F0 = zb_fl i 0 xfo := e2
    refine zc_go hi (zs_st i (zs_st i (zn_1 (ih (upd R0 i (-1), upd F0 i 0) ⟨?_, ?_⟩))))
    · show upd R0 i (-1) = _
      rw [e1', zb_fl_s]
    · show upd F0 i 0 = _
      rw [e2', zb_fl_s]
end
end
section
/-! ===== renaming ===== -/
theorem zb_uu {a : Nat → Int32} {k : Nat} {x y : Int32} : upd (upd a k x) k y = upd a k y := by
  funext j
  by_cases w : j = k
  · rw [w, pk_us, pk_us]
  · rw [pk_un w, pk_un w, pk_un w]
def nu_E (ln P id : Nat → Int32) (v : Nat) : Nat → Nat → Int32
  | 0, _ => nI v
  | k + 1, b => if ln (b * 6 + v) < 0 then (if P (b * 6 + v) < 0 then (if id b < 0 then nI v else nu_E ln P id v k (id b).toNatClampNeg) else P (b * 6 + v)) else ln (b * 6 + v)
theorem nu_E_st {rt ln P id : Nat → Int32} {v nb : Nat} (V : gr_V rt nb) (hid : ∀ b, b < 10 → id b = gr_id rt b) : ∀ m b k k', gr_cd rt b ≤ m → gr_rc rt b = true → gr_cd rt b ≤ k → gr_cd rt b ≤ k' → nu_E ln P id v k b = nu_E ln P id v k' b := by
  intro m
  have h10 := V.2.1
  induction m with
  | zero =>
    intro b k k' h1 h2
    have hb := gr_rc_lt V h2
    have : 1 ≤ gr_cd rt b := zk_pos (f := fun a => gr_dm rt a b) (a := b) (gr_dm_self h2) (by omega)
    omega
  | succ m ih =>
    intro b k k' h1 h2 h3 h4
    have hb := gr_rc_lt V h2
    have h5 : 1 ≤ gr_cd rt b := zk_pos (f := fun a => gr_dm rt a b) (a := b) (gr_dm_self h2) (by omega)
    obtain ⟨j, rfl⟩ : ∃ j, k = j + 1 := ⟨k - 1, by omega⟩
    obtain ⟨j', rfl⟩ : ∃ j', k' = j' + 1 := ⟨k' - 1, by omega⟩
    simp only [nu_E]
    by_cases w : id b < 0
    · rw [if_pos w, if_pos w]
    · rw [if_neg w, if_neg w]
      rcases gr_id_or (rt := rt) (b := b) with z | ⟨a, ha, hic, z⟩
      · rw [hid b (by omega), z] at w; exact absurd (by decide) w
      · have hlt := gr_cd_lt V hic
        have e : (id b).toNatClampNeg = a := by rw [hid b (by omega), z, nI_clamp (by omega)]
        rw [e, ih a j j' (by omega) (gr_dm_rc hic.2.1).1 (by omega) (by omega)]
def nu_S (ln P id : Nat → Int32) (v b : Nat) : Int32 := if P (b * 6 + v) < 0 then (if b = 0 then nI v else if id b < 0 then nI v else nu_E ln P id v 10 (id b).toNatClampNeg) else P (b * 6 + v)
def nu_nm (op fx R ln P id : Nat → Int32) (lo v b i : Nat) : Int32 := if nu_ld op fx R (nI v) lo (i - lo) < 0 then nu_S ln P id v b else nu_ld op fx R (nI v) lo (i - lo)
def nu_A1 (op fx R sr : Nat → Int32) (i : Nat) : Int32 := if sc_df (op i) = true then R i else if sc_rx (op i) = true then sr (fx i).toNatClampNeg else fx i
def nu_A2 (op fy sr : Nat → Int32) (i : Nat) : Int32 := if sc_ry (op i) = true then sr (fy i).toNatClampNeg else fy i
def nu_A3 (op fz sr : Nat → Int32) (i : Nat) : Int32 := if sc_rz (op i) = true then sr (fz i).toNatClampNeg else fz i
/-- the names before instruction i -/
def nu_sr (op fx R ln P id : Nat → Int32) (bf : Nat → Nat) (i : Nat) : Nat → Int32 := fun v => nu_nm op fx R ln P id (bf (sc_tc op i)) v (sc_tc op i) i
def nu_pc (rt P : Nat → Int32) (j : Nat) : Prop := ∃ t, t < 10 ∧ gr_ee rt (j / 6) = nI t ∧ ¬ P (t * 6 + j % 6) < 0
noncomputable def nu_pa (rt ln P id f : Nat → Int32) (K j : Nat) : Int32 := if j < 120 then @ite _ (j < K ∧ nu_pc rt P j) (Classical.propDecidable _) (nu_E ln P id (j % 6) 10 (j / 6 / 2)) (-1) else f j
theorem nu_pa_t {rt ln P id f : Nat → Int32} {K j : Nat} (h : j < 120) (h1 : j < K) (h2 : nu_pc rt P j) : nu_pa rt ln P id f K j = nu_E ln P id (j % 6) 10 (j / 6 / 2) := by unfold nu_pa; rw [if_pos h, if_pos ⟨h1, h2⟩]
theorem nu_pa_f {rt ln P id f : Nat → Int32} {K j : Nat} (h : j < 120) (h1 : ¬ (j < K ∧ nu_pc rt P j)) : nu_pa rt ln P id f K j = -1 := by unfold nu_pa; rw [if_pos h, if_neg h1]
theorem nu_pa_o {rt ln P id f : Nat → Int32} {K j : Nat} (h : ¬ j < 120) : nu_pa rt ln P id f K j = f j := by unfold nu_pa; rw [if_neg h]
theorem nu_pa_skip {rt ln P id f : Nat → Int32} {K K' : Nat} (hK : K ≤ K') (h : ∀ j, K ≤ j → j < K' → j < 120 → ¬ nu_pc rt P j) : nu_pa rt ln P id f K = nu_pa rt ln P id f K' := by
  funext j
  by_cases w : j < 120
  · by_cases x : j < K' ∧ nu_pc rt P j
    · rcases Nat.lt_or_ge j K with y | y
      · rw [nu_pa_t w y x.2, nu_pa_t w x.1 x.2]
      · exact absurd x.2 (h j y x.1 w)
    · rw [nu_pa_f w x, nu_pa_f w (fun y => x ⟨by omega, y.2⟩)]
  · rw [nu_pa_o w, nu_pa_o w]
theorem nu_pa_put {rt ln P id f : Nat → Int32} {K : Nat} (hK : K < 120) (h : nu_pc rt P K) : upd (nu_pa rt ln P id f K) K (nu_E ln P id (K % 6) 10 (K / 6 / 2)) = nu_pa rt ln P id f (K + 1) := by
  funext j
  by_cases e : j = K
  · rw [e, pk_us, nu_pa_t hK (by omega) h]
  · rw [pk_un e]
    by_cases w : j < 120
    · by_cases x : j < K ∧ nu_pc rt P j
      · rw [nu_pa_t w x.1 x.2, nu_pa_t w (by omega) x.2]
      · rw [nu_pa_f w x, nu_pa_f w (fun y => x ⟨by omega, y.2⟩)]
    · rw [nu_pa_o w, nu_pa_o w]
section
variable {mb mi mv oc ni nb : Nat} {ph xrm xnc xcc xsc xpc : Int32} {xop xsx xsy xsz xbo xbf xbe xin xee xdm xid xfm xgm xkm xlm xnb xnp xnv xph xln xpa xrs xax xay xaz xfo xsr xso xst xco xcx xcy xcz xcb xpd xps xss xtu xcu xou xot xrg : Nat → Int32} {rt : Nat → Int32} {bf be : Nat → Nat}
theorem x_nameAtEnd {post : Int32 → Prop} {b v : Nat} (hb : b < 10) (hv : v < 6) (hid : ∀ b, b < 10 → xid b = -1 ∨ ∃ a, a < 10 ∧ xid b = nI a) (h : post (nu_E xln xph xid v 10 b)) : wpX_nameAtEnd post ((nI mb), (nI mi), (nI mv), (nI oc), ph, (nI ni), (nI nb), xrm, xnc, xcc, xsc, xpc, xop, xsx, xsy, xsz, xbo, xbf, xbe, xin, xee, xdm, xid, xfm, xgm, xkm, xlm, xnb, xnp, xnv, xph, xln, xpa, xrs, xax, xay, xaz, xfo, xsr, xso, xst, xco, xcx, xcy, xcz, xcb, xpd, xps, xss, xtu, xcu, xou, xot, xrg) (nI b) (nI v) := by
  have key : ∀ d b, d ≤ 10 → b < 10 → post (nu_E xln xph xid v d b) → ∀ n, d < n → wX_nameAtEnd_5 post (nI v) (nI mb) (nI mi) (nI mv) (nI oc) ph (nI ni) (nI nb) xrm xnc xcc xsc xpc xop xsx xsy xsz xbo xbf xbe xin xee xdm xid xfm xgm xkm xlm xnb xnp xnv xph xln xpa xrs xax xay xaz xfo xsr xso xst xco xcx xcy xcz xcb xpd xps xss xtu xcu xou xot xrg n (nI b) (nI (10 - d)) := by
    intro d
    induction d with
    | zero =>
      intro b _ hb h n hn
      obtain ⟨m, rfl⟩ : ∃ m, n = m + 1 := ⟨n - 1, by omega⟩
      exact zc_ex (N := 10) h
    | succ d ih =>
      intro b hd hb h n hn
      obtain ⟨m, rfl⟩ : ∃ m, n = m + 1 := ⟨n - 1, by omega⟩
      have hi : vp_in (nI (b * 6 + v)) 60 := pk_in (b * 6 + v) 60 (by omega)
      refine zc_go (N := 10) (by omega) (br_f zi_nlt (nm_r (zi_6 b v) ⟨hi, zc_lt (b * 6 + v) (fun q => ⟨hi, zc_lt (b * 6 + v) (fun q' => zs_rn b ?_) (fun q' => ⟨hi, ?_⟩)⟩) (fun q => ⟨hi, ?_⟩)⟩))
      · simp only [nu_E] at h
        rw [if_pos q, if_pos q'] at h
        have e1 : 10 - (d + 1) + 1 = 10 - d := by omega
        rcases hid b hb with z | ⟨a, ha, z⟩
        · rw [z] at h ⊢
          rw [if_pos (by decide)] at h
          refine zn_1 ?_
          obtain ⟨m', rfl⟩ : ∃ m', m = m' + 1 := ⟨m - 1, by omega⟩
          rw [e1]
          rcases Nat.eq_zero_or_pos d with y | y
          · subst y; exact zc_ex (N := 10) h
          · exact zc_go (N := 10) (by omega) (br_t (by decide) h)
        · rw [z] at h ⊢
          rw [if_neg zi_nlt, nI_clamp (by omega)] at h
          refine zn_1 ?_
          rw [e1]
          exact ih a (by omega) ha h m (by omega)
      · simp only [nu_E] at h
        rw [if_pos q, if_neg q'] at h
        rw [zb_rd (b * 6 + v)]; exact h
      · simp only [nu_E] at h
        rw [if_neg q] at h
        rw [zb_rd (b * 6 + v)]; exact h
  exact ⟨11, key 10 b (by omega) hb h 11 (by omega)⟩
theorem x_nameAtEnd_no {post : Int32 → Prop} {x : Int32} {v : Nat} (hx : x < 0) (h : post (nI v)) : wpX_nameAtEnd post ((nI mb), (nI mi), (nI mv), (nI oc), ph, (nI ni), (nI nb), xrm, xnc, xcc, xsc, xpc, xop, xsx, xsy, xsz, xbo, xbf, xbe, xin, xee, xdm, xid, xfm, xgm, xkm, xlm, xnb, xnp, xnv, xph, xln, xpa, xrs, xax, xay, xaz, xfo, xsr, xso, xst, xco, xcx, xcy, xcz, xcb, xpd, xps, xss, xtu, xcu, xou, xot, xrg) x (nI v) :=
  ⟨1, zc_go (N := 10) (i := 0) (by omega) (br_t hx h)⟩
theorem x_nameAtStart {post : Int32 → Prop} {b v : Nat} (hb : b < 10) (hv : v < 6) (hid : ∀ b, b < 10 → xid b = -1 ∨ ∃ a, a < 10 ∧ xid b = nI a) (h : post (nu_S xln xph xid v b)) : wpX_nameAtStart post ((nI mb), (nI mi), (nI mv), (nI oc), ph, (nI ni), (nI nb), xrm, xnc, xcc, xsc, xpc, xop, xsx, xsy, xsz, xbo, xbf, xbe, xin, xee, xdm, xid, xfm, xgm, xkm, xlm, xnb, xnp, xnv, xph, xln, xpa, xrs, xax, xay, xaz, xfo, xsr, xso, xst, xco, xcx, xcy, xcz, xcb, xpd, xps, xss, xtu, xcu, xou, xot, xrg) (nI b) (nI v) := by
  unfold nu_S at h
  refine zs_rn (b * 6 + v) ⟨fun q => ?_, fun q => ?_⟩ (by omega) (zi_6 b v)
  · rw [if_pos q] at h
    refine pk_eq b 0 (fun w => ?_) (fun w => ⟨pk_in b 10 hb, ?_⟩)
    · rw [if_pos w] at h; exact h
    · rw [if_neg w] at h
      rw [zb_ra (a := xid) b]
      rcases hid b hb with z | ⟨a, ha, z⟩
      · rw [z] at h ⊢
        rw [if_pos (by decide)] at h
        exact x_nameAtEnd_no (by decide) h
      · rw [z] at h ⊢
        rw [if_neg zi_nlt, nI_clamp (by omega)] at h
        exact x_nameAtEnd ha hv hid h
  · rw [if_neg q] at h; exact h
theorem x_renameInstruction {post : SX → Prop} {i : Nat} (hn : ni ≤ 40) (hmv : mv ≤ 6) {mb' : Nat} (S : sc_SV mb' mv ni xop xsx xsy xsz) (hi : i < ni)
    (h : post ((nI mb), (nI mi), (nI mv), (nI oc), ph, (nI ni), (nI nb), xrm, xnc, xcc, xsc, xpc, xop, xsx, xsy, xsz, xbo, xbf, xbe, xin, xee, xdm, xid, xfm, xgm, xkm, xlm, xnb, xnp, xnv, xph, xln, xpa, xrs, upd xax i (nu_A1 xop xsx xrs xsr i), upd xay i (nu_A2 xop xsy xsr i), upd xaz i (nu_A3 xop xsz xsr i), xfo, if sc_df (xop i) = true then upd xsr (xsx i).toNatClampNeg (xrs i) else xsr, xso, xst, xco, xcx, xcy, xcz, xcb, xpd, xps, xss, xtu, xcu, xou, xot, xrg)) : wpX_renameInstruction post ((nI mb), (nI mi), (nI mv), (nI oc), ph, (nI ni), (nI nb), xrm, xnc, xcc, xsc, xpc, xop, xsx, xsy, xsz, xbo, xbf, xbe, xin, xee, xdm, xid, xfm, xgm, xkm, xlm, xnb, xnp, xnv, xph, xln, xpa, xrs, xax, xay, xaz, xfo, xsr, xso, xst, xco, xcx, xcy, xcz, xcb, xpd, xps, xss, xtu, xcu, xou, xot, xrg) (nI i) := by
  obtain ⟨s1, s2, s3, s4, _⟩ := S i hi
  obtain ⟨o1, o2, o3, o4, o5, o6⟩ := sc_opf s1
  have hv : vp_in (nI i) 40 := pk_in i 40 (by omega)
  have last : ∀ A1 A2 A3 : Int32, (sc_df (xop i) = false → A1 = nu_A1 xop xsx xrs xsr i) → A2 = nu_A2 xop xsy xsr i → A3 = nu_A3 xop xsz xsr i → wX_renameInstruction_118 post (nI i) (xop i) (nI mb) (nI mi) (nI mv) (nI oc) ph (nI ni) (nI nb) xrm xnc xcc xsc xpc xop xsx xsy xsz xbo xbf xbe xin xee xdm xid xfm xgm xkm xlm xnb xnp xnv xph xln xpa xrs (upd xax i A1) (upd xay i A2) (upd xaz i A3) xfo xsr xso xst xco xcx xcy xcz xcb xpd xps xss xtu xcu xou xot xrg := by
    intro A1 A2 A3 e1 e2 e3
    refine x_definesX (zc_b (fun q => ?_) (fun q => ⟨hv, ?_⟩))
    · rw [q] at h
      rw [e1 q, e2, e3]; exact h
    · rw [zb_ra (a := xrs) i, zb_ra (a := xsx) i]
      refine zs_st i ⟨hv, hv, ?_⟩ (by omega)
      rw [zb_uu]
      obtain ⟨x, hx1, hx2⟩ := s2 (Or.inl q)
      rw [if_pos q, hx2] at h
      rw [hx2]
      refine zs_st x ?_ (by omega)
      have ea : nu_A1 xop xsx xrs xsr i = xrs i := by unfold nu_A1; rw [if_pos q]
      rw [nI_clamp (by omega), ea] at h
      rw [e2, e3]; exact h
  have st3 : ∀ A1 A2 : Int32, (sc_df (xop i) = false → A1 = nu_A1 xop xsx xrs xsr i) → A2 = nu_A2 xop xsy xsr i → wX_renameInstruction_93 post (nI i) (xop i) (nI mb) (nI mi) (nI mv) (nI oc) ph (nI ni) (nI nb) xrm xnc xcc xsc xpc xop xsx xsy xsz xbo xbf xbe xin xee xdm xid xfm xgm xkm xlm xnb xnp xnv xph xln xpa xrs (upd xax i A1) (upd xay i A2) (upd xaz i (xsz i)) xfo xsr xso xst xco xcx xcy xcz xcb xpd xps xss xtu xcu xou xot xrg := by
    intro A1 A2 e1 e2
    refine x_readsZ (zc_b (fun q => last A1 A2 _ e1 e2 ?_) (fun q => ⟨hv, ?_⟩))
    · unfold nu_A3; rw [q]; rfl
    · obtain ⟨z, hz1, hz2⟩ := s4 q
      rw [zb_ra (a := xsz) i]
      refine ⟨by rw [hz2]; exact pk_in z 6 (by omega), zs_st i ?_ (by omega)⟩
      rw [zb_uu]
      exact last A1 A2 _ e1 e2 (by unfold nu_A3; rw [if_pos q])
  have st2 : ∀ A1 : Int32, (sc_df (xop i) = false → A1 = nu_A1 xop xsx xrs xsr i) → wX_renameInstruction_68 post (nI i) (xop i) (nI mb) (nI mi) (nI mv) (nI oc) ph (nI ni) (nI nb) xrm xnc xcc xsc xpc xop xsx xsy xsz xbo xbf xbe xin xee xdm xid xfm xgm xkm xlm xnb xnp xnv xph xln xpa xrs (upd xax i A1) (upd xay i (xsy i)) (upd xaz i (xsz i)) xfo xsr xso xst xco xcx xcy xcz xcb xpd xps xss xtu xcu xou xot xrg := by
    intro A1 e1
    refine x_readsY (zc_b (fun q => st3 A1 _ e1 ?_) (fun q => ⟨hv, ?_⟩))
    · unfold nu_A2; rw [q]; rfl
    · obtain ⟨z, hz1, hz2⟩ := s3 q
      rw [zb_ra (a := xsy) i]
      refine ⟨by rw [hz2]; exact pk_in z 6 (by omega), zs_st i ?_ (by omega)⟩
      rw [zb_uu]
      exact st3 A1 _ e1 (by unfold nu_A2; rw [if_pos q])
  refine zs_rn i ⟨hv, ?_⟩ (by omega)
  rw [zb_ra (a := xsx) i, zb_ra (a := xsy) i, zb_ra (a := xsz) i]
  refine zs_st i ⟨hv, zs_st i ⟨hv, zs_st i ?_ (by omega)⟩ (by omega)⟩ (by omega)
  refine x_readsX (zc_b (fun q => st2 _ fun w => ?_) (fun q => ⟨hv, ?_⟩))
  · unfold nu_A1; rw [q, w]; rfl
  · obtain ⟨z, hz1, hz2⟩ := s2 (Or.inr q)
    refine ⟨by rw [hz2]; exact pk_in z 6 (by omega), zs_st i ?_ (by omega)⟩
    rw [zb_uu]
    exact st2 _ fun w => by unfold nu_A1; rw [w, if_neg (by decide), if_pos q]
end
end
section
/-! ===== the component renames and fills the arguments ===== -/
section
variable {mb mi mv oc ni nb : Nat} {ph xrm xnc xcc xsc xpc : Int32} {xop xsx xsy xsz xbo xbf xbe xin xee xdm xid xfm xgm xkm xlm xnb xnp xnv xph xln xpa xrs xax xay xaz xfo xsr xso xst xco xcx xcy xcz xcb xpd xps xss xtu xcu xou xot xrg : Nat → Int32} {rt : Nat → Int32} {bf be : Nat → Nat}
/-- what renaming leaves -/
def nu_T (rt op fx fy fz R ln P id : Nat → Int32) (bf : Nat → Nat) (k : Nat) (A1 A2 A3 : Nat → Int32) : Prop := ∀ i, i < k → gr_rc rt (sc_tc op i) = true →
  A1 i = nu_A1 op fx R (nu_sr op fx R ln P id bf i) i ∧ A2 i = nu_A2 op fy (nu_sr op fx R ln P id bf i) i ∧ A3 i = nu_A3 op fz (nu_sr op fx R ln P id bf i) i
theorem x_renameInstructions {post : SX → Prop} (B : sc_BL xop ni nb bf be) (hbf : ∀ b, b < nb → xbf b = nI (bf b)) (hbe : ∀ b, b < nb → xbe b = nI (be b)) (hmv : mv ≤ 6) {mb' : Nat} (S : sc_SV mb' mv ni xop xsx xsy xsz) (V : gr_V rt nb)
    (hrm : ∀ i, i < 32 → bt xrm i = gr_rc rt i) (hid : ∀ b, b < 10 → xid b = -1 ∨ ∃ a, a < 10 ∧ xid b = nI a)
    (hR : ∀ i, i < ni → gr_rc rt (sc_tc xop i) = true → sc_df (xop i) = true → ¬ xrs i < 0)
    (h : ∀ A1 A2 A3 sr : Nat → Int32, nu_T rt xop xsx xsy xsz xrs xln xph xid bf ni A1 A2 A3 → post ((nI mb), (nI mi), (nI mv), (nI oc), ph, (nI ni), (nI nb), xrm, xnc, xcc, xsc, xpc, xop, xsx, xsy, xsz, xbo, xbf, xbe, xin, xee, xdm, xid, xfm, xgm, xkm, xlm, xnb, xnp, xnv, xph, xln, xpa, xrs, A1, A2, A3, xfo, sr, xso, xst, xco, xcx, xcy, xcz, xcb, xpd, xps, xss, xtu, xcu, xou, xot, xrg)) : wpX_renameInstructions post ((nI mb), (nI mi), (nI mv), (nI oc), ph, (nI ni), (nI nb), xrm, xnc, xcc, xsc, xpc, xop, xsx, xsy, xsz, xbo, xbf, xbe, xin, xee, xdm, xid, xfm, xgm, xkm, xlm, xnb, xnp, xnv, xph, xln, xpa, xrs, xax, xay, xaz, xfo, xsr, xso, xst, xco, xcx, xcy, xcz, xcb, xpd, xps, xss, xtu, xcu, xou, xot, xrg) := by
  have hn := B.1
  have h10 := B.2.1
  refine loop_0 (fun n b (s : (Nat → Int32) × (Nat → Int32) × (Nat → Int32) × (Nat → Int32)) => wX_renameInstructions_2 post n (nI b) (nI mb) (nI mi) (nI mv) (nI oc) ph (nI ni) (nI nb) xrm xnc xcc xsc xpc xop xsx xsy xsz xbo xbf xbe xin xee xdm xid xfm xgm xkm xlm xnb xnp xnv xph xln xpa xrs s.1 s.2.1 s.2.2.1 xfo s.2.2.2 xso xst xco xcx xcy xcz xcb xpd xps xss xtu xcu xou xot xrg)
    (fun b s => nu_T rt xop xsx xsy xsz xrs xln xph xid bf (nu_st bf ni nb b) s.1 s.2.1 s.2.2.1) nb (xax, xay, xaz, xsr) (fun i hi => ?_) ?_ ?_
  · exfalso
    unfold nu_st at hi
    have hn0 : 0 < ni ∨ ni = 0 := by omega
    rcases hn0 with z | z
    · have := B.2.2.2.1 z
      rw [if_pos this.1, this.2.1] at hi; omega
    · have := B.2.2.1 z
      rw [if_neg (by omega)] at hi; omega
  · rintro n ⟨A1, A2, A3, sr⟩ hI
    have es : nu_st bf ni nb nb = ni := by unfold nu_st; rw [if_neg (by omega)]
    rw [es] at hI
    exact zc_ex (h A1 A2 A3 sr hI)
  · rintro n b ⟨A1, A2, A3, sr⟩ hb hI ih
    have es : nu_st bf ni nb b = bf b := by unfold nu_st; rw [if_pos hb]
    have es' := nu_st_s B hb
    have hb1 := sc_be_le B b hb
    have hb2 := (B.2.2.2.2.2 b hb).1
    rw [es] at hI
    refine zc_go hb (x_reachable (by omega) (zc_b (fun q => zn_1 (ih (A1, A2, A3, sr) fun i hi w => ?_)) (fun q => ?_)))
    · rw [hrm b (by omega)] at q
      rw [es'] at hi
      rcases Nat.lt_or_ge i (bf b) with x | x
      · exact hI i x w
      · rw [(sc_tc_bf B b hb).2 i x hi, q] at w; exact absurd w (by decide)
    · rw [hrm b (by omega)] at q
      refine loop_0 (fun n' v (sr : Nat → Int32) => wX_renameInstructions_20 post (wX_renameInstructions_2 post n) (nI b) (nI mb) (nI mi) (nI mv) (nI oc) ph (nI ni) (nI nb) xrm xnc xcc xsc xpc n' (nI v) xop xsx xsy xsz xbo xbf xbe xin xee xdm xid xfm xgm xkm xlm xnb xnp xnv xph xln xpa xrs A1 A2 A3 xfo sr xso xst xco xcx xcy xcz xcb xpd xps xss xtu xcu xou xot xrg) (fun v sr => ∀ v', v' < v → sr v' = nu_S xln xph xid v' b) mv sr (fun v' hv' => by omega) ?_ ?_
      · intro n' sr hsr
        refine zc_ex (zs_rn b ?_ (by omega))
        rw [hbf b hb]
        have he : xbe (nI b).toNatClampNeg = nI (be b) := by rw [zb_rd b, hbe b hb]
        refine pk_loop (fun n' i (s : (Nat → Int32) × (Nat → Int32) × (Nat → Int32) × (Nat → Int32)) => wX_renameInstructions_53 post (wX_renameInstructions_2 post n) (nI b) n' (nI i) (nI mb) (nI mi) (nI mv) (nI oc) ph (nI ni) (nI nb) xrm xnc xcc xsc xpc xop xsx xsy xsz xbo xbf xbe xin xee xdm xid xfm xgm xkm xlm xnb xnp xnv xph xln xpa xrs s.1 s.2.1 s.2.2.1 xfo s.2.2.2 xso xst xco xcx xcy xcz xcb xpd xps xss xtu xcu xou xot xrg)
          (fun i s => bf b ≤ i ∧ nu_T rt xop xsx xsy xsz xrs xln xph xid bf i s.1 s.2.1 s.2.2.1 ∧ ∀ v, v < mv → s.2.2.2 v = nu_nm xop xsx xrs xln xph xid (bf b) v b i) (be b) (bf b) (A1, A2, A3, sr) (by omega) ⟨by omega, hI, fun v hv => ?_⟩ ?_ ?_
        · unfold nu_nm
          rw [Nat.sub_self]
          exact hsr v hv
        · rintro n' ⟨A1, A2, A3, sr⟩ ⟨_, p1, p2⟩
          refine ⟨pk_in b 10 (by omega), ?_⟩
          rw [he]
          refine zc_ex (zn_1 (ih (A1, A2, A3, sr) ?_))
          rw [es']; exact p1
        · rintro n' i ⟨A1, A2, A3, sr⟩ hi ⟨hlo, p1, p2⟩ ih'
          have hi' : i < ni := by omega
          have et : sc_tc xop i = b := (sc_tc_bf B b hb).2 i hlo hi
          have hsr : ∀ v, v < mv → sr v = nu_sr xop xsx xrs xln xph xid bf i v := by
            intro v hv
            unfold nu_sr
            rw [et]; exact p2 v hv
          obtain ⟨s1, s2, s3, s4, _⟩ := S i hi'
          refine ⟨pk_in b 10 (by omega), ?_⟩
          rw [he]
          refine zc_go hi (x_renameInstruction (xax := A1) (xay := A2) (xaz := A3) (xsr := sr) hn hmv S hi' (zn_1 (ih' (_, _, _, _) ⟨by omega, fun j hj w => ?_, fun v hv => ?_⟩)))
          · show upd A1 i _ j = _ ∧ upd A2 i _ j = _ ∧ upd A3 i _ j = _
            by_cases e : j = i
            · subst e
              rw [pk_us, pk_us, pk_us]
              refine ⟨?_, ?_, ?_⟩
              · unfold nu_A1
                by_cases z : sc_df (xop j) = true
                · rw [if_pos z, if_pos z]
                · rw [if_neg z, if_neg z]
                  by_cases z' : sc_rx (xop j) = true
                  · rw [if_pos z', if_pos z']
                    obtain ⟨x, hx1, hx2⟩ := s2 (Or.inr z')
                    rw [hx2, nI_clamp (by omega)]; exact hsr x hx1
                  · rw [if_neg z', if_neg z']
              · unfold nu_A2
                by_cases z' : sc_ry (xop j) = true
                · rw [if_pos z', if_pos z']
                  obtain ⟨x, hx1, hx2⟩ := s3 z'
                  rw [hx2, nI_clamp (by omega)]; exact hsr x hx1
                · rw [if_neg z', if_neg z']
              · unfold nu_A3
                by_cases z' : sc_rz (xop j) = true
                · rw [if_pos z', if_pos z']
                  obtain ⟨x, hx1, hx2⟩ := s4 z'
                  rw [hx2, nI_clamp (by omega)]; exact hsr x hx1
                · rw [if_neg z', if_neg z']
            · rw [pk_un e, pk_un e, pk_un e]; exact p1 j (by omega) w
          · show (if sc_df (xop i) = true then upd sr (xsx i).toNatClampNeg (xrs i) else sr) v = _
            have e0 : sr v = nu_nm xop xsx xrs xln xph xid (bf b) v b i := p2 v hv
            have ek : i + 1 - bf b = i - bf b + 1 := by omega
            have ei : bf b + (i - bf b) = i := by omega
            have el : nu_ld xop xsx xrs (nI v) (bf b) (i + 1 - bf b) = if sc_de xop xsx i (nI v) = true then xrs i else nu_ld xop xsx xrs (nI v) (bf b) (i - bf b) := by
              rw [ek]
              simp only [nu_ld]
              rw [ei]
            unfold nu_nm at e0 ⊢
            by_cases z : sc_df (xop i) = true
            · rw [if_pos z]
              obtain ⟨x, hx1, hx2⟩ := s2 (Or.inl z)
              rw [hx2, nI_clamp (by omega)]
              have ed : sc_de xop xsx i (nI v) = true ↔ v = x := by
                unfold sc_de
                rw [z, hx2, Bool.true_and, decide_eq_true_iff]
                exact ⟨fun w => (zi_inj w).symm, fun w => by rw [w]⟩
              by_cases w : v = x
              · rw [if_pos (ed.mpr w)] at el
                rw [el, w, pk_us, if_neg (hR i hi' (by rw [et]; exact q) z)]
              · rw [if_neg (fun y => w (ed.mp y))] at el
                rw [el, pk_un w]; exact e0
            · have ed : ¬ sc_de xop xsx i (nI v) = true := by
                intro y
                unfold sc_de at y
                rw [zb_nt z, Bool.false_and] at y; exact absurd y (by decide)
              rw [if_neg ed] at el
              rw [el, if_neg z]; exact e0
      · intro n' v sr hv hsr ih'
        refine zc_go hv (x_nameAtStart (xax := A1) (xay := A2) (xaz := A3) (xsr := sr) (by omega) (by omega) hid (zs_st v (zn_1 (ih' _ fun v' hv' => ?_)) (by omega)))
        by_cases e : v' = v
        · rw [e, pk_us]
        · rw [pk_un e]; exact hsr v' (by omega)
theorem x_fillPhiArguments {post : SX → Prop} (hmv : mv ≤ 6) (V : gr_V rt nb) (hee : ∀ e, e < 20 → xee e = gr_ee rt e) (hid : ∀ b, b < 10 → xid b = -1 ∨ ∃ a, a < 10 ∧ xid b = nI a)
    (hP : ∀ j, j < 60 → ¬ xph j < 0 → j % 6 < mv) (h : post ((nI mb), (nI mi), (nI mv), (nI oc), ph, (nI ni), (nI nb), xrm, xnc, xcc, xsc, xpc, xop, xsx, xsy, xsz, xbo, xbf, xbe, xin, xee, xdm, xid, xfm, xgm, xkm, xlm, xnb, xnp, xnv, xph, xln, nu_pa rt xln xph xid xpa 120, xrs, xax, xay, xaz, xfo, xsr, xso, xst, xco, xcx, xcy, xcz, xcb, xpd, xps, xss, xtu, xcu, xou, xot, xrg)) : wpX_fillPhiArguments post ((nI mb), (nI mi), (nI mv), (nI oc), ph, (nI ni), (nI nb), xrm, xnc, xcc, xsc, xpc, xop, xsx, xsy, xsz, xbo, xbf, xbe, xin, xee, xdm, xid, xfm, xgm, xkm, xlm, xnb, xnp, xnv, xph, xln, xpa, xrs, xax, xay, xaz, xfo, xsr, xso, xst, xco, xcx, xcy, xcz, xcb, xpd, xps, xss, xtu, xcu, xou, xot, xrg) := by
  have h10 := V.2.1
  refine loop_0 (fun n a (A : Nat → Int32) => wX_fillPhiArguments_2 post (nI mb) (nI mi) (nI mv) (nI oc) ph (nI ni) (nI nb) xrm xnc xcc xsc xpc n (nI a) xop xsx xsy xsz xbo xbf xbe xin xee xdm xid xfm xgm xkm xlm xnb xnp xnv xph xln A xrs xax xay xaz xfo xsr xso xst xco xcx xcy xcz xcb xpd xps xss xtu xcu xou xot xrg) (fun a A => A = zb_fl a (-1) xpa) 120 xpa zb_fl_0.symm ?_ ?_
  · intro n A hA
    have eA : A = nu_pa rt xln xph xid xpa 0 := by
      rw [hA]
      funext j
      by_cases w : j < 120
      · rw [zb_fl_t w, nu_pa_f w (fun y => by omega)]
      · rw [zb_fl_f w, nu_pa_o w]
    subst eA
    refine zc_ex ?_
    refine loop_0 (fun n e (A : Nat → Int32) => wX_fillPhiArguments_23 post (nI mb) (nI mi) (nI mv) (nI oc) ph (nI ni) (nI nb) xrm xnc xcc xsc xpc n (nI e) xop xsx xsy xsz xbo xbf xbe xin xee xdm xid xfm xgm xkm xlm xnb xnp xnv xph xln A xrs xax xay xaz xfo xsr xso xst xco xcx xcy xcz xcb xpd xps xss xtu xcu xou xot xrg) (fun e A => A = nu_pa rt xln xph xid xpa (e * 6)) 20 _ rfl ?_ ?_
    · intro n A hA
      rw [hA]; exact zc_ex h
    · intro n e A he hA ih
      refine zc_go he (zs_rn e ?_)
      rw [hee e he]
      rcases gr_ee_or V he with z | ⟨z1, z2, t, t1, t2, t3, t4, t5, t6⟩
      · rw [z]
        refine br_t (by decide) (zn_1 (ih A (hA.trans (nu_pa_skip (by omega) fun j w1 w2 w3 ⟨t, ht, w4, _⟩ => ?_))))
        have e1 : j / 6 = e := by omega
        rw [e1, z] at w4
        exact zi_neg (by omega) w4.symm
      · rw [t3]
        refine br_f zi_nlt ?_
        refine loop_0 (fun n' v (A : Nat → Int32) => wX_fillPhiArguments_42 post (wX_fillPhiArguments_23 post (nI mb) (nI mi) (nI mv) (nI oc) ph (nI ni) (nI nb) xrm xnc xcc xsc xpc n) (nI e) (nI t) (nI mb) (nI mi) (nI mv) (nI oc) ph (nI ni) (nI nb) xrm xnc xcc xsc xpc n' (nI v) xop xsx xsy xsz xbo xbf xbe xin xee xdm xid xfm xgm xkm xlm xnb xnp xnv xph xln A xrs xax xay xaz xfo xsr xso xst xco xcx xcy xcz xcb xpd xps xss xtu xcu xou xot xrg) (fun v A => A = nu_pa rt xln xph xid xpa (e * 6 + v)) mv A hA ?_ ?_
        · intro n' A hA
          refine zc_ex (zn_1 (ih A (hA.trans (nu_pa_skip (by omega) fun j w1 w2 w3 ⟨t', ht', w4, w5⟩ => ?_))))
          have := hP (t' * 6 + j % 6) (by omega) w5
          omega
        · intro n' v A hv hA ih'
          have hpc : nu_pc rt xph (e * 6 + v) ↔ ¬ xph (t * 6 + v) < 0 := by
            have e1 : (e * 6 + v) / 6 = e := by omega
            have e2 : (e * 6 + v) % 6 = v := by omega
            unfold nu_pc
            rw [e1, e2]
            constructor
            · rintro ⟨t', ht', w1, w2⟩
              rw [zi_inj (w1.symm.trans t3)] at w2; exact w2
            · intro w
              exact ⟨t, by omega, t3, w⟩
          refine zc_go hv ⟨pk_in (t * 6 + v) 60 (by omega) (zi_6 t v), zc_lt (t * 6 + v) (fun q => zn_1 (ih' A (hA.trans (nu_pa_skip (by omega) fun j w1 w2 w3 w4 => ?_)))) (fun q => ?_) (zi_6 t v)⟩
          · have e1 : j = e * 6 + v := by omega
            rw [e1] at w4
            exact hpc.mp w4 q
          · rw [zi_h (by omega)]
            refine x_nameAtEnd (xpa := A) (by omega) (by omega) hid (zs_st (e * 6 + v) (zn_1 (ih' _ ?_)) (by omega) (zi_6 e v))
            rw [hA]
            have e1 : (e * 6 + v) / 6 / 2 = e / 2 := by omega
            have e2 : (e * 6 + v) % 6 = v := by omega
            have := nu_pa_put (rt := rt) (ln := xln) (P := xph) (id := xid) (f := xpa) (K := e * 6 + v) (by omega) (hpc.mpr q)
            rw [e1, e2] at this
            exact this
  · intro n a A ha hA ih
    refine zc_go ha (zs_st a (zn_1 (ih _ ?_)))
    rw [hA, zb_fl_s]
end
end
section
/-! ===== the reference floods ===== -/
section
variable {mb mi mv oc ni : Nat} {ph ync ycl : Int32} {ysr yin ymk yre ydm yid yfr ylv yis yph yar yrs yas yfo ycd yfi ypd yps yss ytu ybl you yot yrg yrv : Nat → Int32} {op fx fy fz : Nat → Int32} {nb : Nat} {bf be : Nat → Nat} {rt : Nat → Int32}
def yf_S (rt : Nat → Int32) (av : Int32) (M : Nat → Int32) : Prop := (∀ b, b < 10 → M b = 0 ∨ M b = 1) ∧ (∀ b, b < 10 → M b = 1 → gr_RA rt av b) ∧ (¬ av = 0 → M 0 = 1)
def yf_C (rt : Nat → Int32) (av : Int32) (k : Nat) (M : Nat → Int32) : Prop := ∀ e t, e < k → t < 10 → rt e = nI t → ¬ nI t = av → M (e / 2) = 1 → M t = 1
def yf_M (M : Nat → Int32) : Nat := zk_c (fun b => decide (M b = 1)) 10
theorem yf_max {av : Int32} {M : Nat → Int32} {b : Nat} (h0 : ¬ av = 0 → M 0 = 1) (hC : yf_C rt av 20 M) (h : gr_RA rt av b) : M b = 1 :=
  h (fun y => M y = 1) h0 (fun _ _ hy hx ⟨e, he, hb, hr⟩ hn => hC e _ he hy hr hn (by rw [hb]; exact hx))
theorem y_flood {post : SY → Prop} (hs : sc_YS ysr op fx fy fz) (B : sc_BL op ni nb bf be) (C : sc_CL op ni) (hrt : rt = sc_rt op fx fy fz nb be) (V : gr_V rt nb) {av : Int32}
    (h : ∀ M : Nat → Int32, (∀ b, b < 10 → M b = zb_i (zb_d (gr_RA rt av b))) → post ((nI mb), (nI mi), (nI mv), (nI oc), ph, (nI ni), ync, ycl, ysr, yin, M, yre, ydm, yid, yfr, ylv, yis, yph, yar, yrs, yas, yfo, ycd, yfi, ypd, yps, yss, ytu, ybl, you, yot, yrg, yrv)) : wpY_flood post ((nI mb), (nI mi), (nI mv), (nI oc), ph, (nI ni), ync, ycl, ysr, yin, ymk, yre, ydm, yid, yfr, ylv, yis, yph, yar, yrs, yas, yfo, ycd, yfi, ypd, yps, yss, ytu, ybl, you, yot, yrg, yrv) av := by
  have h10 := V.2.1
  have rounds : ∀ M0, yf_S rt av M0 → (yf_C rt av 20 M0 ∨ 1 ≤ yf_M M0) → ∃ n : Nat, wY_flood_34 post av (nI mb) (nI mi) (nI mv) (nI oc) ph (nI ni) ync ycl n 0 ysr yin M0 yre ydm yid yfr ylv yis yph yar yrs yas yfo ycd yfi ypd yps yss ytu ybl you yot yrg yrv := by
    intro M0 hS0 hC0
    refine loop_0 (fun n k (M : Nat → Int32) => wY_flood_34 post av (nI mb) (nI mi) (nI mv) (nI oc) ph (nI ni) ync ycl n (nI k) ysr yin M yre ydm yid yfr ylv yis yph yar yrs yas yfo ycd yfi ypd yps yss ytu ybl you yot yrg yrv) (fun k M => yf_S rt av M ∧ (yf_C rt av 20 M ∨ k + 1 ≤ yf_M M)) 10 M0 ⟨hS0, hC0⟩ ?_ ?_
    · rintro n M ⟨hS, hC⟩
      have hC' : yf_C rt av 20 M := hC.resolve_right (fun q => by have : yf_M M ≤ 10 := zk_le _ _; omega)
      refine zc_ex (h M fun b hb => ?_)
      rcases hS.1 b hb with z | z
      · rw [z, zb_df.mpr (fun r => by rw [yf_max hS.2.2 hC' r] at z; exact absurd z (by decide))]; rfl
      · rw [z, zb_dt.mpr (hS.2.1 b hb z)]; rfl
    · rintro n k M hk ⟨hS, hC⟩ ih
      refine zc_go hk ?_
      refine loop_0 (fun n' e (M' : Nat → Int32) => wY_flood_42 post (wY_flood_34 post av (nI mb) (nI mi) (nI mv) (nI oc) ph (nI ni) ync ycl n) av (nI k) (nI mb) (nI mi) (nI mv) (nI oc) ph (nI ni) ync ycl n' (nI e) ysr yin M' yre ydm yid yfr ylv yis yph yar yrs yas yfo ycd yfi ypd yps yss ytu ybl you yot yrg yrv)
        (fun e M' => yf_S rt av M' ∧ (∀ b, b < 10 → M b = 1 → M' b = 1) ∧ ((M' = M ∧ yf_C rt av e M) ∨ yf_M M < yf_M M')) 20 M ⟨hS, fun _ _ q => q, Or.inl ⟨rfl, fun e t he => by omega⟩⟩ ?_ ?_
      · rintro n' M' ⟨p1, p2, p3⟩
        refine zc_ex (zn_1 (ih M' ⟨p1, ?_⟩))
        rcases p3 with ⟨e, hc⟩ | hc
        · rw [e]; exact Or.inl hc
        · rcases hC with hC | hC
          · have : yf_M M' ≤ yf_M M := zk_mono (fun i hi q => decide_eq_true (yf_max hS.2.2 hC (p1.2.1 i hi (of_decide_eq_true q))))
            omega
          · exact Or.inr (by omega)
      · rintro n' e M' he ⟨p1, p2, p3⟩ ih'
        have hskip : (∀ t, t < 10 → rt e = nI t → ¬ nI t = av → M' (e / 2) = 1 → M' t = 1) → ((M' = M ∧ yf_C rt av (e + 1) M) ∨ yf_M M < yf_M M') := by
          intro hq
          rcases p3 with ⟨ee, hc⟩ | hc
          · refine Or.inl ⟨ee, fun e' t he' ht w1 w2 w3 => ?_⟩
            rcases Nat.lt_or_ge e' e with x | x
            · exact hc e' t x ht w1 w2 w3
            · have e1 : e' = e := by omega
              rw [e1] at w1 w3
              rw [← ee] at w3 ⊢
              exact hq t ht w1 w2 w3
          · exact Or.inr hc
        refine zc_go he (y_rawTarget hs B C he ?_)
        rw [← hrt]
        rcases V.2.2 e he with z | ⟨z1, t, t1, t2, t3⟩
        · rw [z]
          exact br_t (by decide) (zn_1 (ih' M' ⟨p1, p2, hskip fun t ht w => absurd (w.symm.trans z) (zi_neg (by omega))⟩))
        · rw [t3]
          refine br_f zi_nlt (br_f (nI_ge (b := 10) (by omega) (by decide)) ⟨fun w => zn_1 (ih' M' ⟨p1, p2, hskip fun t' ht' w1 w2 => ?_⟩), fun w => ⟨by decide, pk_in (e / 2) 10 (by omega) (zi_d (by omega)), zc_eq (e / 2) (fun q => ?_) (fun q => zn_1 (ih' M' ⟨p1, p2, hskip fun t' ht' w1 w2 w3 => absurd w3 q⟩)) (zi_d (by omega))⟩⟩)
          · exact absurd (w1.symm.trans (t3.trans w)) w2
          · have ra : gr_RA rt av t := gr_RA_s (p1.2.1 (e / 2) (by omega) q) (by omega) ⟨e, he, rfl, t3⟩ w
            refine zs_st t (zn_1 (ih' _ ⟨⟨fun b hb => ?_, fun b hb x => ?_, fun x => ?_⟩, fun b hb x => ?_, ?_⟩)) (by omega)
            · by_cases y : b = t
              · rw [y, pk_us]; exact Or.inr rfl
              · rw [pk_un y]; exact p1.1 b hb
            · by_cases y : b = t
              · rw [y]; exact ra
              · rw [pk_un y] at x; exact p1.2.1 b hb x
            · rw [pk_un (by omega)]; exact p1.2.2 x
            · by_cases y : b = t
              · rw [y, pk_us]
              · rw [pk_un y]; exact p2 b hb x
            · by_cases y : M' t = 1
              · have eM : upd M' t 1 = M' := by
                  funext j
                  by_cases x : j = t
                  · rw [x, pk_us, y]
                  · rw [pk_un x]
                rw [eM]
                refine hskip fun t' ht' w1 _ _ => ?_
                have : t' = t := zi_inj (w1.symm.trans t3)
                rw [this]; exact y
              · have : yf_M M' < yf_M (upd M' t 1) := by
                  refine zk_lt (a := t) ?_ ?_ (fun k hk x => ?_) (by omega)
                  · rw [decide_eq_false y]; decide
                  · exact decide_eq_true pk_us
                  · refine decide_eq_true ?_
                    by_cases y : k = t
                    · rw [y, pk_us]
                    · rw [pk_un y]; exact of_decide_eq_true x
                rcases p3 with ⟨ee, _⟩ | hc
                · rw [ee] at this ⊢; exact Or.inr this
                · exact Or.inr (by omega)
  refine loop_0 (fun n b (M : Nat → Int32) => wY_flood_2 post av (nI mb) (nI mi) (nI mv) (nI oc) ph (nI ni) ync ycl n (nI b) ysr yin M yre ydm yid yfr ylv yis yph yar yrs yas yfo ycd yfi ypd yps yss ytu ybl you yot yrg yrv) (fun b M => ∀ j, j < b → M j = 0) 10 ymk (fun j hj => by omega) ?_ ?_
  · intro n M hI
    refine zc_ex ⟨fun q => rounds M ⟨fun b hb => Or.inl (hI b hb), fun b hb w => ?_, fun w => absurd q w⟩ (Or.inl fun e t he ht _ _ w => ?_), fun q => nm_e (rounds _ ⟨fun b hb => ?_, fun b hb w => ?_, fun _ => pk_us⟩ (Or.inr ?_))⟩
    · rw [hI b hb] at w; exact absurd w (by decide)
    · rw [hI (e / 2) (by omega)] at w; exact absurd w (by decide)
    · by_cases y : b = 0
      · rw [y, pk_us]; exact Or.inr rfl
      · rw [pk_un y]; exact Or.inl (hI b hb)
    · by_cases y : b = 0
      · rw [y]; exact gr_RA_0 q
      · rw [pk_un y, hI b hb] at w; exact absurd w (by decide)
    · exact zk_pos (a := 0) (decide_eq_true pk_us) (by omega)
  · intro n b M hb hI ih
    refine zc_go hb (zs_st b (zn_1 (ih _ fun j hj => ?_)))
    by_cases w : j = b
    · rw [w, pk_us]
    · rw [pk_un w]; exact hI j (by omega)
end
end
section
/-! ===== the reference walks for a use ===== -/
section
variable {mb mi mv oc ni : Nat} {ph ync ycl : Int32} {ysr yin ymk yre ydm yid yfr ylv yis yph yar yrs yas yfo ycd yfi ypd yps yss ytu ybl you yot yrg yrv : Nat → Int32} {op fx fy fz : Nat → Int32} {nb : Nat} {bf be : Nat → Nat} {rt : Nat → Int32} {u d : Nat → Bool}
def yw_I (rt : Nat → Int32) (u d : Nat → Bool) (b : Nat) (M : Nat → Int32) : Prop :=
  (∀ c, c < 10 → M c = 0 ∨ M c = 1 ∨ M c = 2) ∧ (∀ c, c < 10 → ¬ M c = 0 → gr_FW rt d b c ∧ gr_rc rt c = true) ∧ ¬ M b = 0 ∧
  (∀ c, c < 10 → M c = 2 → u c = false ∧ (d c = false → ∀ y, y < 10 → gr_E rt c y → ¬ M y = 0))
def yw_M (M : Nat → Int32) : Nat := zk_c (fun c => decide (M c = 2)) 10
/-- the sides of a block -/
theorem y_walk_sides {post : Int32 → SY → Prop} {J42 J51 : Int32 → (Nat → Int32) → (Nat → Int32) → (Nat → Int32) → (Nat → Int32) → (Nat → Int32) → (Nat → Int32) → (Nat → Int32) → (Nat → Int32) → (Nat → Int32) → (Nat → Int32) → (Nat → Int32) → (Nat → Int32) → (Nat → Int32) → (Nat → Int32) → (Nat → Int32) → (Nat → Int32) → (Nat → Int32) → (Nat → Int32) → (Nat → Int32) → (Nat → Int32) → (Nat → Int32) → (Nat → Int32) → (Nat → Int32) → (Nat → Int32) → (Nat → Int32) → Prop} (hs : sc_YS ysr op fx fy fz) (B : sc_BL op ni nb bf be) (C : sc_CL op ni) (hrt : rt = sc_rt op fx fy fz nb be) (V : gr_V rt nb)
    (hr : ∀ b, b < 10 → yre b = zb_i (gr_rc rt b)) {x2 x3 : Int32} {c : Nat} (hc : c < nb) (M : Nat → Int32)
    (h : ∀ M' : Nat → Int32, (∀ y, y < 10 → M' y = M y ∨ (M y = 0 ∧ M' y = 1 ∧ gr_rc rt c = true ∧ gr_E rt c y)) → (gr_rc rt c = true → ∀ y, y < 10 → gr_E rt c y → ¬ M' y = 0) → J51 (nI (c + 1)) ysr yin M' yre ydm yid yfr ylv yis yph yar yrs yas yfo ycd yfi ypd yps yss ytu ybl you yot yrg yrv) :
    ∃ n : Nat, wY_walkFindsUse_169 post J42 J51 x2 x3 (nI c) (nI mb) (nI mi) (nI mv) (nI oc) ph (nI ni) ync ycl n 0 ysr yin M yre ydm yid yfr ylv yis yph yar yrs yas yfo ycd yfi ypd yps yss ytu ybl you yot yrg yrv := by
  have h10 := V.2.1
  refine loop_0 (fun n s (M' : Nat → Int32) => wY_walkFindsUse_169 post J42 J51 x2 x3 (nI c) (nI mb) (nI mi) (nI mv) (nI oc) ph (nI ni) ync ycl n (nI s) ysr yin M' yre ydm yid yfr ylv yis yph yar yrs yas yfo ycd yfi ypd yps yss ytu ybl you yot yrg yrv)
    (fun s M' => (∀ y, y < 10 → M' y = M y ∨ (M y = 0 ∧ M' y = 1 ∧ gr_rc rt c = true ∧ gr_E rt c y)) ∧ ∀ s', s' < s → ∀ y, y < 10 → gr_ee rt (2 * c + s') = nI y → ¬ M' y = 0) 2 M ⟨fun _ _ => Or.inl rfl, fun s' hs' => by omega⟩ ?_ ?_
  · rintro n M' ⟨q1, q2⟩
    refine zc_ex (zn_1 (h M' q1 fun hrc y hy ⟨e, he, hb, hre⟩ => ?_))
    refine q2 (e - 2 * c) (by omega) y hy ?_
    have e1 : 2 * c + (e - 2 * c) = e := by omega
    rw [e1, gr_ee_t (by rw [hb]; exact hrc)]; exact hre
  · rintro n s M' hs2 ⟨q1, q2⟩ ih
    refine zc_go hs2 ?_
    rw [zi_2]
    rw [hrt] at hr V
    refine y_edgeEnd hs B C V hr (by omega) ?_
    rw [← hrt] at hr V ⊢
    rcases gr_ee_or V (e := 2 * c + s) (by omega) with z | ⟨z1, z2, t, t1, t2, t3, t4, t5, t6⟩
    · rw [z]
      refine br_t (by decide) (zn_1 (ih M' ⟨q1, fun s' hs' y hy w => ?_⟩))
      rcases Nat.lt_or_ge s' s with x | x
      · exact q2 s' x y hy w
      · have e1 : s' = s := by omega
        rw [e1] at w
        exact absurd (w.symm.trans z) (zi_neg (by omega))
    · rw [t3]
      have e1 : (2 * c + s) / 2 = c := by omega
      rw [e1] at z1 t6
      refine br_f zi_nlt (br_f (nI_ge (b := 10) (by omega) (by decide)) ⟨pk_in t 10 (by omega), zc_eq t (fun q => zs_st t (zn_1 (ih _ ⟨fun y hy => ?_, fun s' hs' y hy w => ?_⟩)) (by omega)) (fun q => zn_1 (ih M' ⟨q1, fun s' hs' y hy w => ?_⟩))⟩)
      · by_cases x : y = t
        · rw [x, pk_us]
          refine Or.inr ⟨?_, rfl, z1, t6⟩
          rcases q1 t (by omega) with w | w
          · rw [← w]; exact q
          · exact w.1
        · rw [pk_un x]; exact q1 y hy
      · by_cases x : y = t
        · rw [x, pk_us]; decide
        · rw [pk_un x]
          rcases Nat.lt_or_ge s' s with x' | x'
          · exact q2 s' x' y hy w
          · have e2 : s' = s := by omega
            rw [e2] at w
            exact absurd (zi_inj (w.symm.trans t3)) x
      · rcases Nat.lt_or_ge s' s with x' | x'
        · exact q2 s' x' y hy w
        · have e2 : s' = s := by omega
          rw [e2] at w
          rw [zi_inj (w.symm.trans t3)]; exact q
/-- one block -/
theorem y_walk_block {post : Int32 → SY → Prop} {J42 J51 : Int32 → (Nat → Int32) → (Nat → Int32) → (Nat → Int32) → (Nat → Int32) → (Nat → Int32) → (Nat → Int32) → (Nat → Int32) → (Nat → Int32) → (Nat → Int32) → (Nat → Int32) → (Nat → Int32) → (Nat → Int32) → (Nat → Int32) → (Nat → Int32) → (Nat → Int32) → (Nat → Int32) → (Nat → Int32) → (Nat → Int32) → (Nat → Int32) → (Nat → Int32) → (Nat → Int32) → (Nat → Int32) → (Nat → Int32) → (Nat → Int32) → (Nat → Int32) → Prop} (hs : sc_YS ysr op fx fy fz) (B : sc_BL op ni nb bf be) {mb' mv' : Nat} (S : sc_SV mb' mv' ni op fx fy fz)
    {x2 x3 : Int32} {c : Nat} (hc : c < nb)
    (hyes : sc_ue op fx fy fz (bf c) (be c) x2 = true → post 1 ((nI mb), (nI mi), (nI mv), (nI oc), ph, (nI ni), ync, ycl, ysr, yin, ymk, yre, ydm, yid, yfr, ylv, yis, yph, yar, yrs, yas, yfo, ycd, yfi, ypd, yps, yss, ytu, ybl, you, yot, yrg, yrv))
    (hno : sc_ue op fx fy fz (bf c) (be c) x2 = false → wY_walkFindsUse_161 post J42 J51 x2 x3 (nI c) (zb_i (sc_dd op fx (bf c) (be c) x2)) (nI mb) (nI mi) (nI mv) (nI oc) ph (nI ni) ync ycl ysr yin ymk yre ydm yid yfr ylv yis yph yar yrs yas yfo ycd yfi ypd yps yss ytu ybl you yot yrg yrv) :
    ∃ n : Nat, wY_walkFindsUse_109 post J42 J51 x2 x3 (nI c) (nI (be c - 1)) (nI mb) (nI mi) (nI mv) (nI oc) ph (nI ni) ync ycl ysr yin ymk yre ydm yid yfr ylv yis yph yar yrs yas yfo ycd yfi ypd yps yss ytu ybl you yot yrg yrv n 0 (nI (bf c)) := by
  have hn := B.1
  have h1 := sc_be_le B c hc
  have h2 := (B.2.2.2.2.2 c hc).1
  refine pk_loop (fun n i (f : Int32) => wY_walkFindsUse_109 post J42 J51 x2 x3 (nI c) (nI (be c - 1)) (nI mb) (nI mi) (nI mv) (nI oc) ph (nI ni) ync ycl ysr yin ymk yre ydm yid yfr ylv yis yph yar yrs yas yfo ycd yfi ypd yps yss ytu ybl you yot yrg yrv n f (nI i))
    (fun i f => bf c ≤ i ∧ f = zb_i (sc_dd op fx (bf c) i x2) ∧ sc_ue op fx fy fz (bf c) i x2 = false) (be c) (bf c) 0 (by omega) ⟨by omega, by rw [sc_dd_0]; rfl, sc_ue_0⟩ ?_ ?_
  · rintro n f ⟨_, q1, q2⟩
    refine br_t (nI_lt (by omega) (by omega)) ?_
    rw [q1]; exact hno q2
  · rintro n i f hi ⟨hlo, q1, q2⟩ ih
    refine br_f (nI_nlt (by omega) (by omega)) (br_f (nI_ge (by omega) (by omega)) ?_)
    rw [q1]
    have hue : ∀ k, i + 1 + k ≤ be c → sc_ue op fx fy fz (bf c) (i + 1) x2 = true → sc_ue op fx fy fz (bf c) (i + 1 + k) x2 = true := by
      intro k
      induction k with
      | zero => exact fun _ q => q
      | succ k ihk => exact fun hk q => (sc_ue_s (i := i + 1 + k) (by omega)).mpr (Or.inl (ihk (by omega) q))
    refine zc_b (fun w => y_uses hn hs S (by omega) (zc_b (fun y => y_defines hn hs S (by omega) ?_) (fun y => hyes ?_))) (fun w => ?_)
    · have hu : sc_ue op fx fy fz (bf c) (i + 1) x2 = false := zb_nt fun q => by
        rcases (sc_ue_s hlo).mp q with q | q
        · rw [q2] at q; exact absurd q (by decide)
        · rw [y] at q; exact absurd q.1 (by decide)
      refine zc_b (fun z => zn_1 (ih _ ⟨by omega, ?_, hu⟩)) (fun z => zn_1 (ih _ ⟨by omega, ?_, hu⟩))
      · have : sc_dd op fx (bf c) (i + 1) x2 = false := zb_nt fun q => by
          rcases (sc_dd_s hlo).mp q with q | q
          · rw [w] at q; exact absurd q (by decide)
          · rw [z] at q; exact absurd q (by decide)
        rw [w, this]
      · rw [(sc_dd_s hlo).mpr (Or.inr z)]; rfl
    · have := hue (be c - (i + 1)) (by omega) ((sc_ue_s hlo).mpr (Or.inr ⟨y, w⟩))
      have e1 : i + 1 + (be c - (i + 1)) = be c := by omega
      rw [e1] at this; exact this
    · refine zn_1 (ih _ ⟨by omega, ?_, zb_nt fun q => ?_⟩)
      · rw [w, (sc_dd_s hlo).mpr (Or.inl w)]
      · rcases (sc_ue_s hlo).mp q with q | q
        · rw [q2] at q; exact absurd q (by decide)
        · rw [w] at q; exact absurd q.2 (by decide)
theorem y_walkFindsUse {post : Int32 → SY → Prop} (hs : sc_YS ysr op fx fy fz) (B : sc_BL op ni nb bf be) (C : sc_CL op ni) {mb' mv' : Nat} (S : sc_SV mb' mv' ni op fx fy fz) (hrt : rt = sc_rt op fx fy fz nb be) (V : gr_V rt nb)
    (hr : ∀ b, b < 10 → yre b = zb_i (gr_rc rt b)) {b : Nat} {x2 : Int32} (hb : gr_rc rt b = true) (hu : u = fun c => sc_ue op fx fy fz (bf c) (be c) x2) (hd : d = fun c => sc_dd op fx (bf c) (be c) x2)
    (h : ∀ M : Nat → Int32, post (zb_i (zb_d (gr_LV rt u d b))) ((nI mb), (nI mi), (nI mv), (nI oc), ph, (nI ni), ync, ycl, ysr, yin, M, yre, ydm, yid, yfr, ylv, yis, yph, yar, yrs, yas, yfo, ycd, yfi, ypd, yps, yss, ytu, ybl, you, yot, yrg, yrv)) : wpY_walkFindsUse post ((nI mb), (nI mi), (nI mv), (nI oc), ph, (nI ni), ync, ycl, ysr, yin, ymk, yre, ydm, yid, yfr, ylv, yis, yph, yar, yrs, yas, yfo, ycd, yfi, ypd, yps, yss, ytu, ybl, you, yot, yrg, yrv) (nI b) x2 := by
  have h10 := V.2.1
  have hbl := gr_rc_lt V hb
  have hfound : ∀ c M, c < 10 → gr_FW rt d b c → gr_rc rt c = true → u c = true → post 1 ((nI mb), (nI mi), (nI mv), (nI oc), ph, (nI ni), ync, ycl, ysr, yin, M, yre, ydm, yid, yfr, ylv, yis, yph, yar, yrs, yas, yfo, ycd, yfi, ypd, yps, yss, ytu, ybl, you, yot, yrg, yrv) := by
    intro c M hc q1 q2 q3
    have := h M
    rw [zb_dt.mpr (gr_LV_iff.mpr ⟨c, hc, q1, q2, q3⟩)] at this
    exact this
  refine loop_0 (fun n c (M : Nat → Int32) => wY_walkFindsUse_2 post (nI b) x2 (nI mb) (nI mi) (nI mv) (nI oc) ph (nI ni) ync ycl n (nI c) ysr yin M yre ydm yid yfr ylv yis yph yar yrs yas yfo ycd yfi ypd yps yss ytu ybl you yot yrg yrv) (fun c M => ∀ j, j < c → M j = 0) 10 ymk (fun j hj => by omega) ?_ ?_
  · intro n M0 hM0
    refine zc_ex (br_f zi_nlt (br_t (nI_lt (b := 10) (by omega) (by decide)) (zs_st b ?_ (by omega))))
    have hI0 : yw_I rt u d b (upd M0 b 1) := by
      refine ⟨fun c hc => ?_, fun c hc q => ?_, by rw [pk_us]; decide, fun c hc q => ?_⟩
      · by_cases w : c = b
        · rw [w, pk_us]; exact Or.inr (Or.inl rfl)
        · rw [pk_un w, hM0 c hc]; exact Or.inl rfl
      · by_cases w : c = b
        · rw [w]; exact ⟨fun _ q _ => q, hb⟩
        · rw [pk_un w, hM0 c hc] at q; exact absurd rfl q
      · by_cases w : c = b
        · rw [w, pk_us] at q; exact absurd q (by decide)
        · rw [pk_un w, hM0 c hc] at q; exact absurd q (by decide)
    refine loop_0 (fun n k (M : Nat → Int32) => wY_walkFindsUse_42 post x2 (nI mb) (nI mi) (nI mv) (nI oc) ph (nI ni) ync ycl n (nI k) ysr yin M yre ydm yid yfr ylv yis yph yar yrs yas yfo ycd yfi ypd yps yss ytu ybl you yot yrg yrv) (fun k M => yw_I rt u d b M ∧ ((∀ c, c < 10 → ¬ M c = 1) ∨ k ≤ yw_M M)) 10 (upd M0 b 1) ⟨hI0, Or.inr (Nat.zero_le _)⟩ ?_ ?_
    · rintro n M ⟨⟨i1, i2, i3, i4⟩, hk⟩
      have hno : ∀ c, c < 10 → ¬ M c = 1 := by
        rcases hk with hk | hk
        · exact hk
        · intro c hc w
          have : yw_M M < zk_c (fun _ => true) 10 := zk_lt (a := c) (by rw [w]; decide) rfl (fun _ _ _ => rfl) hc
          have h2 : zk_c (fun _ => true) 10 ≤ 10 := zk_le _ _
          omega
      refine zc_ex ?_
      have hlv : ¬ gr_LV rt u d b := by
        intro q
        obtain ⟨c, hc, q1, q2, q3⟩ := gr_LV_iff.mp q
        have : c < 10 ∧ M c = 2 := by
          refine q1 (fun c => c < 10 ∧ M c = 2) ⟨by omega, ?_⟩ ?_
          · rcases i1 b (by omega) with z | z | z
            · exact absurd z i3
            · exact absurd z (hno b (by omega))
            · exact z
          · rintro x y hy ⟨hx, hx2⟩ _ e hdx
            refine ⟨hy, ?_⟩
            rcases i1 y hy with z | z | z
            · exact absurd z ((i4 x hx hx2).2 hdx y hy e)
            · exact absurd z (hno y hy)
            · exact z
        rw [(i4 c hc this.2).1] at q3; exact absurd q3 (by decide)
      have := h M
      rw [zb_df.mpr hlv] at this
      exact this
    · rintro n k M hk ⟨hI, hK⟩ ih
      refine zc_go hk ?_
      refine loop_0 (fun n' c (M' : Nat → Int32) => wY_walkFindsUse_51 post (wY_walkFindsUse_42 post x2 (nI mb) (nI mi) (nI mv) (nI oc) ph (nI ni) ync ycl n) x2 (nI k) (nI mb) (nI mi) (nI mv) (nI oc) ph (nI ni) ync ycl n' (nI c) ysr yin M' yre ydm yid yfr ylv yis yph yar yrs yas yfo ycd yfi ypd yps yss ytu ybl you yot yrg yrv)
        (fun c M' => yw_I rt u d b M' ∧ ((∀ j, j < 10 → ¬ M j = 1) → M' = M) ∧ yw_M M ≤ yw_M M' ∧ (∀ j, c ≤ j → j < 10 → M j = 1 → M' j = 1) ∧ (∀ j, j < c → M j = 1 → yw_M M < yw_M M')) 10 M ⟨hI, fun _ => rfl, Nat.le_refl _, fun _ _ _ q => q, fun j hj => by omega⟩ ?_ ?_
      · rintro n' M' ⟨p1, p2, p3, p4, p5⟩
        refine zc_ex (zn_1 (ih M' ⟨p1, ?_⟩))
        by_cases w : ∀ j, j < 10 → ¬ M j = 1
        · rw [p2 w]; exact Or.inl w
        · obtain ⟨j, hj, hj1⟩ : ∃ j, j < 10 ∧ M j = 1 := Classical.byContradiction fun q => w fun j hj hj1 => q ⟨j, hj, hj1⟩
          have := p5 j hj hj1
          have hK' := hK.resolve_left w
          exact Or.inr (by omega)
      · rintro n' c M' hc ⟨p1, p2, p3, p4, p5⟩ ih'
        obtain ⟨i1, i2, i3, i4⟩ := p1
        refine zc_go hc ⟨pk_in c 10 hc, zc_eq c (fun q => ?_) (fun q => zn_1 (ih' M' ⟨⟨i1, i2, i3, i4⟩, p2, p3, fun j hj => p4 j (by omega), fun j hj w => ?_⟩))⟩
        · have hf := i2 c hc (by rw [q]; decide)
          have hcl := gr_rc_lt V hf.2
          have hlt : ∀ M'' : Nat → Int32, (∀ y, y < 10 → M'' y = upd M' c 2 y ∨ (upd M' c 2 y = 0 ∧ M'' y = 1)) → yw_M M' < yw_M M'' := by
            intro M'' hM''
            refine zk_lt (a := c) (by rw [q]; decide) ?_ (fun j hj w => ?_) hc
            · refine decide_eq_true ?_
              rcases hM'' c hc with w | w
              · rw [w, pk_us]
              · rw [pk_us] at w; exact absurd w.1 (by decide)
            · refine decide_eq_true ?_
              have w' := of_decide_eq_true w
              have e : upd M' c 2 j = 2 := by
                by_cases x : j = c
                · rw [x, pk_us]
                · rw [pk_un x]; exact w'
              rcases hM'' j hj with y | y
              · rw [y, e]
              · rw [e] at y; exact absurd y.1 (by decide)
          have hgo : ∀ M'' : Nat → Int32, (∀ y, y < 10 → M'' y = upd M' c 2 y ∨ (upd M' c 2 y = 0 ∧ M'' y = 1 ∧ gr_rc rt c = true ∧ gr_E rt c y)) → u c = false → ((∃ y, y < 10 ∧ upd M' c 2 y = 0 ∧ M'' y = 1) → d c = false) → (d c = false → ∀ y, y < 10 → gr_E rt c y → ¬ M'' y = 0) →
              (yw_I rt u d b M'' ∧ ((∀ j, j < 10 → ¬ M j = 1) → M'' = M) ∧ yw_M M ≤ yw_M M'' ∧ (∀ j, c + 1 ≤ j → j < 10 → M j = 1 → M'' j = 1) ∧ (∀ j, j < c + 1 → M j = 1 → yw_M M < yw_M M'')) := by
            intro M'' hM'' huc hdc hsucc
            have hlt' := hlt M'' (fun y hy => (hM'' y hy).imp id (fun w => ⟨w.1, w.2.1⟩))
            have hnz : ∀ y, y < 10 → ¬ M' y = 0 → ¬ M'' y = 0 := by
              intro y hy w z
              rcases hM'' y hy with x | x
              · rw [z] at x
                by_cases e : y = c
                · rw [e, pk_us] at x; exact absurd x (by decide)
                · rw [pk_un e] at x; exact w x.symm
              · rw [z] at x; exact absurd x.2.1 (by decide)
            refine ⟨⟨fun y hy => ?_, fun y hy w => ?_, hnz b (by omega) i3, fun y hy w => ?_⟩, fun w => ?_, by omega, fun j h1 h2 w => ?_, fun j h1 w => by omega⟩
            · rcases hM'' y hy with x | x
              · by_cases e : y = c
                · rw [x, e, pk_us]; exact Or.inr (Or.inr rfl)
                · rw [x, pk_un e]; exact i1 y hy
              · rw [x.2.1]; exact Or.inr (Or.inl rfl)
            · rcases hM'' y hy with x | x
              · by_cases e : y = c
                · rw [e]; exact hf
                · rw [x, pk_un e] at w; exact i2 y hy w
              · have hdc' := hdc ⟨y, hy, x.1, x.2.1⟩
                exact ⟨gr_FW_s hf.1 hy hf.2 x.2.2.2 hdc', gr_rc_s hf.2 hy x.2.2.2⟩
            · by_cases e : y = c
              · rw [e]; exact ⟨huc, hsucc⟩
              · rcases hM'' y hy with x | x
                · rw [x, pk_un e] at w
                  have := i4 y hy w
                  exact ⟨this.1, fun z y' hy' he' => hnz y' hy' (this.2 z y' hy' he')⟩
                · rw [x.2.1] at w; exact absurd w (by decide)
            · have := p2 w
              rw [this] at q
              exact absurd q (w c hc)
            · rcases hM'' j h2 with x | x
              · rw [x, pk_un (by omega)]; exact p4 j (by omega) h2 w
              · exact x.2.1
          refine zs_st c ?_ hc
          refine y_firstOf hs B hcl (y_termOf hs B C hcl (br_t (nI_pos' ?_) ?_))
          · have := sc_be_le B c hcl
            have := (B.2.2.2.2.2 c hcl).1
            have := B.1
            omega
          refine y_walk_block hs B S hcl (fun w => hfound c _ hc hf.1 hf.2 (by rw [hu]; exact w)) (fun w => ?_)
          have huc : u c = false := by rw [hu]; exact w
          refine zc_b (fun z => ?_) (fun z => zn_1 (ih' _ (hgo _ (fun _ _ => Or.inl rfl) huc (fun ⟨y, _, x1, x2⟩ => ?_) (fun x => ?_))))
          · refine y_walk_sides hs B C hrt V hr hcl _ fun M'' m1 m2 => ih' M'' (hgo M'' m1 huc (fun _ => by rw [hd]; exact z) (fun _ => m2 hf.2))
          · rw [x1] at x2; exact absurd x2 (by decide)
          · rw [hd] at x
            have x' : sc_dd op fx (bf c) (be c) _ = false := x
            rw [z] at x'; exact absurd x' (by decide)
        · rcases Nat.lt_or_ge j c with x | x
          · exact p5 j x w
          · have e : j = c := by omega
            rw [e] at w
            exact absurd (p4 c (by omega) hc w) q
  · intro n b' M hb' hI ih
    refine zc_go hb' (zs_st b' (zn_1 (ih _ fun j hj => ?_)))
    by_cases w : j = b'
    · rw [w, pk_us]
    · rw [pk_un w]; exact hI j (by omega)
end
end
section
/-! ===== the reference's analysis ===== -/
section
variable {mb mi mv oc ni : Nat} {ph ync ycl : Int32} {ysr yin ymk yre ydm yid yfr ylv yis yph yar yrs yas yfo ycd yfi ypd yps yss ytu ybl you yot yrg yrv : Nat → Int32} {op fx fy fz : Nat → Int32} {nb : Nat} {bf be : Nat → Nat} {rt : Nat → Int32} {U D : Nat → Nat → Bool}
/-- liveness -/
theorem y_an_live {post : SY → Prop} (hs : sc_YS ysr op fx fy fz) (B : sc_BL op ni nb bf be) (C : sc_CL op ni) {mb' mv' : Nat} (S : sc_SV mb' mv' ni op fx fy fz) (hmv : mv ≤ 6) (hrt : rt = sc_rt op fx fy fz nb be) (V : gr_V rt nb)
    (hr : ∀ b, b < 10 → yre b = zb_i (gr_rc rt b)) (hU : U = fun v b => sc_ue op fx fy fz (bf b) (be b) (nI v)) (hD : D = fun v b => sc_dd op fx (bf b) (be b) (nI v))
    (h : ∀ M L : Nat → Int32, (∀ b, b < 10 → ∀ v, v < mv → gr_rc rt b = true → L (b * 6 + v) = zb_i (zb_d (gr_LV rt (U v) (D v) b))) → post ((nI mb), (nI mi), (nI mv), (nI oc), ph, (nI ni), ync, ycl, ysr, yin, M, yre, ydm, yid, yfr, L, yis, yph, yar, yrs, yas, yfo, ycd, yfi, ypd, yps, yss, ytu, ybl, you, yot, yrg, yrv)) : ∃ n : Nat, wY_analyse_409 post n 0 (nI mb) (nI mi) (nI mv) (nI oc) ph (nI ni) ync ycl ysr yin ymk yre ydm yid yfr ylv yis yph yar yrs yas yfo ycd yfi ypd yps yss ytu ybl you yot yrg yrv := by
  have h10 := V.2.1
  refine loop_0 (fun n b (s : (Nat → Int32) × (Nat → Int32)) => wY_analyse_409 post n (nI b) (nI mb) (nI mi) (nI mv) (nI oc) ph (nI ni) ync ycl ysr yin s.1 yre ydm yid yfr s.2 yis yph yar yrs yas yfo ycd yfi ypd yps yss ytu ybl you yot yrg yrv) (fun b s => ∀ b', b' < b → ∀ v, v < mv → gr_rc rt b' = true → s.2 (b' * 6 + v) = zb_i (zb_d (gr_LV rt (U v) (D v) b'))) 10 (ymk, ylv) (fun b' hb' => by omega) ?_ ?_
  · rintro n ⟨M, L⟩ hI
    exact zc_ex (h M L hI)
  · rintro n b ⟨M, L⟩ hb hI ih
    refine zc_go hb ?_
    refine loop_0 (fun n' v (s : (Nat → Int32) × (Nat → Int32)) => wY_analyse_417 post (wY_analyse_409 post n) (nI b) n' (nI v) (nI mb) (nI mi) (nI mv) (nI oc) ph (nI ni) ync ycl ysr yin s.1 yre ydm yid yfr s.2 yis yph yar yrs yas yfo ycd yfi ypd yps yss ytu ybl you yot yrg yrv)
      (fun v s => (∀ b', b' < b → ∀ v', v' < mv → gr_rc rt b' = true → s.2 (b' * 6 + v') = zb_i (zb_d (gr_LV rt (U v') (D v') b'))) ∧ ∀ v', v' < v → v' < mv → gr_rc rt b = true → s.2 (b * 6 + v') = zb_i (zb_d (gr_LV rt (U v') (D v') b))) 6 (M, L) ⟨hI, fun v' hv' => by omega⟩ ?_ ?_
    · rintro n' ⟨M', L'⟩ ⟨q1, q2⟩
      refine zc_ex (zn_1 (ih (M', L') fun b' hb' v hv hrc => ?_))
      rcases Nat.lt_or_ge b' b with x | x
      · exact q1 b' x v hv hrc
      · have e : b' = b := by omega
        rw [e] at hrc ⊢
        exact q2 v (by omega) hv hrc
    · rintro n' v ⟨M', L'⟩ hv ⟨q1, q2⟩ ih'
      have hkeep : ∀ x : Int32, (v < mv → gr_rc rt b = true → x = zb_i (zb_d (gr_LV rt (U v) (D v) b))) →
          (∀ b', b' < b → ∀ v', v' < mv → gr_rc rt b' = true → upd L' (b * 6 + v) x (b' * 6 + v') = zb_i (zb_d (gr_LV rt (U v') (D v') b'))) ∧ ∀ v', v' < v + 1 → v' < mv → gr_rc rt b = true → upd L' (b * 6 + v) x (b * 6 + v') = zb_i (zb_d (gr_LV rt (U v') (D v') b)) := by
        intro x hx
        refine ⟨fun b' hb' v' hv' w => ?_, fun v' hv' hv'' w => ?_⟩
        · rw [pk_un (by omega)]; exact q1 b' hb' v' hv' w
        · by_cases e : v' = v
          · subst e; rw [pk_us]; exact hx hv'' w
          · rw [pk_un (by omega)]; exact q2 v' (by omega) hv'' w
      refine zc_go hv (zs_st (b * 6 + v) ⟨pk_in b 10 hb, zc_eq b (fun q => ?_) (fun q => zn_1 (ih' (M', upd L' (b * 6 + v) 0) (hkeep 0 fun _ w => ?_)))⟩ (by omega) (zi_6 b v))
      · rw [hr b hb, zb_i1] at q
        refine pk_le mv v (fun w => zn_1 (ih' (M', upd L' (b * 6 + v) 0) (hkeep 0 fun w' => by omega))) (fun w => ?_)
        refine y_walkFindsUse (ylv := upd L' (b * 6 + v) 0) (u := U v) (d := D v) hs B C S hrt V hr q (by rw [hU]) (by rw [hD]) fun M'' => ?_
        refine zc_b (fun z => zn_1 (ih' (M'', upd L' (b * 6 + v) 0) (hkeep 0 fun _ _ => by rw [z]; rfl))) (fun z => zs_st (b * 6 + v) (zn_1 (ih' (M'', upd (upd L' (b * 6 + v) 0) (b * 6 + v) 1) ?_)) (by omega) (zi_6 b v))
        have e : upd (upd L' (b * 6 + v) 0) (b * 6 + v) 1 = upd L' (b * 6 + v) 1 := by
          funext j
          by_cases x : j = b * 6 + v
          · rw [x, pk_us, pk_us]
          · rw [pk_un x, pk_un x, pk_un x]
        rw [e]
        exact hkeep 1 fun _ _ => by rw [z]; rfl
      · rw [hr b hb, w] at q; exact absurd rfl q
/-- frontiers -/
theorem y_an_front {post : SY → Prop} (hs : sc_YS ysr op fx fy fz) (B : sc_BL op ni nb bf be) (C : sc_CL op ni) (hrt : rt = sc_rt op fx fy fz nb be) (V : gr_V rt nb)
    (hr : ∀ b, b < 10 → yre b = zb_i (gr_rc rt b)) (hdm : ∀ a b, a < 10 → b < 10 → ydm (a * 10 + b) = zb_i (gr_dm rt a b))
    (h : ∀ F : Nat → Int32, (∀ a b, a < 10 → b < 10 → F (a * 10 + b) = zb_i (gr_fr rt a b)) → ∃ n : Nat, wY_analyse_409 post n 0 (nI mb) (nI mi) (nI mv) (nI oc) ph (nI ni) ync ycl ysr yin ymk yre ydm yid F ylv yis yph yar yrs yas yfo ycd yfi ypd yps yss ytu ybl you yot yrg yrv) : ∃ n : Nat, wY_analyse_256 post (nI mb) (nI mi) (nI mv) (nI oc) ph (nI ni) ync ycl n 0 ysr yin ymk yre ydm yid yfr ylv yis yph yar yrs yas yfo ycd yfi ypd yps yss ytu ybl you yot yrg yrv := by
  have h10 := V.2.1
  refine loop_0 (fun n a (F : Nat → Int32) => wY_analyse_256 post (nI mb) (nI mi) (nI mv) (nI oc) ph (nI ni) ync ycl n (nI a) ysr yin ymk yre ydm yid F ylv yis yph yar yrs yas yfo ycd yfi ypd yps yss ytu ybl you yot yrg yrv) (fun a F => ∀ j, j < a * 10 → F j = 0) 10 yfr (fun j hj => by omega) ?_ ?_
  · intro n F0 hF0
    refine zc_ex ?_
    refine loop_0 (fun n e (F : Nat → Int32) => wY_analyse_296 post (nI mb) (nI mi) (nI mv) (nI oc) ph (nI ni) ync ycl n (nI e) ysr yin ymk yre ydm yid F ylv yis yph yar yrs yas yfo ycd yfi ypd yps yss ytu ybl you yot yrg yrv) (fun e F => ∀ a b, a < 10 → b < 10 → F (a * 10 + b) = zb_i (zb_d (∃ e', e' < e ∧ gr_fp rt a b e'))) 20 F0 (fun a b ha hb => ?_) ?_ ?_
    · rw [hF0 _ (by omega), zb_df.mpr (fun ⟨e', he', _⟩ => by omega)]; rfl
    · intro n F hI
      exact zc_ex (h F hI)
    · intro n e F he hI ih
      have hno : ∀ F' : Nat → Int32, (∀ a b, a < 10 → b < 10 → ¬ gr_fp rt a b e) → F' = F → ∀ a b, a < 10 → b < 10 → F' (a * 10 + b) = zb_i (zb_d (∃ e', e' < e + 1 ∧ gr_fp rt a b e')) := by
        intro F' hq eF a b ha hb
        rw [eF, hI a b ha hb]
        refine congrArg zb_i (zb_eq ⟨fun ⟨e', he', w⟩ => ⟨e', by omega, w⟩, fun ⟨e', he', w⟩ => ⟨e', ?_, w⟩⟩)
        rcases Nat.lt_or_ge e' e with x | x
        · exact x
        · have e1 : e' = e := by omega
          rw [e1] at w; exact absurd w (hq a b ha hb)
      refine zc_go he ?_
      rw [hrt] at hr V
      refine y_edgeEnd hs B C V hr he ?_
      rw [← hrt] at hr V ⊢
      rcases gr_ee_or V he with z | ⟨z1, z2, t, t1, t2, t3, t4, t5, t6⟩
      · rw [z]
        exact br_t (by decide) (zn_1 (ih F (hno F (fun a b ha hb w => absurd (w.1.symm.trans z) (zi_neg (by omega))) rfl)))
      · rw [t3]
        refine br_f zi_nlt (br_f (nI_ge (b := 10) (by omega) (by decide)) ⟨by decide, nm_r (zi_d (by omega)) ?_⟩)
        refine loop_0 (fun n' a (F' : Nat → Int32) => wY_analyse_325 post (wY_analyse_296 post (nI mb) (nI mi) (nI mv) (nI oc) ph (nI ni) ync ycl n) (nI e) (nI t) (nI (e / 2)) (nI mb) (nI mi) (nI mv) (nI oc) ph (nI ni) ync ycl n' (nI a) ysr yin ymk yre ydm yid F' ylv yis yph yar yrs yas yfo ycd yfi ypd yps yss ytu ybl you yot yrg yrv)
          (fun k F' => ∀ a b, a < 10 → b < 10 → F' (a * 10 + b) = zb_i (zb_d (∃ e', (e' < e ∨ (e' = e ∧ a < k)) ∧ gr_fp rt a b e'))) 10 F (fun a b ha hb => ?_) ?_ ?_
        · rw [hI a b ha hb]
          exact congrArg zb_i (zb_eq ⟨fun ⟨e', he', w⟩ => ⟨e', Or.inl he', w⟩, fun ⟨e', he', w⟩ => ⟨e', by omega, w⟩⟩)
        · intro n' F' hI'
          refine zc_ex (zn_1 (ih F' fun a b ha hb => ?_))
          rw [hI' a b ha hb]
          exact congrArg zb_i (zb_eq ⟨fun ⟨e', he', w⟩ => ⟨e', by omega, w⟩, fun ⟨e', he', w⟩ => ⟨e', by omega, w⟩⟩)
        · intro n' k F' hk hI' ih'
          have hskip : ¬ gr_fp rt k t e → ∀ a b, a < 10 → b < 10 → F' (a * 10 + b) = zb_i (zb_d (∃ e', (e' < e ∨ (e' = e ∧ a < k + 1)) ∧ gr_fp rt a b e')) := by
            intro hq a b ha hb
            rw [hI' a b ha hb]
            refine congrArg zb_i (zb_eq ⟨fun ⟨e', he', w⟩ => ⟨e', by omega, w⟩, fun ⟨e', he', w⟩ => ⟨e', ?_, w⟩⟩)
            rcases he' with x | ⟨x, y⟩
            · exact Or.inl x
            · rcases Nat.lt_or_ge a k with y' | y'
              · exact Or.inr ⟨x, y'⟩
              · have e1 : a = k := by omega
                rw [x, e1] at w
                have e2 : b = t := zi_inj (w.1.symm.trans t3)
                rw [e2] at w; exact absurd w hq
          have hput : gr_fp rt k t e → wY_analyse_375 post (wY_analyse_296 post (nI mb) (nI mi) (nI mv) (nI oc) ph (nI ni) ync ycl n) (wY_analyse_325 post (wY_analyse_296 post (nI mb) (nI mi) (nI mv) (nI oc) ph (nI ni) ync ycl n) (nI e) (nI t) (nI (e / 2)) (nI mb) (nI mi) (nI mv) (nI oc) ph (nI ni) ync ycl n') (nI e) (nI t) (nI (e / 2)) (nI k) 0 (nI mb) (nI mi) (nI mv) (nI oc) ph (nI ni) ync ycl ysr yin ymk yre ydm yid F' ylv yis yph yar yrs yas yfo ycd yfi ypd yps yss ytu ybl you yot yrg yrv := by
            intro hq
            refine br_t rfl (zs_st (k * 10 + t) (zn_1 (ih' _ fun a b ha hb => ?_)) (by omega) (zi_10 k t))
            by_cases x : a * 10 + b = k * 10 + t
            · have e1 : a = k := by omega
              have e2 : b = t := by omega
              rw [x, pk_us, e1, e2, zb_dt.mpr ⟨e, Or.inr ⟨rfl, by omega⟩, hq⟩]; rfl
            · rw [pk_un x, hI' a b ha hb]
              refine congrArg zb_i (zb_eq ⟨fun ⟨e', he', w⟩ => ⟨e', by omega, w⟩, fun ⟨e', he', w⟩ => ⟨e', ?_, w⟩⟩)
              rcases he' with y | ⟨y, y'⟩
              · exact Or.inl y
              · rcases Nat.lt_or_ge a k with z' | z'
                · exact Or.inr ⟨y, z'⟩
                · have e1 : a = k := by omega
                  rw [y] at w
                  have e2 : b = t := zi_inj (w.1.symm.trans t3)
                  omega
          refine zc_go hk ⟨pk_in (k * 10 + e / 2) 100 (by omega) (zi_10 _ _), zc_eq (k * 10 + e / 2) (fun q => ?_) (fun q => zn_1 (ih' F' (hskip fun w => q ?_))) (zi_10 _ _)⟩
          · rw [hdm k (e / 2) hk (by omega), zb_i1] at q
            refine pk_eq k t (fun w => hput ⟨t3, q, fun x => x.1 w⟩) (fun w => ⟨pk_in (k * 10 + t) 100 (by omega) (zi_10 _ _), zc_eq (k * 10 + t) (fun q' => br_f (by decide) (zn_1 (ih' F' (hskip fun x => x.2.2 ⟨w, ?_⟩)))) (fun q' => hput ⟨t3, q, fun x => q' ?_⟩) (zi_10 _ _)⟩)
            · rw [hdm k t hk (by omega), zb_i1] at q'; exact q'
            · rw [hdm k t hk (by omega), zb_i1]; exact x.2
          · rw [hdm k (e / 2) hk (by omega), zb_i1]; exact w.2.1
  · intro n a F ha hI ih
    refine zc_go ha ?_
    refine loop_0 (fun n' b (F' : Nat → Int32) => wY_analyse_264 post (wY_analyse_256 post (nI mb) (nI mi) (nI mv) (nI oc) ph (nI ni) ync ycl n) (nI a) (nI mb) (nI mi) (nI mv) (nI oc) ph (nI ni) ync ycl n' (nI b) ysr yin ymk yre ydm yid F' ylv yis yph yar yrs yas yfo ycd yfi ypd yps yss ytu ybl you yot yrg yrv) (fun b F' => ∀ j, j < a * 10 + b → F' j = 0) 10 F hI ?_ ?_
    · intro n' F' hI'
      exact zc_ex (zn_1 (ih F' fun j hj => hI' j (by omega)))
    · intro n' b F' hb hI' ih'
      refine zc_go hb (zs_st (a * 10 + b) (zn_1 (ih' _ fun j hj => ?_)) (by omega) (zi_10 a b))
      by_cases w : j = a * 10 + b
      · rw [w, pk_us]
      · rw [pk_un w]; exact hI' j (by omega)
/-- immediate dominators -/
theorem y_an_idom {post : SY → Prop} (V : gr_V rt nb) (hr : ∀ b, b < 10 → yre b = zb_i (gr_rc rt b)) (hdm : ∀ a b, a < 10 → b < 10 → ydm (a * 10 + b) = zb_i (gr_dm rt a b))
    (h : ∀ I : Nat → Int32, (∀ b, b < 10 → I b = gr_id rt b) → ∃ n : Nat, wY_analyse_256 post (nI mb) (nI mi) (nI mv) (nI oc) ph (nI ni) ync ycl n 0 ysr yin ymk yre ydm I yfr ylv yis yph yar yrs yas yfo ycd yfi ypd yps yss ytu ybl you yot yrg yrv) : ∃ n : Nat, wY_analyse_119 post (nI mb) (nI mi) (nI mv) (nI oc) ph (nI ni) ync ycl n 0 ysr yin ymk yre ydm yid yfr ylv yis yph yar yrs yas yfo ycd yfi ypd yps yss ytu ybl you yot yrg yrv := by
  have h10 := V.2.1
  refine loop_0 (fun n b (I : Nat → Int32) => wY_analyse_119 post (nI mb) (nI mi) (nI mv) (nI oc) ph (nI ni) ync ycl n (nI b) ysr yin ymk yre ydm I yfr ylv yis yph yar yrs yas yfo ycd yfi ypd yps yss ytu ybl you yot yrg yrv) (fun b I => ∀ j, j < b → I j = gr_id rt j) 10 yid (fun j hj => by omega) ?_ ?_
  · intro n I hI
    exact zc_ex (h I hI)
  · intro n b I hb hI ih
    have hnext : ∀ I' : Nat → Int32, I' b = gr_id rt b → (∀ j, j ≠ b → I' j = I j) → ∀ j, j < b + 1 → I' j = gr_id rt j := by
      intro I' h1 h2 j hj
      by_cases w : j = b
      · rw [w]; exact h1
      · rw [h2 j w]; exact hI j (by omega)
    refine zc_go hb (zs_st b (pk_eq b 0 (fun q => zn_1 (ih _ (hnext _ ?_ fun j hj => pk_un hj))) (fun q => ⟨pk_in b 10 hb, zc_eq b (fun q' => ?_) (fun q' => zn_1 (ih _ (hnext _ ?_ fun j hj => pk_un hj)))⟩)))
    · rw [pk_us, gr_id_f (fun w => w.1 q)]
    · rw [hr b hb, zb_i1] at q'
      refine loop_0 (fun n' a (I' : Nat → Int32) => wY_analyse_148 post (wY_analyse_119 post (nI mb) (nI mi) (nI mv) (nI oc) ph (nI ni) ync ycl n) (nI b) (nI mb) (nI mi) (nI mv) (nI oc) ph (nI ni) ync ycl n' (nI a) ysr yin ymk yre ydm I' yfr ylv yis yph yar yrs yas yfo ycd yfi ypd yps yss ytu ybl you yot yrg yrv) (fun a I' => I' b = zl_s (gr_ic rt b) a ∧ ∀ j, j ≠ b → I' j = I j) 10 (upd I b (-1)) ⟨pk_us, fun j hj => pk_un hj⟩ ?_ ?_
      · rintro n' I' ⟨p1, p2⟩
        exact zc_ex (zn_1 (ih I' (hnext I' (p1.trans (gr_id_t q q').symm) p2)))
      · rintro n' a I' ha ⟨p1, p2⟩ ih'
        have hskip : ¬ gr_ic rt b a → I' b = zl_s (gr_ic rt b) (a + 1) ∧ ∀ j, j ≠ b → I' j = I j := fun w => ⟨p1.trans (zl_f w).symm, p2⟩
        refine zc_go ha (pk_eq a b (fun w => zn_1 (ih' I' (hskip fun x => x.1 w))) (fun w => ⟨pk_in (a * 10 + b) 100 (by omega) (zi_10 _ _), zc_eq (a * 10 + b) (fun w' => ?_) (fun w' => zn_1 (ih' I' (hskip fun x => w' ?_))) (zi_10 _ _)⟩))
        · rw [hdm a b ha hb, zb_i1] at w'
          refine loop_0 (fun n'' c (f : Int32) => wY_analyse_179 post (wY_analyse_119 post (nI mb) (nI mi) (nI mv) (nI oc) ph (nI ni) ync ycl n) (wY_analyse_148 post (wY_analyse_119 post (nI mb) (nI mi) (nI mv) (nI oc) ph (nI ni) ync ycl n) (nI b) (nI mb) (nI mi) (nI mv) (nI oc) ph (nI ni) ync ycl n') (nI b) (nI a) (nI mb) (nI mi) (nI mv) (nI oc) ph (nI ni) ync ycl ysr yin ymk yre ydm I' yfr ylv yis yph yar yrs yas yfo ycd yfi ypd yps yss ytu ybl you yot yrg yrv n'' f (nI c))
            (fun c f => (f = 1 ∧ ∀ c', c' < c → c' ≠ b → gr_dm rt c' b = true → gr_dm rt c' a = true) ∨ (f = 0 ∧ ¬ gr_ic rt b a)) 10 1 (Or.inl ⟨rfl, fun c' hc' => by omega⟩) ?_ ?_
          · intro n'' f hf
            refine zc_ex ?_
            rcases hf with ⟨hf, hf'⟩ | ⟨hf, hf'⟩
            · have hic : gr_ic rt b a := ⟨w, w', hf'⟩
              rw [hf]
              refine br_f (by decide) (zs_st b (zn_1 (ih' _ ⟨?_, fun j hj => ?_⟩)) hb)
              · rw [pk_us, zl_t hic]
              · rw [pk_un hj]; exact p2 j hj
            · rw [hf]
              exact br_t rfl (zn_1 (ih' I' (hskip hf')))
          · intro n'' c f hc hf ih''
            have hsame : (c ≠ b → gr_dm rt c b = true → gr_dm rt c a = true) → (f = 1 ∧ ∀ c', c' < c + 1 → c' ≠ b → gr_dm rt c' b = true → gr_dm rt c' a = true) ∨ (f = 0 ∧ ¬ gr_ic rt b a) := by
              intro x
              rcases hf with ⟨hf, hf'⟩ | hf
              · refine Or.inl ⟨hf, fun c' hc' => ?_⟩
                rcases Nat.lt_or_ge c' c with y | y
                · exact hf' c' y
                · have e : c' = c := by omega
                  rw [e]; exact x
              · exact Or.inr hf
            refine zc_go hc (pk_eq c b (fun x => zn_1 (ih'' f (hsame fun y => absurd x y))) (fun x => ⟨pk_in (c * 10 + b) 100 (by omega) (zi_10 _ _), zc_eq (c * 10 + b) (fun x' => ⟨pk_in (c * 10 + a) 100 (by omega) (zi_10 _ _), zc_eq (c * 10 + a) (fun x'' => zn_1 (ih'' 0 (Or.inr ⟨rfl, fun y => ?_⟩))) (fun x'' => zn_1 (ih'' f (hsame fun _ _ => ?_))) (zi_10 _ _)⟩) (fun x' => zn_1 (ih'' f (hsame fun _ y => absurd ?_ x'))) (zi_10 _ _)⟩))
            · rw [hdm c b hc hb, zb_i1] at x'
              rw [hdm c a hc ha, zb_i0, y.2.2 c hc x x'] at x''
              exact absurd x'' (by decide)
            · rw [hdm c a hc ha, zb_i0] at x''
              cases y : gr_dm rt c a
              · exact absurd y x''
              · rfl
            · rw [hdm c b hc hb, zb_i1]; exact y
        · rw [hdm a b ha hb, zb_i1]; exact x.2.1
    · rw [pk_us, gr_id_f (fun w => q' ?_)]
      rw [hr b hb, zb_i1]; exact w.2
/-- dominance -/
theorem y_an_dom {post : SY → Prop} (hs : sc_YS ysr op fx fy fz) (B : sc_BL op ni nb bf be) (C : sc_CL op ni) (hrt : rt = sc_rt op fx fy fz nb be) (V : gr_V rt nb)
    (hr : ∀ b, b < 10 → yre b = zb_i (gr_rc rt b))
    (h : ∀ M Dm : Nat → Int32, (∀ a b, a < 10 → b < 10 → Dm (a * 10 + b) = zb_i (gr_dm rt a b)) → ∃ n : Nat, wY_analyse_119 post (nI mb) (nI mi) (nI mv) (nI oc) ph (nI ni) ync ycl n 0 ysr yin M yre Dm yid yfr ylv yis yph yar yrs yas yfo ycd yfi ypd yps yss ytu ybl you yot yrg yrv) : ∃ n : Nat, wY_analyse_33 post n 0 (nI mb) (nI mi) (nI mv) (nI oc) ph (nI ni) ync ycl ysr yin ymk yre ydm yid yfr ylv yis yph yar yrs yas yfo ycd yfi ypd yps yss ytu ybl you yot yrg yrv := by
  have h10 := V.2.1
  refine loop_0 (fun n a (s : (Nat → Int32) × (Nat → Int32)) => wY_analyse_33 post n (nI a) (nI mb) (nI mi) (nI mv) (nI oc) ph (nI ni) ync ycl ysr yin s.1 yre s.2 yid yfr ylv yis yph yar yrs yas yfo ycd yfi ypd yps yss ytu ybl you yot yrg yrv) (fun a s => ∀ a' b, a' < a → b < 10 → s.2 (a' * 10 + b) = zb_i (gr_dm rt a' b)) 10 (ymk, ydm) (fun a' b ha' => by omega) ?_ ?_
  · rintro n ⟨M, Dm⟩ hI
    exact zc_ex (h M Dm hI)
  · rintro n a ⟨M, Dm⟩ ha hI ih
    refine zc_go ha (y_flood (ymk := M) (ydm := Dm) hs B C hrt V fun M' hM' => ?_)
    refine loop_0 (fun n' b (D' : Nat → Int32) => wY_analyse_46 post (wY_analyse_33 post n) (nI a) (nI mb) (nI mi) (nI mv) (nI oc) ph (nI ni) ync ycl n' (nI b) ysr yin M' yre D' yid yfr ylv yis yph yar yrs yas yfo ycd yfi ypd yps yss ytu ybl you yot yrg yrv)
      (fun b D' => (∀ a' b', a' < a → b' < 10 → D' (a' * 10 + b') = zb_i (gr_dm rt a' b')) ∧ ∀ b', b' < b → D' (a * 10 + b') = zb_i (gr_dm rt a b')) 10 Dm ⟨hI, fun b' hb' => by omega⟩ ?_ ?_
    · rintro n' D' ⟨q1, q2⟩
      refine zc_ex (zn_1 (ih (M', D') fun a' b' ha' hb' => ?_))
      rcases Nat.lt_or_ge a' a with x | x
      · exact q1 a' b' x hb'
      · have e : a' = a := by omega
        rw [e]; exact q2 b' hb'
    · rintro n' b D' hb ⟨q1, q2⟩ ih'
      have hkeep : ∀ x : Int32, x = zb_i (gr_dm rt a b) → (∀ a' b', a' < a → b' < 10 → upd D' (a * 10 + b) x (a' * 10 + b') = zb_i (gr_dm rt a' b')) ∧ ∀ b', b' < b + 1 → upd D' (a * 10 + b) x (a * 10 + b') = zb_i (gr_dm rt a b') := by
        intro x hx
        refine ⟨fun a' b' ha' hb' => ?_, fun b' hb' => ?_⟩
        · rw [pk_un (by omega)]; exact q1 a' b' ha' hb'
        · by_cases e : b' = b
          · subst e; rw [pk_us]; exact hx
          · rw [pk_un (by omega)]; exact q2 b' (by omega)
      have h0 : ¬ gr_dm rt a b = true → 0 = zb_i (gr_dm rt a b) := fun w => by rw [zb_nt w]; rfl
      refine zc_go hb (zs_st (a * 10 + b) ⟨pk_in a 10 ha, zc_eq a (fun q => ⟨pk_in b 10 hb, zc_eq b (fun q' => ⟨pk_in b 10 hb, zc_eq b (fun q'' => ?_) (fun q'' => zn_1 (ih' _ (hkeep 0 (h0 fun w => q'' ?_))))⟩) (fun q' => zn_1 (ih' _ (hkeep 0 (h0 fun w => q' ?_))))⟩) (fun q => zn_1 (ih' _ (hkeep 0 (h0 fun w => q ?_))))⟩ (by omega) (zi_10 a b))
      · rw [hr a ha, zb_i1] at q
        rw [hr b hb, zb_i1] at q'
        rw [hM' b hb, zb_i0, zb_df] at q''
        refine zs_st (a * 10 + b) (zn_1 (ih' _ ?_)) (by omega) (zi_10 a b)
        have e : upd (upd D' (a * 10 + b) 0) (a * 10 + b) 1 = upd D' (a * 10 + b) 1 := by
          funext j
          by_cases x : j = a * 10 + b
          · rw [x, pk_us, pk_us]
          · rw [pk_un x, pk_un x, pk_un x]
        rw [e]
        refine hkeep 1 ?_
        rw [gr_dm_t.mpr ⟨gr_rc_t.mp q, gr_rc_t.mp q', q''⟩]; rfl
      · rw [hM' b hb, zb_i0, zb_df]; exact (gr_dm_t.mp w).2.2
      · rw [hr b hb, zb_i1]; exact (gr_dm_rc w).2
      · rw [hr a ha, zb_i1]; exact (gr_dm_rc w).1
theorem y_analyse {post : SY → Prop} (hs : sc_YS ysr op fx fy fz) (B : sc_BL op ni nb bf be) (C : sc_CL op ni) {mb' mv' : Nat} (S : sc_SV mb' mv' ni op fx fy fz) (hmv : mv ≤ 6) (hrt : rt = sc_rt op fx fy fz nb be) (V : gr_V rt nb)
    (hU : U = fun v b => sc_ue op fx fy fz (bf b) (be b) (nI v)) (hD : D = fun v b => sc_dd op fx (bf b) (be b) (nI v))
    (h : ∀ M R Dm I F L : Nat → Int32, (∀ b, b < 10 → R b = zb_i (gr_rc rt b)) → (∀ a b, a < 10 → b < 10 → Dm (a * 10 + b) = zb_i (gr_dm rt a b)) → (∀ b, b < 10 → I b = gr_id rt b) → (∀ a b, a < 10 → b < 10 → F (a * 10 + b) = zb_i (gr_fr rt a b)) →
      (∀ b, b < 10 → ∀ v, v < mv → gr_rc rt b = true → L (b * 6 + v) = zb_i (zb_d (gr_LV rt (U v) (D v) b))) → post ((nI mb), (nI mi), (nI mv), (nI oc), ph, (nI ni), ync, ycl, ysr, yin, M, R, Dm, I, F, L, yis, yph, yar, yrs, yas, yfo, ycd, yfi, ypd, yps, yss, ytu, ybl, you, yot, yrg, yrv)) : wpY_analyse post ((nI mb), (nI mi), (nI mv), (nI oc), ph, (nI ni), ync, ycl, ysr, yin, ymk, yre, ydm, yid, yfr, ylv, yis, yph, yar, yrs, yas, yfo, ycd, yfi, ypd, yps, yss, ytu, ybl, you, yot, yrg, yrv) := by
  refine y_flood hs B C hrt V fun M hM => ?_
  refine loop_0 (fun n b (R : Nat → Int32) => wY_analyse_7 post (nI mb) (nI mi) (nI mv) (nI oc) ph (nI ni) ync ycl n (nI b) ysr yin M R ydm yid yfr ylv yis yph yar yrs yas yfo ycd yfi ypd yps yss ytu ybl you yot yrg yrv) (fun b R => ∀ j, j < b → R j = zb_i (gr_rc rt j)) 10 yre (fun j hj => by omega) ?_ ?_
  · intro n R hR
    refine zc_ex (y_an_dom (ymk := M) (yre := R) hs B C hrt V hR fun M' Dm hDm => y_an_idom (ymk := M') (yre := R) (ydm := Dm) V hR hDm fun I hI => y_an_front (ymk := M') (yre := R) (ydm := Dm) (yid := I) hs B C hrt V hR hDm fun F hF => y_an_live (ymk := M') (yre := R) (ydm := Dm) (yid := I) (yfr := F) hs B C S hmv hrt V hR hU hD fun M'' L hL => h M'' R Dm I F L hR hDm hI hF hL)
  · intro n b R hb hI ih
    refine zc_go hb ⟨pk_in b 10 hb, ?_⟩
    rw [zb_ra (a := M) b]
    refine zs_st b (zn_1 (ih _ fun j hj => ?_)) hb
    by_cases w : j = b
    · rw [w, pk_us]; exact hM b hb
    · rw [pk_un w]; exact hI j (by omega)
end
end
section
/-! ===== the reference's iterated frontiers and phi places ===== -/
section
variable {mb mi mv oc ni : Nat} {ph ync ycl : Int32} {ysr yin ymk yre ydm yid yfr ylv yis yph yar yrs yas yfo ycd yfi ypd yps yss ytu ybl you yot yrg yrv : Nat → Int32} {op fx fy fz : Nat → Int32} {nb : Nat} {bf be : Nat → Nat} {rt : Nat → Int32} {U D : Nat → Nat → Bool}
theorem y_blockDefines {post : Int32 → Prop} (hs : sc_YS ysr op fx fy fz) (B : sc_BL op ni nb bf be) {mb' mv' : Nat} (S : sc_SV mb' mv' ni op fx fy fz) {b : Nat} {v : Int32} (hb : b < nb)
    (h : post (zb_i (sc_dd op fx (bf b) (be b) v))) : wpY_blockDefines post ((nI mb), (nI mi), (nI mv), (nI oc), ph, (nI ni), ync, ycl, ysr, yin, ymk, yre, ydm, yid, yfr, ylv, yis, yph, yar, yrs, yas, yfo, ycd, yfi, ypd, yps, yss, ytu, ybl, you, yot, yrg, yrv) (nI b) v := by
  have hn := B.1
  have h10 := B.2.1
  have h1 := sc_be_le B b hb
  refine loop_0 (fun n i (_ : Unit) => wY_blockDefines_2 post (nI b) v (nI mb) (nI mi) (nI mv) (nI oc) ph (nI ni) ync ycl ysr yin ymk yre ydm yid yfr ylv yis yph yar yrs yas yfo ycd yfi ypd yps yss ytu ybl you yot yrg yrv n (nI i)) (fun i _ => ∀ j, j < i → sc_tc op j = b → sc_de op fx j v = false) ni () (fun j hj => by omega) ?_ ?_
  · intro n _ hI
    refine zc_ex ?_
    rw [sc_dd_f.mpr (fun j w1 w2 => hI j (by omega) ((sc_tc_bf B b hb).2 j w1 w2))] at h
    exact h
  · intro n i _ hi hI ih
    have hl := sc_loc B i hi
    refine zc_go hi (y_defines hn hs S hi (zc_b (fun q => zn_1 (ih () fun j hj w => ?_)) (fun q => y_blockOf hn hs (by omega) (pk_eq (sc_tc op i) b (fun w => ?_) (fun w => zn_1 (ih () fun j hj w' => ?_))))))
    · rcases Nat.lt_or_ge j i with x | x
      · exact hI j x w
      · have e : j = i := by omega
        rw [e]; exact q
    · rw [w] at hl
      have : sc_dd op fx (bf b) (be b) v = true := zb_dt.mpr ⟨i, hl.2.1, hl.2.2, q⟩
      rw [this] at h; exact h
    · rcases Nat.lt_or_ge j i with x | x
      · exact hI j x w'
      · have e : j = i := by omega
        rw [e] at w'; exact absurd w' w
def yi_S (rt : Nat → Int32) (df : Nat → Bool) (M : Nat → Int32) : Prop := (∀ b, b < 10 → M b = 0 ∨ M b = 1) ∧ (∀ b, b < 10 → M b = 1 → gr_IF rt df b)
def yi_C (rt : Nat → Int32) (df : Nat → Bool) (k : Nat) (M : Nat → Int32) : Prop := ∀ a y, a < k → y < 10 → ((gr_rc rt a = true ∧ df a = true) ∨ M a = 1) → gr_fr rt a y = true → M y = 1
theorem yi_max {df : Nat → Bool} {M : Nat → Int32} {b : Nat} (hC : yi_C rt df 10 M) (h : gr_IF rt df b) : M b = 1 :=
  h (fun y => M y = 1) (fun a y ha hy q hf => hC a y ha hy q hf)
theorem y_iterate {post : SY → Prop} (hs : sc_YS ysr op fx fy fz) (B : sc_BL op ni nb bf be) {mb' mv' : Nat} (S : sc_SV mb' mv' ni op fx fy fz) (V : gr_V rt nb) {v : Nat}
    (hr : ∀ b, b < 10 → yre b = zb_i (gr_rc rt b)) (hF : ∀ a b, a < 10 → b < 10 → yfr (a * 10 + b) = zb_i (gr_fr rt a b)) {df : Nat → Bool} (hdf : df = fun b => sc_dd op fx (bf b) (be b) (nI v))
    (h : ∀ M : Nat → Int32, (∀ b, b < 10 → M b = zb_i (zb_d (gr_IF rt df b))) → post ((nI mb), (nI mi), (nI mv), (nI oc), ph, (nI ni), ync, ycl, ysr, yin, ymk, yre, ydm, yid, yfr, ylv, M, yph, yar, yrs, yas, yfo, ycd, yfi, ypd, yps, yss, ytu, ybl, you, yot, yrg, yrv)) : wpY_iterate post ((nI mb), (nI mi), (nI mv), (nI oc), ph, (nI ni), ync, ycl, ysr, yin, ymk, yre, ydm, yid, yfr, ylv, yis, yph, yar, yrs, yas, yfo, ycd, yfi, ypd, yps, yss, ytu, ybl, you, yot, yrg, yrv) (nI v) := by
  have h10 := V.2.1
  refine loop_0 (fun n b (M : Nat → Int32) => wY_iterate_2 post (nI v) (nI mb) (nI mi) (nI mv) (nI oc) ph (nI ni) ync ycl n (nI b) ysr yin ymk yre ydm yid yfr ylv M yph yar yrs yas yfo ycd yfi ypd yps yss ytu ybl you yot yrg yrv) (fun b M => ∀ j, j < b → M j = 0) 10 yis (fun j hj => by omega) ?_ ?_
  · intro n M0 hM0
    refine zc_ex ?_
    refine loop_0 (fun n k (M : Nat → Int32) => wY_iterate_23 post (nI v) (nI mb) (nI mi) (nI mv) (nI oc) ph (nI ni) ync ycl n (nI k) ysr yin ymk yre ydm yid yfr ylv M yph yar yrs yas yfo ycd yfi ypd yps yss ytu ybl you yot yrg yrv) (fun k M => yi_S rt df M ∧ (yi_C rt df 10 M ∨ k ≤ yf_M M)) 11 M0 ⟨⟨fun b hb => Or.inl (hM0 b hb), fun b hb w => ?_⟩, Or.inr (Nat.zero_le _)⟩ ?_ ?_
    · rw [hM0 b hb] at w; exact absurd w (by decide)
    · rintro n M ⟨hS, hC⟩
      have hC' : yi_C rt df 10 M := hC.resolve_right (fun q => by have : yf_M M ≤ 10 := zk_le _ _; omega)
      refine zc_ex (h M fun b hb => ?_)
      rcases hS.1 b hb with z | z
      · rw [z, zb_df.mpr (fun r => by rw [yi_max hC' r] at z; exact absurd z (by decide))]; rfl
      · rw [z, zb_dt.mpr (hS.2 b hb z)]; rfl
    · rintro n k M hk ⟨hS, hC⟩ ih
      refine zc_go hk ?_
      refine loop_0 (fun n' a (M' : Nat → Int32) => wY_iterate_31 post (wY_iterate_23 post (nI v) (nI mb) (nI mi) (nI mv) (nI oc) ph (nI ni) ync ycl n) (nI v) (nI k) (nI mb) (nI mi) (nI mv) (nI oc) ph (nI ni) ync ycl n' (nI a) ysr yin ymk yre ydm yid yfr ylv M' yph yar yrs yas yfo ycd yfi ypd yps yss ytu ybl you yot yrg yrv)
        (fun a M' => yi_S rt df M' ∧ ((M' = M ∧ yi_C rt df a M) ∨ yf_M M < yf_M M')) 10 M ⟨hS, Or.inl ⟨rfl, fun a y ha => by omega⟩⟩ ?_ ?_
      · rintro n' M' ⟨p1, p3⟩
        refine zc_ex (zn_1 (ih M' ⟨p1, ?_⟩))
        rcases p3 with ⟨e, hc⟩ | hc
        · rw [e]; exact Or.inl hc
        · rcases hC with hC | hC
          · have : yf_M M' ≤ yf_M M := zk_mono (fun i hi q => decide_eq_true (yi_max hC (p1.2 i hi (of_decide_eq_true q))))
            omega
          · exact Or.inr (by omega)
      · rintro n' a M' ha ⟨p1, p3⟩ ih'
        have hskip : (∀ y, y < 10 → ((gr_rc rt a = true ∧ df a = true) ∨ M' a = 1) → gr_fr rt a y = true → M' y = 1) → ((M' = M ∧ yi_C rt df (a + 1) M) ∨ yf_M M < yf_M M') := by
          intro hq
          rcases p3 with ⟨ee, hc⟩ | hc
          · refine Or.inl ⟨ee, fun a' y ha' hy w1 w2 => ?_⟩
            rcases Nat.lt_or_ge a' a with x | x
            · exact hc a' y x hy w1 w2
            · have e1 : a' = a := by omega
              rw [e1] at w1 w2
              rw [← ee] at w1 ⊢
              exact hq y hy w1 w2
          · exact Or.inr hc
        have hsrc : ((gr_rc rt a = true ∧ df a = true) ∨ M' a = 1) → ∃ n85 : Nat, wY_iterate_85 post (wY_iterate_23 post (nI v) (nI mb) (nI mi) (nI mv) (nI oc) ph (nI ni) ync ycl n) (wY_iterate_31 post (wY_iterate_23 post (nI v) (nI mb) (nI mi) (nI mv) (nI oc) ph (nI ni) ync ycl n) (nI v) (nI k) (nI mb) (nI mi) (nI mv) (nI oc) ph (nI ni) ync ycl n') (nI v) (nI k) (nI a) (nI mb) (nI mi) (nI mv) (nI oc) ph (nI ni) ync ycl n85 0 ysr yin ymk yre ydm yid yfr ylv M' yph yar yrs yas yfo ycd yfi ypd yps yss ytu ybl you yot yrg yrv := by
          intro hsrc
          refine loop_0 (fun n85 b (M'' : Nat → Int32) => wY_iterate_85 post (wY_iterate_23 post (nI v) (nI mb) (nI mi) (nI mv) (nI oc) ph (nI ni) ync ycl n) (wY_iterate_31 post (wY_iterate_23 post (nI v) (nI mb) (nI mi) (nI mv) (nI oc) ph (nI ni) ync ycl n) (nI v) (nI k) (nI mb) (nI mi) (nI mv) (nI oc) ph (nI ni) ync ycl n') (nI v) (nI k) (nI a) (nI mb) (nI mi) (nI mv) (nI oc) ph (nI ni) ync ycl n85 (nI b) ysr yin ymk yre ydm yid yfr ylv M'' yph yar yrs yas yfo ycd yfi ypd yps yss ytu ybl you yot yrg yrv)
            (fun b M'' => ∀ y, M'' y = if y < b ∧ gr_fr rt a y = true then 1 else M' y) 10 M' (fun y => by rw [if_neg (fun w => by omega)]) ?_ ?_
          · intro n'' M'' hM''
            refine zc_ex (zn_1 (ih' M'' ⟨⟨fun b hb => ?_, fun b hb w => ?_⟩, ?_⟩))
            · rw [hM'' b]
              by_cases w : b < 10 ∧ gr_fr rt a b = true
              · rw [if_pos w]; exact Or.inr rfl
              · rw [if_neg w]; exact p1.1 b hb
            · rw [hM'' b] at w
              by_cases x : b < 10 ∧ gr_fr rt a b = true
              · exact gr_IF_s ha hb (hsrc.imp id (p1.2 a ha)) x.2
              · rw [if_neg x] at w; exact p1.2 b hb w
            · by_cases hx : ∃ y, y < 10 ∧ gr_fr rt a y = true ∧ ¬ M' y = 1
              · obtain ⟨y, hy, w1, w2⟩ := hx
                have : yf_M M' < yf_M M'' := by
                  refine zk_lt (a := y) ?_ ?_ (fun j hj x => ?_) hy
                  · rw [decide_eq_false w2]; decide
                  · refine decide_eq_true ?_
                    rw [hM'' y, if_pos ⟨hy, w1⟩]
                  · refine decide_eq_true ?_
                    rw [hM'' j]
                    by_cases x' : j < 10 ∧ gr_fr rt a j = true
                    · rw [if_pos x']
                    · rw [if_neg x']; exact of_decide_eq_true x
                rcases p3 with ⟨ee, _⟩ | hc
                · rw [ee] at this; exact Or.inr this
                · exact Or.inr (by omega)
              · have eM : M'' = M' := by
                  funext y
                  rw [hM'' y]
                  by_cases x : y < 10 ∧ gr_fr rt a y = true
                  · rw [if_pos x]
                    exact (Classical.byContradiction fun w => hx ⟨y, x.1, x.2, fun w' => w w'.symm⟩)
                  · rw [if_neg x]
                rw [eM]
                refine hskip fun y hy _ w => ?_
                exact Classical.byContradiction fun w' => hx ⟨y, hy, w, w'⟩
          · intro n'' b M'' hb hM'' ih''
            refine zc_go hb ⟨pk_in (a * 10 + b) 100 (by omega) (zi_10 a b), zc_eq (a * 10 + b) (fun q => zs_st b (zn_1 (ih'' _ fun y => ?_)) hb) (fun q => zn_1 (ih'' M'' fun y => ?_)) (zi_10 a b)⟩
            · rw [hF a b ha hb, zb_i1] at q
              by_cases e : y = b
              · rw [e, pk_us, if_pos ⟨by omega, q⟩]
              · rw [pk_un e, hM'' y]
                by_cases x : y < b ∧ gr_fr rt a y = true
                · rw [if_pos x, if_pos ⟨by omega, x.2⟩]
                · rw [if_neg x, if_neg (fun w => x ⟨by omega, w.2⟩)]
            · rw [hF a b ha hb, zb_i1] at q
              rw [hM'' y]
              by_cases x : y < b ∧ gr_fr rt a y = true
              · rw [if_pos x, if_pos ⟨by omega, x.2⟩]
              · rw [if_neg x, if_neg (fun w => ?_)]
                rcases Nat.lt_or_ge y b with z | z
                · exact x ⟨z, w.2⟩
                · have e : y = b := by omega
                  rw [e] at w; exact q w.2
        refine zc_go ha ⟨pk_in a 10 ha, zc_eq a (fun q => ⟨pk_in a 10 ha, zc_eq a (fun q' => br_f (by decide) (br_f (by decide) (hsrc (Or.inr q')))) (fun q' => br_t rfl ?_)⟩) (fun q => zn_1 (ih' M' ⟨p1, hskip fun y hy _ w => ?_⟩))⟩
        · rw [hr a ha, zb_i1] at q
          refine y_blockDefines (yis := M') hs B S (gr_rc_lt V q) (zc_b (fun w => zn_1 (ih' M' ⟨p1, hskip fun y hy w' _ => ?_⟩)) (fun w => hsrc (Or.inl ⟨q, ?_⟩)))
          · rcases w' with w' | w'
            · rw [hdf] at w'
              have w2 : sc_dd op fx (bf a) (be a) (nI v) = true := w'.2
              rw [w] at w2; exact absurd w2 (by decide)
            · exact absurd w' q'
          · rw [hdf]; exact w
        · rw [hr a ha, zb_i1] at q
          obtain ⟨e, _, _, w1, _⟩ := zb_dt.mp w
          exact absurd (gr_dm_rc w1).1 q
  · intro n b M hb hI ih
    refine zc_go hb (zs_st b (zn_1 (ih _ fun j hj => ?_)))
    by_cases w : j = b
    · rw [w, pk_us]
    · rw [pk_un w]; exact hI j (by omega)
end
end
section
/-! ===== the reference numbers the names ===== -/
section
variable {rt op : Nat → Int32} {bf be : Nat → Nat} {mv : Nat}
theorem nu_b_ext {nb : Nat} {s : Nat × (Nat → Int32) × (Nat → Int32)} (V : gr_V rt nb) : ∀ d, nu_b rt op bf be mv s (nb + d) = nu_b rt op bf be mv s nb
  | 0 => rfl
  | d + 1 => by
    have := nu_b_ext (s := s) V d
    show nu_1 rt op bf be mv (nb + d) (nu_b rt op bf be mv s (nb + d)) = _
    unfold nu_1
    rw [if_neg (fun w => by have := gr_rc_lt V w; omega), this]
theorem nu_vs_keep {b : Nat} {c : Nat} {P : Nat → Int32} : ∀ k j, (∀ v, v < k → j ≠ b * 6 + v) → (nu_vs b (c, P) k).2 j = P j
  | 0, _, _ => rfl
  | k + 1, j, h => by
    have := nu_vs_keep (b := b) (c := c) (P := P) k j (fun v hv => h v (by omega))
    show (nu_v b k (nu_vs b (c, P) k)).2 j = P j
    unfold nu_v
    split
    · exact this
    · show upd _ (b * 6 + k) _ j = _
      rw [pk_un (h k (by omega))]; exact this
theorem nu_vs_ext {b c : Nat} {P : Nat → Int32} (h : ∀ v, mv ≤ v → v < 6 → P (b * 6 + v) < 0) : ∀ d, mv + d ≤ 6 → nu_vs b (c, P) (mv + d) = nu_vs b (c, P) mv
  | 0, _ => rfl
  | d + 1, hd => by
    have ih := nu_vs_ext (c := c) h d (by omega)
    show nu_v b (mv + d) (nu_vs b (c, P) (mv + d)) = _
    rw [ih]
    unfold nu_v
    rw [if_pos]
    rw [nu_vs_keep mv _ (fun v hv => by omega)]
    exact h (mv + d) (by omega) (by omega)
theorem nu_vs_neg {b c : Nat} {P : Nat → Int32} (h : ∀ j, j < 60 → mv ≤ j % 6 → P j < 0) : ∀ k, k ≤ 6 → ∀ j, j < 60 → mv ≤ j % 6 → (nu_vs b (c, P) k).2 j < 0
  | 0, _ => h
  | k + 1, hk => fun j hj hm => by
    have ih := nu_vs_neg (b := b) (c := c) h k (by omega)
    show (nu_v b k (nu_vs b (c, P) k)).2 j < 0
    unfold nu_v
    split
    · exact ih j hj hm
    · rename_i w
      show upd _ (b * 6 + k) _ j < 0
      by_cases e : j = b * 6 + k
      · rw [← e] at w
        exact absurd (ih j hj hm) w
      · rw [pk_un e]; exact ih j hj hm
theorem nu_b_neg {s : Nat × (Nat → Int32) × (Nat → Int32)} (hmv : mv ≤ 6) (h : ∀ j, j < 60 → mv ≤ j % 6 → s.2.1 j < 0) : ∀ k j, j < 60 → mv ≤ j % 6 → (nu_b rt op bf be mv s k).2.1 j < 0
  | 0 => h
  | k + 1 => fun j hj hm => by
    have ih := nu_b_neg (s := s) hmv h k
    show (nu_1 rt op bf be mv k (nu_b rt op bf be mv s k)).2.1 j < 0
    unfold nu_1
    split
    · exact nu_vs_neg ih mv hmv j hj hm
    · exact ih j hj hm
end
section
variable {mb mi mv oc ni : Nat} {ph ync ycl : Int32} {ysr yin ymk yre ydm yid yfr ylv yis yph yar yrs yas yfo ycd yfi ypd yps yss ytu ybl you yot yrg yrv : Nat → Int32} {op fx fy fz : Nat → Int32} {nb : Nat} {bf be : Nat → Nat} {rt : Nat → Int32} {U D : Nat → Nat → Bool}
theorem y_mk_num {post : SY → Prop} (hs : sc_YS ysr op fx fy fz) (B : sc_BL op ni nb bf be) (V : gr_V rt nb) (hmv : mv ≤ 6)
    (hr : ∀ b, b < 10 → yre b = zb_i (gr_rc rt b)) (hP : ∀ j, j < 60 → mv ≤ j % 6 → yph j < 0)
    (h : ∀ (c : Nat) (P R : Nat → Int32), (c, P, R) = nu_b rt op bf be mv (mv, yph, yrs) nb → ∃ n : Nat, wY_makeSsa_274 post (nI mb) (nI mi) (nI mv) (nI oc) ph (nI ni) (nI c) ycl n 0 ysr yin ymk yre ydm yid yfr ylv yis P yar R yas yfo ycd yfi ypd yps yss ytu ybl you yot yrg yrv) : ∃ n : Nat, wY_makeSsa_137 post (nI mb) (nI mi) (nI mv) (nI oc) ph (nI ni) ycl n 0 (nI mv) ysr yin ymk yre ydm yid yfr ylv yis yph yar yrs yas yfo ycd yfi ypd yps yss ytu ybl you yot yrg yrv := by
  have hn := B.1
  have h10 := V.2.1
  refine loop_0 (fun n b (s : Nat × (Nat → Int32) × (Nat → Int32)) => wY_makeSsa_137 post (nI mb) (nI mi) (nI mv) (nI oc) ph (nI ni) ycl n (nI b) (nI s.1) ysr yin ymk yre ydm yid yfr ylv yis s.2.1 yar s.2.2 yas yfo ycd yfi ypd yps yss ytu ybl you yot yrg yrv) (fun b s => s = nu_b rt op bf be mv (mv, yph, yrs) b) 10 (mv, yph, yrs) rfl ?_ ?_
  · rintro n ⟨c, P, R⟩ hI
    refine zc_ex (h c P R ?_)
    have := nu_b_ext (op := op) (bf := bf) (be := be) (mv := mv) (s := (mv, yph, yrs)) V (10 - nb)
    have e : nb + (10 - nb) = 10 := by omega
    rw [e] at this
    rw [hI, this]
  · rintro n b ⟨c, P, R⟩ hb hI ih
    have hI' : nu_b rt op bf be mv (mv, yph, yrs) b = (c, P, R) := hI.symm
    have hneg : ∀ j, j < 60 → mv ≤ j % 6 → P j < 0 := by
      have := nu_b_neg (rt := rt) (op := op) (bf := bf) (be := be) (s := (mv, yph, yrs)) hmv hP b
      rw [hI'] at this; exact this
    refine zc_go hb ⟨pk_in b 10 hb, zc_eq b (fun q => ?_) (fun q => zn_1 (ih (c, P, R) ?_))⟩
    · rw [hr b hb, zb_i1] at q
      have hbl := gr_rc_lt V q
      have hb1 := sc_be_le B b hbl
      have hb2 := (B.2.2.2.2.2 b hbl).1
      refine loop_0 (fun n' v (s : Nat × (Nat → Int32)) => wY_makeSsa_155 post (wY_makeSsa_137 post (nI mb) (nI mi) (nI mv) (nI oc) ph (nI ni) ycl n) (nI b) (nI mb) (nI mi) (nI mv) (nI oc) ph (nI ni) ycl n' (nI v) (nI s.1) ysr yin ymk yre ydm yid yfr ylv yis s.2 yar R yas yfo ycd yfi ypd yps yss ytu ybl you yot yrg yrv) (fun v s => s = nu_vs b (c, P) v) 6 (c, P) rfl ?_ ?_
      · rintro n' ⟨c1, P1⟩ hJ
        have e6 : nu_vs b (c, P) mv = (c1, P1) := by
          have := nu_vs_ext (mv := mv) (c := c) (P := P) (b := b) (fun v h1 h2 => hneg (b * 6 + v) (by omega) (by omega)) (6 - mv) (by omega)
          have e : mv + (6 - mv) = 6 := by omega
          rw [e] at this
          rw [← this, hJ]
        refine zc_ex ?_
        refine loop_0 (fun n' i (s : Nat × (Nat → Int32)) => wY_makeSsa_208 post (wY_makeSsa_137 post (nI mb) (nI mi) (nI mv) (nI oc) ph (nI ni) ycl n) (nI b) (nI mb) (nI mi) (nI mv) (nI oc) ph (nI ni) ycl n' (nI i) (nI s.1) ysr yin ymk yre ydm yid yfr ylv yis P1 yar s.2 yas yfo ycd yfi ypd yps yss ytu ybl you yot yrg yrv) (fun i s => s = nu_is op (bf b) (c1, R) ((if i < be b then i else be b) - bf b)) ni (c1, R) ?_ ?_ ?_
        · rw [if_pos (by omega), Nat.zero_sub]; rfl
        · rintro n' ⟨c2, R2⟩ hK
          refine zc_ex (zn_1 (ih (c2, P1, R2) ?_))
          show (c2, P1, R2) = nu_1 rt op bf be mv b (nu_b rt op bf be mv (mv, yph, yrs) b)
          rw [hI']
          unfold nu_1
          rw [if_pos q]
          show (c2, P1, R2) = ((nu_is op (bf b) ((nu_vs b (c, P) mv).1, R) (be b - bf b)).1, (nu_vs b (c, P) mv).2, (nu_is op (bf b) ((nu_vs b (c, P) mv).1, R) (be b - bf b)).2)
          rw [e6]
          rw [if_neg (by omega)] at hK
          show (c2, P1, R2) = ((nu_is op (bf b) (c1, R) (be b - bf b)).1, P1, (nu_is op (bf b) (c1, R) (be b - bf b)).2)
          rw [← hK]
        · rintro n' i ⟨c2, R2⟩ hi hK ih'
          refine zc_go hi (y_blockOf (yph := P1) (yrs := R2) (ync := nI c2) hn hs (by omega) ?_)
          have htc := sc_loc B i hi
          refine pk_eq (sc_tc op i) b (fun w => ?_) (fun w => zn_1 (ih' (c2, R2) ?_))
          · rw [w] at htc
            have e1 : i + 1 - bf b = i - bf b + 1 := by omega
            have e2 : bf b + (i - bf b) = i := by omega
            have e3 : (if i + 1 < be b then i + 1 else be b) = i + 1 := by
              by_cases z : i + 1 < be b
              · rw [if_pos z]
              · rw [if_neg z]; omega
            rw [if_pos htc.2.2] at hK
            refine ⟨pk_in (i * 4) 160 (by omega) (zi_4 i), zc_gt (i * 4) (fun z => zn_1 (ih' (c2, R2) ?_)) (fun z => zs_st i (zn_1 (zn_1 (ih' (c2 + 1, upd R2 i (nI c2)) ?_))) (by omega)) (zi_4 i)⟩
            · rw [(hs i (by omega)).1] at z
              rw [e3, e1]
              show (c2, R2) = nu_i op (bf b + (i - bf b)) (nu_is op (bf b) (c1, R) (i - bf b))
              rw [e2, ← hK]
              unfold nu_i sc_df
              rw [decide_eq_false (not_not_intro z)]; rfl
            · rw [(hs i (by omega)).1] at z
              rw [e3, e1]
              show (c2 + 1, upd R2 i (nI c2)) = nu_i op (bf b + (i - bf b)) (nu_is op (bf b) (c1, R) (i - bf b))
              rw [e2, ← hK]
              unfold nu_i sc_df
              rw [decide_eq_true z]; rfl
          · rw [hK]
            have hcase : i < bf b ∨ be b ≤ i := by
              rcases Nat.lt_or_ge i (bf b) with z | z
              · exact Or.inl z
              · rcases Nat.lt_or_ge i (be b) with z' | z'
                · exact absurd ((sc_tc_bf B b hbl).2 i z z') w
                · exact Or.inr z'
            rcases hcase with z | z
            · rw [if_pos (by omega)]
              have e1 : i - bf b = 0 := by omega
              have e2 : (if i + 1 < be b then i + 1 else be b) - bf b = 0 ∨ (i + 1 = be b) := by
                by_cases z' : i + 1 < be b
                · rw [if_pos z']; omega
                · omega
              rcases e2 with e2 | e2
              · rw [e1, e2]
              · omega
            · rw [if_neg (by omega), if_neg (by omega)]
      · rintro n' v ⟨c1, P1⟩ hv hJ ih'
        have hJ' : nu_vs b (c, P) v = (c1, P1) := hJ.symm
        refine zc_go hv ⟨pk_in (b * 6 + v) 60 (by omega) (zi_6 b v), zc_lt (b * 6 + v) (fun z => zn_1 (ih' (c1, P1) ?_)) (fun z => zs_st (b * 6 + v) (zn_1 (zn_1 (ih' (c1 + 1, upd P1 (b * 6 + v) (nI c1)) ?_))) (by omega) (zi_6 b v)) (zi_6 b v)⟩
        · show (c1, P1) = nu_v b v (nu_vs b (c, P) v)
          rw [hJ']
          unfold nu_v
          rw [if_pos z]
        · show (c1 + 1, upd P1 (b * 6 + v) (nI c1)) = nu_v b v (nu_vs b (c, P) v)
          rw [hJ']
          unfold nu_v
          rw [if_neg z]
    · rw [hr b hb, zb_i1] at q
      show (c, P, R) = nu_1 rt op bf be mv b (nu_b rt op bf be mv (mv, yph, yrs) b)
      rw [hI']
      unfold nu_1
      rw [if_neg q]
theorem y_mk_phi {post : SY → Prop} (hs : sc_YS ysr op fx fy fz) (B : sc_BL op ni nb bf be) {mb' mv' : Nat} (S : sc_SV mb' mv' ni op fx fy fz) (V : gr_V rt nb) (hmv : mv ≤ 6)
    (hr : ∀ b, b < 10 → yre b = zb_i (gr_rc rt b)) (hF : ∀ a b, a < 10 → b < 10 → yfr (a * 10 + b) = zb_i (gr_fr rt a b)) (hD : D = fun v b => sc_dd op fx (bf b) (be b) (nI v))
    (hL : ∀ b, b < 10 → ∀ v, v < mv → gr_rc rt b = true → ylv (b * 6 + v) = zb_i (zb_d (gr_LV rt (U v) (D v) b)))
    (h : ∀ M : Nat → Int32, ∃ n : Nat, wY_makeSsa_137 post (nI mb) (nI mi) (nI mv) (nI oc) ph (nI ni) ycl n 0 (nI mv) ysr yin ymk yre ydm yid yfr ylv M (xp_p yph (xp_W rt U D mv)) yar (zb_fl 40 (-1) yrs) yas (zb_fl 40 0 yfo) ycd yfi ypd yps yss ytu ybl you yot yrg yrv) : wpY_makeSsa post ((nI mb), (nI mi), (nI mv), (nI oc), ph, (nI ni), ync, ycl, ysr, yin, ymk, yre, ydm, yid, yfr, ylv, yis, yph, yar, yrs, yas, yfo, ycd, yfi, ypd, yps, yss, ytu, ybl, you, yot, yrg, yrv) := by
  have h10 := V.2.1
  refine loop_0 (fun n p (P : Nat → Int32) => wY_makeSsa_2 post (nI mb) (nI mi) (nI mv) (nI oc) ph (nI ni) ync ycl n (nI p) ysr yin ymk yre ydm yid yfr ylv yis P yar yrs yas yfo ycd yfi ypd yps yss ytu ybl you yot yrg yrv) (fun p P => P = zb_fl p (-1) yph) 60 yph zb_fl_0.symm ?_ ?_
  · intro n P hP
    have eP : P = xp_p yph (fun j => j % 6 < 0 ∧ xp_W rt U D mv j) := by
      rw [hP]
      funext j
      by_cases w : j < 60
      · rw [xp_f w (fun q => by omega), zb_fl_t w]
      · rw [xp_o w, zb_fl_f w]
    subst eP
    refine zc_ex ?_
    refine loop_0 (fun n i (s : (Nat → Int32) × (Nat → Int32)) => wY_makeSsa_23 post (nI mb) (nI mi) (nI mv) (nI oc) ph (nI ni) ync ycl n (nI i) ysr yin ymk yre ydm yid yfr ylv yis (xp_p yph (fun j => j % 6 < 0 ∧ xp_W rt U D mv j)) yar s.1 yas s.2 ycd yfi ypd yps yss ytu ybl you yot yrg yrv) (fun i s => s.1 = (zb_fl i (-1) yrs) ∧ s.2 = (zb_fl i 0 yfo)) 40 (yrs, yfo) ⟨?_, ?_⟩ ?_ ?_
    · exact zb_fl_0.symm
    · exact zb_fl_0.symm
    · rintro n ⟨R0, F0⟩ ⟨e1, e2⟩
      have e1' : R0 = zb_fl 40 (-1) yrs := e1
      have e2' : F0 = zb_fl 40 0 yfo := e2
      subst e1' e2'
      refine zc_ex ?_
      refine loop_0 (fun n v (s : (Nat → Int32) × (Nat → Int32)) => wY_makeSsa_51 post n (nI v) (nI mb) (nI mi) (nI mv) (nI oc) ph (nI ni) ync ycl ysr yin ymk yre ydm yid yfr ylv s.2 s.1 yar (zb_fl 40 (-1) yrs) yas (zb_fl 40 0 yfo) ycd yfi ypd yps yss ytu ybl you yot yrg yrv) (fun v s => s.1 = xp_p yph (fun j => j % 6 < v ∧ xp_W rt U D mv j)) mv (xp_p yph (fun j => j % 6 < 0 ∧ xp_W rt U D mv j), yis) rfl ?_ ?_
      · rintro n ⟨P, M⟩ hI
        refine zc_ex ?_
        have hI' : P = xp_p yph (fun j => j % 6 < mv ∧ xp_W rt U D mv j) := hI
        have : P = xp_p yph (xp_W rt U D mv) := hI'.trans (xp_congr fun j _ => ⟨fun q => q.2, fun q => ⟨q.1, q⟩⟩)
        subst this
        exact h M
      · rintro n v ⟨P, M⟩ hv hI ih
        have hI' : P = xp_p yph (fun j => j % 6 < v ∧ xp_W rt U D mv j) := hI
        refine zc_go hv (br_f (nI_ge (b := 6) (by omega) (by decide)) ?_)
        refine y_iterate (df := D v) (yph := P) (yis := M) (yrs := zb_fl 40 (-1) yrs) (yfo := zb_fl 40 0 yfo) hs B S V hr hF (by rw [hD]) fun M' hM' => ?_
        refine loop_0 (fun n' b (P : Nat → Int32) => wY_makeSsa_72 post (wY_makeSsa_51 post n) (nI v) (nI mb) (nI mi) (nI mv) (nI oc) ph (nI ni) ync ycl n' (nI b) ysr yin ymk yre ydm yid yfr ylv M' P yar (zb_fl 40 (-1) yrs) yas (zb_fl 40 0 yfo) ycd yfi ypd yps yss ytu ybl you yot yrg yrv) (fun b P => P = xp_p yph (fun j => (j % 6 < v ∨ (j % 6 = v ∧ j / 6 < b)) ∧ xp_W rt U D mv j)) 10 P (hI'.trans (xp_congr fun j _ => ?_)) ?_ ?_
        · constructor
          · rintro ⟨q1, q2⟩; exact ⟨Or.inl q1, q2⟩
          · rintro ⟨q1 | q1, q2⟩
            · exact ⟨q1, q2⟩
            · omega
        · intro n' P hI
          refine zc_ex (zn_1 (ih (P, M') (hI.trans (xp_congr fun j hj => ?_))))
          constructor
          · rintro ⟨q1, q2⟩; exact ⟨by omega, q2⟩
          · rintro ⟨q1, q2⟩
            have := (gr_IF_lt V q2.2.1).2.1
            exact ⟨by omega, q2⟩
        · intro n' b P hb hI ih'
          have hskip : ¬ (gr_IF rt (D v) b ∧ gr_LV rt (U v) (D v) b) → P = xp_p yph (fun j => (j % 6 < v ∨ (j % 6 = v ∧ j / 6 < b + 1)) ∧ xp_W rt U D mv j) := by
            intro hq
            refine hI.trans (xp_congr fun j hj => ?_)
            constructor
            · rintro ⟨q1, q2⟩; exact ⟨by omega, q2⟩
            · rintro ⟨q1, q2⟩
              refine ⟨?_, q2⟩
              rcases q1 with q1 | ⟨q1, q3⟩
              · exact Or.inl q1
              · rcases Nat.lt_or_ge (j / 6) b with x | x
                · exact Or.inr ⟨q1, x⟩
                · have e : j / 6 = b := by omega
                  have := q2.2
                  rw [q1, e] at this
                  exact absurd this hq
          refine zc_go hb ⟨pk_in b 10 hb, zc_eq b (fun q => ?_) (fun q => zn_1 (ih' P (hskip fun w => q ?_)))⟩
          · rw [hM' b hb, zb_i1, zb_dt] at q
            have hrc := (gr_IF_lt V q).2.2
            refine ⟨pk_in (b * 6 + v) 60 (by omega) (zi_6 b v), zc_eq (b * 6 + v) (fun q' => zs_st (b * 6 + v) (zn_1 (ih' _ ?_)) (by omega) (zi_6 b v)) (fun q' => zn_1 (ih' P (hskip fun w => q' ?_))) (zi_6 b v)⟩
            · rw [hL b hb v hv hrc, zb_i1, zb_dt] at q'
              rw [hI]
              refine xp_upd (by omega) fun j hj => ?_
              have e1 : (b * 6 + v) % 6 = v := by omega
              have e2 : (b * 6 + v) / 6 = b := by omega
              constructor
              · rintro ⟨q1, q2⟩
                rcases q1 with q1 | ⟨q1, q3⟩
                · exact Or.inl ⟨Or.inl q1, q2⟩
                · rcases Nat.lt_or_ge (j / 6) b with x | x
                  · exact Or.inl ⟨Or.inr ⟨q1, x⟩, q2⟩
                  · exact Or.inr (by omega)
              · rintro (⟨q1, q2⟩ | w)
                · exact ⟨by omega, q2⟩
                · rw [w]
                  refine ⟨Or.inr ⟨e1, by omega⟩, ?_⟩
                  unfold xp_W
                  rw [e1, e2]
                  exact ⟨hv, q, q'⟩
            · rw [hL b hb v hv hrc, zb_i1, zb_dt]; exact w.2
          · rw [hM' b hb, zb_i1, zb_dt]; exact w.1
    · rintro n i ⟨R0, F0⟩ hi ⟨e1, e2⟩ ih
      have e1' : R0 = zb_fl i (-1) yrs := e1
      have e2' : F0 = zb_fl i 0 yfo := e2
      refine zc_go hi (zs_st i (zs_st i (zn_1 (ih (upd R0 i (-1), upd F0 i 0) ⟨?_, ?_⟩))))
      · show upd R0 i (-1) = _
        rw [e1', zb_fl_s]
      · show upd F0 i 0 = _
        rw [e2', zb_fl_s]
  · intro n p P hp hP ih
    refine zc_go hp (zs_st p (zn_1 (ih _ ?_)))
    rw [hP, zb_fl_s]
end
end
section
/-! ===== the reference's names at a place, its SSA form ===== -/
theorem zi_dlt {m lo : Nat} (hm : m < 2 ^ 30) (hlo : lo < 2 ^ 30) : nI m - 1 < nI lo ↔ m ≤ lo := by
  have e : (nI m - 1).toInt = (m : Int) - 1 := pk_sub_toInt (b := 1) hm (by decide)
  rw [Int32.lt_iff_toInt_lt, e, nI_toInt (by omega)]
  omega
section
variable {mb mi mv oc ni : Nat} {ph ync ycl : Int32} {ysr yin ymk yre ydm yid yfr ylv yis yph yar yrs yas yfo ycd yfi ypd yps yss ytu ybl you yot yrg yrv : Nat → Int32} {op fx fy fz : Nat → Int32} {nb : Nat} {bf be : Nat → Nat} {rt ln : Nat → Int32}
/-- one block, from instruction i downwards -/
theorem y_na_block {post : Int32 → Prop} {J21 : Int32 → Int32 → Int32 → Prop} (hn : ni ≤ 40) (hs : sc_YS ysr op fx fy fz) {mb' mv' : Nat} (S : sc_SV mb' mv' ni op fx fy fz) {v b r lo : Nat} : ∀ k, lo + k ≤ ni →
    (∀ j, lo ≤ j → j < lo + k → sc_de op fx j (nI v) = true → ¬ yrs j < 0) →
    (nu_ld op fx yrs (nI v) lo k < 0 → vp_in (nI b * 6 + nI v) 60 ∧ ((yph (nI b * 6 + nI v).toNatClampNeg < 0 → ((nI b = 0 → post (nI v)) ∧ (¬ nI b = 0 → (vp_in (nI b) 10 ∧ ∀ x : Int32, x = yid (nI b).toNatClampNeg → wpY_termOf (fun q => ∀ y : Int32, y = q + 1 → ∀ z : Int32, z = nI r + 1 → J21 x y z) ((nI mb), (nI mi), (nI mv), (nI oc), ph, (nI ni), ync, ycl, ysr, yin, ymk, yre, ydm, yid, yfr, ylv, yis, yph, yar, yrs, yas, yfo, ycd, yfi, ypd, yps, yss, ytu, ybl, you, yot, yrg, yrv) x)))) ∧ (¬ yph (nI b * 6 + nI v).toNatClampNeg < 0 → (vp_in (nI b * 6 + nI v) 60 ∧ post (yph (nI b * 6 + nI v).toNatClampNeg))))) →
    (¬ nu_ld op fx yrs (nI v) lo k < 0 → post (nu_ld op fx yrs (nI v) lo k)) →
    wY_nameAt_63 post J21 (nI v) (nI b) (nI r) (nI lo) (nI mb) (nI mi) (nI mv) (nI oc) ph (nI ni) ync ycl ysr yin ymk yre ydm yid yfr ylv yis yph yar yrs yas yfo ycd yfi ypd yps yss ytu ybl you yot yrg yrv (k + 1) (nI (lo + k) - 1) := by
  intro k
  induction k with
  | zero =>
    intro hk hR h1 h2
    exact br_t ((zi_dlt (by omega) (by omega)).mpr (by omega)) (h1 (show (-1 : Int32) < 0 by decide))
  | succ k ih =>
    intro hk hR h1 h2
    have e : nI (lo + (k + 1)) - 1 = nI (lo + k) := nI_pred (lo + k)
    refine br_f (fun w => ?_) ?_
    · have := (zi_dlt (by omega) (by omega)).mp w; omega
    · rw [e]
      refine br_f (nI_ge (b := 40) (by omega) (by decide)) (y_defines hn hs S (by omega) (zc_b (fun q => nm_r (zi_dn _) ?_) (fun q => ⟨pk_in (lo + k) 40 (by omega), ?_⟩)))
      · simp only [nu_ld] at h1 h2
        rw [if_neg (by rw [q]; decide)] at h1 h2
        exact ih (by omega) (fun j w1 w2 => hR j w1 (by omega)) h1 h2
      · simp only [nu_ld] at h1 h2
        rw [if_pos q] at h1 h2
        rw [zb_ra (a := yrs) (lo + k)]
        exact h2 (hR (lo + k) (by omega) (by omega) q)
/-- one round: the block b from instruction i downwards, then its dominator -/
theorem y_na_step {post : Int32 → Prop} (hs : sc_YS ysr op fx fy fz) (B : sc_BL op ni nb bf be) (C : sc_CL op ni) {mb' mv' : Nat} (S : sc_SV mb' mv' ni op fx fy fz) (V : gr_V rt nb) (hid : ∀ b, b < 10 → yid b = gr_id rt b) {v : Nat} (hv : v < 6)
    (hR : ∀ i, i < ni → gr_rc rt (sc_tc op i) = true → sc_df (op i) = true → ¬ yrs i < 0) {d b i m : Nat} (hd : d ≤ 11) (hr : gr_rc rt b = true) (hlo : bf b ≤ i) (hhi : i ≤ be b)
    (h1 : nu_ld op fx yrs (nI v) (bf b) (i - bf b) < 0 → post (if yph (b * 6 + v) < 0 then (if yid b < 0 then nI v else nu_E ln yph yid v d (yid b).toNatClampNeg) else yph (b * 6 + v)))
    (h2 : ¬ nu_ld op fx yrs (nI v) (bf b) (i - bf b) < 0 → post (nu_ld op fx yrs (nI v) (bf b) (i - bf b)))
    (next : ∀ a, gr_rc rt a = true → post (nu_E ln yph yid v d a) → wY_nameAt_21 post (nI v) (nI mb) (nI mi) (nI mv) (nI oc) ph (nI ni) ync ycl ysr yin ymk yre ydm yid yfr ylv yis yph yar yrs yas yfo ycd yfi ypd yps yss ytu ybl you yot yrg yrv m (nI a) (nI (be a)) (nI (12 - d)))
    (nono : post (nI v) → wY_nameAt_21 post (nI v) (nI mb) (nI mi) (nI mv) (nI oc) ph (nI ni) ync ycl ysr yin ymk yre ydm yid yfr ylv yis yph yar yrs yas yfo ycd yfi ypd yps yss ytu ybl you yot yrg yrv m (-1) 0 (nI (12 - d))) : wY_nameAt_21 post (nI v) (nI mb) (nI mi) (nI mv) (nI oc) ph (nI ni) ync ycl ysr yin ymk yre ydm yid yfr ylv yis yph yar yrs yas yfo ycd yfi ypd yps yss ytu ybl you yot yrg yrv (m + 1) (nI b) (nI i) (nI (11 - d)) := by
  have hn := B.1
  have h10 := V.2.1
  have hbl := gr_rc_lt V hr
  have hb1 := sc_be_le B b hbl
  have hb2 := (B.2.2.2.2.2 b hbl).1
  refine zc_go (N := 12) (by omega) (br_f zi_nlt (br_t (nI_lt (b := 10) (by omega) (by decide)) (y_firstOf hs B hbl (br_t (nI_pos' (by omega)) (nm_e ⟨i - bf b + 1, ?_⟩)))))
  have e : bf b + (i - bf b) = i := by omega
  have e' : nI i - 1 = nI (bf b + (i - bf b)) - 1 := by rw [e]
  rw [e']
  refine y_na_block hn hs S (i - bf b) (by omega) ?_ ?_ h2
  · intro j w1 w2 w3
    have et : sc_tc op j = b := (sc_tc_bf B b hbl).2 j w1 (by omega)
    refine hR j (by omega) (by rw [et]; exact hr) ?_
    unfold sc_de at w3
    rw [Bool.and_eq_true] at w3; exact w3.1
  · intro w
    have h3 := h1 w
    refine ⟨pk_in (b * 6 + v) 60 (by omega) (zi_6 b v), zc_lt (b * 6 + v) (fun q => pk_eq b 0 (fun z => ?_) (fun z => zs_rn b ?_)) (fun q => ⟨pk_in (b * 6 + v) 60 (by omega) (zi_6 b v), ?_⟩) (zi_6 b v)⟩
    · rw [if_pos q] at h3
      have : yid b < 0 := by rw [hid b (by omega), gr_id_f (fun y => y.1 z)]; decide
      rw [if_pos this] at h3; exact h3
    · rw [if_pos q] at h3
      have e2 : 11 - d + 1 = 12 - d := by omega
      rcases gr_id_or (rt := rt) (b := b) with y | ⟨a, ha, hic, y⟩
      · rw [hid b (by omega), y] at h3 ⊢
        rw [if_pos (by decide)] at h3
        refine y_termOf_no hs B (fun b' hb' => zi_neg (by omega)) (nm_r (e' := 0) (by decide) (zn_1 ?_))
        rw [e2]; exact nono h3
      · have hra := (gr_dm_rc hic.2.1).1
        have hal := gr_rc_lt V hra
        have hb3 := (B.2.2.2.2.2 a hal).1
        rw [hid b (by omega), y] at h3 ⊢
        rw [if_neg zi_nlt, nI_clamp (by omega)] at h3
        refine y_termOf hs B C hal (nm_r (e' := nI (be a)) (by rw [nI_1]; exact congrArg nI (by omega)) (zn_1 ?_))
        rw [e2]; exact next a hra h3
    · rw [if_neg q] at h3
      rw [zb_ra (a := yph) (b * 6 + v) (zi_6 b v)]; exact h3
theorem y_na_chain {post : Int32 → Prop} (hs : sc_YS ysr op fx fy fz) (B : sc_BL op ni nb bf be) (C : sc_CL op ni) {mb' mv' : Nat} (S : sc_SV mb' mv' ni op fx fy fz) (V : gr_V rt nb) (hid : ∀ b, b < 10 → yid b = gr_id rt b) {v : Nat} (hv : v < 6)
    (hln : nu_L rt op fx bf be nb yrs ln) (hR : ∀ i, i < ni → gr_rc rt (sc_tc op i) = true → sc_df (op i) = true → ¬ yrs i < 0) : ∀ d a, d ≤ 12 → gr_rc rt a = true → post (nu_E ln yph yid v d a) → ∀ n, d < n → wY_nameAt_21 post (nI v) (nI mb) (nI mi) (nI mv) (nI oc) ph (nI ni) ync ycl ysr yin ymk yre ydm yid yfr ylv yis yph yar yrs yas yfo ycd yfi ypd yps yss ytu ybl you yot yrg yrv n (nI a) (nI (be a)) (nI (12 - d)) := by
  have h10 := V.2.1
  intro d
  induction d with
  | zero =>
    intro a _ _ h n hn'
    obtain ⟨m, rfl⟩ : ∃ m, n = m + 1 := ⟨n - 1, by omega⟩
    exact zc_ex (N := 12) h
  | succ d ih =>
    intro a hd hra h n hn'
    obtain ⟨m, rfl⟩ : ∃ m, n = m + 1 := ⟨n - 1, by omega⟩
    have hal := gr_rc_lt V hra
    have hb3 := (B.2.2.2.2.2 a hal).1
    have el : nu_ld op fx yrs (nI v) (bf a) (be a - bf a) = ln (a * 6 + v) := by rw [hln a (by omega) v hv, if_pos ⟨hal, hra⟩]
    have e2 : 12 - (d + 1) = 11 - d := by omega
    simp only [nu_E] at h
    rw [e2]
    refine y_na_step hs B C S V hid hv hR (by omega) hra (by omega) (Nat.le_refl _) (fun w => ?_) (fun w => ?_) (fun a' hr' h' => ih a' (by omega) hr' h' m (by omega)) (fun h' => ?_)
    · rw [el] at w; rw [if_pos w] at h; exact h
    · rw [el] at w ⊢; rw [if_neg w] at h; exact h
    · obtain ⟨m', rfl⟩ : ∃ m', m = m' + 1 := ⟨m - 1, by omega⟩
      rcases Nat.eq_zero_or_pos d with y | y
      · subst y; exact zc_ex (N := 12) h'
      · exact zc_go (N := 12) (by omega) (br_t (by decide) h')
/-- the name of v in b before instruction i -/
theorem y_nameAt {post : Int32 → Prop} (hs : sc_YS ysr op fx fy fz) (B : sc_BL op ni nb bf be) (C : sc_CL op ni) {mb' mv' : Nat} (S : sc_SV mb' mv' ni op fx fy fz) (V : gr_V rt nb) (hid : ∀ b, b < 10 → yid b = gr_id rt b) {v : Nat} (hv : v < 6)
    (hln : nu_L rt op fx bf be nb yrs ln) (hR : ∀ i, i < ni → gr_rc rt (sc_tc op i) = true → sc_df (op i) = true → ¬ yrs i < 0) {b i : Nat} (hr : gr_rc rt b = true) (hlo : bf b ≤ i) (hhi : i ≤ be b)
    (h : post (nu_nm op fx yrs ln yph yid (bf b) v b i)) : wpY_nameAt post ((nI mb), (nI mi), (nI mv), (nI oc), ph, (nI ni), ync, ycl, ysr, yin, ymk, yre, ydm, yid, yfr, ylv, yis, yph, yar, yrs, yas, yfo, ycd, yfi, ypd, yps, yss, ytu, ybl, you, yot, yrg, yrv) (nI v) (nI b) (nI i) := by
  have h10 := V.2.1
  have hbl := gr_rc_lt V hr
  refine br_f zi_nlt (br_t (nI_lt (b := 6) hv (by decide)) ⟨13, ?_⟩)
  unfold nu_nm at h
  refine y_na_step (ln := ln) (d := 11) (m := 12) hs B C S V hid hv hR (by omega) hr hlo hhi (fun w => ?_) (fun w => ?_) (fun a hra h' => y_na_chain hs B C S V hid hv hln hR 11 a (by omega) hra h' 12 (by omega)) (fun h' => ?_)
  · rw [if_pos w] at h
    unfold nu_S at h
    by_cases q : yph (b * 6 + v) < 0
    · rw [if_pos q] at h ⊢
      by_cases z : b = 0
      · rw [if_pos z] at h
        rw [if_pos (by rw [hid b (by omega), gr_id_f (fun y => y.1 z)]; decide)]; exact h
      · rw [if_neg z] at h
        by_cases y : yid b < 0
        · rw [if_pos y] at h ⊢; exact h
        · rw [if_neg y] at h ⊢
          rcases gr_id_or (rt := rt) (b := b) with x | ⟨a, ha, hic, x⟩
          · rw [hid b (by omega), x] at y; exact absurd (by decide) y
          · have e : (yid b).toNatClampNeg = a := by rw [hid b (by omega), x, nI_clamp (by omega)]
            rw [e] at h ⊢
            have hc := gr_cd_le (rt := rt) (b := a)
            rw [nu_E_st V hid 10 a 11 10 hc (gr_dm_rc hic.2.1).1 (by omega) hc]; exact h
    · rw [if_neg q] at h ⊢; exact h
  · rw [if_neg w] at h; exact h
  · exact zc_go (N := 12) (by omega) (br_t (by decide) h')
/-- at the end of a block -/
theorem y_nameAt_end {post : Int32 → Prop} (hs : sc_YS ysr op fx fy fz) (B : sc_BL op ni nb bf be) (C : sc_CL op ni) {mb' mv' : Nat} (S : sc_SV mb' mv' ni op fx fy fz) (V : gr_V rt nb) (hid : ∀ b, b < 10 → yid b = gr_id rt b) {v : Nat} (hv : v < 6)
    (hln : nu_L rt op fx bf be nb yrs ln) (hR : ∀ i, i < ni → gr_rc rt (sc_tc op i) = true → sc_df (op i) = true → ¬ yrs i < 0) {b : Nat} (hr : gr_rc rt b = true)
    (h : post (nu_E ln yph yid v 10 b)) : wpY_nameAt post ((nI mb), (nI mi), (nI mv), (nI oc), ph, (nI ni), ync, ycl, ysr, yin, ymk, yre, ydm, yid, yfr, ylv, yis, yph, yar, yrs, yas, yfo, ycd, yfi, ypd, yps, yss, ytu, ybl, you, yot, yrg, yrv) (nI v) (nI b) (nI (be b)) := by
  have hc := gr_cd_le (rt := rt) (b := b)
  refine br_f zi_nlt (br_t (nI_lt (b := 6) hv (by decide)) ⟨13, ?_⟩)
  exact y_na_chain hs B C S V hid hv hln hR 12 b (by omega) hr (by rw [nu_E_st V hid 10 b 12 10 hc hr (by omega) hc]; exact h) 13 (by omega)
end
end
section
/-! ===== the reference's SSA words and arguments ===== -/
section
variable {mb mi mv oc ni : Nat} {ph ync ycl : Int32} {ysr yin ymk yre ydm yid yfr ylv yis yph yar yrs yas yfo ycd yfi ypd yps yss ytu ybl you yot yrg yrv : Nat → Int32} {op fx fy fz : Nat → Int32} {nb : Nat} {bf be : Nat → Nat} {rt ln : Nat → Int32}
theorem y_inSsa {post : Int32 → Prop} (hs : sc_YS ysr op fx fy fz) (B : sc_BL op ni nb bf be) (hr : ∀ b, b < 10 → yre b = zb_i (gr_rc rt b)) {i : Nat} (hi : i < ni)
    (h : post (zb_i (gr_rc rt (sc_tc op i) && decide (yfo i = 0)))) : wpY_inSsa post ((nI mb), (nI mi), (nI mv), (nI oc), ph, (nI ni), ync, ycl, ysr, yin, ymk, yre, ydm, yid, yfr, ylv, yis, yph, yar, yrs, yas, yfo, ycd, yfi, ypd, yps, yss, ytu, ybl, you, yot, yrg, yrv) (nI i) := by
  have hn := B.1
  have h10 := B.2.1
  have hl := (sc_loc B i hi).1
  refine br_f zi_nlt (br_f (nI_ge hi (by omega)) (br_t (nI_lt (b := 40) (by omega) (by decide)) (y_blockOf hn hs (by omega) (br_f zi_nlt (br_t (nI_lt (b := 10) (by omega) (by decide)) ⟨pk_in (sc_tc op i) 10 (by omega), zc_eq (sc_tc op i) (fun q => ⟨pk_in i 40 (by omega), zc_eq i (fun q' => ?_) (fun q' => ?_)⟩) (fun q => ?_)⟩)))))
  · rw [hr _ (by omega), zb_i1] at q
    rw [q, decide_eq_true q'] at h; exact h
  · rw [hr _ (by omega), zb_i1] at q
    rw [q, decide_eq_false q'] at h; exact h
  · rw [hr _ (by omega), zb_i1] at q
    rw [zb_nt q] at h; exact h
def ys_T (rt op fx fy fz R P id ln : Nat → Int32) (bf : Nat → Nat) (k : Nat) (A : Nat → Int32) : Prop := ∀ i, i < k → A (i * 4) = op i ∧ (gr_rc rt (sc_tc op i) = true →
  A (i * 4 + 1) = nu_A1 op fx R (nu_sr op fx R ln P id bf i) i ∧ A (i * 4 + 2) = nu_A2 op fy (nu_sr op fx R ln P id bf i) i ∧ A (i * 4 + 3) = nu_A3 op fz (nu_sr op fx R ln P id bf i) i)
theorem y_mk_ssa {post : SY → Prop} (hs : sc_YS ysr op fx fy fz) (B : sc_BL op ni nb bf be) (C : sc_CL op ni) {mb' mv' : Nat} (hmv : mv' ≤ 6) (S : sc_SV mb' mv' ni op fx fy fz) (V : gr_V rt nb) (hr : ∀ b, b < 10 → yre b = zb_i (gr_rc rt b)) (hid : ∀ b, b < 10 → yid b = gr_id rt b)
    (hfo : ∀ i, i < 40 → yfo i = 0) (hln : nu_L rt op fx bf be nb yrs ln) (hR : ∀ i, i < ni → gr_rc rt (sc_tc op i) = true → sc_df (op i) = true → ¬ yrs i < 0)
    (h : ∀ A : Nat → Int32, ys_T rt op fx fy fz yrs yph yid ln bf ni A → ∃ n : Nat, wY_makeSsa_433 post (nI mb) (nI mi) (nI mv) (nI oc) ph (nI ni) ync ycl n 0 ysr yin ymk yre ydm yid yfr ylv yis yph yar yrs A yfo ycd yfi ypd yps yss ytu ybl you yot yrg yrv) : ∃ n : Nat, wY_makeSsa_274 post (nI mb) (nI mi) (nI mv) (nI oc) ph (nI ni) ync ycl n 0 ysr yin ymk yre ydm yid yfr ylv yis yph yar yrs yas yfo ycd yfi ypd yps yss ytu ybl you yot yrg yrv := by
  have hn := B.1
  have h10 := B.2.1
  refine loop_0 (fun n i (A : Nat → Int32) => wY_makeSsa_274 post (nI mb) (nI mi) (nI mv) (nI oc) ph (nI ni) ync ycl n (nI i) ysr yin ymk yre ydm yid yfr ylv yis yph yar yrs A yfo ycd yfi ypd yps yss ytu ybl you yot yrg yrv) (fun i A => ys_T rt op fx fy fz yrs yph yid ln bf i A) ni yas (fun i hi => by omega) ?_ ?_
  · intro n A hA
    exact zc_ex (h A hA)
  · intro n i A hi hA ih
    obtain ⟨s0, s1, s2, s3⟩ := hs i (by omega)
    obtain ⟨o1, o2, o3, o4, o5, o6⟩ := sc_opf (S i hi).1
    obtain ⟨t1, t2, t3, t4, _⟩ := S i hi
    have hl := sc_loc B i hi
    refine zc_go hi ?_
    refine loop_0 (fun n' k (A' : Nat → Int32) => wY_makeSsa_284 post (wY_makeSsa_274 post (nI mb) (nI mi) (nI mv) (nI oc) ph (nI ni) ync ycl n) (nI i) (nI mb) (nI mi) (nI mv) (nI oc) ph (nI ni) ync ycl n' (nI k) ysr yin ymk yre ydm yid yfr ylv yis yph yar yrs A' yfo ycd yfi ypd yps yss ytu ybl you yot yrg yrv) (fun k A' => (∀ j, j < i * 4 → A' j = A j) ∧ ∀ k', k' < k → A' (i * 4 + k') = ysr (i * 4 + k')) 4 A ⟨fun _ _ => rfl, fun k' hk' => by omega⟩ ?_ ?_
    · rintro n' A' ⟨p1, p2⟩
      have q0 : A' (i * 4) = op i := by have := p2 0 (by omega); rw [← s0]; exact this
      have q1 : A' (i * 4 + 1) = fx i := by rw [← s1]; exact p2 1 (by omega)
      have q2 : A' (i * 4 + 2) = fy i := by rw [← s2]; exact p2 2 (by omega)
      have q3 : A' (i * 4 + 3) = fz i := by rw [← s3]; exact p2 3 (by omega)
      have hold : ∀ A2 : Nat → Int32, (∀ j, j < i * 4 → A2 j = A j) → A2 (i * 4) = op i →
          (gr_rc rt (sc_tc op i) = true → A2 (i * 4 + 1) = nu_A1 op fx yrs (nu_sr op fx yrs ln yph yid bf i) i ∧ A2 (i * 4 + 2) = nu_A2 op fy (nu_sr op fx yrs ln yph yid bf i) i ∧ A2 (i * 4 + 3) = nu_A3 op fz (nu_sr op fx yrs ln yph yid bf i) i) →
          ys_T rt op fx fy fz yrs yph yid ln bf (i + 1) A2 := by
        intro A2 w1 w2 w3 j hj
        rcases Nat.lt_or_ge j i with x | x
        · have := hA j x
          rw [w1 _ (by omega), w1 _ (by omega), w1 _ (by omega), w1 _ (by omega)]; exact this
        · have e : j = i := by omega
          rw [e]; exact ⟨w2, w3⟩
      refine zc_ex (zs_rn (i * 4) ?_ (by omega) (zi_4 i))
      rw [s0]
      refine y_blockOf (yas := A') hn hs (by omega) (y_inSsa (yas := A') hs B hr hi ?_)
      rw [hfo i (by omega), decide_eq_true rfl, Bool.and_true]
      refine zc_b (fun q => zn_1 (ih A' (hold A' p1 q0 fun w => ?_))) (fun q => ⟨3, ?_⟩)
      · rw [q] at w; exact absurd w (by decide)
      have fin : ∀ A2 : Nat → Int32, (∀ j, j < i * 4 → A2 j = A j) → A2 (i * 4) = op i → (sc_df (op i) = false → A2 (i * 4 + 1) = nu_A1 op fx yrs (nu_sr op fx yrs ln yph yid bf i) i) → A2 (i * 4 + 2) = nu_A2 op fy (nu_sr op fx yrs ln yph yid bf i) i → A2 (i * 4 + 3) = nu_A3 op fz (nu_sr op fx yrs ln yph yid bf i) i →
          wY_makeSsa_341 post (wY_makeSsa_274 post (nI mb) (nI mi) (nI mv) (nI oc) ph (nI ni) ync ycl n) (nI i) (op i) (nI (sc_tc op i)) (nI mb) (nI mi) (nI mv) (nI oc) ph (nI ni) ync ycl 1 (nI 2) ysr yin ymk yre ydm yid yfr ylv yis yph yar yrs A2 yfo ycd yfi ypd yps yss ytu ybl you yot yrg yrv := by
        intro A2 w1 w2 w3 w4 w5
        refine zc_ex (N := 2) ⟨fun w => zn_1 (ih A2 (hold A2 w1 w2 fun _ => ⟨w3 ?_, w4, w5⟩)), fun w => ⟨pk_in i 40 (by omega), ?_⟩⟩
        · unfold sc_df; exact decide_eq_false (not_not_intro w)
        · rw [zb_ra (a := yrs) i]
          refine zs_st (i * 4 + 1) (zn_1 (ih _ (hold _ (fun j hj => ?_) ?_ fun _ => ⟨?_, ?_, ?_⟩))) (by omega) (zi_4k i 1)
          · rw [pk_un (by omega)]; exact w1 j hj
          · rw [pk_un (by omega)]; exact w2
          · rw [pk_us]
            unfold nu_A1
            rw [if_pos (by unfold sc_df; exact decide_eq_true w)]
          · rw [pk_un (by omega)]; exact w4
          · rw [pk_un (by omega)]; exact w5
      have name : ∀ {post' : Int32 → Prop} (A2 : Nat → Int32) (v : Nat) (x : Int32), v < mv' → x = nI v → post' (nu_sr op fx yrs ln yph yid bf i x.toNatClampNeg) → wpY_nameAt post' ((nI mb), (nI mi), (nI mv), (nI oc), ph, (nI ni), ync, ycl, ysr, yin, ymk, yre, ydm, yid, yfr, ylv, yis, yph, yar, yrs, A2, yfo, ycd, yfi, ypd, yps, yss, ytu, ybl, you, yot, yrg, yrv) x (nI (sc_tc op i)) (nI i) := by
        intro post' A2 v x hv hx hp
        subst hx
        rw [nI_clamp (by omega)] at hp
        exact y_nameAt (yas := A2) hs B C S V hid (by omega) hln hR q hl.2.1 (by omega) hp
      have step1 : ∀ A2 : Nat → Int32, (∀ j, j < i * 4 → A2 j = A j) → A2 (i * 4) = op i → (sc_df (op i) = false → A2 (i * 4 + 1) = nu_A1 op fx yrs (nu_sr op fx yrs ln yph yid bf i) i) → A2 (i * 4 + 2) = nu_A2 op fy (nu_sr op fx yrs ln yph yid bf i) i → A2 (i * 4 + 3) = fz i →
          wY_makeSsa_341 post (wY_makeSsa_274 post (nI mb) (nI mi) (nI mv) (nI oc) ph (nI ni) ync ycl n) (nI i) (op i) (nI (sc_tc op i)) (nI mb) (nI mi) (nI mv) (nI oc) ph (nI ni) ync ycl 2 (nI 1) ysr yin ymk yre ydm yid yfr ylv yis yph yar yrs A2 yfo ycd yfi ypd yps yss ytu ybl you yot yrg yrv := by
        intro A2 w1 w2 w3 w4 w5
        refine zc_go (N := 2) (by omega) (y_operandField (yas := A2) ?_)
        show _ ∧ _
        cases hz : sc_rz (op i)
        · have e : sc_of (op i) (nI 1) = -1 := by
            unfold sc_of; rw [if_neg (by decide), if_pos (by decide), hz]; rfl
          rw [e]
          refine br_t (by decide) (zn_1 (fin A2 w1 w2 w3 w4 ?_))
          rw [w5]; unfold nu_A3; rw [hz]; rfl
        · have e : sc_of (op i) (nI 1) = nI 3 := by
            unfold sc_of; rw [if_neg (by decide), if_pos (by decide), hz]; rfl
          rw [e]
          refine br_f zi_nlt (zs_rn (i * 4 + 3) ?_ (by omega) (zi_4k i 3))
          rw [s3]
          obtain ⟨z, hz1, hz2⟩ := t4 hz
          refine name A2 z (fz i) hz1 hz2 (zs_st (i * 4 + 3) (zn_1 (fin _ (fun j hj => ?_) ?_ (fun w => ?_) ?_ ?_)) (by omega) (zi_4k i 3))
          · rw [pk_un (by omega)]; exact w1 j hj
          · rw [pk_un (by omega)]; exact w2
          · rw [pk_un (by omega)]; exact w3 w
          · rw [pk_un (by omega)]; exact w4
          · rw [pk_us]; unfold nu_A3; rw [if_pos hz]
      refine zc_go (N := 2) (i := 0) (by omega) (y_operandField (yas := A') ?_)
      show _ ∧ _
      cases hy : sc_ry (op i)
      · cases hx : sc_rx (op i)
        · have e : sc_of (op i) 0 = -1 := by
            unfold sc_of; rw [if_pos rfl, hy, hx]; rfl
          rw [e]
          refine br_t (by decide) (nm_r (e' := nI 1) (by decide) (step1 A' p1 q0 (fun w => ?_) ?_ q3))
          · rw [q1]; unfold nu_A1; rw [w, hx]; rfl
          · rw [q2]; unfold nu_A2; rw [hy]; rfl
        · have e : sc_of (op i) 0 = nI 1 := by
            unfold sc_of; rw [if_pos rfl, hy, hx]; rfl
          rw [e]
          refine br_f zi_nlt (zs_rn (i * 4 + 1) ?_ (by omega) (zi_4k i 1))
          rw [s1]
          obtain ⟨z, hz1, hz2⟩ := t2 (Or.inr hx)
          refine name A' z (fx i) hz1 hz2 (zs_st (i * 4 + 1) (nm_r (e' := nI 1) (by decide) (step1 _ (fun j hj => ?_) ?_ (fun w => ?_) ?_ ?_)) (by omega) (zi_4k i 1))
          · rw [pk_un (by omega)]; exact p1 j hj
          · rw [pk_un (by omega)]; exact q0
          · rw [pk_us]; unfold nu_A1; rw [w, hx]; rfl
          · rw [pk_un (by omega), q2]; unfold nu_A2; rw [hy]; rfl
          · rw [pk_un (by omega)]; exact q3
      · have e : sc_of (op i) 0 = nI 2 := by
          unfold sc_of; rw [if_pos rfl, hy]; rfl
        rw [e]
        refine br_f zi_nlt (zs_rn (i * 4 + 2) ?_ (by omega) (zi_4k i 2))
        rw [s2]
        obtain ⟨z, hz1, hz2⟩ := t3 hy
        refine name A' z (fy i) hz1 hz2 (zs_st (i * 4 + 2) (nm_r (e' := nI 1) (by decide) (step1 _ (fun j hj => ?_) ?_ (fun w => ?_) ?_ ?_)) (by omega) (zi_4k i 2))
        · rw [pk_un (by omega)]; exact p1 j hj
        · rw [pk_un (by omega)]; exact q0
        · rw [o4 hy] at w; exact absurd w (by decide)
        · rw [pk_us]; unfold nu_A2; rw [if_pos hy]
        · rw [pk_un (by omega)]; exact q3
    · rintro n' k A' hk ⟨p1, p2⟩ ih'
      refine zc_go hk ⟨pk_in (i * 4 + k) 160 (by omega) (zi_4k i k), ?_⟩
      rw [zb_ra (a := ysr) (i * 4 + k) (zi_4k i k)]
      refine zs_st (i * 4 + k) (zn_1 (ih' _ ⟨fun j hj => ?_, fun k' hk' => ?_⟩)) (by omega) (zi_4k i k)
      · rw [pk_un (by omega)]; exact p1 j hj
      · by_cases e : k' = k
        · rw [e, pk_us]
        · rw [pk_un (by omega)]; exact p2 k' (by omega)
theorem y_mk_arg {post : SY → Prop} (hs : sc_YS ysr op fx fy fz) (B : sc_BL op ni nb bf be) (C : sc_CL op ni) {mb' mv' : Nat} (S : sc_SV mb' mv' ni op fx fy fz) (hrt : rt = sc_rt op fx fy fz nb be) (V : gr_V rt nb) (hr : ∀ b, b < 10 → yre b = zb_i (gr_rc rt b)) (hid : ∀ b, b < 10 → yid b = gr_id rt b)
    (hln : nu_L rt op fx bf be nb yrs ln) (hR : ∀ i, i < ni → gr_rc rt (sc_tc op i) = true → sc_df (op i) = true → ¬ yrs i < 0)
    (h : post ((nI mb), (nI mi), (nI mv), (nI oc), ph, (nI ni), ync, ycl, ysr, yin, ymk, yre, ydm, yid, yfr, ylv, yis, yph, nu_pa rt ln yph yid yar 120, yrs, yas, yfo, ycd, yfi, ypd, yps, yss, ytu, ybl, you, yot, yrg, yrv)) : ∃ n : Nat, wY_makeSsa_433 post (nI mb) (nI mi) (nI mv) (nI oc) ph (nI ni) ync ycl n 0 ysr yin ymk yre ydm yid yfr ylv yis yph yar yrs yas yfo ycd yfi ypd yps yss ytu ybl you yot yrg yrv := by
  have hn := B.1
  have h10 := B.2.1
  refine loop_0 (fun n e (A : Nat → Int32) => wY_makeSsa_433 post (nI mb) (nI mi) (nI mv) (nI oc) ph (nI ni) ync ycl n (nI e) ysr yin ymk yre ydm yid yfr ylv yis yph A yrs yas yfo ycd yfi ypd yps yss ytu ybl you yot yrg yrv) (fun e A => ∀ j, A j = if j < e * 6 then nu_pa rt ln yph yid yar 120 j else yar j) 20 yar (fun j => by rw [if_neg (by omega)]) ?_ ?_
  · intro n A hA
    have : A = nu_pa rt ln yph yid yar 120 := by
      funext j
      rw [hA j]
      by_cases w : j < 20 * 6
      · rw [if_pos w]
      · rw [if_neg w, nu_pa_o (by omega)]
    rw [this]; exact zc_ex h
  · intro n e A he hA ih
    refine zc_go he ?_
    have hr' := hr
    have V' := V
    rw [hrt] at hr' V'
    refine y_edgeEnd (yar := A) hs B C V' hr' he ?_
    rw [← hrt]
    refine ⟨by decide, nm_r (zi_d (by omega)) ?_⟩
    have loop : ∀ x4 : Int32, (gr_rc rt (e / 2) = true → x4 + 1 = nI (be (e / 2))) → ∃ n459 : Nat, wY_makeSsa_459 post (wY_makeSsa_433 post (nI mb) (nI mi) (nI mv) (nI oc) ph (nI ni) ync ycl n) (nI e) (gr_ee rt e) (nI (e / 2)) x4 (nI mb) (nI mi) (nI mv) (nI oc) ph (nI ni) ync ycl n459 0 ysr yin ymk yre ydm yid yfr ylv yis yph A yrs yas yfo ycd yfi ypd yps yss ytu ybl you yot yrg yrv := by
      intro x4 hx4
      refine loop_0 (fun n459 v (A' : Nat → Int32) => wY_makeSsa_459 post (wY_makeSsa_433 post (nI mb) (nI mi) (nI mv) (nI oc) ph (nI ni) ync ycl n) (nI e) (gr_ee rt e) (nI (e / 2)) x4 (nI mb) (nI mi) (nI mv) (nI oc) ph (nI ni) ync ycl n459 (nI v) ysr yin ymk yre ydm yid yfr ylv yis yph A' yrs yas yfo ycd yfi ypd yps yss ytu ybl you yot yrg yrv) (fun v A' => ∀ j, A' j = if j < e * 6 + v then nu_pa rt ln yph yid yar 120 j else yar j) 6 A hA ?_ ?_
      · intro n' A' hA'
        refine zc_ex (zn_1 (ih A' fun j => ?_))
        rw [hA' j]
        have : e * 6 + 6 = (e + 1) * 6 := by omega
        rw [this]
      · intro n' v A' hv hA' ih'
        have hput : ∀ x : Int32, x = nu_pa rt ln yph yid yar 120 (e * 6 + v) → ∀ j, upd A' (e * 6 + v) x j = if j < e * 6 + (v + 1) then nu_pa rt ln yph yid yar 120 j else yar j := by
          intro x hx j
          by_cases w : j = e * 6 + v
          · rw [w, pk_us, if_pos (by omega)]; exact hx
          · rw [pk_un w, hA' j]
            by_cases y : j < e * 6 + v
            · rw [if_pos y, if_pos (by omega)]
            · rw [if_neg y, if_neg (by omega)]
        have e1 : (e * 6 + v) / 6 = e := by omega
        have e2 : (e * 6 + v) % 6 = v := by omega
        refine zc_go hv (zs_st (e * 6 + v) ?_ (by omega) (zi_6 e v))
        rcases gr_ee_or V he with z | ⟨z1, z2, t, w1, w2, w3, w4, w5, w6⟩
        · refine br_t (by rw [z]; decide) (zn_1 (ih' _ (hput _ ?_)))
          rw [nu_pa_f (by omega) (fun y => ?_)]
          obtain ⟨t, ht, y1, _⟩ := y.2
          rw [e1, z] at y1
          exact zi_neg (by omega) y1.symm
        · have e6 : gr_ee rt e * 6 + nI v = nI (t * 6 + v) := by rw [w3]; exact zi_6 t v
          refine br_f (by rw [w3]; exact zi_nlt) (br_f (by rw [w3]; exact nI_ge (b := 10) (by omega) (by decide)) ⟨pk_in (t * 6 + v) 60 (by omega) e6, zc_lt (t * 6 + v) (fun q => zn_1 (ih' _ (hput _ ?_))) (fun q => ?_) e6⟩)
          · rw [nu_pa_f (by omega) (fun y => ?_)]
            obtain ⟨t', ht', y1, y2⟩ := y.2
            rw [e1] at y1
            rw [e2, zi_inj (y1.symm.trans w3)] at y2
            exact y2 q
          · rw [hx4 z1]
            refine y_nameAt_end (yar := upd A' (e * 6 + v) (-1)) hs B C S V hid hv hln hR z1 (zs_st (e * 6 + v) (zn_1 (ih' _ ?_)) (by omega) (zi_6 e v))
            rw [zb_uu]
            refine hput _ ?_
            rw [nu_pa_t (by omega) (by omega) ⟨t, by omega, by rw [e1]; exact w3, by rw [e2]; exact q⟩, e1, e2]
    by_cases hb : e / 2 < nb
    · refine y_termOf (yar := A) hs B C hb (loop _ fun _ => ?_)
      have := (B.2.2.2.2.2 _ hb).1
      rw [nI_1]; exact congrArg nI (by omega)
    · refine y_termOf_no (yar := A) hs B (fun b hb' q => hb (by have := zi_inj q; omega)) (loop _ fun w => absurd (gr_rc_lt V w) hb)
end
end
section
/-! ===== machines idle and start ===== -/
def mc_3 (a : Nat → Int32) (x : Int32) : Nat → Int32 := upd (upd (upd a 0 x) 1 x) 2 x
section
variable {mb mi mv oc ni nb : Nat} {ph xrm xnc xcc xsc xpc : Int32} {xop xsx xsy xsz xbo xbf xbe xin xee xdm xid xfm xgm xkm xlm xnb xnp xnv xph xln xpa xrs xax xay xaz xfo xsr xso xst xco xcx xcy xcz xcb xpd xps xss xtu xcu xou xot xrg : Nat → Int32}
theorem x_idle {post : SX → Prop} {f : Nat} (hf : f < 3) (h : ∀ rg : Nat → Int32, (∀ r, r < 100 → rg (f * 100 + r) = 0) → (∀ j, (j < f * 100 ∨ (f + 1) * 100 ≤ j) → rg j = xrg j) →
    post ((nI mb), (nI mi), (nI mv), (nI oc), ph, (nI ni), (nI nb), xrm, xnc, xcc, xsc, xpc, xop, xsx, xsy, xsz, xbo, xbf, xbe, xin, xee, xdm, xid, xfm, xgm, xkm, xlm, xnb, xnp, xnv, xph, xln, xpa, xrs, xax, xay, xaz, xfo, xsr, xso, xst, xco, xcx, xcy, xcz, xcb, xpd, xps, upd xss f 0, upd xtu f 0, upd xcu f (-1), upd xou f 0, xot, rg)) : wpX_idle post ((nI mb), (nI mi), (nI mv), (nI oc), ph, (nI ni), (nI nb), xrm, xnc, xcc, xsc, xpc, xop, xsx, xsy, xsz, xbo, xbf, xbe, xin, xee, xdm, xid, xfm, xgm, xkm, xlm, xnb, xnp, xnv, xph, xln, xpa, xrs, xax, xay, xaz, xfo, xsr, xso, xst, xco, xcx, xcy, xcz, xcb, xpd, xps, xss, xtu, xcu, xou, xot, xrg) (nI f) := by
  refine zs_st f (zs_st f (zs_st f (zs_st f ?_ hf) hf) hf) hf
  refine loop_0 (fun n r (rg : Nat → Int32) => wX_idle_30 post (nI f) (nI mb) (nI mi) (nI mv) (nI oc) ph (nI ni) (nI nb) xrm xnc xcc xsc xpc n (nI r) xop xsx xsy xsz xbo xbf xbe xin xee xdm xid xfm xgm xkm xlm xnb xnp xnv xph xln xpa xrs xax xay xaz xfo xsr xso xst xco xcx xcy xcz xcb xpd xps (upd xss f 0) (upd xtu f 0) (upd xcu f (-1)) (upd xou f 0) xot rg) (fun r rg => (∀ r', r' < r → rg (f * 100 + r') = 0) ∧ ∀ j, (j < f * 100 ∨ (f + 1) * 100 ≤ j) → rg j = xrg j) 100 xrg ⟨fun r' hr' => by omega, fun _ _ => rfl⟩ ?_ ?_
  · rintro n rg ⟨q1, q2⟩
    exact zc_ex (h rg q1 q2)
  · rintro n r rg hr ⟨q1, q2⟩ ih
    refine zc_go hr (zs_st (f * 100 + r) (zn_1 (ih _ ⟨fun r' hr' => ?_, fun j hj => ?_⟩)) (by omega) (zi_100 f r))
    · by_cases e : r' = r
      · rw [e, pk_us]
      · rw [pk_un (by omega)]; exact q1 r' (by omega)
    · rw [pk_un (by omega)]; exact q2 j hj
theorem x_idleAll {post : SX → Prop} (h : ∀ rg : Nat → Int32, (∀ j, j < 300 → rg j = 0) → post ((nI mb), (nI mi), (nI mv), (nI oc), ph, (nI ni), (nI nb), xrm, xnc, xcc, xsc, xpc, xop, xsx, xsy, xsz, xbo, xbf, xbe, xin, xee, xdm, xid, xfm, xgm, xkm, xlm, xnb, xnp, xnv, xph, xln, xpa, xrs, xax, xay, xaz, xfo, xsr, xso, xst, xco, xcx, xcy, xcz, xcb, xpd, xps, mc_3 xss 0, mc_3 xtu 0, mc_3 xcu (-1), mc_3 xou 0, xot, rg)) : wpX_idleAll post ((nI mb), (nI mi), (nI mv), (nI oc), ph, (nI ni), (nI nb), xrm, xnc, xcc, xsc, xpc, xop, xsx, xsy, xsz, xbo, xbf, xbe, xin, xee, xdm, xid, xfm, xgm, xkm, xlm, xnb, xnp, xnv, xph, xln, xpa, xrs, xax, xay, xaz, xfo, xsr, xso, xst, xco, xcx, xcy, xcz, xcb, xpd, xps, xss, xtu, xcu, xou, xot, xrg) := by
  refine ⟨4, ?_⟩
  refine zc_go (N := 3) (i := 0) (by omega) (x_idle (f := 0) (by omega) fun r0 a0 b0 => nm_r (e' := nI 1) (by decide) ?_)
  refine zc_go (N := 3) (by omega) (x_idle (f := 1) (by omega) fun r1 a1 b1 => nm_r (e' := nI 2) (by decide) ?_)
  refine zc_go (N := 3) (by omega) (x_idle (f := 2) (by omega) fun r2 a2 b2 => nm_r (e' := nI 3) (by decide) ?_)
  refine zc_ex (N := 3) (h r2 fun j hj => ?_)
  rcases Nat.lt_or_ge j 200 with w | w
  · rw [b2 j (by omega)]
    rcases Nat.lt_or_ge j 100 with y | y
    · rw [b1 j (by omega)]
      have := a0 j (by omega)
      rw [Nat.zero_mul, Nat.zero_add] at this; exact this
    · have := a1 (j - 100) (by omega)
      have e : 1 * 100 + (j - 100) = j := by omega
      rw [e] at this; exact this
  · have := a2 (j - 200) (by omega)
    have e : 2 * 100 + (j - 200) = j := by omega
    rw [e] at this; exact this
theorem x_startMachine {post : SX → Prop} {f : Nat} (hf : f < 3) (hmv : mv ≤ 6) (h : ∀ rg : Nat → Int32, (∀ r, r < 100 → rg (f * 100 + r) = if r < mv then xin r else 0) → (∀ j, (j < f * 100 ∨ (f + 1) * 100 ≤ j) → rg j = xrg j) →
    post ((nI mb), (nI mi), (nI mv), (nI oc), ph, (nI ni), (nI nb), xrm, xnc, xcc, xsc, xpc, xop, xsx, xsy, xsz, xbo, xbf, xbe, xin, xee, xdm, xid, xfm, xgm, xkm, xlm, xnb, xnp, xnv, xph, xln, xpa, xrs, xax, xay, xaz, xfo, xsr, xso, xst, xco, xcx, xcy, xcz, xcb, xpd, xps, upd xss f 1, upd xtu f 0, upd xcu f 0, upd xou f 0, xot, rg)) : wpX_startMachine post ((nI mb), (nI mi), (nI mv), (nI oc), ph, (nI ni), (nI nb), xrm, xnc, xcc, xsc, xpc, xop, xsx, xsy, xsz, xbo, xbf, xbe, xin, xee, xdm, xid, xfm, xgm, xkm, xlm, xnb, xnp, xnv, xph, xln, xpa, xrs, xax, xay, xaz, xfo, xsr, xso, xst, xco, xcx, xcy, xcz, xcb, xpd, xps, xss, xtu, xcu, xou, xot, xrg) (nI f) := by
  unfold wpX_startMachine
  refine x_idle hf fun rg0 a0 b0 => ?_
  refine zs_st f (zs_st f ?_ hf) hf
  have e1 : upd (upd xss f 0) f 1 = upd xss f 1 := by
    funext j
    by_cases w : j = f
    · rw [w, pk_us, pk_us]
    · rw [pk_un w, pk_un w, pk_un w]
  have e2 : upd (upd xcu f (-1)) f 0 = upd xcu f 0 := by
    funext j
    by_cases w : j = f
    · rw [w, pk_us, pk_us]
    · rw [pk_un w, pk_un w, pk_un w]
  rw [e1, e2]
  refine loop_0 (fun n v (rg : Nat → Int32) => wX_startMachine_21 post (nI f) (nI mb) (nI mi) (nI mv) (nI oc) ph (nI ni) (nI nb) xrm xnc xcc xsc xpc n (nI v) xop xsx xsy xsz xbo xbf xbe xin xee xdm xid xfm xgm xkm xlm xnb xnp xnv xph xln xpa xrs xax xay xaz xfo xsr xso xst xco xcx xcy xcz xcb xpd xps (upd xss f 1) (upd xtu f 0) (upd xcu f 0) (upd xou f 0) xot rg) (fun v rg => (∀ r, r < 100 → rg (f * 100 + r) = if r < v then xin r else 0) ∧ ∀ j, (j < f * 100 ∨ (f + 1) * 100 ≤ j) → rg j = xrg j) mv rg0 ⟨fun r hr => by rw [if_neg (by omega)]; exact a0 r hr, b0⟩ ?_ ?_
  · rintro n rg ⟨q1, q2⟩
    exact zc_ex (h rg q1 q2)
  · rintro n v rg hv ⟨q1, q2⟩ ih
    refine zc_go hv ⟨pk_in v 6 (by omega), ?_⟩
    rw [zb_ra (a := xin) v]
    refine zs_st (f * 100 + v) (zn_1 (ih _ ⟨fun r hr => ?_, fun j hj => ?_⟩)) (by omega) (zi_100 f v)
    · by_cases e : r = v
      · rw [e, pk_us, if_pos (by omega)]
      · rw [pk_un (by omega), q1 r hr]
        by_cases w : r < v
        · rw [if_pos w, if_pos (by omega)]
        · rw [if_neg w, if_neg (by omega)]
    · rw [pk_un (by omega)]; exact q2 j hj
end
section
variable {mb mi mv oc ni : Nat} {ph ync ycl : Int32} {ysr yin ymk yre ydm yid yfr ylv yis yph yar yrs yas yfo ycd yfi ypd yps yss ytu ybl you yot yrg yrv : Nat → Int32}
theorem y_idle {post : SY → Prop} {f : Nat} (hf : f < 3) (h : ∀ ot rg : Nat → Int32, (∀ r, r < 128 → rg (f * 128 + r) = 0) → (∀ j, (j < f * 128 ∨ (f + 1) * 128 ≤ j) → rg j = yrg j) → (∀ j, (j < f * 64 ∨ (f + 1) * 64 ≤ j) → ot j = yot j) →
    post ((nI mb), (nI mi), (nI mv), (nI oc), ph, (nI ni), ync, ycl, ysr, yin, ymk, yre, ydm, yid, yfr, ylv, yis, yph, yar, yrs, yas, yfo, ycd, yfi, ypd, yps, upd yss f 0, upd ytu f 0, upd ybl f (-1), upd you f 0, ot, rg, yrv)) : wpY_idle post ((nI mb), (nI mi), (nI mv), (nI oc), ph, (nI ni), ync, ycl, ysr, yin, ymk, yre, ydm, yid, yfr, ylv, yis, yph, yar, yrs, yas, yfo, ycd, yfi, ypd, yps, yss, ytu, ybl, you, yot, yrg, yrv) (nI f) := by
  refine br_f zi_nlt (br_t (nI_le (b := 2) (by omega) (by decide)) (zs_st f (zs_st f (zs_st f (zs_st f ?_ hf) hf) hf) hf))
  refine loop_0 (fun n r (ot : Nat → Int32) => wY_idle_40 post (nI f) (nI mb) (nI mi) (nI mv) (nI oc) ph (nI ni) ync ycl n (nI r) ysr yin ymk yre ydm yid yfr ylv yis yph yar yrs yas yfo ycd yfi ypd yps (upd yss f 0) (upd ytu f 0) (upd ybl f (-1)) (upd you f 0) ot yrg yrv) (fun r ot => ∀ j, (j < f * 64 ∨ (f + 1) * 64 ≤ j) → ot j = yot j) 64 yot (fun _ _ => rfl) ?_ ?_
  · intro n ot q
    refine zc_ex ?_
    refine loop_0 (fun n r (rg : Nat → Int32) => wY_idle_66 post (nI f) (nI mb) (nI mi) (nI mv) (nI oc) ph (nI ni) ync ycl n (nI r) ysr yin ymk yre ydm yid yfr ylv yis yph yar yrs yas yfo ycd yfi ypd yps (upd yss f 0) (upd ytu f 0) (upd ybl f (-1)) (upd you f 0) ot rg yrv) (fun r rg => (∀ r', r' < r → rg (f * 128 + r') = 0) ∧ ∀ j, (j < f * 128 ∨ (f + 1) * 128 ≤ j) → rg j = yrg j) 128 yrg ⟨fun r' hr' => by omega, fun _ _ => rfl⟩ ?_ ?_
    · rintro n rg ⟨q1, q2⟩
      exact zc_ex (h ot rg q1 q2 q)
    · rintro n r rg hr ⟨q1, q2⟩ ih
      refine zc_go hr (zs_st (f * 128 + r) (zn_1 (ih _ ⟨fun r' hr' => ?_, fun j hj => ?_⟩)) (by omega) (zi_128 f r))
      · by_cases e : r' = r
        · rw [e, pk_us]
        · rw [pk_un (by omega)]; exact q1 r' (by omega)
      · rw [pk_un (by omega)]; exact q2 j hj
  · intro n r ot hr q ih
    refine zc_go hr (zs_st (f * 64 + r) (zn_1 (ih _ fun j hj => ?_)) (by omega) (zi_64 f r))
    rw [pk_un (by omega)]; exact q j hj
theorem y_idleAll {post : SY → Prop} (h : ∀ ot rg : Nat → Int32, (∀ j, j < 384 → rg j = 0) → post ((nI mb), (nI mi), (nI mv), (nI oc), ph, (nI ni), ync, ycl, ysr, yin, ymk, yre, ydm, yid, yfr, ylv, yis, yph, yar, yrs, yas, yfo, ycd, yfi, ypd, yps, mc_3 yss 0, mc_3 ytu 0, mc_3 ybl (-1), mc_3 you 0, ot, rg, yrv)) : wpY_idleAll post ((nI mb), (nI mi), (nI mv), (nI oc), ph, (nI ni), ync, ycl, ysr, yin, ymk, yre, ydm, yid, yfr, ylv, yis, yph, yar, yrs, yas, yfo, ycd, yfi, ypd, yps, yss, ytu, ybl, you, yot, yrg, yrv) := by
  unfold wpY_idleAll
  refine y_idle (f := 0) (by omega) fun o0 r0 a0 b0 _ => ?_
  refine y_idle (f := 1) (by omega) fun o1 r1 a1 b1 _ => ?_
  refine y_idle (f := 2) (by omega) fun o2 r2 a2 b2 _ => h o2 r2 fun j hj => ?_
  rcases Nat.lt_or_ge j 256 with w | w
  · rw [b2 j (by omega)]
    rcases Nat.lt_or_ge j 128 with y | y
    · rw [b1 j (by omega)]
      have := a0 j (by omega)
      rw [Nat.zero_mul, Nat.zero_add] at this; exact this
    · have := a1 (j - 128) (by omega)
      have e : 1 * 128 + (j - 128) = j := by omega
      rw [e] at this; exact this
  · have := a2 (j - 256) (by omega)
    have e : 2 * 128 + (j - 256) = j := by omega
    rw [e] at this; exact this
theorem y_startMachine {post : SY → Prop} {f : Nat} (hf : f < 3) (hmv : mv ≤ 6) (h : ∀ ot rg : Nat → Int32, (∀ r, r < 100 → rg (f * 128 + r) = if r < mv then yin r else 0) → (∀ j, (j < f * 128 ∨ (f + 1) * 128 ≤ j) → rg j = yrg j) → (∀ j, (j < f * 64 ∨ (f + 1) * 64 ≤ j) → ot j = yot j) →
    post ((nI mb), (nI mi), (nI mv), (nI oc), ph, (nI ni), ync, ycl, ysr, yin, ymk, yre, ydm, yid, yfr, ylv, yis, yph, yar, yrs, yas, yfo, ycd, yfi, ypd, yps, upd yss f 1, upd ytu f 0, upd ybl f 0, upd you f 0, ot, rg, yrv)) : wpY_startMachine post ((nI mb), (nI mi), (nI mv), (nI oc), ph, (nI ni), ync, ycl, ysr, yin, ymk, yre, ydm, yid, yfr, ylv, yis, yph, yar, yrs, yas, yfo, ycd, yfi, ypd, yps, yss, ytu, ybl, you, yot, yrg, yrv) (nI f) := by
  refine br_f zi_nlt (br_t (nI_le (b := 2) (by omega) (by decide)) (y_idle hf fun ot rg0 a0 b0 c0 => ?_))
  refine zs_st f (zs_st f ?_ hf) hf
  have e1 : upd (upd yss f 0) f 1 = upd yss f 1 := by
    funext j
    by_cases w : j = f
    · rw [w, pk_us, pk_us]
    · rw [pk_un w, pk_un w, pk_un w]
  have e2 : upd (upd ybl f (-1)) f 0 = upd ybl f 0 := by
    funext j
    by_cases w : j = f
    · rw [w, pk_us, pk_us]
    · rw [pk_un w, pk_un w, pk_un w]
  rw [e1, e2]
  refine loop_0 (fun n v (rg : Nat → Int32) => wY_startMachine_31 post (nI f) (nI mb) (nI mi) (nI mv) (nI oc) ph (nI ni) ync ycl n (nI v) ysr yin ymk yre ydm yid yfr ylv yis yph yar yrs yas yfo ycd yfi ypd yps (upd yss f 1) (upd ytu f 0) (upd ybl f 0) (upd you f 0) ot rg yrv) (fun v rg => (∀ r, r < 100 → rg (f * 128 + r) = if r < v then yin r else 0) ∧ ∀ j, (j < f * 128 ∨ (f + 1) * 128 ≤ j) → rg j = yrg j) mv rg0 ⟨fun r hr => by rw [if_neg (by omega)]; exact a0 r (by omega), b0⟩ ?_ ?_
  · rintro n rg ⟨q1, q2⟩
    exact zc_ex (h ot rg q1 q2 c0)
  · rintro n v rg hv ⟨q1, q2⟩ ih
    refine zc_go hv (br_f (nI_ge (b := 6) (by omega) (by decide)) ⟨pk_in v 6 (by omega), ?_⟩)
    rw [zb_ra (a := yin) v]
    refine zs_st (f * 128 + v) (zn_1 (ih _ ⟨fun r hr => ?_, fun j hj => ?_⟩)) (by omega) (zi_128 f v)
    · by_cases e : r = v
      · rw [e, pk_us, if_pos (by omega)]
      · rw [pk_un (by omega), q1 r hr]
        by_cases w : r < v
        · rw [if_pos w, if_pos (by omega)]
        · rw [if_neg w, if_neg (by omega)]
    · rw [pk_un (by omega)]; exact q2 j hj
end
end
section
/-! ===== the relation ===== -/
/-- the source form on both sides -/
def rl_S (mb mi mv oc ni nb : Nat) (bf be : Nat → Nat) (xop xsx xsy xsz xbo xbf xbe ysr : Nat → Int32) : Prop :=
  (2 ≤ mb ∧ mb ≤ 10) ∧ (4 ≤ mi ∧ mi ≤ 40) ∧ (1 ≤ mv ∧ mv ≤ 6) ∧ (1 ≤ oc ∧ oc ≤ 64) ∧ ni ≤ mi ∧ nb ≤ mb ∧ sc_BL xop ni nb bf be ∧ sc_SV mb mv ni xop xsx xsy xsz ∧ sc_YS ysr xop xsx xsy xsz ∧
  (∀ i, i < ni → xbo i = nI (sc_tc xop i)) ∧ (∀ b, b < nb → xbf b = nI (bf b)) ∧ (∀ b, b < nb → xbe b = nI (be b))
/-- the analysis -/
def rl_A (mv ni nb : Nat) (be : Nat → Nat) (rt : Nat → Int32) (xrm : Int32) (xop xsx xsy xsz xee xdm xid xfm xlm yre ydm yid yfr ylv : Nat → Int32) : Prop :=
  sc_CL xop ni ∧ rt = sc_rt xop xsx xsy xsz nb be ∧ gr_V rt nb ∧ (∀ i, i < 32 → bt xrm i = gr_rc rt i) ∧ (∀ b, b < 10 → yre b = zb_i (gr_rc rt b)) ∧ (∀ e, e < 20 → xee e = gr_ee rt e) ∧
  (∀ b, b < 10 → ∀ a, a < 32 → bt (xdm b) a = gr_dm rt a b) ∧ (∀ a b, a < 10 → b < 10 → ydm (a * 10 + b) = zb_i (gr_dm rt a b)) ∧
  (∀ b, b < 10 → xid b = gr_id rt b) ∧ (∀ b, b < 10 → yid b = gr_id rt b) ∧
  (∀ a, a < 10 → ∀ b, b < 32 → bt (xfm a) b = gr_fr rt a b) ∧ (∀ a b, a < 10 → b < 10 → yfr (a * 10 + b) = zb_i (gr_fr rt a b)) ∧
  (∀ b, b < 10 → ∀ v, v < mv → (gr_rc rt b = true → ylv (b * 6 + v) = zb_i (bt (xlm b) v)) ∧ (gr_rc rt b = false → bt (xlm b) v = false))
/-- the SSA form -/
def rl_O (ni nc : Nat) (rt xop xsx xsy xsz xrs xax xay xaz yas : Nat → Int32) : Prop := ∀ i, i < ni → gr_rc rt (sc_tc xop i) = true →
  (yas (i * 4) = xop i ∧ yas (i * 4 + 1) = xax i ∧ yas (i * 4 + 2) = xay i ∧ yas (i * 4 + 3) = xaz i) ∧
  (sc_df (xop i) = true → xax i = xrs i) ∧ (sc_rx (xop i) = true → ∃ k, k < nc ∧ xax i = nI k) ∧ (sc_ry (xop i) = true → ∃ k, k < nc ∧ xay i = nI k) ∧ (sc_rz (xop i) = true → ∃ k, k < nc ∧ xaz i = nI k) ∧
  (xop i = 9 → xax i = xsx i) ∧ (xop i = 10 → xay i = xsy i ∧ xaz i = xsz i)
def rl_P (nc : Nat) (rt xph xpa : Nat → Int32) : Prop := ∀ j, j < 120 → (nu_pc rt xph j ∧ ∃ k, k < nc ∧ xpa j = nI k) ∨ (¬ nu_pc rt xph j ∧ xpa j = -1)
def rl_F (xop xfo : Nat → Int32) : Prop := ∀ i, i < 40 → xfo i = 0 ∨ (xfo i = 1 ∧ xop i = 1)
def rl_N (mv ni nc : Nat) (rt xop xsx xsy xsz xnb xnp xnv xph xpa xrs xax xay xaz xfo yas : Nat → Int32) : Prop :=
  nu_N rt xop xsx mv ni 60 ni nc xph xrs xnb xnp xnv ∧ nc ≤ 96 ∧ rl_O ni nc rt xop xsx xsy xsz xrs xax xay xaz yas ∧ rl_P nc rt xph xpa ∧ rl_F xop xfo
/-- the code form -/
noncomputable def rl_cr (rt op : Nat → Int32) (be : Nat → Nat) (e : Nat) : Bool := decide (¬ gr_ee rt e < 0) && (decide (op (be (e / 2) - 1) = 10) && decide (2 ≤ zk_c (fun f => decide (gr_ee rt f = gr_ee rt e)) 20))
def rl_T (nb cc : Nat) (rt xst xcb : Nat → Int32) (c : Nat) (x : Int32) : Prop := ∃ t, t < cc ∧ x = nI t ∧ ((∃ b, gr_rc rt b = true ∧ xcb t = nI b ∧ xst b = nI t) ∨ (∃ s, nb ≤ s ∧ s < 30 ∧ xcb t = nI s ∧ c < t))
def rl_L (nb nc cc : Nat) (rt xst xco xcx xcy xcz xcb : Nat → Int32) (c : Nat) : Prop :=
  (∃ k, k ≤ 8 ∧ xco c = nI k ∧ c + 1 < cc ∧ ((sc_df (xco c) = true ∨ sc_rx (xco c) = true) → ∃ k, k ≤ nc ∧ xcx c = nI k) ∧ (sc_ry (xco c) = true → ∃ k, k ≤ nc ∧ xcy c = nI k) ∧ (sc_rz (xco c) = true → ∃ k, k ≤ nc ∧ xcz c = nI k)) ∨
  xco c = 11 ∨ (xco c = 9 ∧ rl_T nb cc rt xst xcb c (xcx c)) ∨ (xco c = 10 ∧ (∃ k, k ≤ nc ∧ xcx c = nI k) ∧ rl_T nb cc rt xst xcb c (xcy c) ∧ rl_T nb cc rt xst xcb c (xcz c))
def rl_C (nb nc cc : Nat) (be : Nat → Nat) (rt : Nat → Int32) (xcc xsc ycl : Int32) (xop xso xst xco xcx xcy xcz xcb ycd yfi : Nat → Int32) : Prop :=
  cc ≤ 240 ∧ xcc = nI cc ∧ ycl = nI cc ∧ xsc = nI (zk_c (rl_cr rt xop be) 20) ∧ (∀ e, e < 20 → xso e = if rl_cr rt xop be e = true then nI (nb + zk_c (rl_cr rt xop be) e) else -1) ∧
  (∀ b, b < 30 → xst b = yfi b) ∧ yfi 30 = -1 ∧ yfi 31 = -1 ∧ (∀ b, b < nb → (gr_rc rt b = true → ∃ t, t < cc ∧ xst b = nI t ∧ xcb t = nI b) ∧ (gr_rc rt b = false → xst b = -1)) ∧
  (∀ c, c < cc → ycd (c * 4) = xco c ∧ ycd (c * 4 + 1) = xcx c ∧ ycd (c * 4 + 2) = xcy c ∧ ycd (c * 4 + 3) = xcz c) ∧
  (∀ c, c < cc → rl_L nb nc cc rt xst xco xcx xcy xcz xcb c)
/-- the machines -/
def rl_M (oc : Nat) (ph : Int32) (rt xss xcu xou xot xrg yot yrg : Nat → Int32) : Prop := ∀ f, f < 3 →
  (∀ r, r < 100 → xrg (f * 100 + r) = yrg (f * 128 + r)) ∧ (∃ k, k ≤ oc ∧ xou f = nI k ∧ ∀ i, i < k → xot (f * 64 + i) = yot (f * 64 + i)) ∧
  (xss f = 1 → ¬ ph = 0 ∧ (f = 2 → ph = 2) ∧ ∃ b, gr_rc rt b = true ∧ xcu f = nI b) ∧ (ph = 0 → xss f = 0)
def rl_H (mv ni nb nc cc : Nat) (be : Nat → Nat) (rt : Nat → Int32) (ph xrm xnc xcc xsc ync ycl : Int32) (xop xsx xsy xsz xee xdm xid xfm xlm xnb xnp xnv xph xpa xrs xax xay xaz xfo xso xst xco xcx xcy xcz xcb yre ydm yid yfr ylv yas ycd yfi : Nat → Int32) : Prop :=
  (ph = 0 ∧ xnc = 0 ∧ xcc = 0 ∧ xsc = 0) ∨
  ((ph = 1 ∧ xcc = 0 ∧ xsc = 0 ∨ ph = 2 ∧ rl_C nb nc cc be rt xcc xsc ycl xop xso xst xco xcx xcy xcz xcb ycd yfi) ∧ xnc = nI nc ∧ ync = nI nc ∧
    rl_A mv ni nb be rt xrm xop xsx xsy xsz xee xdm xid xfm xlm yre ydm yid yfr ylv ∧ rl_N mv ni nc rt xop xsx xsy xsz xnb xnp xnv xph xpa xrs xax xay xaz xfo yas)
def rl_R (mb mi mv oc ni nb : Nat) (ph xrm xnc xcc xsc xpc ync ycl : Int32) (xop xsx xsy xsz xbo xbf xbe xin xee xdm xid xfm xgm xkm xlm xnb xnp xnv xph xln xpa xrs xax xay xaz xfo xsr xso xst xco xcx xcy xcz xcb xpd xps xss xtu xcu xou xot xrg ysr ymk yre ydm yid yfr ylv yis yas ycd yfi ypd yps yot yrg yrv : Nat → Int32) : Prop := ∃ (nc cc : Nat) (bf be : Nat → Nat) (rt : Nat → Int32),
  rl_S mb mi mv oc ni nb bf be xop xsx xsy xsz xbo xbf xbe ysr ∧ rl_H mv ni nb nc cc be rt ph xrm xnc xcc xsc ync ycl xop xsx xsy xsz xee xdm xid xfm xlm xnb xnp xnv xph xpa xrs xax xay xaz xfo xso xst xco xcx xcy xcz xcb yre ydm yid yfr ylv yas ycd yfi ∧
  rl_M oc ph rt xss xcu xou xot xrg yot yrg
def i_Rel (k : Nat) (u : SX) (v : SY) : Prop := ∃ (mb mi mv oc ni nb : Nat) (ph xrm xnc xcc xsc xpc ync ycl : Int32) (xop xsx xsy xsz xbo xbf xbe xin xee xdm xid xfm xgm xkm xlm xnb xnp xnv xph xln xpa xrs xax xay xaz xfo xsr xso xst xco xcx xcy xcz xcb xpd xps xss xtu xcu xou xot xrg ysr ymk yre ydm yid yfr ylv yis yas ycd yfi ypd yps yot yrg yrv : Nat → Int32), u = ((nI mb), (nI mi), (nI mv), (nI oc), ph, (nI ni), (nI nb), xrm, xnc, xcc, xsc, xpc, xop, xsx, xsy, xsz, xbo, xbf, xbe, xin, xee, xdm, xid, xfm, xgm, xkm, xlm, xnb, xnp, xnv, xph, xln, xpa, xrs, xax, xay, xaz, xfo, xsr, xso, xst, xco, xcx, xcy, xcz, xcb, xpd, xps, xss, xtu, xcu, xou, xot, xrg) ∧ v = ((nI mb), (nI mi), (nI mv), (nI oc), ph, (nI ni), ync, ycl, ysr, xin, ymk, yre, ydm, yid, yfr, ylv, yis, xph, xpa, xrs, yas, xfo, ycd, yfi, ypd, yps, xss, xtu, xcu, xou, yot, yrg, yrv) ∧ rl_R mb mi mv oc ni nb ph xrm xnc xcc xsc xpc ync ycl xop xsx xsy xsz xbo xbf xbe xin xee xdm xid xfm xgm xkm xlm xnb xnp xnv xph xln xpa xrs xax xay xaz xfo xsr xso xst xco xcx xcy xcz xcb xpd xps xss xtu xcu xou xot xrg ysr ymk yre ydm yid yfr ylv yis yas ycd yfi ypd yps yot yrg yrv
theorem zz_el {k : Nat} {u : SX} {v : SY} {Q : SX → SY → Prop} (h : ∀ (mb mi mv oc ni nb : Nat) (ph xrm xnc xcc xsc xpc ync ycl : Int32) (xop xsx xsy xsz xbo xbf xbe xin xee xdm xid xfm xgm xkm xlm xnb xnp xnv xph xln xpa xrs xax xay xaz xfo xsr xso xst xco xcx xcy xcz xcb xpd xps xss xtu xcu xou xot xrg ysr ymk yre ydm yid yfr ylv yis yas ycd yfi ypd yps yot yrg yrv : Nat → Int32), rl_R mb mi mv oc ni nb ph xrm xnc xcc xsc xpc ync ycl xop xsx xsy xsz xbo xbf xbe xin xee xdm xid xfm xgm xkm xlm xnb xnp xnv xph xln xpa xrs xax xay xaz xfo xsr xso xst xco xcx xcy xcz xcb xpd xps xss xtu xcu xou xot xrg ysr ymk yre ydm yid yfr ylv yis yas ycd yfi ypd yps yot yrg yrv → Q ((nI mb), (nI mi), (nI mv), (nI oc), ph, (nI ni), (nI nb), xrm, xnc, xcc, xsc, xpc, xop, xsx, xsy, xsz, xbo, xbf, xbe, xin, xee, xdm, xid, xfm, xgm, xkm, xlm, xnb, xnp, xnv, xph, xln, xpa, xrs, xax, xay, xaz, xfo, xsr, xso, xst, xco, xcx, xcy, xcz, xcb, xpd, xps, xss, xtu, xcu, xou, xot, xrg) ((nI mb), (nI mi), (nI mv), (nI oc), ph, (nI ni), ync, ycl, ysr, xin, ymk, yre, ydm, yid, yfr, ylv, yis, xph, xpa, xrs, yas, xfo, ycd, yfi, ypd, yps, xss, xtu, xcu, xou, yot, yrg, yrv)) (I : i_Rel k u v) : Q u v :=
  Exists.elim I fun mb I => Exists.elim I fun mi I => Exists.elim I fun mv I => Exists.elim I fun oc I => Exists.elim I fun ni I => Exists.elim I fun nb I => Exists.elim I fun ph I => Exists.elim I fun xrm I => Exists.elim I fun xnc I => Exists.elim I fun xcc I => Exists.elim I fun xsc I => Exists.elim I fun xpc I => Exists.elim I fun ync I => Exists.elim I fun ycl I => Exists.elim I fun xop I => Exists.elim I fun xsx I => Exists.elim I fun xsy I => Exists.elim I fun xsz I => Exists.elim I fun xbo I => Exists.elim I fun xbf I => Exists.elim I fun xbe I => Exists.elim I fun xin I => Exists.elim I fun xee I => Exists.elim I fun xdm I => Exists.elim I fun xid I => Exists.elim I fun xfm I => Exists.elim I fun xgm I => Exists.elim I fun xkm I => Exists.elim I fun xlm I => Exists.elim I fun xnb I => Exists.elim I fun xnp I => Exists.elim I fun xnv I => Exists.elim I fun xph I => Exists.elim I fun xln I => Exists.elim I fun xpa I => Exists.elim I fun xrs I => Exists.elim I fun xax I => Exists.elim I fun xay I => Exists.elim I fun xaz I => Exists.elim I fun xfo I => Exists.elim I fun xsr I => Exists.elim I fun xso I => Exists.elim I fun xst I => Exists.elim I fun xco I => Exists.elim I fun xcx I => Exists.elim I fun xcy I => Exists.elim I fun xcz I => Exists.elim I fun xcb I => Exists.elim I fun xpd I => Exists.elim I fun xps I => Exists.elim I fun xss I => Exists.elim I fun xtu I => Exists.elim I fun xcu I => Exists.elim I fun xou I => Exists.elim I fun xot I => Exists.elim I fun xrg I => Exists.elim I fun ysr I => Exists.elim I fun ymk I => Exists.elim I fun yre I => Exists.elim I fun ydm I => Exists.elim I fun yid I => Exists.elim I fun yfr I => Exists.elim I fun ylv I => Exists.elim I fun yis I => Exists.elim I fun yas I => Exists.elim I fun ycd I => Exists.elim I fun yfi I => Exists.elim I fun ypd I => Exists.elim I fun yps I => Exists.elim I fun yot I => Exists.elim I fun yrg I => Exists.elim I fun yrv I => I.1 ▸ I.2.1 ▸ h mb mi mv oc ni nb ph xrm xnc xcc xsc xpc ync ycl xop xsx xsy xsz xbo xbf xbe xin xee xdm xid xfm xgm xkm xlm xnb xnp xnv xph xln xpa xrs xax xay xaz xfo xsr xso xst xco xcx xcy xcz xcb xpd xps xss xtu xcu xou xot xrg ysr ymk yre ydm yid yfr ylv yis yas ycd yfi ypd yps yot yrg yrv I.2.2
theorem zz_in {k : Nat} {mb mi mv oc ni nb : Nat} {ph xrm xnc xcc xsc xpc ync ycl : Int32} {xop xsx xsy xsz xbo xbf xbe xin xee xdm xid xfm xgm xkm xlm xnb xnp xnv xph xln xpa xrs xax xay xaz xfo xsr xso xst xco xcx xcy xcz xcb xpd xps xss xtu xcu xou xot xrg ysr ymk yre ydm yid yfr ylv yis yas ycd yfi ypd yps yot yrg yrv : Nat → Int32} (R : rl_R mb mi mv oc ni nb ph xrm xnc xcc xsc xpc ync ycl xop xsx xsy xsz xbo xbf xbe xin xee xdm xid xfm xgm xkm xlm xnb xnp xnv xph xln xpa xrs xax xay xaz xfo xsr xso xst xco xcx xcy xcz xcb xpd xps xss xtu xcu xou xot xrg ysr ymk yre ydm yid yfr ylv yis yas ycd yfi ypd yps yot yrg yrv) : i_Rel k ((nI mb), (nI mi), (nI mv), (nI oc), ph, (nI ni), (nI nb), xrm, xnc, xcc, xsc, xpc, xop, xsx, xsy, xsz, xbo, xbf, xbe, xin, xee, xdm, xid, xfm, xgm, xkm, xlm, xnb, xnp, xnv, xph, xln, xpa, xrs, xax, xay, xaz, xfo, xsr, xso, xst, xco, xcx, xcy, xcz, xcb, xpd, xps, xss, xtu, xcu, xou, xot, xrg) ((nI mb), (nI mi), (nI mv), (nI oc), ph, (nI ni), ync, ycl, ysr, xin, ymk, yre, ydm, yid, yfr, ylv, yis, xph, xpa, xrs, yas, xfo, ycd, yfi, ypd, yps, xss, xtu, xcu, xou, yot, yrg, yrv) := by
  unfold i_Rel
  exact ⟨mb, mi, mv, oc, ni, nb, ph, xrm, xnc, xcc, xsc, xpc, ync, ycl, xop, xsx, xsy, xsz, xbo, xbf, xbe, xin, xee, xdm, xid, xfm, xgm, xkm, xlm, xnb, xnp, xnv, xph, xln, xpa, xrs, xax, xay, xaz, xfo, xsr, xso, xst, xco, xcx, xcy, xcz, xcb, xpd, xps, xss, xtu, xcu, xou, xot, xrg, ysr, ymk, yre, ydm, yid, yfr, ylv, yis, yas, ycd, yfi, ypd, yps, yot, yrg, yrv, rfl, rfl, R⟩
theorem i_up {k : Nat} {u : SX} {v : SY} (h : i_Rel k u v) : i_Rel (k + 5) u v := h
end
section
/-! ===== getters, first part ===== -/
theorem i_vc_phase {k : Nat} {u : SX} {v : SY} (I : i_Rel k u v) (hk : k + 5 ≤ 2564) : wpX_phase (fun r => wpY_phase (fun r' => r' = r ∧ i_Rel (k + 5) u v) v) u := by
  have I' := i_up I
  refine zz_el (Q := fun u v => i_Rel (k + 5) u v → wpX_phase (fun r => wpY_phase (fun r' => r' = r ∧ i_Rel (k + 5) u v) v) u) ?_ I I'
  intro mb mi mv oc ni nb ph xrm xnc xcc xsc xpc ync ycl xop xsx xsy xsz xbo xbf xbe xin xee xdm xid xfm xgm xkm xlm xnb xnp xnv xph xln xpa xrs xax xay xaz xfo xsr xso xst xco xcx xcy xcz xcb xpd xps xss xtu xcu xou xot xrg ysr ymk yre ydm yid yfr ylv yis yas ycd yfi ypd yps yot yrg yrv R J
  exact ⟨rfl, J⟩
theorem i_vc_input {k : Nat} {u : SX} {v : SY} (I : i_Rel k u v) (hk : k + 5 ≤ 2564) (v1 : Int32) : wpX_input (fun r => wpY_input (fun r' => r' = r ∧ i_Rel (k + 5) u v) v v1) u v1 := by
  have I' := i_up I
  refine zz_el (Q := fun u v => i_Rel (k + 5) u v → wpX_input (fun r => wpY_input (fun r' => r' = r ∧ i_Rel (k + 5) u v) v v1) u v1) ?_ I I'
  rintro mb mi mv oc ni nb ph xrm xnc xcc xsc xpc ync ycl xop xsx xsy xsz xbo xbf xbe xin xee xdm xid xfm xgm xkm xlm xnb xnp xnv xph xln xpa xrs xax xay xaz xfo xsr xso xst xco xcx xcy xcz xcb xpd xps xss xtu xcu xou xot xrg ysr ymk yre ydm yid yfr ylv yis yas ycd yfi ypd yps yot yrg yrv ⟨nc, cc, bf, be, rt, S, H, M⟩ J
  have hm := S.2.2.1
  rcases pk_ix v1 (n := mv) (by omega) with w | w | ⟨j, hj, rfl⟩
  · exact br_t w (br_t w ⟨rfl, J⟩)
  · have h0 : ¬ v1 < 0 := fun x => Int32.not_le.mpr x (Int32.le_trans (nI_pos' (n := mv) (by omega)) w)
    exact br_f h0 (br_f (Int32.not_lt.mpr w) (br_f h0 (br_t w ⟨rfl, J⟩)))
  · exact br_f zi_nlt (br_t (nI_lt hj (by omega)) ⟨pk_in j 6 (by omega), br_f zi_nlt (br_f (nI_ge hj (by omega)) (br_t (nI_lt (b := 6) (by omega) (by decide)) ⟨pk_in j 6 (by omega), rfl, J⟩))⟩)
theorem i_vc_sourceField {k : Nat} {u : SX} {v : SY} (I : i_Rel k u v) (hk : k + 5 ≤ 2564) (v1 : Int32) (v2 : Int32) : wpX_sourceField (fun r => wpY_sourceField (fun r' => r' = r ∧ i_Rel (k + 5) u v) v v1 v2) u v1 v2 := by
  have I' := i_up I
  refine zz_el (Q := fun u v => i_Rel (k + 5) u v → wpX_sourceField (fun r => wpY_sourceField (fun r' => r' = r ∧ i_Rel (k + 5) u v) v v1 v2) u v1 v2) ?_ I I'
  rintro mb mi mv oc ni nb ph xrm xnc xcc xsc xpc ync ycl xop xsx xsy xsz xbo xbf xbe xin xee xdm xid xfm xgm xkm xlm xnb xnp xnv xph xln xpa xrs xax xay xaz xfo xsr xso xst xco xcx xcy xcz xcb xpd xps xss xtu xcu xou xot xrg ysr ymk yre ydm yid yfr ylv yis yas ycd yfi ypd yps yot yrg yrv ⟨nc, cc, bf, be, rt, S, H, M⟩ J
  obtain ⟨S1, S2, S3, S4, S5, S6, B, SV, YS, _⟩ := S
  rcases pk_ix v1 (n := ni) (by omega) with w | w | ⟨i, hi, rfl⟩
  · exact br_t w (br_t w ⟨rfl, J⟩)
  · have h0 : ¬ v1 < 0 := fun x => Int32.not_le.mpr x (Int32.le_trans (nI_pos' (n := ni) (by omega)) w)
    exact br_f h0 (br_f (Int32.not_lt.mpr w) (br_f h0 (br_t w ⟨rfl, J⟩)))
  · obtain ⟨s0, s1, s2, s3⟩ := YS i (by omega)
    have hY : ∀ {Q : Int32 → Prop}, (v2 < 0 → Q 0) → (∀ j, j < 4 → v2 = nI j → Q (ysr (i * 4 + j))) → (4 ≤ v2 → Q 0) → wpY_sourceField Q ((nI mb), (nI mi), (nI mv), (nI oc), ph, (nI ni), ync, ycl, ysr, xin, ymk, yre, ydm, yid, yfr, ylv, yis, xph, xpa, xrs, yas, xfo, ycd, yfi, ypd, yps, xss, xtu, xcu, xou, yot, yrg, yrv) (nI i) v2 := by
      intro Q q1 q2 q3
      refine br_f zi_nlt (br_f (nI_ge hi (by omega)) (br_f (nI_ge (b := 40) (by omega) (by decide)) ?_))
      rcases pk_ix v2 (n := 4) (by omega) with w | w | ⟨j, hj, rfl⟩
      · exact br_t w (q1 w)
      · have h0 : ¬ v2 < 0 := fun x => Int32.not_le.mpr x (Int32.le_trans (by decide) w)
        have h3 : ¬ v2 ≤ 3 := fun x => absurd (Int32.le_trans w x) (by decide)
        exact br_f h0 (br_f h3 (q3 w))
      · refine br_f zi_nlt (br_t (nI_le (b := 3) (by omega) (by decide)) ⟨pk_in (i * 4 + j) 160 (by omega) (zi_4k i j), ?_⟩)
        rw [zb_rd (i * 4 + j) (zi_4k i j)]; exact q2 j hj rfl
    refine br_f zi_nlt (br_t (nI_lt hi (by omega)) ?_)
    rcases pk_ix v2 (n := 4) (by omega) with w | w | ⟨j, hj, rfl⟩
    · exact br_t w (hY (fun _ => ⟨rfl, J⟩) (fun j hj e => absurd (e ▸ w) (zi_nlt)) (fun _ => ⟨rfl, J⟩))
    · have h0 : ¬ v2 < 0 := fun x => Int32.not_le.mpr x (Int32.le_trans (by decide) w)
      have h3 : 3 < v2 := Int32.lt_of_lt_of_le (by decide) w
      exact br_f h0 (br_t h3 (hY (fun _ => ⟨rfl, J⟩) (fun j hj e => by rw [e] at w; exact absurd w (nI_ge (b := 4) hj (by decide))) (fun _ => ⟨rfl, J⟩)))
    · have fin : ∀ x : Int32, ysr (i * 4 + j) = x → wpY_sourceField (fun r' => r' = x ∧ i_Rel (k + 5) ((nI mb), (nI mi), (nI mv), (nI oc), ph, (nI ni), (nI nb), xrm, xnc, xcc, xsc, xpc, xop, xsx, xsy, xsz, xbo, xbf, xbe, xin, xee, xdm, xid, xfm, xgm, xkm, xlm, xnb, xnp, xnv, xph, xln, xpa, xrs, xax, xay, xaz, xfo, xsr, xso, xst, xco, xcx, xcy, xcz, xcb, xpd, xps, xss, xtu, xcu, xou, xot, xrg) ((nI mb), (nI mi), (nI mv), (nI oc), ph, (nI ni), ync, ycl, ysr, xin, ymk, yre, ydm, yid, yfr, ylv, yis, xph, xpa, xrs, yas, xfo, ycd, yfi, ypd, yps, xss, xtu, xcu, xou, yot, yrg, yrv)) ((nI mb), (nI mi), (nI mv), (nI oc), ph, (nI ni), ync, ycl, ysr, xin, ymk, yre, ydm, yid, yfr, ylv, yis, xph, xpa, xrs, yas, xfo, ycd, yfi, ypd, yps, xss, xtu, xcu, xou, yot, yrg, yrv) (nI i) (nI j) := fun x hx =>
        hY (fun w => absurd w zi_nlt) (fun j' hj' e => by rw [← zi_inj e]; exact ⟨hx, J⟩) (fun w => absurd w (nI_ge (b := 4) hj (by decide)))
      have hv : vp_in (nI i) 40 := pk_in i 40 (by omega)
      refine br_f zi_nlt (br_f (nI_nlt (a := 3) (by omega) (by decide)) (pk_eq j 0 (fun e => ⟨hv, ?_⟩) (fun e => pk_eq j 1 (fun e => ⟨hv, ?_⟩) (fun e1 => pk_eq j 2 (fun e => ⟨hv, ?_⟩) (fun e2 => pk_eq j 3 (fun e => ⟨hv, ?_⟩) (fun e3 => trivial))))))
      all_goals rw [zb_rd i]
      · exact fin _ (by rw [e]; exact s0)
      · exact fin _ (by rw [e]; exact s1)
      · exact fin _ (by rw [e]; exact s2)
      · exact fin _ (by rw [e]; exact s3)
theorem i_vc_setInput {k : Nat} {u : SX} {v : SY} (I : i_Rel k u v) (hk : k + 5 ≤ 2564) (v1 : Int32) (v2 : Int32) : wpX_setInput (fun r u' => wpY_setInput (fun r' v' => r' = r ∧ i_Rel (k + 5) u' v') v v1 v2) u v1 v2 := by
  refine zz_el (Q := fun u v => wpX_setInput (fun r u' => wpY_setInput (fun r' v' => r' = r ∧ i_Rel (k + 5) u' v') v v1 v2) u v1 v2) ?_ I
  intro mb mi mv oc ni nb ph xrm xnc xcc xsc xpc ync ycl xop xsx xsy xsz xbo xbf xbe xin xee xdm xid xfm xgm xkm xlm xnb xnp xnv xph xln xpa xrs xax xay xaz xfo xsr xso xst xco xcx xcy xcz xcb xpd xps xss xtu xcu xou xot xrg ysr ymk yre ydm yid yfr ylv yis yas ycd yfi ypd yps yot yrg yrv R
  have R0 := R
  obtain ⟨nc, cc, bf, be, rt, S, H, M⟩ := R
  have hm := S.2.2.1
  rcases pk_ix v1 (n := mv) (by omega) with w | w | ⟨j, hj, rfl⟩
  · exact br_t w (br_t w ⟨rfl, zz_in R0⟩)
  · have h0 : ¬ v1 < 0 := fun x => Int32.not_le.mpr x (Int32.le_trans (nI_pos' (n := mv) (by omega)) w)
    exact br_f h0 (br_f (Int32.not_lt.mpr w) (br_f h0 (br_t w ⟨rfl, zz_in R0⟩)))
  · refine br_f zi_nlt (br_t (nI_lt hj (by omega)) (zs_st j ?_ (by omega)))
    refine br_f zi_nlt (br_f (nI_ge hj (by omega)) (br_t (nI_lt (b := 6) (by omega) (by decide)) (zs_st j ?_ (by omega))))
    exact ⟨rfl, zz_in R0⟩
theorem i_vc_machineField {k : Nat} {u : SX} {v : SY} (I : i_Rel k u v) (hk : k + 5 ≤ 2564) (v1 : Int32) (v2 : Int32) : wpX_machineField (fun r => wpY_machineField (fun r' => r' = r ∧ i_Rel (k + 5) u v) v v1 v2) u v1 v2 := by
  have I' := i_up I
  refine zz_el (Q := fun u v => i_Rel (k + 5) u v → wpX_machineField (fun r => wpY_machineField (fun r' => r' = r ∧ i_Rel (k + 5) u v) v v1 v2) u v1 v2) ?_ I I'
  intro mb mi mv oc ni nb ph xrm xnc xcc xsc xpc ync ycl xop xsx xsy xsz xbo xbf xbe xin xee xdm xid xfm xgm xkm xlm xnb xnp xnv xph xln xpa xrs xax xay xaz xfo xsr xso xst xco xcx xcy xcz xcb xpd xps xss xtu xcu xou xot xrg ysr ymk yre ydm yid yfr ylv yis yas ycd yfi ypd yps yot yrg yrv R J
  rcases pk_ix v1 (n := 3) (by omega) with w | w | ⟨f, hf, rfl⟩
  · exact br_t w (br_t w ⟨rfl, J⟩)
  · have h0 : ¬ v1 < 0 := fun x => Int32.not_le.mpr x (Int32.le_trans (by decide) w)
    have h3 : ¬ v1 ≤ 2 := fun x => absurd (Int32.le_trans w x) (by decide)
    exact br_f h0 (br_f h3 (br_f h0 (br_f h3 ⟨rfl, J⟩)))
  · have hv : vp_in (nI f) 3 := pk_in f 3 hf
    have hl : nI f ≤ 2 := nI_le (b := 2) (by omega) (by decide)
    refine br_f zi_nlt (br_t hl ?_)
    rcases pk_ix v2 (n := 4) (by omega) with w | w | ⟨j, hj, rfl⟩
    · have n0 : ¬ v2 = 0 := fun e => by rw [e] at w; exact absurd w (by decide)
      have n1 : ¬ v2 = 1 := fun e => by rw [e] at w; exact absurd w (by decide)
      have n2 : ¬ v2 = 2 := fun e => by rw [e] at w; exact absurd w (by decide)
      have n3 : ¬ v2 = 3 := fun e => by rw [e] at w; exact absurd w (by decide)
      exact br_t w (br_f zi_nlt (br_t hl (br_f n0 (br_f n1 (br_f n2 (br_f n3 ⟨rfl, J⟩))))))
    · have h0 : ¬ v2 < 0 := fun x => Int32.not_le.mpr x (Int32.le_trans (by decide) w)
      have h3 : 3 < v2 := Int32.lt_of_lt_of_le (by decide) w
      have n0 : ¬ v2 = 0 := fun e => by rw [e] at w; exact absurd w (by decide)
      have n1 : ¬ v2 = 1 := fun e => by rw [e] at w; exact absurd w (by decide)
      have n2 : ¬ v2 = 2 := fun e => by rw [e] at w; exact absurd w (by decide)
      have n3 : ¬ v2 = 3 := fun e => by rw [e] at w; exact absurd w (by decide)
      exact br_f h0 (br_t h3 (br_f zi_nlt (br_t hl (br_f n0 (br_f n1 (br_f n2 (br_f n3 ⟨rfl, J⟩)))))))
    · refine br_f zi_nlt (br_f (nI_nlt (a := 3) (by omega) (by decide)) (pk_eq j 0 (fun e => ⟨hv, br_f zi_nlt (br_t hl (pk_eq j 0 (fun _ => ⟨hv, rfl, J⟩) (fun x => absurd e x)))⟩) (fun e0 => pk_eq j 1 (fun e => ⟨hv, br_f zi_nlt (br_t hl (pk_eq j 0 (fun x => absurd x e0) (fun _ => pk_eq j 1 (fun _ => ⟨hv, rfl, J⟩) (fun x => absurd e x))))⟩) (fun e1 => pk_eq j 2 (fun e => ⟨hv, br_f zi_nlt (br_t hl (pk_eq j 0 (fun x => absurd x e0) (fun _ => pk_eq j 1 (fun x => absurd x e1) (fun _ => pk_eq j 2 (fun _ => ⟨hv, rfl, J⟩) (fun x => absurd e x)))))⟩) (fun e2 => pk_eq j 3 (fun e => ⟨hv, br_f zi_nlt (br_t hl (pk_eq j 0 (fun x => absurd x e0) (fun _ => pk_eq j 1 (fun x => absurd x e1) (fun _ => pk_eq j 2 (fun x => absurd x e2) (fun _ => pk_eq j 3 (fun _ => ⟨hv, rfl, J⟩) (fun x => absurd e x))))))⟩) (fun e3 => trivial))))))
theorem i_vc_outputAt {k : Nat} {u : SX} {v : SY} (I : i_Rel k u v) (hk : k + 5 ≤ 2564) (v1 : Int32) (v2 : Int32) : wpX_outputAt (fun r => wpY_outputAt (fun r' => r' = r ∧ i_Rel (k + 5) u v) v v1 v2) u v1 v2 := by
  have I' := i_up I
  refine zz_el (Q := fun u v => i_Rel (k + 5) u v → wpX_outputAt (fun r => wpY_outputAt (fun r' => r' = r ∧ i_Rel (k + 5) u v) v v1 v2) u v1 v2) ?_ I I'
  rintro mb mi mv oc ni nb ph xrm xnc xcc xsc xpc ync ycl xop xsx xsy xsz xbo xbf xbe xin xee xdm xid xfm xgm xkm xlm xnb xnp xnv xph xln xpa xrs xax xay xaz xfo xsr xso xst xco xcx xcy xcz xcb xpd xps xss xtu xcu xou xot xrg ysr ymk yre ydm yid yfr ylv yis yas ycd yfi ypd yps yot yrg yrv ⟨nc, cc, bf, be, rt, S, H, M⟩ J
  have ho := S.2.2.2.1
  rcases pk_ix v1 (n := 3) (by omega) with w | w | ⟨f, hf, rfl⟩
  · exact br_t w (br_t w ⟨rfl, J⟩)
  · have h0 : ¬ v1 < 0 := fun x => Int32.not_le.mpr x (Int32.le_trans (by decide) w)
    have h3 : ¬ v1 ≤ 2 := fun x => absurd (Int32.le_trans w x) (by decide)
    exact br_f h0 (br_t (Int32.not_le.mp h3) (br_f h0 (br_f h3 ⟨rfl, J⟩)))
  · have hv : vp_in (nI f) 3 := pk_in f 3 hf
    obtain ⟨kk, hkk, hou, hot⟩ := (M f hf).2.1
    have hl : nI f ≤ 2 := nI_le (b := 2) (by omega) (by decide)
    refine br_f zi_nlt (br_f (Int32.not_lt.mpr hl) ⟨fun w => ⟨hv, ?_⟩, fun w => br_f zi_nlt (br_t hl (br_t (Int32.not_le.mp w) ⟨rfl, J⟩))⟩)
    obtain ⟨j, hj, rfl⟩ := nI_of (Int32.not_lt.mpr w)
    refine zc_gt f (fun q => ⟨?_, ?_⟩) (fun q => br_f zi_nlt (br_t hl (br_f zi_nlt ⟨hv, zc_le f (fun _ => ⟨rfl, J⟩) (fun x => absurd (Int32.not_lt.mp q) x)⟩)))
    · rw [hou, nI_ltI hj (by omega)] at q
      exact pk_in (f * 64 + j) 192 (by omega) (zi_64 f j)
    · refine br_f zi_nlt (br_t hl (br_f zi_nlt ⟨hv, zc_le f (fun x => absurd q (Int32.not_lt.mpr x)) (fun _ => ?_)⟩))
      rw [hou, nI_ltI hj (by omega)] at q
      refine br_t (nI_lt (b := 64) (by omega) (by decide)) ⟨pk_in (f * 64 + j) 192 (by omega) (zi_64 f j), ?_, J⟩
      rw [zb_rd (f * 64 + j) (zi_64 f j)]
      exact (hot j q).symm
end
section
/-! ===== critical edges ===== -/
theorem zk_st {f : Nat → Bool} {k : Nat} (h : f k = true) : zk_c f (k + 1) = zk_c f k + 1 := by simp only [zk_c]; rw [if_pos h]
theorem zk_sf {f : Nat → Bool} {k : Nat} (h : f k = false) : zk_c f (k + 1) = zk_c f k := by simp only [zk_c]; rw [if_neg (by rw [h]; decide)]; rfl
theorem rl_cr_f {rt op : Nat → Int32} {be : Nat → Nat} {e : Nat} (h : gr_ee rt e < 0) : rl_cr rt op be e = false := by
  unfold rl_cr; rw [decide_eq_false (not_not_intro h)]; rfl
theorem rl_cr_b {rt op : Nat → Int32} {be : Nat → Nat} {e : Nat} (h : ¬ op (be (e / 2) - 1) = 10) : rl_cr rt op be e = false := by
  unfold rl_cr; rw [decide_eq_false h]; simp
theorem rl_cr_t {rt op : Nat → Int32} {be : Nat → Nat} {e : Nat} (h1 : ¬ gr_ee rt e < 0) (h2 : op (be (e / 2) - 1) = 10) : rl_cr rt op be e = decide (2 ≤ zk_c (fun f => decide (gr_ee rt f = gr_ee rt e)) 20) := by
  unfold rl_cr; rw [decide_eq_true h1, decide_eq_true h2, Bool.true_and, Bool.true_and]
theorem rl_cr_ee {rt op : Nat → Int32} {be : Nat → Nat} {e : Nat} (h : rl_cr rt op be e = true) : ¬ gr_ee rt e < 0 := fun w => by
  rw [rl_cr_f w] at h; exact absurd h (by decide)
section
variable {mb mi mv oc ni : Nat} {ph ync ycl : Int32} {ysr yin ymk yre ydm yid yfr ylv yis yph yar yrs yas yfo ycd yfi ypd yps yss ytu ybl you yot yrg yrv : Nat → Int32} {op fx fy fz : Nat → Int32} {nb : Nat} {bf be : Nat → Nat} {rt : Nat → Int32}
theorem y_critical {post : Int32 → Prop} (hs : sc_YS ysr op fx fy fz) (B : sc_BL op ni nb bf be) (C : sc_CL op ni) (hrt : rt = sc_rt op fx fy fz nb be) (V : gr_V rt nb) (hr : ∀ b, b < 10 → yre b = zb_i (gr_rc rt b)) {e : Nat} (he : e < 20)
    (h : post (zb_i (rl_cr rt op be e))) : wpY_critical post ((nI mb), (nI mi), (nI mv), (nI oc), ph, (nI ni), ync, ycl, ysr, yin, ymk, yre, ydm, yid, yfr, ylv, yis, yph, yar, yrs, yas, yfo, ycd, yfi, ypd, yps, yss, ytu, ybl, you, yot, yrg, yrv) (nI e) := by
  have hn := B.1
  have h10 := V.2.1
  have hr' := hr
  have V' := V
  rw [hrt] at hr' V'
  unfold wpY_critical
  refine y_edgeEnd hs B C V' hr' he ?_
  rw [← hrt]
  rcases gr_ee_or V he with z | ⟨z1, z2, t, t1, t2, t3, t4, t5, t6⟩
  · rw [rl_cr_f (by rw [z]; decide)] at h
    exact br_f (by rw [z]; decide) h
  · have hnn : ¬ gr_ee rt e < 0 := by rw [t3]; exact zi_nlt
    have hb1 := sc_be_le B _ z2
    have hb2 := (B.2.2.2.2.2 _ z2).1
    refine br_t (Int32.not_lt.mp hnn) ⟨by decide, ?_⟩
    rw [zi_d (by omega)]
    refine y_termOf hs B C z2 ?_
    refine y_opOf hn hs (by omega) ⟨fun q => ?_, fun q => ?_⟩
    · rw [rl_cr_t hnn q] at h
      refine loop_0 (fun n f (s : Int32) => wY_critical_42 post (gr_ee rt e) (nI mb) (nI mi) (nI mv) (nI oc) ph (nI ni) ync ycl ysr yin ymk yre ydm yid yfr ylv yis yph yar yrs yas yfo ycd yfi ypd yps yss ytu ybl you yot yrg yrv n s (nI f)) (fun f s => s = nI (zk_c (fun f => decide (gr_ee rt f = gr_ee rt e)) f)) 20 0 rfl ?_ ?_
      · intro n s hI
        have hle := zk_le (fun f => decide (gr_ee rt f = gr_ee rt e)) 20
        rw [hI]
        refine zc_ex (pk_lt (zk_c (fun f => decide (gr_ee rt f = gr_ee rt e)) 20) 2 (fun w => ?_) (fun w => ?_))
        · rw [decide_eq_false (by omega)] at h; exact h
        · rw [decide_eq_true w] at h; exact h
      · intro n f s hf hI ih
        refine zc_go hf (y_edgeEnd hs B C V' hr' hf ?_)
        rw [← hrt]
        refine ⟨fun w => nm_e (zn_1 (ih _ ?_)), fun w => zn_1 (ih _ ?_)⟩
        · rw [hI, nI_1, zk_st (decide_eq_true w)]
        · rw [hI, zk_sf (decide_eq_false w)]
    · rw [rl_cr_b q] at h; exact h
theorem y_critical_no {post : Int32 → Prop} {x : Int32} (hx : x < 0 ∨ nI 20 ≤ x) (h : post 0) : wpY_critical post ((nI mb), (nI mi), (nI mv), (nI oc), ph, (nI ni), ync, ycl, ysr, yin, ymk, yre, ydm, yid, yfr, ylv, yis, yph, yar, yrs, yas, yfo, ycd, yfi, ypd, yps, yss, ytu, ybl, you, yot, yrg, yrv) x := by
  unfold wpY_critical
  rcases hx with w | w
  · exact br_t w (br_f (by decide) h)
  · have h0 : ¬ x < 0 := fun y => Int32.not_le.mpr y (Int32.le_trans (by decide) w)
    exact br_f h0 (br_f (Int32.not_lt.mpr w) (br_f (by decide) h))
theorem y_criticalBelow {post : Int32 → Prop} (hs : sc_YS ysr op fx fy fz) (B : sc_BL op ni nb bf be) (C : sc_CL op ni) (hrt : rt = sc_rt op fx fy fz nb be) (V : gr_V rt nb) (hr : ∀ b, b < 10 → yre b = zb_i (gr_rc rt b)) {m : Nat} (hm : m ≤ 20)
    (h : post (nI (zk_c (rl_cr rt op be) m))) : wpY_criticalBelow post ((nI mb), (nI mi), (nI mv), (nI oc), ph, (nI ni), ync, ycl, ysr, yin, ymk, yre, ydm, yid, yfr, ylv, yis, yph, yar, yrs, yas, yfo, ycd, yfi, ypd, yps, yss, ytu, ybl, you, yot, yrg, yrv) (nI m) := by
  refine loop_0 (fun n g (s : Int32) => wY_criticalBelow_4 post (nI m) (nI mb) (nI mi) (nI mv) (nI oc) ph (nI ni) ync ycl ysr yin ymk yre ydm yid yfr ylv yis yph yar yrs yas yfo ycd yfi ypd yps yss ytu ybl you yot yrg yrv n s (nI g)) (fun g s => s = nI (zk_c (rl_cr rt op be) (if g < m then g else m))) 20 0 ?_ ?_ ?_
  · by_cases w : 0 < m
    · rw [if_pos w]; rfl
    · have : m = 0 := by omega
      rw [if_neg w, this]; rfl
  · intro n s hI
    rw [if_neg (by omega)] at hI
    rw [hI]; exact zc_ex h
  · intro n g s hg hI ih
    refine zc_go hg (pk_le m g (fun w => zn_1 (ih s ?_)) (fun w => y_critical hs B C hrt V hr hg (zc_b (fun q => zn_1 (ih s ?_)) (fun q => nm_e (zn_1 (ih _ ?_))))))
    · rw [if_neg (by omega)] at hI ⊢; exact hI
    · rw [if_pos w] at hI
      have e : (if g + 1 < m then g + 1 else m) = g + 1 := by
        by_cases y : g + 1 < m
        · rw [if_pos y]
        · rw [if_neg y]; omega
      rw [e, hI, zk_sf q]
    · rw [if_pos w] at hI
      have e : (if g + 1 < m then g + 1 else m) = g + 1 := by
        by_cases y : g + 1 < m
        · rw [if_pos y]
        · rw [if_neg y]; omega
      rw [e, hI, nI_1, zk_st q]
end
section
variable {mb mi mv oc ni nb : Nat} {ph xrm xnc xcc xsc xpc : Int32} {xop xsx xsy xsz xbo xbf xbe xin xee xdm xid xfm xgm xkm xlm xnb xnp xnv xph xln xpa xrs xax xay xaz xfo xsr xso xst xco xcx xcy xcz xcb xpd xps xss xtu xcu xou xot xrg : Nat → Int32} {bf be : Nat → Nat} {rt : Nat → Int32}
theorem x_isCritical {post : Int32 → Prop} (B : sc_BL xop ni nb bf be) (hbe : ∀ b, b < nb → xbe b = nI (be b)) (V : gr_V rt nb) (hee : ∀ e, e < 20 → xee e = gr_ee rt e) {e : Nat} (he : e < 20)
    (h : post (zb_i (rl_cr rt xop be e))) : wpX_isCritical post ((nI mb), (nI mi), (nI mv), (nI oc), ph, (nI ni), (nI nb), xrm, xnc, xcc, xsc, xpc, xop, xsx, xsy, xsz, xbo, xbf, xbe, xin, xee, xdm, xid, xfm, xgm, xkm, xlm, xnb, xnp, xnv, xph, xln, xpa, xrs, xax, xay, xaz, xfo, xsr, xso, xst, xco, xcx, xcy, xcz, xcb, xpd, xps, xss, xtu, xcu, xou, xot, xrg) (nI e) := by
  have hn := B.1
  have h10 := V.2.1
  refine zs_rn e ?_ he
  rw [hee e he]
  rcases gr_ee_or V he with z | ⟨z1, z2, t, t1, t2, t3, t4, t5, t6⟩
  · rw [rl_cr_f (by rw [z]; decide)] at h
    exact br_f (by rw [z]; decide) h
  · have hnn : ¬ gr_ee rt e < 0 := by rw [t3]; exact zi_nlt
    have hb1 := sc_be_le B _ z2
    have hb2 := (B.2.2.2.2.2 _ z2).1
    have e3 : xbe (nI e >>> ((1 : Int32) &&& 31)).toNatClampNeg - 1 = nI (be (e / 2) - 1) := by rw [zb_rd (e / 2) (zi_h (by omega)), hbe _ z2, zi_m1 (by omega)]
    refine br_t (Int32.not_lt.mp hnn) ⟨pk_in (e / 2) 10 (by omega) (zi_h (by omega)), nm_r e3 ⟨pk_in (be (e / 2) - 1) 40 (by omega), zc_eq (be (e / 2) - 1) (fun q => ?_) (fun q => ?_)⟩⟩
    · rw [rl_cr_t hnn q] at h
      refine loop_0 (fun n f (s : Int32) => wX_isCritical_43 post (gr_ee rt e) (nI mb) (nI mi) (nI mv) (nI oc) ph (nI ni) (nI nb) xrm xnc xcc xsc xpc xop xsx xsy xsz xbo xbf xbe xin xee xdm xid xfm xgm xkm xlm xnb xnp xnv xph xln xpa xrs xax xay xaz xfo xsr xso xst xco xcx xcy xcz xcb xpd xps xss xtu xcu xou xot xrg n s (nI f)) (fun f s => s = nI (zk_c (fun f => decide (gr_ee rt f = gr_ee rt e)) f)) 20 0 rfl ?_ ?_
      · intro n s hI
        have hle := zk_le (fun f => decide (gr_ee rt f = gr_ee rt e)) 20
        rw [hI]
        refine zc_ex (pk_lt (zk_c (fun f => decide (gr_ee rt f = gr_ee rt e)) 20) 2 (fun w => ?_) (fun w => ?_))
        · rw [decide_eq_false (by omega)] at h; exact h
        · rw [decide_eq_true w] at h; exact h
      · intro n f s hf hI ih
        refine zc_go hf ⟨pk_in f 20 hf, zc_eq f (fun w => nm_e (zn_1 (ih _ ?_))) (fun w => zn_1 (ih _ ?_))⟩
        · rw [hee f hf] at w
          rw [hI, nI_1, zk_st (decide_eq_true w)]
        · rw [hee f hf] at w
          rw [hI, zk_sf (decide_eq_false w)]
    · rw [rl_cr_b q] at h; exact h
end
end
section
/-! ===== getters, second part ===== -/
theorem zi_out {x : Int32} {n : Nat} (hn : n < 2 ^ 31) (h : nI n ≤ x) : ¬ x < 0 := fun y => Int32.not_le.mpr y (Int32.le_trans (nI_pos' hn) h)
section
variable {mb mi mv oc ni nb : Nat} {ph xrm xnc xcc xsc xpc : Int32} {xop xsx xsy xsz xbo xbf xbe xin xee xdm xid xfm xgm xkm xlm xnb xnp xnv xph xln xpa xrs xax xay xaz xfo xsr xso xst xco xcx xcy xcz xcb xpd xps xss xtu xcu xou xot xrg : Nat → Int32}
theorem x_iab_no {post : Int32 → Prop} {x : Int32} (hnb : nb ≤ 10) (hx : x < 0 ∨ nI nb ≤ x) (h : post 0) : wpX_isAnalysedBlock post ((nI mb), (nI mi), (nI mv), (nI oc), ph, (nI ni), (nI nb), xrm, xnc, xcc, xsc, xpc, xop, xsx, xsy, xsz, xbo, xbf, xbe, xin, xee, xdm, xid, xfm, xgm, xkm, xlm, xnb, xnp, xnv, xph, xln, xpa, xrs, xax, xay, xaz, xfo, xsr, xso, xst, xco, xcx, xcy, xcz, xcb, xpd, xps, xss, xtu, xcu, xou, xot, xrg) x := by
  refine ⟨fun _ => h, fun _ => ?_⟩
  rcases hx with w | w
  · exact br_t w h
  · exact br_f (zi_out (by omega) w) (br_t w h)
theorem x_iab {post : Int32 → Prop} {j : Nat} (hnb : nb ≤ 10) (hph : ¬ ph = 0) (hj : j < nb) (h : post 1) : wpX_isAnalysedBlock post ((nI mb), (nI mi), (nI mv), (nI oc), ph, (nI ni), (nI nb), xrm, xnc, xcc, xsc, xpc, xop, xsx, xsy, xsz, xbo, xbf, xbe, xin, xee, xdm, xid, xfm, xgm, xkm, xlm, xnb, xnp, xnv, xph, xln, xpa, xrs, xax, xay, xaz, xfo, xsr, xso, xst, xco, xcx, xcy, xcz, xcb, xpd, xps, xss, xtu, xcu, xou, xot, xrg) (nI j) :=
  br_f hph (br_f zi_nlt (br_f (nI_ge hj (by omega)) h))
theorem x_iab_0 {post : Int32 → Prop} {x : Int32} (hph : ph = 0) (h : post 0) : wpX_isAnalysedBlock post ((nI mb), (nI mi), (nI mv), (nI oc), ph, (nI ni), (nI nb), xrm, xnc, xcc, xsc, xpc, xop, xsx, xsy, xsz, xbo, xbf, xbe, xin, xee, xdm, xid, xfm, xgm, xkm, xlm, xnb, xnp, xnv, xph, xln, xpa, xrs, xax, xay, xaz, xfo, xsr, xso, xst, xco, xcx, xcy, xcz, xcb, xpd, xps, xss, xtu, xcu, xou, xot, xrg) x := br_t hph h
end
section
variable {mb mi mv oc ni : Nat} {ph ync ycl : Int32} {ysr yin ymk yre ydm yid yfr ylv yis yph yar yrs yas yfo ycd yfi ypd yps yss ytu ybl you yot yrg yrv : Nat → Int32} {rt : Nat → Int32} {nb : Nat}
theorem y_rb_no {post : Int32 → Prop} {x : Int32} (V : gr_V rt nb) (hr : ∀ b, b < 10 → yre b = zb_i (gr_rc rt b)) (hx : x < 0 ∨ nI nb ≤ x) (h : post 0) : wpY_reachableBlock post ((nI mb), (nI mi), (nI mv), (nI oc), ph, (nI ni), ync, ycl, ysr, yin, ymk, yre, ydm, yid, yfr, ylv, yis, yph, yar, yrs, yas, yfo, ycd, yfi, ypd, yps, yss, ytu, ybl, you, yot, yrg, yrv) x := by
  have h10 := V.2.1
  refine ⟨fun _ => h, fun _ => ?_⟩
  rcases hx with w | w
  · exact br_t w h
  · refine br_f (zi_out (by omega) w) ⟨fun w' => ?_, fun _ => h⟩
    obtain ⟨j, hj, rfl⟩ := nI_of (zi_out (by omega) w)
    have hj10 : j < 10 := (nI_ltI hj (by decide : (10 : Nat) < 2 ^ 31)).mp w'
    rw [nI_leI (by omega) hj] at w
    refine ⟨pk_in j 10 hj10, zc_eq j (fun q => ?_) (fun q => h)⟩
    rw [hr j hj10, zb_i1] at q
    have := gr_rc_lt V q; omega
theorem y_rb {post : Int32 → Prop} {j : Nat} (V : gr_V rt nb) (hph : ¬ ph = 0) (hr : ∀ b, b < 10 → yre b = zb_i (gr_rc rt b)) (hj : j < nb) (h : post (zb_i (gr_rc rt j))) : wpY_reachableBlock post ((nI mb), (nI mi), (nI mv), (nI oc), ph, (nI ni), ync, ycl, ysr, yin, ymk, yre, ydm, yid, yfr, ylv, yis, yph, yar, yrs, yas, yfo, ycd, yfi, ypd, yps, yss, ytu, ybl, you, yot, yrg, yrv) (nI j) := by
  have h10 := V.2.1
  refine br_f hph (br_f zi_nlt (br_t (nI_lt (b := 10) (by omega) (by decide)) ⟨pk_in j 10 (by omega), zc_eq j (fun q => ?_) (fun q => ?_)⟩))
  · rw [hr j (by omega), zb_i1] at q; rw [q] at h; exact h
  · rw [hr j (by omega), zb_i1] at q; rw [zb_nt q] at h; exact h
theorem y_rb_0 {post : Int32 → Prop} {x : Int32} (hph : ph = 0) (h : post 0) : wpY_reachableBlock post ((nI mb), (nI mi), (nI mv), (nI oc), ph, (nI ni), ync, ycl, ysr, yin, ymk, yre, ydm, yid, yfr, ylv, yis, yph, yar, yrs, yas, yfo, ycd, yfi, ypd, yps, yss, ytu, ybl, you, yot, yrg, yrv) x := br_t hph h
end
/-- a number is outside or a block -/
theorem zi_blk (x : Int32) {nb : Nat} (h : nb ≤ 10) : (x < 0 ∨ nI nb ≤ x) ∨ ∃ j, j < nb ∧ x = nI j := by
  rcases pk_ix x (n := nb) (by omega) with w | w | w
  · exact Or.inl (Or.inl w)
  · exact Or.inl (Or.inr w)
  · exact Or.inr w
theorem rl_ph {mv ni nb nc cc : Nat} {be : Nat → Nat} {rt : Nat → Int32} {ph xrm xnc xcc xsc ync ycl : Int32} {xop xsx xsy xsz xee xdm xid xfm xlm xnb xnp xnv xph xpa xrs xax xay xaz xfo xso xst xco xcx xcy xcz xcb yre ydm yid yfr ylv yas ycd yfi : Nat → Int32}
    (H : rl_H mv ni nb nc cc be rt ph xrm xnc xcc xsc ync ycl xop xsx xsy xsz xee xdm xid xfm xlm xnb xnp xnv xph xpa xrs xax xay xaz xfo xso xst xco xcx xcy xcz xcb yre ydm yid yfr ylv yas ycd yfi) :
    ph = 0 ∨ (¬ ph = 0 ∧ xnc = nI nc ∧ ync = nI nc ∧ rl_A mv ni nb be rt xrm xop xsx xsy xsz xee xdm xid xfm xlm yre ydm yid yfr ylv ∧ rl_N mv ni nc rt xop xsx xsy xsz xnb xnp xnv xph xpa xrs xax xay xaz xfo yas) := by
  rcases H with H | ⟨H1, H2⟩
  · exact Or.inl H.1
  · right
    rcases H1 with H1 | H1
    · exact ⟨by rw [H1.1]; decide, H2⟩
    · exact ⟨by rw [H1.1]; decide, H2⟩
theorem i_vc_idom {k : Nat} {u : SX} {v : SY} (I : i_Rel k u v) (hk : k + 5 ≤ 2564) (v1 : Int32) : wpX_idom (fun r => wpY_idom (fun r' => r' = r ∧ i_Rel (k + 5) u v) v v1) u v1 := by
  have I' := i_up I
  refine zz_el (Q := fun u v => i_Rel (k + 5) u v → wpX_idom (fun r => wpY_idom (fun r' => r' = r ∧ i_Rel (k + 5) u v) v v1) u v1) ?_ I I'
  rintro mb mi mv oc ni nb ph xrm xnc xcc xsc xpc ync ycl xop xsx xsy xsz xbo xbf xbe xin xee xdm xid xfm xgm xkm xlm xnb xnp xnv xph xln xpa xrs xax xay xaz xfo xsr xso xst xco xcx xcy xcz xcb xpd xps xss xtu xcu xou xot xrg ysr ymk yre ydm yid yfr ylv yis yas ycd yfi ypd yps yot yrg yrv ⟨nc, cc, bf, be, rt, S, H, M⟩ J
  have hnb := S.2.2.2.2.2.2.1.2.1
  unfold wpX_idom wpY_idom
  rcases rl_ph H with h0 | ⟨h0, _, _, A, N⟩
  · exact x_iab_0 h0 (br_t rfl (y_rb_0 h0 (br_t rfl ⟨rfl, J⟩)))
  · obtain ⟨C, hrt, V, hrm, hre, hee, hdm, hdy, hid, hiy, _⟩ := A
    rcases zi_blk v1 hnb with w | ⟨j, hj, rfl⟩
    · exact x_iab_no hnb w (br_t rfl (y_rb_no V hre w (br_t rfl ⟨rfl, J⟩)))
    · refine x_iab hnb h0 hj (br_f (by decide) ⟨pk_in j 10 (by omega), ?_⟩)
      rw [zb_rd j, hid j (by omega)]
      refine y_rb V h0 hre hj (zc_b (fun q => ⟨?_, J⟩) (fun q => ⟨pk_in j 10 (by omega), ?_, J⟩))
      · rw [gr_id_f (fun w => by rw [q] at w; exact absurd w.2 (by decide))]
      · exact hiy j (by omega)
theorem i_vc_dominates {k : Nat} {u : SX} {v : SY} (I : i_Rel k u v) (hk : k + 5 ≤ 2564) (v1 : Int32) (v2 : Int32) : wpX_dominates (fun r => wpY_dominates (fun r' => r' = r ∧ i_Rel (k + 5) u v) v v1 v2) u v1 v2 := by
  have I' := i_up I
  refine zz_el (Q := fun u v => i_Rel (k + 5) u v → wpX_dominates (fun r => wpY_dominates (fun r' => r' = r ∧ i_Rel (k + 5) u v) v v1 v2) u v1 v2) ?_ I I'
  rintro mb mi mv oc ni nb ph xrm xnc xcc xsc xpc ync ycl xop xsx xsy xsz xbo xbf xbe xin xee xdm xid xfm xgm xkm xlm xnb xnp xnv xph xln xpa xrs xax xay xaz xfo xsr xso xst xco xcx xcy xcz xcb xpd xps xss xtu xcu xou xot xrg ysr ymk yre ydm yid yfr ylv yis yas ycd yfi ypd yps yot yrg yrv ⟨nc, cc, bf, be, rt, S, H, M⟩ J
  have hnb := S.2.2.2.2.2.2.1.2.1
  unfold wpX_dominates wpY_dominates
  rcases rl_ph H with h0 | ⟨h0, _, _, A, N⟩
  · exact x_iab_0 h0 (br_t rfl (y_rb_0 h0 (br_t rfl ⟨rfl, J⟩)))
  · obtain ⟨C, hrt, V, hrm, hre, hee, hdm, hdy, hid, hiy, _⟩ := A
    rcases zi_blk v1 hnb with w | ⟨a, ha, rfl⟩
    · exact x_iab_no hnb w (br_t rfl (y_rb_no V hre w (br_t rfl ⟨rfl, J⟩)))
    · refine x_iab hnb h0 ha (br_f (by decide) ?_)
      rcases zi_blk v2 hnb with w | ⟨b, hb, rfl⟩
      · exact x_iab_no hnb w (br_t rfl (y_rb V h0 hre ha (zc_b (fun q => ⟨rfl, J⟩) (fun q => y_rb_no V hre w (br_t rfl ⟨rfl, J⟩)))))
      · refine x_iab hnb h0 hb (br_f (by decide) ⟨pk_in b 10 (by omega), ?_⟩)
        rw [zb_ra (a := xdm) b]
        refine x_hasBit (by omega) ⟨zb_nar _, ?_⟩
        rw [hdm b (by omega) a (by omega)]
        refine y_rb V h0 hre ha (zc_b (fun q => ⟨?_, J⟩) (fun q => y_rb V h0 hre hb (zc_b (fun q' => ⟨?_, J⟩) (fun q' => ⟨pk_in (a * 10 + b) 100 (by omega) (zi_10 a b), zc_eq (a * 10 + b) (fun w => ⟨?_, J⟩) (fun w => ⟨?_, J⟩) (zi_10 a b)⟩))))
        · rw [zb_nt (b := gr_dm rt a b) (fun w => by rw [(gr_dm_rc w).1] at q; exact absurd q (by decide))]; rfl
        · rw [zb_nt (b := gr_dm rt a b) (fun w => by rw [(gr_dm_rc w).2] at q'; exact absurd q' (by decide))]; rfl
        · rw [hdy a b (by omega) (by omega), zb_i1] at w; rw [w]; rfl
        · rw [hdy a b (by omega) (by omega), zb_i1] at w; rw [zb_nt w]; rfl
theorem i_vc_inFrontier {k : Nat} {u : SX} {v : SY} (I : i_Rel k u v) (hk : k + 5 ≤ 2564) (v1 : Int32) (v2 : Int32) : wpX_inFrontier (fun r => wpY_inFrontier (fun r' => r' = r ∧ i_Rel (k + 5) u v) v v1 v2) u v1 v2 := by
  have I' := i_up I
  refine zz_el (Q := fun u v => i_Rel (k + 5) u v → wpX_inFrontier (fun r => wpY_inFrontier (fun r' => r' = r ∧ i_Rel (k + 5) u v) v v1 v2) u v1 v2) ?_ I I'
  rintro mb mi mv oc ni nb ph xrm xnc xcc xsc xpc ync ycl xop xsx xsy xsz xbo xbf xbe xin xee xdm xid xfm xgm xkm xlm xnb xnp xnv xph xln xpa xrs xax xay xaz xfo xsr xso xst xco xcx xcy xcz xcb xpd xps xss xtu xcu xou xot xrg ysr ymk yre ydm yid yfr ylv yis yas ycd yfi ypd yps yot yrg yrv ⟨nc, cc, bf, be, rt, S, H, M⟩ J
  have hnb := S.2.2.2.2.2.2.1.2.1
  unfold wpX_inFrontier wpY_inFrontier
  rcases rl_ph H with h0 | ⟨h0, _, _, A, N⟩
  · exact x_iab_0 h0 (br_t rfl (y_rb_0 h0 (br_t rfl ⟨rfl, J⟩)))
  · obtain ⟨C, hrt, V, hrm, hre, hee, hdm, hdy, hid, hiy, hfm, hfy, _⟩ := A
    rcases zi_blk v1 hnb with w | ⟨a, ha, rfl⟩
    · exact x_iab_no hnb w (br_t rfl (y_rb_no V hre w (br_t rfl ⟨rfl, J⟩)))
    · refine x_iab hnb h0 ha (br_f (by decide) ?_)
      rcases zi_blk v2 hnb with w | ⟨b, hb, rfl⟩
      · exact x_iab_no hnb w (br_t rfl (y_rb V h0 hre ha (zc_b (fun q => ⟨rfl, J⟩) (fun q => y_rb_no V hre w (br_t rfl ⟨rfl, J⟩)))))
      · refine x_iab hnb h0 hb (br_f (by decide) ⟨pk_in a 10 (by omega), ?_⟩)
        rw [zb_ra (a := xfm) a]
        refine x_hasBit (by omega) ⟨zb_nar _, ?_⟩
        rw [hfm a (by omega) b (by omega)]
        refine y_rb V h0 hre ha (zc_b (fun q => ⟨?_, J⟩) (fun q => y_rb V h0 hre hb (zc_b (fun q' => ⟨?_, J⟩) (fun q' => ⟨pk_in (a * 10 + b) 100 (by omega) (zi_10 a b), zc_eq (a * 10 + b) (fun w => ⟨?_, J⟩) (fun w => ⟨?_, J⟩) (zi_10 a b)⟩))))
        · rw [zb_nt (b := gr_fr rt a b) (fun w => by
            obtain ⟨e, _, _, w1, _⟩ := zb_dt.mp w
            rw [(gr_dm_rc w1).1] at q; exact absurd q (by decide))]; rfl
        · rw [zb_nt (b := gr_fr rt a b) (fun w => by rw [(gr_fr_lt V (by omega) w).2.2.2] at q'; exact absurd q' (by decide))]; rfl
        · rw [hfy a b (by omega) (by omega), zb_i1] at w; rw [w]; rfl
        · rw [hfy a b (by omega) (by omega), zb_i1] at w; rw [zb_nt w]; rfl
theorem i_vc_liveIn {k : Nat} {u : SX} {v : SY} (I : i_Rel k u v) (hk : k + 5 ≤ 2564) (v1 : Int32) (v2 : Int32) : wpX_liveIn (fun r => wpY_liveIn (fun r' => r' = r ∧ i_Rel (k + 5) u v) v v1 v2) u v1 v2 := by
  have I' := i_up I
  refine zz_el (Q := fun u v => i_Rel (k + 5) u v → wpX_liveIn (fun r => wpY_liveIn (fun r' => r' = r ∧ i_Rel (k + 5) u v) v v1 v2) u v1 v2) ?_ I I'
  rintro mb mi mv oc ni nb ph xrm xnc xcc xsc xpc ync ycl xop xsx xsy xsz xbo xbf xbe xin xee xdm xid xfm xgm xkm xlm xnb xnp xnv xph xln xpa xrs xax xay xaz xfo xsr xso xst xco xcx xcy xcz xcb xpd xps xss xtu xcu xou xot xrg ysr ymk yre ydm yid yfr ylv yis yas ycd yfi ypd yps yot yrg yrv ⟨nc, cc, bf, be, rt, S, H, M⟩ J
  have hnb := S.2.2.2.2.2.2.1.2.1
  have hmv := S.2.2.1
  unfold wpX_liveIn wpY_liveIn
  rcases rl_ph H with h0 | ⟨h0, _, _, A, N⟩
  · exact x_iab_0 h0 (br_t rfl (y_rb_0 h0 (br_t rfl ⟨rfl, J⟩)))
  · obtain ⟨C, hrt, V, hrm, hre, hee, hdm, hdy, hid, hiy, hfm, hfy, hlv⟩ := A
    rcases zi_blk v1 hnb with w | ⟨b, hb, rfl⟩
    · exact x_iab_no hnb w (br_t rfl (y_rb_no V hre w (br_t rfl ⟨rfl, J⟩)))
    · refine x_iab hnb h0 hb (br_f (by decide) ?_)
      rcases zi_blk v2 (nb := mv) (by omega) with (w | w) | ⟨x, hx, rfl⟩
      · exact br_t w (y_rb V h0 hre hb (zc_b (fun q => ⟨rfl, J⟩) (fun q => br_t w ⟨rfl, J⟩)))
      · exact br_f (zi_out (by omega) w) (br_f (Int32.not_lt.mpr w) (y_rb V h0 hre hb (zc_b (fun q => ⟨rfl, J⟩) (fun q => br_f (zi_out (by omega) w) (br_t w ⟨rfl, J⟩)))))
      · refine br_f zi_nlt (br_t (nI_lt hx (by omega)) ⟨pk_in b 10 (by omega), ?_⟩)
        rw [zb_ra (a := xlm) b]
        refine x_hasBit (by omega) ⟨zb_nar _, ?_⟩
        have hl := hlv b (by omega) x hx
        refine y_rb V h0 hre hb (zc_b (fun q => ⟨?_, J⟩) (fun q => br_f zi_nlt (br_f (nI_ge hx (by omega)) (br_t (nI_lt (b := 6) (by omega) (by decide)) ⟨pk_in (b * 6 + x) 60 (by omega) (zi_6 b x), zc_eq (b * 6 + x) (fun w => ⟨?_, J⟩) (fun w => ⟨?_, J⟩) (zi_6 b x)⟩))))
        · rw [hl.2 q]; rfl
        · rw [hl.1 q, zb_i1] at w; rw [w]; rfl
        · rw [hl.1 q, zb_i1] at w; rw [zb_nt w]; rfl
theorem i_vc_phiName {k : Nat} {u : SX} {v : SY} (I : i_Rel k u v) (hk : k + 5 ≤ 2564) (v1 : Int32) (v2 : Int32) : wpX_phiName (fun r => wpY_phiName (fun r' => r' = r ∧ i_Rel (k + 5) u v) v v1 v2) u v1 v2 := by
  have I' := i_up I
  refine zz_el (Q := fun u v => i_Rel (k + 5) u v → wpX_phiName (fun r => wpY_phiName (fun r' => r' = r ∧ i_Rel (k + 5) u v) v v1 v2) u v1 v2) ?_ I I'
  rintro mb mi mv oc ni nb ph xrm xnc xcc xsc xpc ync ycl xop xsx xsy xsz xbo xbf xbe xin xee xdm xid xfm xgm xkm xlm xnb xnp xnv xph xln xpa xrs xax xay xaz xfo xsr xso xst xco xcx xcy xcz xcb xpd xps xss xtu xcu xou xot xrg ysr ymk yre ydm yid yfr ylv yis yas ycd yfi ypd yps yot yrg yrv ⟨nc, cc, bf, be, rt, S, H, M⟩ J
  have hnb := S.2.2.2.2.2.2.1.2.1
  have hmv := S.2.2.1
  unfold wpX_phiName wpY_phiName
  rcases rl_ph H with h0 | ⟨h0, _, _, A, N⟩
  · exact x_iab_0 h0 (br_t rfl (y_rb_0 h0 (br_t rfl ⟨rfl, J⟩)))
  · obtain ⟨C, hrt, V, hrm, hre, _⟩ := A
    rcases zi_blk v1 hnb with w | ⟨b, hb, rfl⟩
    · exact x_iab_no hnb w (br_t rfl (y_rb_no V hre w (br_t rfl ⟨rfl, J⟩)))
    · refine x_iab hnb h0 hb (br_f (by decide) ?_)
      rcases zi_blk v2 (nb := mv) (by omega) with (w | w) | ⟨x, hx, rfl⟩
      · exact br_t w (y_rb V h0 hre hb (zc_b (fun q => ⟨rfl, J⟩) (fun q => br_t w ⟨rfl, J⟩)))
      · exact br_f (zi_out (by omega) w) (br_f (Int32.not_lt.mpr w) (y_rb V h0 hre hb (zc_b (fun q => ⟨rfl, J⟩) (fun q => br_f (zi_out (by omega) w) (br_t w ⟨rfl, J⟩)))))
      · refine br_f zi_nlt (br_t (nI_lt hx (by omega)) ⟨pk_in (b * 6 + x) 60 (by omega) (zi_6 b x), ?_⟩)
        rw [zb_rd (b * 6 + x) (zi_6 b x)]
        refine y_rb V h0 hre hb (zc_b (fun q => ⟨?_, J⟩) (fun q => br_f zi_nlt (br_f (nI_ge hx (by omega)) (br_t (nI_lt (b := 6) (by omega) (by decide)) ⟨pk_in (b * 6 + x) 60 (by omega) (zi_6 b x), ?_, J⟩))))
        · have e : (b * 6 + x) / 6 = b := by omega
          rcases N.1.2.2.2.2.2.2.2.2 (b * 6 + x) (by omega) with y | y
          · exact y.symm
          · rw [e, q] at y; exact absurd y.2 (by decide)
        · rfl
theorem i_vc_phiArgument {k : Nat} {u : SX} {v : SY} (I : i_Rel k u v) (hk : k + 5 ≤ 2564) (v1 : Int32) (v2 : Int32) : wpX_phiArgument (fun r => wpY_phiArgument (fun r' => r' = r ∧ i_Rel (k + 5) u v) v v1 v2) u v1 v2 := by
  have I' := i_up I
  refine zz_el (Q := fun u v => i_Rel (k + 5) u v → wpX_phiArgument (fun r => wpY_phiArgument (fun r' => r' = r ∧ i_Rel (k + 5) u v) v v1 v2) u v1 v2) ?_ I I'
  rintro mb mi mv oc ni nb ph xrm xnc xcc xsc xpc ync ycl xop xsx xsy xsz xbo xbf xbe xin xee xdm xid xfm xgm xkm xlm xnb xnp xnv xph xln xpa xrs xax xay xaz xfo xsr xso xst xco xcx xcy xcz xcb xpd xps xss xtu xcu xou xot xrg ysr ymk yre ydm yid yfr ylv yis yas ycd yfi ypd yps yot yrg yrv ⟨nc, cc, bf, be, rt, S, H, M⟩ J
  obtain ⟨S1, S2, S3, S4, S5, S6, B, SV, YS, _⟩ := S
  have hnb := B.2.1
  rcases rl_ph H with h0 | ⟨h0, _, _, A, N⟩
  · exact br_t h0 (br_t h0 ⟨rfl, J⟩)
  · obtain ⟨C, hrt, V, hrm, hre, _⟩ := A
    have hre' := hre
    have V' := V
    rw [hrt] at hre' V'
    refine br_f h0 ?_
    rcases pk_ix v1 (n := 20) (by omega) with w | w | ⟨e, he, rfl⟩
    · refine br_t w (br_f h0 ?_)
      refine ⟨fun _ => ⟨rfl, J⟩, fun _ => ⟨fun _ => ⟨rfl, J⟩, fun _ => ⟨fun _ => ⟨rfl, J⟩, fun _ => br_t w ⟨rfl, J⟩⟩⟩⟩
    · refine br_f (zi_out (by omega) w) (br_t w (br_f h0 ?_))
      refine ⟨fun _ => ⟨rfl, J⟩, fun _ => ⟨fun _ => ⟨rfl, J⟩, fun _ => ⟨fun _ => ⟨rfl, J⟩, fun _ => br_f (zi_out (by omega) w) (br_f (Int32.not_lt.mpr w) ⟨rfl, J⟩)⟩⟩⟩
    · refine br_f zi_nlt (br_f (nI_ge (b := 20) he (by decide)) ?_)
      rcases zi_blk v2 (nb := mv) (by omega) with (w | w) | ⟨x, hx, rfl⟩
      · exact br_t w (br_f h0 (br_t w ⟨rfl, J⟩))
      · exact br_f (zi_out (by omega) w) (br_f (Int32.not_lt.mpr w) (br_f h0 (br_f (zi_out (by omega) w) (br_t w ⟨rfl, J⟩))))
      · refine br_f zi_nlt (br_t (nI_lt hx (by omega)) ⟨pk_in (e * 6 + x) 120 (by omega) (zi_6 e x), ?_⟩)
        rw [zb_rd (e * 6 + x) (zi_6 e x)]
        have e1 : (e * 6 + x) / 6 = e := by omega
        have e2 : (e * 6 + x) % 6 = x := by omega
        have hP := N.2.2.2.1 (e * 6 + x) (by omega)
        unfold nu_pc at hP
        rw [e1, e2] at hP
        refine br_f h0 (br_f zi_nlt (br_f (nI_ge hx (by omega)) (br_f (nI_ge (b := 6) (by omega) (by decide)) (br_f zi_nlt (br_t (nI_lt (b := 20) he (by decide)) (y_edgeEnd YS B C V' hre' he ?_))))))
        rw [← hrt]
        rcases gr_ee_or V he with z | ⟨z1, z2, t, t1, t2, t3, t4, t5, t6⟩
        · rw [z]
          refine br_t (by decide) ⟨?_, J⟩
          rcases hP with ⟨⟨t, ht, w, _⟩, _⟩ | hP
          · rw [z] at w; exact absurd w.symm (zi_neg (by omega))
          · exact hP.2.symm
        · rw [t3]
          refine br_f zi_nlt (br_t (nI_lt (b := 10) (by omega) (by decide)) ⟨pk_in (t * 6 + x) 60 (by omega) (zi_6 t x), zc_ge (t * 6 + x) (fun q => ⟨pk_in (e * 6 + x) 120 (by omega) (zi_6 e x), ?_, J⟩) (fun q => ⟨?_, J⟩) (zi_6 t x)⟩)
          · rw [zb_rd (e * 6 + x) (zi_6 e x)]
          · rcases hP with ⟨⟨t', ht, w, w'⟩, _⟩ | hP
            · rw [zi_inj (w.symm.trans t3)] at w'
              exact absurd (Int32.not_lt.mp w') q
            · exact hP.2.symm
theorem i_vc_resultName {k : Nat} {u : SX} {v : SY} (I : i_Rel k u v) (hk : k + 5 ≤ 2564) (v1 : Int32) : wpX_resultName (fun r => wpY_resultName (fun r' => r' = r ∧ i_Rel (k + 5) u v) v v1) u v1 := by
  have I' := i_up I
  refine zz_el (Q := fun u v => i_Rel (k + 5) u v → wpX_resultName (fun r => wpY_resultName (fun r' => r' = r ∧ i_Rel (k + 5) u v) v v1) u v1) ?_ I I'
  rintro mb mi mv oc ni nb ph xrm xnc xcc xsc xpc ync ycl xop xsx xsy xsz xbo xbf xbe xin xee xdm xid xfm xgm xkm xlm xnb xnp xnv xph xln xpa xrs xax xay xaz xfo xsr xso xst xco xcx xcy xcz xcb xpd xps xss xtu xcu xou xot xrg ysr ymk yre ydm yid yfr ylv yis yas ycd yfi ypd yps yot yrg yrv ⟨nc, cc, bf, be, rt, S, H, M⟩ J
  have hn := S.2.2.2.2.2.2.1.1
  rcases rl_ph H with h0 | ⟨h0, _, _, A, N⟩
  · exact br_t h0 (br_t h0 ⟨rfl, J⟩)
  · refine br_f h0 ?_
    rcases pk_ix v1 (n := ni) (by omega) with w | w | ⟨i, hi, rfl⟩
    · exact br_t w (br_f h0 (br_t w ⟨rfl, J⟩))
    · exact br_f (zi_out (by omega) w) (br_f (Int32.not_lt.mpr w) (br_f h0 (br_f (zi_out (by omega) w) (br_t w ⟨rfl, J⟩))))
    · exact br_f zi_nlt (br_t (nI_lt hi (by omega)) ⟨pk_in i 40 (by omega), br_f h0 (br_f zi_nlt (br_f (nI_ge hi (by omega)) (br_t (nI_lt (b := 40) (by omega) (by decide)) ⟨pk_in i 40 (by omega), rfl, J⟩)))⟩)
end
section
/-! ===== getters, third part ===== -/
section
variable {mb mi mv oc ni nb : Nat} {ph xrm xnc xcc xsc xpc : Int32} {xop xsx xsy xsz xbo xbf xbe xin xee xdm xid xfm xgm xkm xlm xnb xnp xnv xph xln xpa xrs xax xay xaz xfo xsr xso xst xco xcx xcy xcz xcb xpd xps xss xtu xcu xou xot xrg : Nat → Int32} {rt : Nat → Int32}
theorem x_inSsa {post : Int32 → Prop} {i t : Nat} (hrm : ∀ i, i < 32 → bt xrm i = gr_rc rt i) (hi : i < 40) (ht : t < 10) (hbo : xbo i = nI t) (h : post (zb_i (gr_rc rt t && decide (xfo i = 0)))) : wpX_inSsa post ((nI mb), (nI mi), (nI mv), (nI oc), ph, (nI ni), (nI nb), xrm, xnc, xcc, xsc, xpc, xop, xsx, xsy, xsz, xbo, xbf, xbe, xin, xee, xdm, xid, xfm, xgm, xkm, xlm, xnb, xnp, xnv, xph, xln, xpa, xrs, xax, xay, xaz, xfo, xsr, xso, xst, xco, xcx, xcy, xcz, xcb, xpd, xps, xss, xtu, xcu, xou, xot, xrg) (nI i) := by
  refine ⟨pk_in i 40 hi, ?_⟩
  rw [zb_ra (a := xbo) i, hbo]
  refine x_reachable (by omega) (zc_b (fun q => ?_) (fun q => ⟨pk_in i 40 hi, zc_eq i (fun w => ?_) (fun w => ?_)⟩))
  · rw [hrm t (by omega)] at q
    rw [q] at h; exact h
  · rw [hrm t (by omega)] at q
    rw [q, decide_eq_true w] at h; exact h
  · rw [hrm t (by omega)] at q
    rw [q, decide_eq_false w] at h; exact h
end
theorem i_vc_operand {k : Nat} {u : SX} {v : SY} (I : i_Rel k u v) (hk : k + 5 ≤ 2564) (v1 : Int32) (v2 : Int32) : wpX_operand (fun r => wpY_operand (fun r' => r' = r ∧ i_Rel (k + 5) u v) v v1 v2) u v1 v2 := by
  have I' := i_up I
  refine zz_el (Q := fun u v => i_Rel (k + 5) u v → wpX_operand (fun r => wpY_operand (fun r' => r' = r ∧ i_Rel (k + 5) u v) v v1 v2) u v1 v2) ?_ I I'
  rintro mb mi mv oc ni nb ph xrm xnc xcc xsc xpc ync ycl xop xsx xsy xsz xbo xbf xbe xin xee xdm xid xfm xgm xkm xlm xnb xnp xnv xph xln xpa xrs xax xay xaz xfo xsr xso xst xco xcx xcy xcz xcb xpd xps xss xtu xcu xou xot xrg ysr ymk yre ydm yid yfr ylv yis yas ycd yfi ypd yps yot yrg yrv ⟨nc, cc, bf, be, rt, S, H, M⟩ J
  obtain ⟨S1, S2, S3, S4, S5, S6, B, SV, YS, hbo, hbf, hbe⟩ := S
  have hn := B.1
  have hnb := B.2.1
  rcases rl_ph H with h0 | ⟨h0, _, _, A, N⟩
  · exact br_t h0 (br_t h0 ⟨rfl, J⟩)
  · obtain ⟨C, hrt, V, hrm, hre, _⟩ := A
    refine br_f h0 ?_
    rcases pk_ix v1 (n := ni) (by omega) with w | w | ⟨i, hi, rfl⟩
    · exact br_t w (br_f h0 (br_t w ⟨rfl, J⟩))
    · exact br_f (zi_out (by omega) w) (br_f (Int32.not_lt.mpr w) (br_f h0 (br_f (zi_out (by omega) w) (br_t w ⟨rfl, J⟩))))
    · have htl := (sc_loc B i hi).1
      have hv : vp_in (nI i) 40 := pk_in i 40 (by omega)
      obtain ⟨o1, o2, o3, o4, o5, o6⟩ := sc_opf (SV i hi).1
      refine br_f zi_nlt (br_t (nI_lt hi (by omega)) (x_inSsa hrm (by omega) (by omega) (hbo i hi) ?_))
      have hY : ∀ {Q : Int32 → Prop}, ((gr_rc rt (sc_tc xop i) && decide (xfo i = 0)) = false → Q (-1)) → ((gr_rc rt (sc_tc xop i) && decide (xfo i = 0)) = true → (sc_of (xop i) v2 < 0 → Q (-1)) ∧ (∀ f, f < 4 → sc_of (xop i) v2 = nI f → Q (yas (i * 4 + f)))) → wpY_operand Q ((nI mb), (nI mi), (nI mv), (nI oc), ph, (nI ni), ync, ycl, ysr, xin, ymk, yre, ydm, yid, yfr, ylv, yis, xph, xpa, xrs, yas, xfo, ycd, yfi, ypd, yps, xss, xtu, xcu, xou, yot, yrg, yrv) (nI i) v2 := by
        intro Q q1 q2
        refine br_f h0 (br_f zi_nlt (br_f (nI_ge hi (by omega)) (br_t (nI_lt (b := 40) (by omega) (by decide)) (y_inSsa YS B hre hi (zc_b (fun w => q1 w) (fun w => ⟨pk_in (i * 4) 160 (by omega) (zi_4 i), ?_⟩))))))
        have q3 := q2 w
        have hO := N.2.2.1 i hi (by rw [Bool.and_eq_true] at w; exact w.1)
        rw [zb_ra (a := yas) (i * 4) (zi_4 i), hO.1.1]
        refine y_operandField ⟨fun y => q3.1 y, fun y => ?_⟩
        obtain ⟨f, hf, hf'⟩ : ∃ f, f < 4 ∧ sc_of (xop i) v2 = nI f := by
          unfold sc_of at y ⊢
          split
          · split
            · exact ⟨2, by decide, rfl⟩
            · split
              · exact ⟨1, by decide, rfl⟩
              · rename_i a b c
                rw [if_pos a, if_neg b, if_neg c] at y; exact absurd (by decide) y
          · split
            · split
              · exact ⟨3, by decide, rfl⟩
              · rename_i a b c
                rw [if_neg a, if_pos b, if_neg c] at y; exact absurd (by decide) y
            · rename_i a b
              rw [if_neg a, if_neg b] at y; exact absurd (by decide) y
        rw [hf']
        refine br_t (nI_le (b := 3) (by omega) (by decide)) ⟨pk_in (i * 4 + f) 160 (by omega) (zi_4k i f), ?_⟩
        rw [zb_rd (i * 4 + f) (zi_4k i f)]; exact q3.2 f hf hf'
      refine zc_b (fun q => hY (fun _ => ⟨rfl, J⟩) (fun w => by rw [q] at w; exact absurd w (by decide))) (fun q => zs_rn i ?_ (by omega))
      have hO := N.2.2.1 i hi (by rw [Bool.and_eq_true] at q; exact q.1)
      have fin : ∀ (f : Nat) (x : Int32), f < 4 → sc_of (xop i) v2 = nI f → yas (i * 4 + f) = x → wpY_operand (fun r' => r' = x ∧ i_Rel (k + 5) ((nI mb), (nI mi), (nI mv), (nI oc), ph, (nI ni), (nI nb), xrm, xnc, xcc, xsc, xpc, xop, xsx, xsy, xsz, xbo, xbf, xbe, xin, xee, xdm, xid, xfm, xgm, xkm, xlm, xnb, xnp, xnv, xph, xln, xpa, xrs, xax, xay, xaz, xfo, xsr, xso, xst, xco, xcx, xcy, xcz, xcb, xpd, xps, xss, xtu, xcu, xou, xot, xrg) ((nI mb), (nI mi), (nI mv), (nI oc), ph, (nI ni), ync, ycl, ysr, xin, ymk, yre, ydm, yid, yfr, ylv, yis, xph, xpa, xrs, yas, xfo, ycd, yfi, ypd, yps, xss, xtu, xcu, xou, yot, yrg, yrv)) ((nI mb), (nI mi), (nI mv), (nI oc), ph, (nI ni), ync, ycl, ysr, xin, ymk, yre, ydm, yid, yfr, ylv, yis, xph, xpa, xrs, yas, xfo, ycd, yfi, ypd, yps, xss, xtu, xcu, xou, yot, yrg, yrv) (nI i) v2 := fun f x hf e hx =>
        hY (fun w => by rw [q] at w; exact absurd w (by decide)) (fun _ => ⟨fun y => by rw [e] at y; exact absurd y zi_nlt, fun f' hf' e' => by rw [← zi_inj (e.symm.trans e')]; exact ⟨hx, J⟩⟩)
      have none : sc_of (xop i) v2 = -1 → wpY_operand (fun r' => r' = -1 ∧ i_Rel (k + 5) ((nI mb), (nI mi), (nI mv), (nI oc), ph, (nI ni), (nI nb), xrm, xnc, xcc, xsc, xpc, xop, xsx, xsy, xsz, xbo, xbf, xbe, xin, xee, xdm, xid, xfm, xgm, xkm, xlm, xnb, xnp, xnv, xph, xln, xpa, xrs, xax, xay, xaz, xfo, xsr, xso, xst, xco, xcx, xcy, xcz, xcb, xpd, xps, xss, xtu, xcu, xou, xot, xrg) ((nI mb), (nI mi), (nI mv), (nI oc), ph, (nI ni), ync, ycl, ysr, xin, ymk, yre, ydm, yid, yfr, ylv, yis, xph, xpa, xrs, yas, xfo, ycd, yfi, ypd, yps, xss, xtu, xcu, xou, yot, yrg, yrv)) ((nI mb), (nI mi), (nI mv), (nI oc), ph, (nI ni), ync, ycl, ysr, xin, ymk, yre, ydm, yid, yfr, ylv, yis, xph, xpa, xrs, yas, xfo, ycd, yfi, ypd, yps, xss, xtu, xcu, xou, yot, yrg, yrv) (nI i) v2 := fun e =>
        hY (fun w => ⟨rfl, J⟩) (fun _ => ⟨fun _ => ⟨rfl, J⟩, fun f' hf' e' => absurd (e'.symm.trans e) (zi_neg (by omega))⟩)
      refine ⟨fun e => ?_, fun e => ?_⟩
      · refine x_readsY (zc_b (fun hy => x_readsX (zc_b (fun hx => ?_) (fun hx => ⟨hv, ?_⟩))) (fun hy => ⟨hv, ?_⟩))
        · refine br_f (by rw [e]; decide) (none ?_)
          unfold sc_of; rw [if_pos e, hy, hx]; rfl
        · rw [zb_rd i]
          exact fin 1 _ (by decide) (by unfold sc_of; rw [if_pos e, hy, hx]; rfl) hO.1.2.1
        · rw [zb_rd i]
          exact fin 2 _ (by decide) (by unfold sc_of; rw [if_pos e, hy]; rfl) hO.1.2.2.1
      · refine ⟨fun e1 => x_readsZ (zc_b (fun hz => none ?_) (fun hz => ⟨hv, ?_⟩)), fun e1 => none ?_⟩
        · unfold sc_of; rw [if_neg e, if_pos e1, hz]; rfl
        · rw [zb_rd i]
          exact fin 3 _ (by decide) (by unfold sc_of; rw [if_neg e, if_pos e1, hz]; rfl) hO.1.2.2.2
        · unfold sc_of; rw [if_neg e, if_neg e1]
theorem i_vc_splitBlock {k : Nat} {u : SX} {v : SY} (I : i_Rel k u v) (hk : k + 5 ≤ 2564) (v1 : Int32) : wpX_splitBlock (fun r => wpY_splitBlock (fun r' => r' = r ∧ i_Rel (k + 5) u v) v v1) u v1 := by
  have I' := i_up I
  refine zz_el (Q := fun u v => i_Rel (k + 5) u v → wpX_splitBlock (fun r => wpY_splitBlock (fun r' => r' = r ∧ i_Rel (k + 5) u v) v v1) u v1) ?_ I I'
  rintro mb mi mv oc ni nb ph xrm xnc xcc xsc xpc ync ycl xop xsx xsy xsz xbo xbf xbe xin xee xdm xid xfm xgm xkm xlm xnb xnp xnv xph xln xpa xrs xax xay xaz xfo xsr xso xst xco xcx xcy xcz xcb xpd xps xss xtu xcu xou xot xrg ysr ymk yre ydm yid yfr ylv yis yas ycd yfi ypd yps yot yrg yrv ⟨nc, cc, bf, be, rt, S, H, M⟩ J
  obtain ⟨S1, S2, S3, S4, S5, S6, B, SV, YS, hbo, hbf, hbe⟩ := S
  rcases H with ⟨h0, _⟩ | ⟨⟨h0, _⟩ | ⟨h0, Co⟩, _, _, A, N⟩
  · exact br_f (by rw [h0]; decide) (br_f (by rw [h0]; decide) ⟨rfl, J⟩)
  · exact br_f (by rw [h0]; decide) (br_f (by rw [h0]; decide) ⟨rfl, J⟩)
  · obtain ⟨C, hrt, V, hrm, hre, _⟩ := A
    obtain ⟨c1, c2, c3, c4, c5, _⟩ := Co
    refine br_t h0 ?_
    rcases pk_ix v1 (n := 20) (by omega) with w | w | ⟨e, he, rfl⟩
    · exact br_t w (br_t h0 (y_critical_no (Or.inl w) (br_t rfl ⟨rfl, J⟩)))
    · exact br_f (zi_out (by omega) w) (br_f (Int32.not_lt.mpr w) (br_t h0 (y_critical_no (Or.inr w) (br_t rfl ⟨rfl, J⟩))))
    · refine br_f zi_nlt (br_t (nI_lt (b := 20) he (by decide)) ⟨pk_in e 20 he, ?_⟩)
      rw [zb_rd e, c5 e he]
      refine br_t h0 (y_critical YS B C hrt V hre he (zc_b (fun q => ⟨?_, J⟩) (fun q => y_blocks YS B (y_criticalBelow YS B C hrt V hre (by omega) ⟨?_, J⟩))))
      · rw [q]; rfl
      · rw [q, if_pos rfl, nI_add]
theorem i_vc_blockStart {k : Nat} {u : SX} {v : SY} (I : i_Rel k u v) (hk : k + 5 ≤ 2564) (v1 : Int32) : wpX_blockStart (fun r => wpY_blockStart (fun r' => r' = r ∧ i_Rel (k + 5) u v) v v1) u v1 := by
  have I' := i_up I
  refine zz_el (Q := fun u v => i_Rel (k + 5) u v → wpX_blockStart (fun r => wpY_blockStart (fun r' => r' = r ∧ i_Rel (k + 5) u v) v v1) u v1) ?_ I I'
  rintro mb mi mv oc ni nb ph xrm xnc xcc xsc xpc ync ycl xop xsx xsy xsz xbo xbf xbe xin xee xdm xid xfm xgm xkm xlm xnb xnp xnv xph xln xpa xrs xax xay xaz xfo xsr xso xst xco xcx xcy xcz xcb xpd xps xss xtu xcu xou xot xrg ysr ymk yre ydm yid yfr ylv yis yas ycd yfi ypd yps yot yrg yrv ⟨nc, cc, bf, be, rt, S, H, M⟩ J
  rcases H with ⟨h0, _⟩ | ⟨⟨h0, _⟩ | ⟨h0, Co⟩, _, _, A, N⟩
  · exact br_f (by rw [h0]; decide) (br_f (by rw [h0]; decide) ⟨rfl, J⟩)
  · exact br_f (by rw [h0]; decide) (br_f (by rw [h0]; decide) ⟨rfl, J⟩)
  · obtain ⟨c1, c2, c3, c4, c5, c6, c7, c8, _⟩ := Co
    refine br_t h0 ?_
    rcases pk_ix v1 (n := 30) (by omega) with w | w | ⟨b, hb, rfl⟩
    · exact br_t w (br_t h0 (br_t w ⟨rfl, J⟩))
    · refine br_f (zi_out (by omega) w) (br_f (Int32.not_lt.mpr w) (br_t h0 (br_f (zi_out (by omega) w) ⟨fun y => ?_, fun _ => ⟨rfl, J⟩⟩)))
      obtain ⟨j, hj, rfl⟩ := nI_of (zi_out (by omega) w)
      have y' : j < 32 := (nI_ltI hj (by decide : (32 : Nat) < 2 ^ 31)).mp y
      rw [nI_leI (by omega) hj] at w
      refine ⟨pk_in j 32 y', ?_, J⟩
      rw [zb_rd j]
      have : j = 30 ∨ j = 31 := by omega
      rcases this with e | e
      · rw [e]; exact c7
      · rw [e]; exact c8
    · refine br_f zi_nlt (br_t (nI_lt (b := 30) hb (by decide)) ⟨pk_in b 30 hb, br_t h0 (br_f zi_nlt (br_t (nI_lt (b := 32) (by omega) (by decide)) ⟨pk_in b 32 (by omega), ?_, J⟩))⟩)
      rw [zb_rd b]; exact (c6 b hb).symm
theorem i_vc_codeField {k : Nat} {u : SX} {v : SY} (I : i_Rel k u v) (hk : k + 5 ≤ 2564) (v1 : Int32) (v2 : Int32) : wpX_codeField (fun r => wpY_codeField (fun r' => r' = r ∧ i_Rel (k + 5) u v) v v1 v2) u v1 v2 := by
  have I' := i_up I
  refine zz_el (Q := fun u v => i_Rel (k + 5) u v → wpX_codeField (fun r => wpY_codeField (fun r' => r' = r ∧ i_Rel (k + 5) u v) v v1 v2) u v1 v2) ?_ I I'
  rintro mb mi mv oc ni nb ph xrm xnc xcc xsc xpc ync ycl xop xsx xsy xsz xbo xbf xbe xin xee xdm xid xfm xgm xkm xlm xnb xnp xnv xph xln xpa xrs xax xay xaz xfo xsr xso xst xco xcx xcy xcz xcb xpd xps xss xtu xcu xou xot xrg ysr ymk yre ydm yid yfr ylv yis yas ycd yfi ypd yps yot yrg yrv ⟨nc, cc, bf, be, rt, S, H, M⟩ J
  rcases H with ⟨h0, _⟩ | ⟨⟨h0, _⟩ | ⟨h0, Co⟩, _, _, A, N⟩
  · exact br_f (by rw [h0]; decide) (br_f (by rw [h0]; decide) ⟨rfl, J⟩)
  · exact br_f (by rw [h0]; decide) (br_f (by rw [h0]; decide) ⟨rfl, J⟩)
  · obtain ⟨c1, c2, c3, c4, c5, c6, c7, c8, c9, c10, _⟩ := Co
    subst c2 c3
    refine br_t h0 ?_
    rcases pk_ix v1 (n := cc) (by omega) with w | w | ⟨i, hi, rfl⟩
    · exact br_t w (br_t h0 (br_t w ⟨rfl, J⟩))
    · exact br_f (zi_out (by omega) w) (br_f (Int32.not_lt.mpr w) (br_t h0 (br_f (zi_out (by omega) w) (br_t w ⟨rfl, J⟩))))
    · obtain ⟨s0, s1, s2, s3⟩ := c10 i hi
      have hY : ∀ {Q : Int32 → Prop}, (v2 < 0 → Q 0) → (∀ j, j < 4 → v2 = nI j → Q (ycd (i * 4 + j))) → (4 ≤ v2 → Q 0) → wpY_codeField Q ((nI mb), (nI mi), (nI mv), (nI oc), ph, (nI ni), ync, nI cc, ysr, xin, ymk, yre, ydm, yid, yfr, ylv, yis, xph, xpa, xrs, yas, xfo, ycd, yfi, ypd, yps, xss, xtu, xcu, xou, yot, yrg, yrv) (nI i) v2 := by
        intro Q q1 q2 q3
        refine br_t h0 (br_f zi_nlt (br_f (nI_ge hi (by omega)) (br_f (nI_ge (b := 512) (by omega) (by decide)) ?_)))
        rcases pk_ix v2 (n := 4) (by omega) with w | w | ⟨j, hj, rfl⟩
        · exact br_t w (q1 w)
        · have h3 : ¬ v2 ≤ 3 := fun x => absurd (Int32.le_trans w x) (by decide)
          exact br_f (zi_out (by omega) w) (br_f h3 (q3 w))
        · refine br_f zi_nlt (br_t (nI_le (b := 3) (by omega) (by decide)) ⟨pk_in (i * 4 + j) 2048 (by omega) (zi_4k i j), ?_⟩)
          rw [zb_rd (i * 4 + j) (zi_4k i j)]; exact q2 j hj rfl
      refine br_f zi_nlt (br_t (nI_lt hi (by omega)) ?_)
      rcases pk_ix v2 (n := 4) (by omega) with w | w | ⟨j, hj, rfl⟩
      · exact br_t w (hY (fun _ => ⟨rfl, J⟩) (fun j hj e => absurd (e ▸ w) (zi_nlt)) (fun _ => ⟨rfl, J⟩))
      · have h3 : 3 < v2 := Int32.lt_of_lt_of_le (by decide) w
        exact br_f (zi_out (by omega) w) (br_t h3 (hY (fun _ => ⟨rfl, J⟩) (fun j hj e => by rw [e] at w; exact absurd w (nI_ge (b := 4) hj (by decide))) (fun _ => ⟨rfl, J⟩)))
      · have fin : ∀ x : Int32, ycd (i * 4 + j) = x → wpY_codeField (fun r' => r' = x ∧ i_Rel (k + 5) ((nI mb), (nI mi), (nI mv), (nI oc), ph, (nI ni), (nI nb), xrm, xnc, nI cc, xsc, xpc, xop, xsx, xsy, xsz, xbo, xbf, xbe, xin, xee, xdm, xid, xfm, xgm, xkm, xlm, xnb, xnp, xnv, xph, xln, xpa, xrs, xax, xay, xaz, xfo, xsr, xso, xst, xco, xcx, xcy, xcz, xcb, xpd, xps, xss, xtu, xcu, xou, xot, xrg) ((nI mb), (nI mi), (nI mv), (nI oc), ph, (nI ni), ync, nI cc, ysr, xin, ymk, yre, ydm, yid, yfr, ylv, yis, xph, xpa, xrs, yas, xfo, ycd, yfi, ypd, yps, xss, xtu, xcu, xou, yot, yrg, yrv)) ((nI mb), (nI mi), (nI mv), (nI oc), ph, (nI ni), ync, nI cc, ysr, xin, ymk, yre, ydm, yid, yfr, ylv, yis, xph, xpa, xrs, yas, xfo, ycd, yfi, ypd, yps, xss, xtu, xcu, xou, yot, yrg, yrv) (nI i) (nI j) := fun x hx =>
          hY (fun w => absurd w zi_nlt) (fun j' hj' e => by rw [← zi_inj e]; exact ⟨hx, J⟩) (fun w => absurd w (nI_ge (b := 4) hj (by decide)))
        have hv : vp_in (nI i) 240 := pk_in i 240 (by omega)
        refine br_f zi_nlt (br_f (nI_nlt (a := 3) (by omega) (by decide)) (pk_eq j 0 (fun e => ⟨hv, ?_⟩) (fun e => pk_eq j 1 (fun e => ⟨hv, ?_⟩) (fun e1 => pk_eq j 2 (fun e => ⟨hv, ?_⟩) (fun e2 => pk_eq j 3 (fun e => ⟨hv, ?_⟩) (fun e3 => trivial))))))
        all_goals rw [zb_rd i]
        · exact fin _ (by rw [e]; exact s0)
        · exact fin _ (by rw [e]; exact s1)
        · exact fin _ (by rw [e]; exact s2)
        · exact fin _ (by rw [e]; exact s3)
end
section
/-! ===== getters, fourth part ===== -/
section
variable {mb mi mv oc ni : Nat} {ph ync ycl : Int32} {ysr yin ymk yre ydm yid yfr ylv yis yph yar yrs yas yfo ycd yfi ypd yps yss ytu ybl you yot yrg yrv : Nat → Int32}
theorem y_getReg {post : Int32 → Prop} {f r : Nat} (hf : f < 3) (hr : r < 128) (h : post (yrg (f * 128 + r))) : wpY_getReg post ((nI mb), (nI mi), (nI mv), (nI oc), ph, (nI ni), ync, ycl, ysr, yin, ymk, yre, ydm, yid, yfr, ylv, yis, yph, yar, yrs, yas, yfo, ycd, yfi, ypd, yps, yss, ytu, ybl, you, yot, yrg, yrv) (nI f) (nI r) := by
  refine br_f zi_nlt (br_f (nI_nlt (a := 2) (by omega) (by decide)) (br_f zi_nlt (br_t (nI_lt (b := 128) hr (by decide)) ⟨pk_in (f * 128 + r) 384 (by omega) (zi_128 f r), ?_⟩)))
  rw [zb_rd (f * 128 + r) (zi_128 f r)]; exact h
theorem y_reg53 {post : Int32 → Prop} {f r s : Nat} (hf : f < 3) (hs : s ≤ 128) (hr : r < 2 ^ 31) (h1 : r < s → post (yrg (f * 128 + r))) (h2 : ¬ r < s → post 0) : wY_register_53 post (nI f) (nI r) (nI s) (nI mb) (nI mi) (nI mv) (nI oc) ph (nI ni) ync ycl ysr yin ymk yre ydm yid yfr ylv yis yph yar yrs yas yfo ycd yfi ypd yps yss ytu ybl you yot yrg yrv := by
  refine pk_lt r s (fun w => ?_) (fun w => h2 (by omega))
  exact y_getReg hf (by omega) (h1 w)
end
section
variable {mb mi mv oc ni nb : Nat} {ph xrm xnc xcc xsc xpc : Int32} {xop xsx xsy xsz xbo xbf xbe xin xee xdm xid xfm xgm xkm xlm xnb xnp xnv xph xln xpa xrs xax xay xaz xfo xsr xso xst xco xcx xcy xcz xcb xpd xps xss xtu xcu xou xot xrg : Nat → Int32}
theorem x_reg56 {post : Int32 → Prop} {f r s : Nat} (hf : f < 3) (hs : s ≤ 100) (hr : r < 2 ^ 31) (h1 : r < s → post (xrg (f * 100 + r))) (h2 : ¬ r < s → post 0) : wX_register_56 post (nI f) (nI r) (nI s) (nI mb) (nI mi) (nI mv) (nI oc) ph (nI ni) (nI nb) xrm xnc xcc xsc xpc xop xsx xsy xsz xbo xbf xbe xin xee xdm xid xfm xgm xkm xlm xnb xnp xnv xph xln xpa xrs xax xay xaz xfo xsr xso xst xco xcx xcy xcz xcb xpd xps xss xtu xcu xou xot xrg := by
  refine pk_le s r (fun w => h2 (by omega)) (fun w => br_t (nI_lt (b := 100) (by omega) (by decide)) ⟨pk_in (f * 100 + r) 300 (by omega) (zi_100 f r), ?_⟩)
  rw [zb_rd (f * 100 + r) (zi_100 f r)]; exact h1 w
end
theorem i_vc_register {k : Nat} {u : SX} {v : SY} (I : i_Rel k u v) (hk : k + 5 ≤ 2564) (v1 : Int32) (v2 : Int32) : wpX_register (fun r => wpY_register (fun r' => r' = r ∧ i_Rel (k + 5) u v) v v1 v2) u v1 v2 := by
  have I' := i_up I
  refine zz_el (Q := fun u v => i_Rel (k + 5) u v → wpX_register (fun r => wpY_register (fun r' => r' = r ∧ i_Rel (k + 5) u v) v v1 v2) u v1 v2) ?_ I I'
  rintro mb mi mv oc ni nb ph xrm xnc xcc xsc xpc ync ycl xop xsx xsy xsz xbo xbf xbe xin xee xdm xid xfm xgm xkm xlm xnb xnp xnv xph xln xpa xrs xax xay xaz xfo xsr xso xst xco xcx xcy xcz xcb xpd xps xss xtu xcu xou xot xrg ysr ymk yre ydm yid yfr ylv yis yas ycd yfi ypd yps yot yrg yrv ⟨nc, cc, bf, be, rt, S, H, M⟩ J
  have hmv := S.2.2.1
  rcases pk_ix v1 (n := 3) (by omega) with w | w | ⟨f, hf, rfl⟩
  · exact br_t w (br_t w ⟨rfl, J⟩)
  · have h3 : 2 < v1 := Int32.lt_of_lt_of_le (by decide) w
    exact br_f (zi_out (by omega) w) (br_t h3 (br_f (zi_out (by omega) w) (br_t h3 ⟨rfl, J⟩)))
  · have hv : vp_in (nI f) 3 := pk_in f 3 hf
    have hl : ¬ 2 < nI f := nI_nlt (a := 2) (by omega) (by decide)
    obtain ⟨m1, m2, m3, m4⟩ := M f hf
    refine br_f zi_nlt (br_f hl ⟨fun w => ⟨hv, zc_eq f (fun q => ?_) (fun q => ?_)⟩, fun w => br_f zi_nlt (br_f hl (br_f w ⟨rfl, J⟩))⟩)
    · exact br_f zi_nlt (br_f hl (br_t w ⟨hv, zc_eq f (fun _ => ⟨rfl, J⟩) (fun x => absurd q x)⟩))
    · obtain ⟨r, hr, rfl⟩ := nI_of (Int32.not_lt.mpr w)
      rcases rl_ph H with h0 | ⟨h0, e1, e2, A, N⟩
      · exact absurd (m4 h0) q
      · subst e1 e2
        have hnc := N.2.1
        have fin : ∀ s, s ≤ 100 → wY_register_53 (fun r' => r' = (if r < s then xrg (f * 100 + r) else 0) ∧ i_Rel (k + 5) ((nI mb), (nI mi), (nI mv), (nI oc), ph, (nI ni), (nI nb), xrm, nI nc, xcc, xsc, xpc, xop, xsx, xsy, xsz, xbo, xbf, xbe, xin, xee, xdm, xid, xfm, xgm, xkm, xlm, xnb, xnp, xnv, xph, xln, xpa, xrs, xax, xay, xaz, xfo, xsr, xso, xst, xco, xcx, xcy, xcz, xcb, xpd, xps, xss, xtu, xcu, xou, xot, xrg) ((nI mb), (nI mi), (nI mv), (nI oc), ph, (nI ni), nI nc, ycl, ysr, xin, ymk, yre, ydm, yid, yfr, ylv, yis, xph, xpa, xrs, yas, xfo, ycd, yfi, ypd, yps, xss, xtu, xcu, xou, yot, yrg, yrv)) (nI f) (nI r) (nI s) (nI mb) (nI mi) (nI mv) (nI oc) ph (nI ni) (nI nc) ycl ysr xin ymk yre ydm yid yfr ylv yis xph xpa xrs yas xfo ycd yfi ypd yps xss xtu xcu xou yot yrg yrv := by
          intro s hs
          refine y_reg53 hf (by omega) hr (fun y => ⟨?_, J⟩) (fun y => ⟨by rw [if_neg y], J⟩)
          rw [if_pos y]; exact (m1 r (by omega)).symm
        have hX : ∀ s, s ≤ 100 → ∀ {Q : Int32 → Prop}, Q (if r < s then xrg (f * 100 + r) else 0) → wX_register_56 Q (nI f) (nI r) (nI s) (nI mb) (nI mi) (nI mv) (nI oc) ph (nI ni) (nI nb) xrm (nI nc) xcc xsc xpc xop xsx xsy xsz xbo xbf xbe xin xee xdm xid xfm xgm xkm xlm xnb xnp xnv xph xln xpa xrs xax xay xaz xfo xsr xso xst xco xcx xcy xcz xcb xpd xps xss xtu xcu xou xot xrg := by
          intro s hs Q hQ
          refine x_reg56 hf hs hr (fun y => ?_) (fun y => ?_)
          · rw [if_pos y] at hQ; exact hQ
          · rw [if_neg y] at hQ; exact hQ
        refine pk_eq f 1 (fun e => hX nc (by omega) ?_) (fun e => pk_eq f 2 (fun e' => nm_r (nI_1 nc) (hX (nc + 1) (by omega) ?_)) (fun e' => hX mv (by omega) ?_))
        · refine br_f zi_nlt (br_f hl (br_t w ⟨hv, zc_eq f (fun x => absurd x q) (fun _ => pk_eq f 1 (fun _ => pk_eq f 2 (fun x => by omega) (fun _ => fin nc (by omega))) (fun x => absurd e x))⟩))
        · refine br_f zi_nlt (br_f hl (br_t w ⟨hv, zc_eq f (fun x => absurd x q) (fun _ => pk_eq f 1 (fun x => absurd x e) (fun _ => pk_eq f 2 (fun _ => nm_r (nI_1 nc) (fin (nc + 1) (by omega))) (fun x => absurd e' x)))⟩))
        · refine br_f zi_nlt (br_f hl (br_t w ⟨hv, zc_eq f (fun x => absurd x q) (fun _ => pk_eq f 1 (fun x => absurd x e) (fun _ => pk_eq f 2 (fun x => absurd x e') (fun _ => fin mv (by omega))))⟩))
theorem i_vc_count {k : Nat} {u : SX} {v : SY} (I : i_Rel k u v) (hk : k + 5 ≤ 2564) (v1 : Int32) : wpX_count (fun r => wpY_count (fun r' => r' = r ∧ i_Rel (k + 5) u v) v v1) u v1 := by
  have I' := i_up I
  refine zz_el (Q := fun u v => i_Rel (k + 5) u v → wpX_count (fun r => wpY_count (fun r' => r' = r ∧ i_Rel (k + 5) u v) v v1) u v1) ?_ I I'
  rintro mb mi mv oc ni nb ph xrm xnc xcc xsc xpc ync ycl xop xsx xsy xsz xbo xbf xbe xin xee xdm xid xfm xgm xkm xlm xnb xnp xnv xph xln xpa xrs xax xay xaz xfo xsr xso xst xco xcx xcy xcz xcb xpd xps xss xtu xcu xou xot xrg ysr ymk yre ydm yid yfr ylv yis yas ycd yfi ypd yps yot yrg yrv ⟨nc, cc, bf, be, rt, S, H, M⟩ J
  obtain ⟨S1, S2, S3, S4, S5, S6, B, SV, YS, hbo, hbf, hbe⟩ := S
  rcases pk_ix v1 (n := 9) (by omega) with w | w | ⟨j, hj, rfl⟩
  · have hne : ∀ x : Int32, ¬ x < 0 → ¬ v1 = x := fun x hx e => hx (e ▸ w)
    exact br_t w (br_f (hne _ (by decide)) (br_f (hne _ (by decide)) (br_f (hne _ (by decide)) (br_f (hne _ (by decide)) (br_f (hne _ (by decide)) (br_f (hne _ (by decide)) (br_f (hne _ (by decide)) (br_f (hne _ (by decide)) (br_f (hne _ (by decide)) ⟨rfl, J⟩)))))))))
  · have h3 : 8 < v1 := Int32.lt_of_lt_of_le (by decide) w
    have hne : ∀ x : Int32, ¬ 9 ≤ x → ¬ v1 = x := fun x hx e => hx (e ▸ w)
    exact br_f (zi_out (by omega) w) (br_t h3 (br_f (hne _ (by decide)) (br_f (hne _ (by decide)) (br_f (hne _ (by decide)) (br_f (hne _ (by decide)) (br_f (hne _ (by decide)) (br_f (hne _ (by decide)) (br_f (hne _ (by decide)) (br_f (hne _ (by decide)) (br_f (hne _ (by decide)) ⟨rfl, J⟩))))))))))
  · refine br_f zi_nlt (br_f (nI_nlt (a := 8) (by omega) (by decide)) ?_)
    have hc : j = 0 ∨ j = 1 ∨ j = 2 ∨ j = 3 ∨ j = 4 ∨ j = 5 ∨ j = 6 ∨ j = 7 ∨ j = 8 := by omega
    rcases hc with rfl | rfl | rfl | rfl | rfl | rfl | rfl | rfl | rfl
    · exact br_t (by decide) (br_t (by decide) ⟨rfl, J⟩)
    · exact br_f (by decide) (br_t (by decide) (br_f (by decide) (br_t (by decide) (y_blocks YS B ⟨rfl, J⟩))))
    · refine br_f (by decide) (br_f (by decide) (br_t (by decide) (br_f (by decide) (br_f (by decide) (br_t (by decide) ?_)))))
      rcases rl_ph H with h0 | ⟨h0, e1, e2, _⟩
      · refine br_t h0 ⟨?_, J⟩
        rcases H with H | ⟨H | H, _⟩
        · exact H.2.1.symm
        · rw [h0] at H; exact absurd H.1 (by decide)
        · rw [h0] at H; exact absurd H.1 (by decide)
      · exact br_f h0 ⟨e2.trans e1.symm, J⟩
    · refine br_f (by decide) (br_f (by decide) (br_f (by decide) (br_t (by decide) (br_f (by decide) (br_f (by decide) (br_f (by decide) (br_t (by decide) ?_)))))))
      rcases H with H | ⟨H | ⟨h0, H⟩, _⟩
      · exact br_f (by rw [H.1]; decide) ⟨H.2.2.1.symm, J⟩
      · exact br_f (by rw [H.1]; decide) ⟨H.2.1.symm, J⟩
      · exact br_t h0 ⟨H.2.2.1.trans H.2.1.symm, J⟩
    · refine br_f (by decide) (br_f (by decide) (br_f (by decide) (br_f (by decide) (br_t (by decide) (br_f (by decide) (br_f (by decide) (br_f (by decide) (br_f (by decide) (br_t (by decide) ?_)))))))))
      rcases H with H | ⟨H | ⟨h0, H⟩, _, _, A, _⟩
      · exact br_f (by rw [H.1]; decide) ⟨H.2.2.2.symm, J⟩
      · exact br_f (by rw [H.1]; decide) ⟨H.2.2.symm, J⟩
      · exact br_t h0 (y_criticalBelow (m := 20) YS B A.1 A.2.1 A.2.2.1 A.2.2.2.2.1 (by omega) ⟨H.2.2.2.1.symm, J⟩)
    · exact br_f (by decide) (br_f (by decide) (br_f (by decide) (br_f (by decide) (br_f (by decide) (br_t (by decide) (br_f (by decide) (br_f (by decide) (br_f (by decide) (br_f (by decide) (br_f (by decide) (br_t (by decide) ⟨rfl, J⟩)))))))))))
    · exact br_f (by decide) (br_f (by decide) (br_f (by decide) (br_f (by decide) (br_f (by decide) (br_f (by decide) (br_t (by decide) (br_f (by decide) (br_f (by decide) (br_f (by decide) (br_f (by decide) (br_f (by decide) (br_f (by decide) (br_t (by decide) ⟨rfl, J⟩)))))))))))))
    · exact br_f (by decide) (br_f (by decide) (br_f (by decide) (br_f (by decide) (br_f (by decide) (br_f (by decide) (br_f (by decide) (br_t (by decide) (br_f (by decide) (br_f (by decide) (br_f (by decide) (br_f (by decide) (br_f (by decide) (br_f (by decide) (br_f (by decide) (br_t (by decide) ⟨rfl, J⟩)))))))))))))))
    · exact br_f (by decide) (br_f (by decide) (br_f (by decide) (br_f (by decide) (br_f (by decide) (br_f (by decide) (br_f (by decide) (br_f (by decide) (br_t (by decide) (br_f (by decide) (br_f (by decide) (br_f (by decide) (br_f (by decide) (br_f (by decide) (br_f (by decide) (br_f (by decide) (br_f (by decide) (br_t (by decide) ⟨rfl, J⟩)))))))))))))))))
end
section
/-! ===== nameField ===== -/
section
variable {mb mi mv oc ni : Nat} {ph ync ycl : Int32} {ysr yin ymk yre ydm yid yfr ylv yis yph yar yrs yas yfo ycd yfi ypd yps yss ytu ybl you yot yrg yrv : Nat → Int32} {op fx fy fz : Nat → Int32}
theorem y_instructionOf {post : Int32 → Prop} {k i : Nat} (hn : ni ≤ 40) (hi : i < ni) (h1 : yrs i = nI k) (h2 : ∀ j, j < i → ¬ yrs j = nI k) (hk : k < 2 ^ 31) (h : post (nI i)) : wpY_instructionOf post ((nI mb), (nI mi), (nI mv), (nI oc), ph, (nI ni), ync, ycl, ysr, yin, ymk, yre, ydm, yid, yfr, ylv, yis, yph, yar, yrs, yas, yfo, ycd, yfi, ypd, yps, yss, ytu, ybl, you, yot, yrg, yrv) (nI k) := by
  refine br_t (nI_pos' hk) ?_
  refine loop_0 (fun n j (_ : Unit) => wY_instructionOf_8 post (nI k) (nI mb) (nI mi) (nI mv) (nI oc) ph (nI ni) ync ycl ysr yin ymk yre ydm yid yfr ylv yis yph yar yrs yas yfo ycd yfi ypd yps yss ytu ybl you yot yrg yrv n (nI j)) (fun _ _ => True) i () trivial ?_ ?_
  · intro n _ _
    exact zc_go hi ⟨pk_in i 40 (by omega), zc_eq i (fun _ => h) (fun w => absurd h1 w)⟩
  · intro n j _ hj _ ih
    exact zc_go (show j < ni by omega) ⟨pk_in j 40 (by omega), zc_eq j (fun w => absurd w (h2 j hj)) (fun _ => zn_1 (ih () trivial))⟩
theorem y_instructionOf_no {post : Int32 → Prop} {k : Nat} (hn : ni ≤ 40) (h2 : ∀ j, j < ni → ¬ yrs j = nI k) (hk : k < 2 ^ 31) (h : post (-1)) : wpY_instructionOf post ((nI mb), (nI mi), (nI mv), (nI oc), ph, (nI ni), ync, ycl, ysr, yin, ymk, yre, ydm, yid, yfr, ylv, yis, yph, yar, yrs, yas, yfo, ycd, yfi, ypd, yps, yss, ytu, ybl, you, yot, yrg, yrv) (nI k) := by
  refine br_t (nI_pos' hk) ?_
  refine loop_0 (fun n j (_ : Unit) => wY_instructionOf_8 post (nI k) (nI mb) (nI mi) (nI mv) (nI oc) ph (nI ni) ync ycl ysr yin ymk yre ydm yid yfr ylv yis yph yar yrs yas yfo ycd yfi ypd yps yss ytu ybl you yot yrg yrv n (nI j)) (fun _ _ => True) ni () trivial ?_ ?_
  · intro n _ _
    exact zc_ex h
  · intro n j _ hj _ ih
    exact zc_go hj ⟨pk_in j 40 (by omega), zc_eq j (fun w => absurd w (h2 j hj)) (fun _ => zn_1 (ih () trivial))⟩
/-- the search for a phi function -/
theorem y_nf_phi {post : Int32 → Prop} {k j : Nat} {x2 x3 x5 : Int32} (hj : j < 60) (h1 : yph j = nI k) (h2 : ∀ j', j' < 60 → yph j' = nI k → j' = j) (h : wY_nameField_170 post x2 x3 (nI (j / 6)) x5 (nI (j % 6)) (nI mb) (nI mi) (nI mv) (nI oc) ph (nI ni) ync ycl ysr yin ymk yre ydm yid yfr ylv yis yph yar yrs yas yfo ycd yfi ypd yps yss ytu ybl you yot yrg yrv) :
    ∃ n : Nat, wY_nameField_116 post (nI k) x2 x3 x5 (nI mb) (nI mi) (nI mv) (nI oc) ph (nI ni) ync ycl ysr yin ymk yre ydm yid yfr ylv yis yph yar yrs yas yfo ycd yfi ypd yps yss ytu ybl you yot yrg yrv n 0 (nI k) 0 := by
  refine loop_0 (fun n c (s : Int32 × Int32) => wY_nameField_116 post (nI k) x2 x3 x5 (nI mb) (nI mi) (nI mv) (nI oc) ph (nI ni) ync ycl ysr yin ymk yre ydm yid yfr ylv yis yph yar yrs yas yfo ycd yfi ypd yps yss ytu ybl you yot yrg yrv n s.1 s.2 (nI c)) (fun c s => j < c * 6 → s = (nI (j / 6), nI (j % 6))) 10 (0, nI k) (fun w => by omega) ?_ ?_
  · rintro n ⟨a, b⟩ hI
    have e := hI (by omega)
    injection e with e1 e2
    subst e1 e2
    exact zc_ex h
  · rintro n c ⟨a, b⟩ hc hI ih
    refine zc_go hc ?_
    refine loop_0 (fun n' v (s : Int32 × Int32) => wY_nameField_126 post (wY_nameField_116 post (nI k) x2 x3 x5 (nI mb) (nI mi) (nI mv) (nI oc) ph (nI ni) ync ycl ysr yin ymk yre ydm yid yfr ylv yis yph yar yrs yas yfo ycd yfi ypd yps yss ytu ybl you yot yrg yrv n) (nI k) x2 x3 x5 (nI c) (nI mb) (nI mi) (nI mv) (nI oc) ph (nI ni) ync ycl ysr yin ymk yre ydm yid yfr ylv yis yph yar yrs yas yfo ycd yfi ypd yps yss ytu ybl you yot yrg yrv n' s.1 s.2 (nI v)) (fun v s => j < c * 6 + v → s = (nI (j / 6), nI (j % 6))) 6 (a, b) hI ?_ ?_
    · rintro n' ⟨a', b'⟩ hI'
      exact zc_ex (zn_1 (ih (a', b') fun w => hI' (by omega)))
    · rintro n' v ⟨a', b'⟩ hv hI' ih'
      refine zc_go hv ⟨pk_in (c * 6 + v) 60 (by omega) (zi_6 c v), zc_eq (c * 6 + v) (fun w => zn_1 (ih' (nI c, nI v) fun _ => ?_)) (fun w => zn_1 (ih' (a', b') fun y => ?_)) (zi_6 c v)⟩
      · have e := h2 _ (by omega) w
        have e1 : j / 6 = c := by omega
        have e2 : j % 6 = v := by omega
        rw [e1, e2]
      · rcases Nat.lt_or_ge j (c * 6 + v) with z | z
        · exact hI' z
        · have e : j = c * 6 + v := by omega
          rw [e] at h1; exact absurd h1 w
end
theorem i_vc_nameField {k : Nat} {u : SX} {v : SY} (I : i_Rel k u v) (hk : k + 5 ≤ 2564) (v1 : Int32) (v2 : Int32) : wpX_nameField (fun r => wpY_nameField (fun r' => r' = r ∧ i_Rel (k + 5) u v) v v1 v2) u v1 v2 := by
  have I' := i_up I
  refine zz_el (Q := fun u v => i_Rel (k + 5) u v → wpX_nameField (fun r => wpY_nameField (fun r' => r' = r ∧ i_Rel (k + 5) u v) v v1 v2) u v1 v2) ?_ I I'
  rintro mb mi mv oc ni nb ph xrm xnc xcc xsc xpc ync ycl xop xsx xsy xsz xbo xbf xbe xin xee xdm xid xfm xgm xkm xlm xnb xnp xnv xph xln xpa xrs xax xay xaz xfo xsr xso xst xco xcx xcy xcz xcb xpd xps xss xtu xcu xou xot xrg ysr ymk yre ydm yid yfr ylv yis yas ycd yfi ypd yps yot yrg yrv ⟨nc, cc, bf, be, rt, S, H, M⟩ J
  obtain ⟨S1, S2, S3, S4, S5, S6, B, SV, YS, hbo, hbf, hbe⟩ := S
  have hn := B.1
  rcases rl_ph H with h0 | ⟨h0, e1, e2, A, N⟩
  · exact br_t h0 (br_t h0 ⟨rfl, J⟩)
  · subst e1 e2
    have hnc := N.2.1
    refine br_f h0 ?_
    rcases pk_ix v1 (n := nc) (by omega) with w | w | ⟨m, hm, rfl⟩
    · exact br_t w (br_f h0 (br_t w ⟨rfl, J⟩))
    · exact br_f (zi_out (by omega) w) (br_f (Int32.not_lt.mpr w) (br_f h0 (br_f (zi_out (by omega) w) (br_t w ⟨rfl, J⟩))))
    · refine br_f zi_nlt (br_t (nI_lt hm (by omega)) ?_)
      -- what Y answers, given kind, block, place and variable
      have hcase : ∃ kd bl pl va : Int32, xnb m = bl ∧ xnp m = pl ∧ xnv m = va ∧
          (∀ {Q : Int32 → Prop}, Q kd → wpX_kindOf Q ((nI mb), (nI mi), (nI mv), (nI oc), ph, (nI ni), (nI nb), xrm, nI nc, xcc, xsc, xpc, xop, xsx, xsy, xsz, xbo, xbf, xbe, xin, xee, xdm, xid, xfm, xgm, xkm, xlm, xnb, xnp, xnv, xph, xln, xpa, xrs, xax, xay, xaz, xfo, xsr, xso, xst, xco, xcx, xcy, xcz, xcb, xpd, xps, xss, xtu, xcu, xou, xot, xrg) (nI m)) ∧
          (∀ {Q : Int32 → Prop}, ¬ v2 < 0 → v2 ≤ 3 → wY_nameField_170 Q v2 kd bl pl va (nI mb) (nI mi) (nI mv) (nI oc) ph (nI ni) (nI nc) ycl ysr xin ymk yre ydm yid yfr ylv yis xph xpa xrs yas xfo ycd yfi ypd yps xss xtu xcu xou yot yrg yrv → wpY_nameField Q ((nI mb), (nI mi), (nI mv), (nI oc), ph, (nI ni), nI nc, ycl, ysr, xin, ymk, yre, ydm, yid, yfr, ylv, yis, xph, xpa, xrs, yas, xfo, ycd, yfi, ypd, yps, xss, xtu, xcu, xou, yot, yrg, yrv) (nI m) v2) := by
        obtain ⟨n1, n2, n3, n4, n5, n6, n7, n8, n9⟩ := N.1
        rcases Nat.lt_or_ge m mv with hmv | hmv
        · obtain ⟨p1, p2, p3⟩ := n3 m hmv
          refine ⟨0, 0, -1, nI m, p1, p2, p3, fun hQ => ?_, fun a1 a2 hQ => ?_⟩
          · refine zs_rn m ?_ (by omega)
            rw [p2]
            exact br_t (by decide) (br_f (nI_ge hmv (by omega)) hQ)
          · exact br_f h0 (br_f zi_nlt (br_f (nI_ge hm (by omega)) (br_f a1 (br_t a2 (br_t (nI_lt hmv (by omega)) hQ)))))
        · rcases n7 m hmv hm with ⟨j, hj, hpj⟩ | ⟨i, hi, hri⟩
          · obtain ⟨kk, k1, k2, k3, k4, k5, k6⟩ : ∃ kk, mv ≤ kk ∧ kk < nc ∧ xph j = nI kk ∧ xnp kk = -1 ∧ xnb kk = nI (j / 6) ∧ xnv kk = nI (j % 6) := by
              rcases n4 j hj with y | y | ⟨_, y⟩
              · exact absurd (hpj.symm.trans y) (zi_neg (by omega))
              · omega
              · exact y
            have ek : kk = m := zi_inj (k3.symm.trans hpj)
            subst ek
            refine ⟨1, nI (j / 6), -1, nI (j % 6), k5, k4, k6, fun hQ => ?_, fun a1 a2 hQ => ?_⟩
            · refine zs_rn kk ?_ (by omega)
              rw [k4]
              exact br_t (by decide) (br_t (nI_le hmv (by omega)) hQ)
            · refine br_f h0 (br_f zi_nlt (br_f (nI_ge hm (by omega)) (br_f a1 (br_t a2 (br_f (nI_nlt hmv (by omega)) (y_instructionOf_no hn (fun i hi w => ?_) (by omega) (br_t (by decide) (y_nf_phi hj hpj (fun j' hj' w => ?_) hQ))))))))
              · rcases n5 i (by omega) with y | ⟨_, _, _, _, kk', _, y1, y2, y3, _⟩
                · exact absurd (w.symm.trans y) (zi_neg (by omega))
                · have : kk' = kk := zi_inj (y2.symm.trans w)
                  rw [this, k4] at y3
                  exact absurd y3.symm (zi_neg (by omega))
              · rcases n4 j' hj' with y | y | ⟨_, kk', _, y1, y2, _, y4, y5⟩
                · exact absurd (w.symm.trans y) (zi_neg (by omega))
                · omega
                · have : kk' = kk := zi_inj (y2.symm.trans w)
                  rw [this, k5] at y4
                  rw [this, k6] at y5
                  have z1 := zi_inj y4
                  have z2 := zi_inj y5
                  omega
          · obtain ⟨kk, k1, k2, k3, k4, k5, k6⟩ : ∃ kk, mv ≤ kk ∧ kk < nc ∧ xrs i = nI kk ∧ xnp kk = nI i ∧ xnb kk = nI (sc_tc xop i) ∧ xnv kk = xsx i := by
              rcases n5 i (by omega) with y | ⟨_, _, _, _, y⟩
              · exact absurd (hri.symm.trans y) (zi_neg (by omega))
              · exact y
            have ek : kk = m := zi_inj (k3.symm.trans hri)
            subst ek
            have hfo := N.2.2.2.2 i (by omega)
            refine ⟨if xfo i = 0 then 2 else 3, nI (sc_tc xop i), nI i, xsx i, k5, k4, k6, fun hQ => ?_, fun a1 a2 hQ => ?_⟩
            · refine zs_rn kk ?_ (by omega)
              rw [k4]
              refine br_f zi_nlt ⟨pk_in i 40 (by omega), zc_eq i (fun y => ?_) (fun y => ?_)⟩
              · rw [if_pos y] at hQ; exact hQ
              · rw [if_neg y] at hQ; exact hQ
            · refine br_f h0 (br_f zi_nlt (br_f (nI_ge hm (by omega)) (br_f a1 (br_t a2 (br_f (nI_nlt hmv (by omega)) (y_instructionOf hn hi hri (fun j hj w => ?_) (by omega) (br_f zi_nlt (br_f (nI_ge (b := 40) (by omega) (by decide)) ⟨pk_in i 40 (by omega), zc_eq i (fun y => ?_) (fun y => ?_)⟩))))))))
              · rcases n5 j (by omega) with y | ⟨_, _, _, _, kk', _, y1, y2, y3, _⟩
                · exact absurd (w.symm.trans y) (zi_neg (by omega))
                · have : kk' = kk := zi_inj (y2.symm.trans w)
                  rw [this, k4] at y3
                  have := zi_inj y3
                  omega
              · rw [if_neg (by rw [y]; decide)] at hQ
                refine y_blockOf hn YS (by omega) (zs_rn (i * 4 + 1) ?_ (by omega) (zi_4a i))
                rw [(YS i (by omega)).2.1]; exact hQ
              · rw [if_pos (hfo.resolve_right (fun z => y z.1))] at hQ
                refine y_blockOf hn YS (by omega) (zs_rn (i * 4 + 1) ?_ (by omega) (zi_4a i))
                rw [(YS i (by omega)).2.1]; exact hQ
      obtain ⟨kd, bl, pl, va, p1, p2, p3, hX, hY⟩ := hcase
      have hv : vp_in (nI m) 100 := pk_in m 100 (by omega)
      rcases pk_ix v2 (n := 4) (by omega) with w | w | ⟨j, hj, rfl⟩
      · exact br_t w (br_f h0 (br_f zi_nlt (br_f (nI_ge hm (by omega)) (br_t w ⟨rfl, J⟩))))
      · have h3 : 3 < v2 := Int32.lt_of_lt_of_le (by decide) w
        have h3' : ¬ v2 ≤ 3 := Int32.not_le.mpr h3
        exact br_f (zi_out (by omega) w) (br_t h3 (br_f h0 (br_f zi_nlt (br_f (nI_ge hm (by omega)) (br_f (zi_out (by omega) w) (br_f h3' ⟨rfl, J⟩))))))
      · have a1 : ¬ nI j < 0 := zi_nlt
        have a2 : nI j ≤ 3 := nI_le (b := 3) (by omega) (by decide)
        refine br_f zi_nlt (br_f (nI_nlt (a := 3) (by omega) (by decide)) (pk_eq j 0 (fun e => ?_) (fun e => pk_eq j 1 (fun e1 => ⟨hv, ?_⟩) (fun e1 => pk_eq j 2 (fun e2 => ⟨hv, ?_⟩) (fun e2 => pk_eq j 3 (fun e3 => ⟨hv, ?_⟩) (fun e3 => trivial))))))
        · exact hX (hY a1 a2 (pk_eq j 0 (fun _ => ⟨rfl, J⟩) (fun x => absurd e x)))
        · rw [zb_rd m]
          exact hY a1 a2 (pk_eq j 0 (fun x => absurd x e) (fun _ => pk_eq j 1 (fun _ => ⟨p1.symm, J⟩) (fun x => absurd e1 x)))
        · rw [zb_rd m]
          exact hY a1 a2 (pk_eq j 0 (fun x => absurd x e) (fun _ => pk_eq j 1 (fun x => absurd x e1) (fun _ => pk_eq j 2 (fun _ => ⟨p2.symm, J⟩) (fun x => absurd e2 x))))
        · rw [zb_rd m]
          exact hY a1 a2 (pk_eq j 0 (fun x => absurd x e) (fun _ => pk_eq j 1 (fun x => absurd x e1) (fun _ => pk_eq j 2 (fun x => absurd x e2) (fun _ => ⟨p3.symm, J⟩))))
end
section
/-! ===== emit ===== -/
def em_X (o x : Int32) : Int32 := if o = 11 then 0 else x
def em_Y (o y : Int32) : Int32 := if o ≤ 6 ∨ o = 10 then y else 0
def em_Z (o z : Int32) : Int32 := if (sc_rz o = true ∨ o = 6) ∨ o = 10 then z else 0
def em_G (mb mv : Nat) (o x y z : Int32) : Prop := ((sc_df o = true ∨ sc_rx o = true) → ¬ x < 0 ∧ ¬ nI mv ≤ x) ∧ (sc_ry o = true → ¬ y < 0 ∧ ¬ nI mv ≤ y) ∧ (sc_rz o = true → ¬ z < 0 ∧ ¬ nI mv ≤ z) ∧
  (o = 9 → ¬ x < 1 ∧ ¬ nI mb ≤ x) ∧ (o = 10 → (¬ y < 1 ∧ ¬ nI mb ≤ y) ∧ (¬ z < 1 ∧ ¬ nI mb ≤ z) ∧ ¬ y = z)
section
variable {mb mi mv oc ni nb : Nat} {ph xrm xnc xcc xsc xpc : Int32} {xop xsx xsy xsz xbo xbf xbe xin xee xdm xid xfm xgm xkm xlm xnb xnp xnv xph xln xpa xrs xax xay xaz xfo xsr xso xst xco xcx xcy xcz xcb xpd xps xss xtu xcu xou xot xrg : Nat → Int32}
theorem x_isVar {post : Int32 → Prop} {x : Int32} (h1 : (¬ x < 0 ∧ ¬ nI mv ≤ x) → post 1) (h0 : ¬ (¬ x < 0 ∧ ¬ nI mv ≤ x) → post 0) : wpX_isVariable post ((nI mb), (nI mi), (nI mv), (nI oc), ph, (nI ni), (nI nb), xrm, xnc, xcc, xsc, xpc, xop, xsx, xsy, xsz, xbo, xbf, xbe, xin, xee, xdm, xid, xfm, xgm, xkm, xlm, xnb, xnp, xnv, xph, xln, xpa, xrs, xax, xay, xaz, xfo, xsr, xso, xst, xco, xcx, xcy, xcz, xcb, xpd, xps, xss, xtu, xcu, xou, xot, xrg) x :=
  ⟨fun w => h0 (fun y => y.1 w), fun w => ⟨fun w' => h0 (fun y => y.2 w'), fun w' => h1 ⟨w, w'⟩⟩⟩
theorem x_isTar {post : Int32 → Prop} {x : Int32} (h1 : (¬ x < 1 ∧ ¬ nI mb ≤ x) → post 1) (h0 : ¬ (¬ x < 1 ∧ ¬ nI mb ≤ x) → post 0) : wpX_isTarget post ((nI mb), (nI mi), (nI mv), (nI oc), ph, (nI ni), (nI nb), xrm, xnc, xcc, xsc, xpc, xop, xsx, xsy, xsz, xbo, xbf, xbe, xin, xee, xdm, xid, xfm, xgm, xkm, xlm, xnb, xnp, xnv, xph, xln, xpa, xrs, xax, xay, xaz, xfo, xsr, xso, xst, xco, xcx, xcy, xcz, xcb, xpd, xps, xss, xtu, xcu, xou, xot, xrg) x :=
  ⟨fun w => h0 (fun y => y.1 w), fun w => ⟨fun w' => h0 (fun y => y.2 w'), fun w' => h1 ⟨w, w'⟩⟩⟩
theorem x_fag {post : Int32 → Prop} {o x y z : Int32} (h1 : em_G mb mv o x y z → post 1) (h0 : ¬ em_G mb mv o x y z → post 0) : wpX_fieldsAreGood post ((nI mb), (nI mi), (nI mv), (nI oc), ph, (nI ni), (nI nb), xrm, xnc, xcc, xsc, xpc, xop, xsx, xsy, xsz, xbo, xbf, xbe, xin, xee, xdm, xid, xfm, xgm, xkm, xlm, xnb, xnp, xnv, xph, xln, xpa, xrs, xax, xay, xaz, xfo, xsr, xso, xst, xco, xcx, xcy, xcz, xcb, xpd, xps, xss, xtu, xcu, xou, xot, xrg) o x y z := by
  have st63 : ((sc_df o = true ∨ sc_rx o = true) → ¬ x < 0 ∧ ¬ nI mv ≤ x) → (sc_ry o = true → ¬ y < 0 ∧ ¬ nI mv ≤ y) → (sc_rz o = true → ¬ z < 0 ∧ ¬ nI mv ≤ z) → wX_fieldsAreGood_63 post o x y z (nI mb) (nI mi) (nI mv) (nI oc) ph (nI ni) (nI nb) xrm xnc xcc xsc xpc xop xsx xsy xsz xbo xbf xbe xin xee xdm xid xfm xgm xkm xlm xnb xnp xnv xph xln xpa xrs xax xay xaz xfo xsr xso xst xco xcx xcy xcz xcb xpd xps xss xtu xcu xou xot xrg := by
    intro f1 f2 f3
    refine ⟨fun e => x_isTar (fun g => ⟨rfl, h1 ⟨f1, f2, f3, fun _ => g, fun e' => absurd (e.symm.trans e') (by decide)⟩⟩) (fun b => ⟨rfl, h0 (fun G => b (G.2.2.2.1 e))⟩), fun e => ⟨fun e' => ?_, fun e' => h1 ⟨f1, f2, f3, fun w => absurd w e, fun w => absurd w e'⟩⟩⟩
    refine x_isTar (fun g => br_f (by decide) (x_isTar (fun g' => br_f (by decide) ⟨fun w => h0 (fun G => (G.2.2.2.2 e').2.2 w), fun w => h1 ⟨f1, f2, f3, fun w' => absurd w' e, fun _ => ⟨g, g', w⟩⟩⟩) (fun b => br_t rfl (h0 (fun G => b (G.2.2.2.2 e').2.1))))) (fun b => br_t rfl (h0 (fun G => b (G.2.2.2.2 e').1)))
  have st44 : ((sc_df o = true ∨ sc_rx o = true) → ¬ x < 0 ∧ ¬ nI mv ≤ x) → (sc_ry o = true → ¬ y < 0 ∧ ¬ nI mv ≤ y) → wX_fieldsAreGood_44 post o x y z (nI mb) (nI mi) (nI mv) (nI oc) ph (nI ni) (nI nb) xrm xnc xcc xsc xpc xop xsx xsy xsz xbo xbf xbe xin xee xdm xid xfm xgm xkm xlm xnb xnp xnv xph xln xpa xrs xax xay xaz xfo xsr xso xst xco xcx xcy xcz xcb xpd xps xss xtu xcu xou xot xrg := by
    intro f1 f2
    unfold wX_fieldsAreGood_44
    exact x_readsZ (zc_b (fun q => st63 f1 f2 (fun w => by rw [q] at w; exact absurd w (by decide))) (fun q => x_isVar (fun g => br_f (by decide) (st63 f1 f2 (fun _ => g))) (fun b => br_t rfl (h0 (fun G => b (G.2.2.1 q))))))
  have st26 : ((sc_df o = true ∨ sc_rx o = true) → ¬ x < 0 ∧ ¬ nI mv ≤ x) → wX_fieldsAreGood_26 post o x y z (nI mb) (nI mi) (nI mv) (nI oc) ph (nI ni) (nI nb) xrm xnc xcc xsc xpc xop xsx xsy xsz xbo xbf xbe xin xee xdm xid xfm xgm xkm xlm xnb xnp xnv xph xln xpa xrs xax xay xaz xfo xsr xso xst xco xcx xcy xcz xcb xpd xps xss xtu xcu xou xot xrg := by
    intro f1
    unfold wX_fieldsAreGood_26
    exact x_readsY (zc_b (fun q => st44 f1 (fun w => by rw [q] at w; exact absurd w (by decide))) (fun q => x_isVar (fun g => br_f (by decide) (st44 f1 (fun _ => g))) (fun b => br_t rfl (h0 (fun G => b (G.2.1 q))))))
  have st16 : (sc_df o = true ∨ sc_rx o = true) → wX_fieldsAreGood_16 post o x y z (nI mb) (nI mi) (nI mv) (nI oc) ph (nI ni) (nI nb) xrm xnc xcc xsc xpc xop xsx xsy xsz xbo xbf xbe xin xee xdm xid xfm xgm xkm xlm xnb xnp xnv xph xln xpa xrs xax xay xaz xfo xsr xso xst xco xcx xcy xcz xcb xpd xps xss xtu xcu xou xot xrg := by
    intro q
    unfold wX_fieldsAreGood_16
    exact x_isVar (fun g => br_f (by decide) (st26 (fun _ => g))) (fun b => br_t rfl (h0 (fun G => b (G.1 q))))
  unfold wpX_fieldsAreGood
  refine x_definesX (zc_b (fun q => x_readsX (zc_b (fun q' => st26 (fun w => ?_)) (fun q' => st16 (Or.inr q')))) (fun q => st16 (Or.inl q)))
  rcases w with w | w
  · rw [q] at w; exact absurd w (by decide)
  · rw [q'] at w; exact absurd w (by decide)
theorem x_emit_108 {post : Int32 → SX → Prop} {o x y z : Int32} (hn : ni < 40) (h1 : 1 ≤ nb) (h10 : nb ≤ 10)
    (h : post (nI ni) ((nI mb), (nI mi), (nI mv), (nI oc), ph, nI (ni + 1), (nI nb), xrm, xnc, xcc, xsc, xpc, upd xop ni o, upd xsx ni (em_X o x), upd xsy ni (em_Y o y), upd xsz ni (em_Z o z), upd xbo ni (nI (nb - 1)), xbf, upd xbe (nb - 1) (nI (ni + 1)), xin, xee, xdm, xid, xfm, xgm, xkm, xlm, xnb, xnp, xnv, xph, xln, xpa, xrs, xax, xay, xaz, xfo, xsr, xso, xst, xco, xcx, xcy, xcz, xcb, xpd, xps, xss, xtu, xcu, xou, xot, xrg)) : wX_emit_108 post o x y z (nI ni) (nI mb) (nI mi) (nI mv) (nI oc) ph (nI ni) (nI nb) xrm xnc xcc xsc xpc xop xsx xsy xsz xbo xbf xbe xin xee xdm xid xfm xgm xkm xlm xnb xnp xnv xph xln xpa xrs xax xay xaz xfo xsr xso xst xco xcx xcy xcz xcb xpd xps xss xtu xcu xou xot xrg := by
  have st210 : ∀ c : Int32, em_Z o z = c → wX_emit_210 post (nI ni) (nI (nb - 1)) c (nI ni) (nI mb) (nI mi) (nI mv) (nI oc) ph (nI ni) (nI nb) xrm xnc xcc xsc xpc (upd xop ni o) (upd xsx ni (em_X o x)) (upd xsy ni (em_Y o y)) xsz xbo xbf xbe xin xee xdm xid xfm xgm xkm xlm xnb xnp xnv xph xln xpa xrs xax xay xaz xfo xsr xso xst xco xcx xcy xcz xcb xpd xps xss xtu xcu xou xot xrg := by
    intro c hc
    refine zs_st ni (zs_st ni (zn_1 (zs_st (nb - 1) ?_ (by omega))) hn) hn
    rw [← hc]; exact h
  have st191 : ∀ b : Bool, (b = true ↔ ((sc_rz o = true ∨ o = 6) ∨ o = 10)) → wX_emit_191 post z (nI ni) (nI (nb - 1)) (zb_i b) (nI mb) (nI mi) (nI mv) (nI oc) ph (nI ni) (nI nb) xrm xnc xcc xsc xpc (upd xop ni o) (upd xsx ni (em_X o x)) (upd xsy ni (em_Y o y)) xsz xbo xbf xbe xin xee xdm xid xfm xgm xkm xlm xnb xnp xnv xph xln xpa xrs xax xay xaz xfo xsr xso xst xco xcx xcy xcz xcb xpd xps xss xtu xcu xou xot xrg := by
    intro b hb
    refine zc_b (fun q => st210 0 ?_) (fun q => st210 z ?_)
    · unfold em_Z; rw [if_neg (fun w => by rw [hb.mpr w] at q; exact absurd q (by decide))]
    · unfold em_Z; rw [if_pos (hb.mp q)]
  have st165 : ∀ c : Int32, em_Y o y = c → wX_emit_165 post o z (nI ni) (nI (nb - 1)) c (nI ni) (nI mb) (nI mi) (nI mv) (nI oc) ph (nI ni) (nI nb) xrm xnc xcc xsc xpc (upd xop ni o) (upd xsx ni (em_X o x)) xsy xsz xbo xbf xbe xin xee xdm xid xfm xgm xkm xlm xnb xnp xnv xph xln xpa xrs xax xay xaz xfo xsr xso xst xco xcx xcy xcz xcb xpd xps xss xtu xcu xou xot xrg := by
    intro c hc
    refine zs_st ni ?_ hn
    rw [← hc]
    refine x_readsZ (zc_b (fun q => ⟨fun e => st191 true ⟨fun _ => Or.inl (Or.inr e), fun _ => rfl⟩, fun e => ⟨fun e' => st191 true ⟨fun _ => Or.inr e', fun _ => rfl⟩, fun e' => st191 false ⟨fun w => absurd w (by decide), fun w => ?_⟩⟩⟩) (fun q => st191 true ⟨fun _ => Or.inl (Or.inl q), fun _ => rfl⟩))
    rcases w with (w | w) | w
    · rw [q] at w; exact w
    · exact absurd w e
    · exact absurd w e'
  have st141 : ∀ c : Int32, em_X o x = c → wX_emit_141 post o y z (nI ni) (nI (nb - 1)) c (nI ni) (nI mb) (nI mi) (nI mv) (nI oc) ph (nI ni) (nI nb) xrm xnc xcc xsc xpc (upd xop ni o) xsx xsy xsz xbo xbf xbe xin xee xdm xid xfm xgm xkm xlm xnb xnp xnv xph xln xpa xrs xax xay xaz xfo xsr xso xst xco xcx xcy xcz xcb xpd xps xss xtu xcu xou xot xrg := by
    intro c hc
    refine zs_st ni ?_ hn
    rw [← hc]
    refine ⟨fun e => st165 y ?_, fun e => ⟨fun e' => st165 y ?_, fun e' => st165 0 ?_⟩⟩
    · unfold em_Y; rw [if_pos (Or.inl e)]
    · unfold em_Y; rw [if_pos (Or.inr e')]
    · unfold em_Y; rw [if_neg (fun w => w.elim e e')]
  refine nm_r (zi_m1 h1) (zs_st ni ⟨fun e => st141 0 ?_, fun e => st141 x ?_⟩ hn)
  · unfold em_X; rw [if_pos e]
  · unfold em_X; rw [if_neg e]
end
section
variable {mb mi mv oc ni : Nat} {ph ync ycl : Int32} {ysr yin ymk yre ydm yid yfr ylv yis yph yar yrs yas yfo ycd yfi ypd yps yss ytu ybl you yot yrg yrv : Nat → Int32}
theorem y_e219 {post : Int32 → SY → Prop} {o x y z : Int32} (ho : ∃ k, k ≤ 11 ∧ o = nI k) (hn : ni < 40)
    (h : ∀ A : Nat → Int32, A (ni * 4) = o → A (ni * 4 + 1) = em_X o x → A (ni * 4 + 2) = em_Y o y → A (ni * 4 + 3) = em_Z o z → (∀ j, (j < ni * 4 ∨ ni * 4 + 4 ≤ j) → A j = ysr j) → post (nI ni) ((nI mb), (nI mi), (nI mv), (nI oc), ph, nI (ni + 1), ync, ycl, A, yin, ymk, yre, ydm, yid, yfr, ylv, yis, yph, yar, yrs, yas, yfo, ycd, yfi, ypd, yps, yss, ytu, ybl, you, yot, yrg, yrv)) : wY_emit_219 post o x y z (nI mb) (nI mi) (nI mv) (nI oc) ph (nI ni) ync ycl ysr yin ymk yre ydm yid yfr ylv yis yph yar yrs yas yfo ycd yfi ypd yps yss ytu ybl you yot yrg yrv := by
  have st343 : ∀ A : Nat → Int32, A (ni * 4) = o → A (ni * 4 + 1) = em_X o x → A (ni * 4 + 2) = em_Y o y → A (ni * 4 + 3) = em_Z o z → (∀ j, (j < ni * 4 ∨ ni * 4 + 4 ≤ j) → A j = ysr j) → wY_emit_343 post (nI ni) (nI mb) (nI mi) (nI mv) (nI oc) ph (nI ni) ync ycl A yin ymk yre ydm yid yfr ylv yis yph yar yrs yas yfo ycd yfi ypd yps yss ytu ybl you yot yrg yrv :=
    fun A a0 a1 a2 a3 a4 => zn_1 (h A a0 a1 a2 a3 a4)
  have hZ : ∀ A : Nat → Int32, A (ni * 4) = o → A (ni * 4 + 1) = em_X o x → A (ni * 4 + 2) = em_Y o y → A (ni * 4 + 3) = 0 → (∀ j, (j < ni * 4 ∨ ni * 4 + 4 ≤ j) → A j = ysr j) → wY_emit_313 post o z (nI ni) (nI mb) (nI mi) (nI mv) (nI oc) ph (nI ni) ync ycl A yin ymk yre ydm yid yfr ylv yis yph yar yrs yas yfo ycd yfi ypd yps yss ytu ybl you yot yrg yrv := by
    intro A a0 a1 a2 a3 a4
    have put : ((sc_rz o = true ∨ o = 6) ∨ o = 10) → wY_emit_330 post z (nI ni) (nI mb) (nI mi) (nI mv) (nI oc) ph (nI ni) ync ycl A yin ymk yre ydm yid yfr ylv yis yph yar yrs yas yfo ycd yfi ypd yps yss ytu ybl you yot yrg yrv := by
      intro w
      refine zs_st (ni * 4 + 3) (st343 _ ?_ ?_ ?_ ?_ (fun j hj => ?_)) (by omega) (zi_4c ni)
      · rw [pk_un (by omega)]; exact a0
      · rw [pk_un (by omega)]; exact a1
      · rw [pk_un (by omega)]; exact a2
      · rw [pk_us]; unfold em_Z; rw [if_pos w]
      · rw [pk_un (by omega)]; exact a4 j hj
    have hnot : ¬ (sc_rz o = true ∨ o = 6) → wY_emit_324 post o z (nI ni) (nI mb) (nI mi) (nI mv) (nI oc) ph (nI ni) ync ycl A yin ymk yre ydm yid yfr ylv yis yph yar yrs yas yfo ycd yfi ypd yps yss ytu ybl you yot yrg yrv := by
      intro w
      refine ⟨fun e => put (Or.inr e), fun e => st343 A a0 a1 a2 ?_ a4⟩
      rw [a3]; unfold em_Z; rw [if_neg (fun y => y.elim w e)]
    obtain ⟨kk, hkk, rfl⟩ := ho
    have fact : ∀ q : Fin 12, (nI q.val < 2 → ¬ (sc_rz (nI q.val) = true ∨ nI q.val = 6)) ∧ (¬ nI q.val < 2 → nI q.val ≤ 6 → (sc_rz (nI q.val) = true ∨ nI q.val = 6)) ∧ (¬ nI q.val ≤ 6 → ¬ (sc_rz (nI q.val) = true ∨ nI q.val = 6)) := by decide +kernel
    obtain ⟨f1, f2, f3⟩ := fact ⟨kk, by omega⟩
    exact ⟨fun e => hnot (f1 e), fun e => ⟨fun e' => put (Or.inl (f2 e e')), fun e' => hnot (f3 e')⟩⟩
  have hY : ∀ A : Nat → Int32, A (ni * 4) = o → A (ni * 4 + 1) = em_X o x → A (ni * 4 + 2) = 0 → A (ni * 4 + 3) = 0 → (∀ j, (j < ni * 4 ∨ ni * 4 + 4 ≤ j) → A j = ysr j) → wY_emit_289 post o y z (nI ni) (nI mb) (nI mi) (nI mv) (nI oc) ph (nI ni) ync ycl A yin ymk yre ydm yid yfr ylv yis yph yar yrs yas yfo ycd yfi ypd yps yss ytu ybl you yot yrg yrv := by
    intro A a0 a1 a2 a3 a4
    have put : (o ≤ 6 ∨ o = 10) → wY_emit_301 post o y z (nI ni) (nI mb) (nI mi) (nI mv) (nI oc) ph (nI ni) ync ycl A yin ymk yre ydm yid yfr ylv yis yph yar yrs yas yfo ycd yfi ypd yps yss ytu ybl you yot yrg yrv := by
      intro w
      refine zs_st (ni * 4 + 2) (hZ _ ?_ ?_ ?_ ?_ (fun j hj => ?_)) (by omega) (zi_4b ni)
      · rw [pk_un (by omega)]; exact a0
      · rw [pk_un (by omega)]; exact a1
      · rw [pk_us]; unfold em_Y; rw [if_pos w]
      · rw [pk_un (by omega)]; exact a3
      · rw [pk_un (by omega)]; exact a4 j hj
    refine ⟨fun e => put (Or.inl e), fun e => ⟨fun e' => put (Or.inr e'), fun e' => hZ A a0 a1 ?_ a3 a4⟩⟩
    rw [a2]; unfold em_Y; rw [if_neg (fun w => w.elim e e')]
  refine zs_st (ni * 4) (zs_st (ni * 4 + 1) (zs_st (ni * 4 + 2) (zs_st (ni * 4 + 3) ⟨fun e => hY _ ?_ ?_ ?_ ?_ (fun j hj => ?_), fun e => zs_st (ni * 4 + 1) (hY _ ?_ ?_ ?_ ?_ (fun j hj => ?_)) (by omega) (zi_4a ni)⟩ (by omega) (zi_4c ni)) (by omega) (zi_4b ni)) (by omega) (zi_4a ni)) (by omega) (zi_4 ni)
  · rw [pk_un (by omega), pk_un (by omega), pk_un (by omega), pk_us]
  · rw [pk_un (by omega), pk_un (by omega), pk_us]; unfold em_X; rw [if_pos e]
  · rw [pk_un (by omega), pk_us]
  · rw [pk_us]
  · rw [pk_un (by omega), pk_un (by omega), pk_un (by omega), pk_un (by omega)]
  · rw [pk_un (by omega), pk_un (by omega), pk_un (by omega), pk_un (by omega), pk_us]
  · rw [pk_us]; unfold em_X; rw [if_neg e]
  · rw [pk_un (by omega), pk_un (by omega), pk_us]
  · rw [pk_un (by omega), pk_us]
  · rw [pk_un (by omega), pk_un (by omega), pk_un (by omega), pk_un (by omega), pk_un (by omega)]
theorem y_e74 {post : Int32 → SY → Prop} {o x y z : Int32} (ho : ∃ k, k ≤ 11 ∧ o = nI k) (h1 : em_G mb mv o x y z → wY_emit_219 post o x y z (nI mb) (nI mi) (nI mv) (nI oc) ph (nI ni) ync ycl ysr yin ymk yre ydm yid yfr ylv yis yph yar yrs yas yfo ycd yfi ypd yps yss ytu ybl you yot yrg yrv) (h0 : ¬ em_G mb mv o x y z → post (-5) ((nI mb), (nI mi), (nI mv), (nI oc), ph, (nI ni), ync, ycl, ysr, yin, ymk, yre, ydm, yid, yfr, ylv, yis, yph, yar, yrs, yas, yfo, ycd, yfi, ypd, yps, yss, ytu, ybl, you, yot, yrg, yrv)) : wY_emit_74 post o x y z (nI mb) (nI mi) (nI mv) (nI oc) ph (nI ni) ync ycl ysr yin ymk yre ydm yid yfr ylv yis yph yar yrs yas yfo ycd yfi ypd yps yss ytu ybl you yot yrg yrv := by
  have hlt : ∀ {x : Int32} {m : Nat}, ¬ x < nI m → nI m ≤ x := fun w => Int32.not_lt.mp w
  have st176 : ((sc_df o = true ∨ sc_rx o = true) → ¬ x < 0 ∧ ¬ nI mv ≤ x) → (sc_ry o = true → ¬ y < 0 ∧ ¬ nI mv ≤ y) → (sc_rz o = true → ¬ z < 0 ∧ ¬ nI mv ≤ z) → (o = 9 → ¬ x < 1 ∧ ¬ nI mb ≤ x) → wY_emit_176 post o x y z (nI mb) (nI mi) (nI mv) (nI oc) ph (nI ni) ync ycl ysr yin ymk yre ydm yid yfr ylv yis yph yar yrs yas yfo ycd yfi ypd yps yss ytu ybl you yot yrg yrv := by
    intro f1 f2 f3 f4
    refine ⟨fun e => ⟨fun w => h0 (fun G => (G.2.2.2.2 e).1.1 w), fun w1 => ⟨fun w => h0 (fun G => (G.2.2.2.2 e).1.2 w), fun w2 => ⟨fun w => h0 (fun G => (G.2.2.2.2 e).2.1.1 w), fun w3 => ⟨fun w => h0 (fun G => (G.2.2.2.2 e).2.1.2 w), fun w4 => ⟨fun w => h0 (fun G => (G.2.2.2.2 e).2.2 w), fun w5 => h1 ⟨f1, f2, f3, f4, fun _ => ⟨⟨w1, w2⟩, ⟨w3, w4⟩, w5⟩⟩⟩⟩⟩⟩⟩, fun e => h1 ⟨f1, f2, f3, f4, fun w => absurd w e⟩⟩
  have st154 : ((sc_df o = true ∨ sc_rx o = true) → ¬ x < 0 ∧ ¬ nI mv ≤ x) → (sc_ry o = true → ¬ y < 0 ∧ ¬ nI mv ≤ y) → (sc_rz o = true → ¬ z < 0 ∧ ¬ nI mv ≤ z) → wY_emit_154 post o x y z (nI mb) (nI mi) (nI mv) (nI oc) ph (nI ni) ync ycl ysr yin ymk yre ydm yid yfr ylv yis yph yar yrs yas yfo ycd yfi ypd yps yss ytu ybl you yot yrg yrv := by
    intro f1 f2 f3
    exact ⟨fun e => ⟨fun w => h0 (fun G => (G.2.2.2.1 e).1 w), fun w1 => ⟨fun w => st176 f1 f2 f3 (fun _ => ⟨w1, Int32.not_le.mpr w⟩), fun w => h0 (fun G => (G.2.2.2.1 e).2 (hlt w))⟩⟩, fun e => st176 f1 f2 f3 (fun w => absurd w e)⟩
  have st127 : ((sc_df o = true ∨ sc_rx o = true) → ¬ x < 0 ∧ ¬ nI mv ≤ x) → (sc_ry o = true → ¬ y < 0 ∧ ¬ nI mv ≤ y) → wY_emit_127 post o x y z (nI mb) (nI mi) (nI mv) (nI oc) ph (nI ni) ync ycl ysr yin ymk yre ydm yid yfr ylv yis yph yar yrs yas yfo ycd yfi ypd yps yss ytu ybl you yot yrg yrv := by
    intro f1 f2
    refine ⟨fun e => st154 f1 f2 (fun w => ?_), fun e => ⟨fun e' => st154 f1 f2 (fun w => ?_), fun e' => ?_⟩⟩
    · unfold sc_rz at w; rw [decide_eq_false (not_not_intro e), Bool.false_and] at w; exact absurd w (by decide)
    · unfold sc_rz at w; rw [decide_eq_false (not_not_intro e'), Bool.and_false] at w; exact absurd w (by decide)
    · have hz : sc_rz o = true := by unfold sc_rz; rw [decide_eq_true e, decide_eq_true e']; rfl
      exact ⟨fun w => h0 (fun G => (G.2.2.1 hz).1 w), fun w1 => ⟨fun w => st154 f1 f2 (fun _ => ⟨w1, Int32.not_le.mpr w⟩), fun w => h0 (fun G => (G.2.2.1 hz).2 (hlt w))⟩⟩
  have st101 : ((sc_df o = true ∨ sc_rx o = true) → ¬ x < 0 ∧ ¬ nI mv ≤ x) → wY_emit_101 post o x y z (nI mb) (nI mi) (nI mv) (nI oc) ph (nI ni) ync ycl ysr yin ymk yre ydm yid yfr ylv yis yph yar yrs yas yfo ycd yfi ypd yps yss ytu ybl you yot yrg yrv := by
    intro f1
    refine ⟨fun e => st127 f1 (fun w => ?_), fun e => ⟨fun e' => st127 f1 (fun w => ?_), fun e' => ?_⟩⟩
    · unfold sc_ry at w; rw [decide_eq_false (not_not_intro e), Bool.false_and] at w; exact absurd w (by decide)
    · unfold sc_ry at w; rw [decide_eq_false (not_not_intro e'), Bool.and_false] at w; exact absurd w (by decide)
    · have hz : sc_ry o = true := by unfold sc_ry; rw [decide_eq_true e, decide_eq_true e']; rfl
      exact ⟨fun w => h0 (fun G => (G.2.1 hz).1 w), fun w1 => ⟨fun w => st127 f1 (fun _ => ⟨w1, Int32.not_le.mpr w⟩), fun w => h0 (fun G => (G.2.1 hz).2 (hlt w))⟩⟩
  have st86 : (sc_df o = true ∨ sc_rx o = true) → wY_emit_86 post o x y z (nI mb) (nI mi) (nI mv) (nI oc) ph (nI ni) ync ycl ysr yin ymk yre ydm yid yfr ylv yis yph yar yrs yas yfo ycd yfi ypd yps yss ytu ybl you yot yrg yrv := by
    intro q
    exact ⟨fun w => h0 (fun G => (G.1 q).1 w), fun w1 => ⟨fun w => st101 (fun _ => ⟨w1, Int32.not_le.mpr w⟩), fun w => h0 (fun G => (G.1 q).2 (hlt w))⟩⟩
  obtain ⟨kk, hkk, rfl⟩ := ho
  have fact : ∀ q : Fin 12, (nI q.val ≤ 8 → (sc_df (nI q.val) = true ∨ sc_rx (nI q.val) = true)) ∧ (nI q.val = 10 → (sc_df (nI q.val) = true ∨ sc_rx (nI q.val) = true)) ∧ (¬ nI q.val ≤ 8 → ¬ nI q.val = 10 → ¬ (sc_df (nI q.val) = true ∨ sc_rx (nI q.val) = true)) := by decide +kernel
  obtain ⟨f1, f2, f3⟩ := fact ⟨kk, by omega⟩
  exact ⟨fun e => st86 (f1 e), fun e => ⟨fun e' => st86 (f2 e'), fun e' => st101 (fun w => absurd w (f3 e e'))⟩⟩
end
end
section
/-! ===== emit keeps the relation ===== -/
theorem em_tc {op : Nat → Int32} {n : Nat} {o : Int32} : ∀ i, i ≤ n → sc_tc (upd op n o) i = sc_tc op i
  | 0, _ => rfl
  | i + 1, h => by
    have ih := em_tc (op := op) (n := n) (o := o) i (by omega)
    simp only [sc_tc]
    rw [pk_un (show i ≠ n by omega), ih]
theorem em_open {op : Nat → Int32} {n nb : Nat} {bf be : Nat → Nat} {o : Int32} (B : sc_BL op n nb bf be) (hn : n < 40) (h0 : 0 < n) (h : op (n - 1) < 9) :
    sc_BL (upd op n o) (n + 1) nb bf (fun b => if b = nb - 1 then n + 1 else be b) ∧ sc_tc (upd op n o) n = nb - 1 ∧ 1 ≤ nb := by
  have hB := B.2.2.2.1 h0
  have hb1 := sc_be_le B
  refine ⟨⟨by omega, B.2.1, fun w => by omega, fun _ => ⟨hB.1, hB.2.1, if_pos rfl⟩, fun b hb => ?_, fun b hb => ?_⟩, ?_, hB.1⟩
  · have := B.2.2.2.2.1 b hb
    have h2 := hb1 b (by omega)
    have h3 := (B.2.2.2.2.2 b (by omega)).1
    have e : (if b = nb - 1 then n + 1 else be b) = be b := if_neg (by omega)
    dsimp only
    rw [e, pk_un (by omega)]; exact this
  · have h2 := B.2.2.2.2.2 b hb
    have h3 := hb1 b hb
    dsimp only
    by_cases e : b = nb - 1
    · rw [if_pos e]
      have e3 : be b = n := by rw [e]; exact hB.2.2
      refine ⟨by omega, fun i w1 w2 => ?_⟩
      rw [pk_un (by omega)]
      rcases Nat.lt_or_ge (i + 1) n with y | y
      · exact h2.2 i w1 (by omega)
      · have : i = n - 1 := by omega
        rw [this]; exact h
    · rw [if_neg e]
      refine ⟨h2.1, fun i w1 w2 => ?_⟩
      rw [pk_un (by omega)]; exact h2.2 i w1 w2
  · rw [em_tc n (Nat.le_refl _)]
    have h1 := sc_nb B h0
    have e : n = n - 1 + 1 := by omega
    rw [e, sc_tc_n h]; omega
theorem em_new {op : Nat → Int32} {n nb : Nat} {bf be : Nat → Nat} {o : Int32} (B : sc_BL op n nb bf be) (hn : n < 40) (hnb : nb < 10) (h : ¬ (0 < n ∧ op (n - 1) < 9)) :
    sc_BL (upd op n o) (n + 1) (nb + 1) (fun b => if b = nb then n else bf b) (fun b => if b = nb then n + 1 else be b) ∧ sc_tc (upd op n o) n = nb := by
  have hb1 := sc_be_le B
  have htc : sc_tc op n = nb := by
    rcases Nat.eq_zero_or_pos n with z | z
    · rw [z, B.2.2.1 z]; rfl
    · have h1 := sc_nb B z
      have e : n = n - 1 + 1 := by omega
      rw [e, sc_tc_t (fun w => h ⟨z, w⟩)]; omega
  refine ⟨⟨by omega, by omega, fun w => by omega, fun _ => ⟨by omega, ?_, if_pos (by omega)⟩, fun b hb => ?_, fun b hb => ?_⟩, ?_⟩
  · dsimp only
    by_cases e : 0 = nb
    · rw [if_pos e]
      rcases Nat.eq_zero_or_pos n with z | z
      · exact z
      · have := (B.2.2.2.1 z).1; omega
    · rw [if_neg e]
      rcases Nat.eq_zero_or_pos n with z | z
      · have := B.2.2.1 z; omega
      · exact (B.2.2.2.1 z).2.1
  · have e2 : (if b = nb then n + 1 else be b) = be b := if_neg (by omega)
    dsimp only
    rw [e2]
    have h2 := hb1 b (by omega)
    have h3 := (B.2.2.2.2.2 b (by omega)).1
    rw [pk_un (by omega)]
    by_cases e : b + 1 = nb
    · rw [if_pos e]
      have hz : 0 < n := by
        rcases Nat.eq_zero_or_pos n with z | z
        · have := B.2.2.1 z; omega
        · exact z
      have h4 := (B.2.2.2.1 hz).2.2
      have e5 : nb - 1 = b := by omega
      rw [e5] at h4
      rw [h4]
      exact ⟨rfl, fun w => h ⟨hz, w⟩⟩
    · rw [if_neg e]; exact B.2.2.2.2.1 b (by omega)
  · dsimp only
    by_cases e : b = nb
    · rw [if_pos e, if_pos e]
      exact ⟨by omega, fun i w1 w2 => by omega⟩
    · rw [if_neg e, if_neg e]
      have h2 := B.2.2.2.2.2 b (by omega)
      have h3 := hb1 b (by omega)
      refine ⟨h2.1, fun i w1 w2 => ?_⟩
      rw [pk_un (by omega)]; exact h2.2 i w1 w2
  · rw [em_tc n (Nat.le_refl _)]; exact htc
theorem zi_var {x : Int32} {m : Nat} (hm : m < 2 ^ 31) (h : ¬ x < 0 ∧ ¬ nI m ≤ x) : ∃ j, j < m ∧ x = nI j := by
  rcases pk_ix x hm with w | w | w
  · exact absurd w h.1
  · exact absurd w h.2
  · exact w
theorem zi_tar {x : Int32} {m : Nat} (hm : m < 2 ^ 31) (h : ¬ x < 1 ∧ ¬ nI m ≤ x) : ∃ j, 1 ≤ j ∧ j < m ∧ x = nI j := by
  have h0 : ¬ x < 0 := fun w => h.1 (Int32.lt_trans w (by decide))
  obtain ⟨j, hj, e⟩ := zi_var hm ⟨h0, h.2⟩
  refine ⟨j, ?_, hj, e⟩
  rcases Nat.eq_zero_or_pos j with z | z
  · rw [e, z] at h; exact absurd (by decide) h.1
  · exact z
theorem em_SV {mb mv n : Nat} {op fx fy fz : Nat → Int32} {o x y z : Int32} (S : sc_SV mb mv n op fx fy fz) (hmb : mb ≤ 10) (hmv : mv ≤ 6) (ho : ∃ k, k ≤ 11 ∧ o = nI k) (G : em_G mb mv o x y z) :
    sc_SV mb mv (n + 1) (upd op n o) (upd fx n (em_X o x)) (upd fy n (em_Y o y)) (upd fz n (em_Z o z)) := by
  intro i hi
  by_cases e : i = n
  · subst e
    rw [pk_us, pk_us, pk_us, pk_us]
    obtain ⟨g1, g2, g3, g4, g5⟩ := G
    obtain ⟨kk, hkk, rfl⟩ := ho
    have fact : ∀ q : Fin 12, ((sc_df (nI q.val) = true ∨ sc_rx (nI q.val) = true) → ¬ nI q.val = 11) ∧ (sc_ry (nI q.val) = true → nI q.val ≤ 6) := by decide +kernel
    obtain ⟨f1, f2⟩ := fact ⟨kk, by omega⟩
    refine ⟨⟨kk, hkk, rfl⟩, fun w => ?_, fun w => ?_, fun w => ?_, fun w => ?_, fun w => ?_⟩
    · unfold em_X; rw [if_neg (f1 w)]; exact zi_var (by omega) (g1 w)
    · unfold em_Y; rw [if_pos (Or.inl (f2 w))]; exact zi_var (by omega) (g2 w)
    · unfold em_Z; rw [if_pos (Or.inl (Or.inl w))]; exact zi_var (by omega) (g3 w)
    · unfold em_X; rw [if_neg (by rw [w]; decide)]; exact zi_tar (by omega) (g4 w)
    · obtain ⟨a, b, c⟩ := g5 w
      obtain ⟨j, j1, j2, j3⟩ := zi_tar (by omega) a
      obtain ⟨j', j1', j2', j3'⟩ := zi_tar (by omega) b
      unfold em_Y em_Z
      rw [if_pos (Or.inr w), if_pos (Or.inr w)]
      exact ⟨j, j', j1, j2, j1', j2', fun q => c (by rw [j3, j3', q]), j3, j3'⟩
  · rw [pk_un e, pk_un e, pk_un e, pk_un e]; exact S i (by omega)
theorem em_YS {n : Nat} {A ysr op fx fy fz : Nat → Int32} {o x y z : Int32} (Y : sc_YS ysr op fx fy fz) (a0 : A (n * 4) = o) (a1 : A (n * 4 + 1) = x) (a2 : A (n * 4 + 2) = y) (a3 : A (n * 4 + 3) = z) (a4 : ∀ j, (j < n * 4 ∨ n * 4 + 4 ≤ j) → A j = ysr j) :
    sc_YS A (upd op n o) (upd fx n x) (upd fy n y) (upd fz n z) := by
  intro i hi
  by_cases e : i = n
  · subst e
    rw [pk_us, pk_us, pk_us, pk_us]; exact ⟨a0, a1, a2, a3⟩
  · rw [pk_un e, pk_un e, pk_un e, pk_un e, a4 _ (by omega), a4 _ (by omega), a4 _ (by omega), a4 _ (by omega)]
    exact Y i hi
theorem i_vc_emit {k : Nat} {u : SX} {v : SY} (I : i_Rel k u v) (hk : k + 5 ≤ 2564) (v1 : Int32) (v2 : Int32) (v3 : Int32) (v4 : Int32) : wpX_emit (fun r u' => wpY_emit (fun r' v' => r' = r ∧ i_Rel (k + 5) u' v') v v1 v2 v3 v4) u v1 v2 v3 v4 := by
  refine zz_el (Q := fun u v => wpX_emit (fun r u' => wpY_emit (fun r' v' => r' = r ∧ i_Rel (k + 5) u' v') v v1 v2 v3 v4) u v1 v2 v3 v4) ?_ I
  intro mb mi mv oc ni nb ph xrm xnc xcc xsc xpc ync ycl xop xsx xsy xsz xbo xbf xbe xin xee xdm xid xfm xgm xkm xlm xnb xnp xnv xph xln xpa xrs xax xay xaz xfo xsr xso xst xco xcx xcy xcz xcb xpd xps xss xtu xcu xou xot xrg ysr ymk yre ydm yid yfr ylv yis yas ycd yfi ypd yps yot yrg yrv R
  have R0 := R
  obtain ⟨nc, cc, bf, be, rt, S, H, M⟩ := R
  obtain ⟨S1, S2, S3, S4, S5, S6, B, SV, YS, hbo, hbf, hbe⟩ := S
  have hn := B.1
  have h10 := B.2.1
  by_cases h0 : ph = 0
  rotate_left
  · exact br_f h0 (br_f h0 ⟨rfl, zz_in R0⟩)
  refine br_t h0 ?_
  rcases pk_ix v1 (n := 12) (by omega) with w | w | ⟨o, ho, rfl⟩
  · exact br_t w (br_t h0 (br_t w ⟨rfl, zz_in R0⟩))
  · have h3 : ¬ v1 ≤ 11 := fun x => absurd (Int32.le_trans w x) (by decide)
    exact br_f (zi_out (by omega) w) (br_f h3 (br_t h0 (br_f (zi_out (by omega) w) (br_f h3 ⟨rfl, zz_in R0⟩))))
  have hle : nI o ≤ 11 := nI_le (b := 11) (by omega) (by decide)
  refine br_f zi_nlt (br_t hle (pk_lt ni mi (fun hni => ?_) (fun hni => ?_)))
  rotate_left
  · exact br_t h0 (br_f zi_nlt (br_t hle (br_t (nI_le hni (by omega)) ⟨rfl, zz_in R0⟩)))
  have ho' : ∃ k, k ≤ 11 ∧ nI o = nI k := ⟨o, by omega, rfl⟩
  -- Y up to the checks
  have hYpre : ∀ {Q : Int32 → SY → Prop}, ((decide (0 < ni) && decide (xop (ni - 1) < 9)) = false → ¬ nb < mb → Q (-4) ((nI mb), (nI mi), (nI mv), (nI oc), ph, (nI ni), ync, ycl, ysr, xin, ymk, yre, ydm, yid, yfr, ylv, yis, xph, xpa, xrs, yas, xfo, ycd, yfi, ypd, yps, xss, xtu, xcu, xou, yot, yrg, yrv)) →
      (((decide (0 < ni) && decide (xop (ni - 1) < 9)) = true ∨ nb < mb) → wY_emit_74 Q (nI o) v2 v3 v4 (nI mb) (nI mi) (nI mv) (nI oc) ph (nI ni) ync ycl ysr xin ymk yre ydm yid yfr ylv yis xph xpa xrs yas xfo ycd yfi ypd yps xss xtu xcu xou yot yrg yrv) → wpY_emit Q ((nI mb), (nI mi), (nI mv), (nI oc), ph, (nI ni), ync, ycl, ysr, xin, ymk, yre, ydm, yid, yfr, ylv, yis, xph, xpa, xrs, yas, xfo, ycd, yfi, ypd, yps, xss, xtu, xcu, xou, yot, yrg, yrv) (nI o) v2 v3 v4 := by
    intro Q q1 q2
    refine br_t h0 (br_f zi_nlt (br_t hle (br_f (nI_ge hni (by omega)) (br_t (nI_lt (b := 40) (by omega) (by decide)) (y_isOpen hn YS (y_blocks YS B (zc_b (fun w => pk_lt nb mb (fun y => q2 (Or.inr y)) (fun y => q1 w (by omega))) (fun w => q2 (Or.inl w)))))))))
  have hYbad : ((decide (0 < ni) && decide (xop (ni - 1) < 9)) = true ∨ nb < mb) → ¬ em_G mb mv (nI o) v2 v3 v4 → wpY_emit (fun r' v' => r' = -5 ∧ i_Rel (k + 5) ((nI mb), (nI mi), (nI mv), (nI oc), ph, (nI ni), (nI nb), xrm, xnc, xcc, xsc, xpc, xop, xsx, xsy, xsz, xbo, xbf, xbe, xin, xee, xdm, xid, xfm, xgm, xkm, xlm, xnb, xnp, xnv, xph, xln, xpa, xrs, xax, xay, xaz, xfo, xsr, xso, xst, xco, xcx, xcy, xcz, xcb, xpd, xps, xss, xtu, xcu, xou, xot, xrg) v') ((nI mb), (nI mi), (nI mv), (nI oc), ph, (nI ni), ync, ycl, ysr, xin, ymk, yre, ydm, yid, yfr, ylv, yis, xph, xpa, xrs, yas, xfo, ycd, yfi, ypd, yps, xss, xtu, xcu, xou, yot, yrg, yrv) (nI o) v2 v3 v4 := by
    intro q1 q2
    refine hYpre (fun w1 w2 => ?_) (fun _ => y_e74 ho' (fun G => absurd G q2) (fun _ => ⟨rfl, zz_in R0⟩))
    rcases q1 with q1 | q1
    · rw [w1] at q1; exact absurd q1 (by decide)
    · exact absurd q1 w2
  refine x_blockIsOpen hn (zc_b (fun hop => pk_lt nb mb (fun hb => ?_) (fun hb => ?_)) (fun hop => ?_))
  · -- a new block
    have hop' : ¬ (0 < ni ∧ xop (ni - 1) < 9) := fun w => by
      rw [decide_eq_true w.1, decide_eq_true w.2] at hop; exact absurd hop (by decide)
    refine x_fag (fun G => br_f (by decide) ?_) (fun G => br_t rfl (hYbad (Or.inr hb) G))
    rw [hop]
    refine br_t rfl (zs_st nb (zn_1 ?_) (by omega))
    obtain ⟨B', ht⟩ := em_new (o := nI o) B (by omega) (by omega) hop'
    refine x_emit_108 (nb := nb + 1) (by omega) (by omega) (by omega) ?_
    refine hYpre (fun _ w => absurd hb w) (fun _ => y_e74 ho' (fun _ => y_e219 ho' (by omega) fun A a0 a1 a2 a3 a4 => ⟨rfl, zz_in ⟨nc, cc, _, _, rt, ⟨S1, S2, S3, S4, by omega, by omega, B', em_SV SV S1.2 S3.2 ho' G, em_YS YS a0 a1 a2 a3 a4, fun i hi => ?_, fun b hb' => ?_, fun b hb' => ?_⟩, Or.inl ?_, M⟩⟩) (fun w => absurd G w))
    · by_cases e : i = ni
      · rw [e, pk_us, ht]; rfl
      · rw [pk_un e, em_tc i (by omega)]; exact hbo i (by omega)
    · by_cases e : b = nb
      · rw [e, pk_us, if_pos rfl]
      · rw [pk_un e, if_neg e]; exact hbf b (by omega)
    · have e0 : nb + 1 - 1 = nb := by omega
      rw [e0]
      by_cases e : b = nb
      · rw [e, pk_us, if_pos rfl]
      · rw [pk_un e, if_neg e]; exact hbe b (by omega)
    · rcases H with H | ⟨H | H, _⟩
      · exact H
      · rw [h0] at H; exact absurd H.1 (by decide)
      · rw [h0] at H; exact absurd H.1 (by decide)
  · exact hYpre (fun _ _ => ⟨rfl, zz_in R0⟩) (fun w => by
      rcases w with w | w
      · rw [hop] at w; exact absurd w (by decide)
      · omega)
  · have hop' : 0 < ni ∧ xop (ni - 1) < 9 := by
      rw [Bool.and_eq_true, decide_eq_true_iff, decide_eq_true_iff] at hop; exact hop
    refine x_fag (fun G => br_f (by decide) ?_) (fun G => br_t rfl (hYbad (Or.inl hop) G))
    rw [hop]
    obtain ⟨B', ht, hnb1⟩ := em_open (o := nI o) B (by omega) hop'.1 hop'.2
    refine br_f (by decide) (x_emit_108 (by omega) hnb1 (by omega) ?_)
    refine hYpre (fun w _ => by rw [hop] at w; exact absurd w (by decide)) (fun _ => y_e74 ho' (fun _ => y_e219 ho' (by omega) fun A a0 a1 a2 a3 a4 => ⟨rfl, zz_in ⟨nc, cc, bf, _, rt, ⟨S1, S2, S3, S4, by omega, S6, B', em_SV SV S1.2 S3.2 ho' G, em_YS YS a0 a1 a2 a3 a4, fun i hi => ?_, hbf, fun b hb' => ?_⟩, Or.inl ?_, M⟩⟩) (fun w => absurd G w))
    · by_cases e : i = ni
      · rw [e, pk_us, ht]
      · rw [pk_un e, em_tc i (by omega)]; exact hbo i (by omega)
    · by_cases e : b = nb - 1
      · rw [e, pk_us, if_pos rfl]
      · rw [pk_un e, if_neg e]; exact hbe b hb'
    · rcases H with H | ⟨H | H, _⟩
      · exact H
      · rw [h0] at H; exact absurd H.1 (by decide)
      · rw [h0] at H; exact absurd H.1 (by decide)
end
section
/-! ===== clear, reopen, start, the constructors ===== -/
theorem mc_3v {a : Nat → Int32} {x : Int32} {f : Nat} (hf : f < 3) : mc_3 a x f = x := by
  unfold mc_3
  by_cases e2 : f = 2
  · rw [e2, pk_us]
  · rw [pk_un e2]
    by_cases e1 : f = 1
    · rw [e1, pk_us]
    · rw [pk_un e1]
      have : f = 0 := by omega
      rw [this, pk_us]
theorem rl_M_idle {oc : Nat} {ph : Int32} {rt xss xcu xou xot rg yot rg' : Nat → Int32} (h1 : ∀ j, j < 300 → rg j = 0) (h2 : ∀ j, j < 384 → rg' j = 0) : rl_M oc ph rt (mc_3 xss 0) (mc_3 xcu (-1)) (mc_3 xou 0) xot rg yot rg' := by
  intro f hf
  refine ⟨fun r hr => ?_, ⟨0, Nat.zero_le _, mc_3v hf, fun i hi => by omega⟩, fun w => ?_, fun _ => mc_3v hf⟩
  · rw [h1 _ (by omega), h2 _ (by omega)]
  · rw [mc_3v hf] at w; exact absurd w (by decide)
theorem rl_S_0 {mb mi mv oc : Nat} {bf be : Nat → Nat} {xop xsx xsy xsz xbo xbf xbe ysr : Nat → Int32} (h1 : 2 ≤ mb ∧ mb ≤ 10) (h2 : 4 ≤ mi ∧ mi ≤ 40) (h3 : 1 ≤ mv ∧ mv ≤ 6) (h4 : 1 ≤ oc ∧ oc ≤ 64) (hY : sc_YS ysr xop xsx xsy xsz) : rl_S mb mi mv oc 0 0 bf be xop xsx xsy xsz xbo xbf xbe ysr :=
  ⟨h1, h2, h3, h4, by omega, by omega, ⟨by omega, by omega, fun _ => rfl, fun w => by omega, fun b hb => by omega, fun b hb => by omega⟩, fun i hi => by omega, hY, fun i hi => by omega, fun b hb => by omega, fun b hb => by omega⟩
section
variable {mb mi mv oc ni nb : Nat} {ph xrm xnc xcc xsc xpc : Int32} {xop xsx xsy xsz xbo xbf xbe xin xee xdm xid xfm xgm xkm xlm xnb xnp xnv xph xln xpa xrs xax xay xaz xfo xsr xso xst xco xcx xcy xcz xcb xpd xps xss xtu xcu xou xot xrg : Nat → Int32}
theorem x_dropForms {post : SX → Prop} (h : ∀ rg : Nat → Int32, (∀ j, j < 300 → rg j = 0) → post ((nI mb), (nI mi), (nI mv), (nI oc), 0, (nI ni), (nI nb), 0, 0, 0, 0, xpc, xop, xsx, xsy, xsz, xbo, xbf, xbe, xin, xee, xdm, xid, xfm, xgm, xkm, xlm, xnb, xnp, xnv, xph, xln, xpa, xrs, xax, xay, xaz, xfo, xsr, xso, xst, xco, xcx, xcy, xcz, xcb, xpd, xps, mc_3 xss 0, mc_3 xtu 0, mc_3 xcu (-1), mc_3 xou 0, xot, rg)) : wpX_dropForms post ((nI mb), (nI mi), (nI mv), (nI oc), ph, (nI ni), (nI nb), xrm, xnc, xcc, xsc, xpc, xop, xsx, xsy, xsz, xbo, xbf, xbe, xin, xee, xdm, xid, xfm, xgm, xkm, xlm, xnb, xnp, xnv, xph, xln, xpa, xrs, xax, xay, xaz, xfo, xsr, xso, xst, xco, xcx, xcy, xcz, xcb, xpd, xps, xss, xtu, xcu, xou, xot, xrg) := by
  unfold wpX_dropForms
  exact x_idleAll fun rg hrg => h rg hrg
theorem x_clear {post : SX → Prop} (h : ∀ rg : Nat → Int32, (∀ j, j < 300 → rg j = 0) → post ((nI mb), (nI mi), (nI mv), (nI oc), 0, 0, 0, 0, 0, 0, 0, xpc, xop, xsx, xsy, xsz, xbo, xbf, xbe, zb_fl 6 0 xin, xee, xdm, xid, xfm, xgm, xkm, xlm, xnb, xnp, xnv, xph, xln, xpa, xrs, xax, xay, xaz, xfo, xsr, xso, xst, xco, xcx, xcy, xcz, xcb, xpd, xps, mc_3 xss 0, mc_3 xtu 0, mc_3 xcu (-1), mc_3 xou 0, xot, rg)) : wpX_clear post ((nI mb), (nI mi), (nI mv), (nI oc), ph, (nI ni), (nI nb), xrm, xnc, xcc, xsc, xpc, xop, xsx, xsy, xsz, xbo, xbf, xbe, xin, xee, xdm, xid, xfm, xgm, xkm, xlm, xnb, xnp, xnv, xph, xln, xpa, xrs, xax, xay, xaz, xfo, xsr, xso, xst, xco, xcx, xcy, xcz, xcb, xpd, xps, xss, xtu, xcu, xou, xot, xrg) := by
  refine loop_0 (fun n v (A : Nat → Int32) => wX_clear_12 post (nI mb) (nI mi) (nI mv) (nI oc) ph 0 0 xrm xnc xcc xsc xpc n (nI v) xop xsx xsy xsz xbo xbf xbe A xee xdm xid xfm xgm xkm xlm xnb xnp xnv xph xln xpa xrs xax xay xaz xfo xsr xso xst xco xcx xcy xcz xcb xpd xps xss xtu xcu xou xot xrg) (fun v A => A = zb_fl v 0 xin) 6 xin zb_fl_0.symm ?_ ?_
  · intro n A hA
    subst hA
    exact zc_ex (x_dropForms (ni := 0) (nb := 0) fun rg hrg => h rg hrg)
  · intro n v A hv hA ih
    refine zc_go hv (zs_st v (zn_1 (ih _ ?_)))
    rw [hA, zb_fl_s]
end
section
variable {mb mi mv oc ni : Nat} {ph ync ycl : Int32} {ysr yin ymk yre ydm yid yfr ylv yis yph yar yrs yas yfo ycd yfi ypd yps yss ytu ybl you yot yrg yrv : Nat → Int32}
theorem y_clear {post : SY → Prop} (h : ∀ ot rg : Nat → Int32, (∀ j, j < 384 → rg j = 0) → post ((nI mb), (nI mi), (nI mv), (nI oc), 0, 0, ync, ycl, ysr, zb_fl 6 0 yin, ymk, yre, ydm, yid, yfr, ylv, yis, yph, yar, yrs, yas, yfo, ycd, yfi, ypd, yps, mc_3 yss 0, mc_3 ytu 0, mc_3 ybl (-1), mc_3 you 0, ot, rg, yrv)) : wpY_clear post ((nI mb), (nI mi), (nI mv), (nI oc), ph, (nI ni), ync, ycl, ysr, yin, ymk, yre, ydm, yid, yfr, ylv, yis, yph, yar, yrs, yas, yfo, ycd, yfi, ypd, yps, yss, ytu, ybl, you, yot, yrg, yrv) := by
  refine loop_0 (fun n v (A : Nat → Int32) => wY_clear_12 post (nI mb) (nI mi) (nI mv) (nI oc) 0 0 ync ycl n (nI v) ysr A ymk yre ydm yid yfr ylv yis yph yar yrs yas yfo ycd yfi ypd yps yss ytu ybl you yot yrg yrv) (fun v A => A = zb_fl v 0 yin) 6 yin zb_fl_0.symm ?_ ?_
  · intro n A hA
    subst hA
    exact zc_ex (y_idleAll (ni := 0) fun ot rg hrg => h ot rg hrg)
  · intro n v A hv hA ih
    refine zc_go hv (zs_st v (zn_1 (ih _ ?_)))
    rw [hA, zb_fl_s]
end
theorem i_vc_clear {k : Nat} {u : SX} {v : SY} (I : i_Rel k u v) (hk : k + 5 ≤ 2564) : wpX_clear (fun u' => wpY_clear (fun v' => i_Rel (k + 5) u' v') v) u := by
  refine zz_el (Q := fun u v => wpX_clear (fun u' => wpY_clear (fun v' => i_Rel (k + 5) u' v') v) u) ?_ I
  rintro mb mi mv oc ni nb ph xrm xnc xcc xsc xpc ync ycl xop xsx xsy xsz xbo xbf xbe xin xee xdm xid xfm xgm xkm xlm xnb xnp xnv xph xln xpa xrs xax xay xaz xfo xsr xso xst xco xcx xcy xcz xcb xpd xps xss xtu xcu xou xot xrg ysr ymk yre ydm yid yfr ylv yis yas ycd yfi ypd yps yot yrg yrv ⟨nc, cc, bf, be, rt, S, H, M⟩
  obtain ⟨S1, S2, S3, S4, S5, S6, B, SV, YS, hbo, hbf, hbe⟩ := S
  exact x_clear fun rg hrg => y_clear fun ot rg' hrg' => zz_in (ni := 0) (nb := 0) ⟨nc, cc, bf, be, rt, rl_S_0 S1 S2 S3 S4 YS, Or.inl ⟨rfl, rfl, rfl, rfl⟩, rl_M_idle hrg hrg'⟩
theorem i_vc_reopen {k : Nat} {u : SX} {v : SY} (I : i_Rel k u v) (hk : k + 5 ≤ 2564) : wpX_reopen (fun r u' => wpY_reopen (fun r' v' => r' = r ∧ i_Rel (k + 5) u' v') v) u := by
  refine zz_el (Q := fun u v => wpX_reopen (fun r u' => wpY_reopen (fun r' v' => r' = r ∧ i_Rel (k + 5) u' v') v) u) ?_ I
  intro mb mi mv oc ni nb ph xrm xnc xcc xsc xpc ync ycl xop xsx xsy xsz xbo xbf xbe xin xee xdm xid xfm xgm xkm xlm xnb xnp xnv xph xln xpa xrs xax xay xaz xfo xsr xso xst xco xcx xcy xcz xcb xpd xps xss xtu xcu xou xot xrg ysr ymk yre ydm yid yfr ylv yis yas ycd yfi ypd yps yot yrg yrv R
  have R0 := R
  obtain ⟨nc, cc, bf, be, rt, S, H, M⟩ := R
  by_cases h0 : ph = 0
  · exact br_t h0 (br_t h0 ⟨rfl, zz_in R0⟩)
  · exact br_f h0 (x_dropForms fun rg hrg => br_f h0 (y_idleAll fun ot rg' hrg' => ⟨rfl, zz_in ⟨nc, cc, bf, be, rt, S, Or.inl ⟨rfl, rfl, rfl, rfl⟩, rl_M_idle hrg hrg'⟩⟩))
/-- the machine f starts -/
theorem rl_M_start {oc mv f : Nat} {ph : Int32} {rt xss xcu xou xot xrg yot yrg xin ot rg rg' : Nat → Int32} (M : rl_M oc ph rt xss xcu xou xot xrg yot yrg) (hoc : oc ≤ 64) (hf : f < 3) (hph : ¬ ph = 0) (h2 : f = 2 → ph = 2)
    (a1 : ∀ r, r < 100 → rg (f * 100 + r) = if r < mv then xin r else 0) (a2 : ∀ j, (j < f * 100 ∨ (f + 1) * 100 ≤ j) → rg j = xrg j)
    (b1 : ∀ r, r < 100 → rg' (f * 128 + r) = if r < mv then xin r else 0) (b2 : ∀ j, (j < f * 128 ∨ (f + 1) * 128 ≤ j) → rg' j = yrg j) (b3 : ∀ j, (j < f * 64 ∨ (f + 1) * 64 ≤ j) → ot j = yot j) :
    rl_M oc ph rt (upd xss f 1) (upd xcu f 0) (upd xou f 0) xot rg ot rg' := by
  intro g hg
  by_cases e : g = f
  · subst e
    rw [pk_us, pk_us, pk_us]
    exact ⟨fun r hr => by rw [a1 r hr, b1 r hr], ⟨0, Nat.zero_le _, rfl, fun i hi => by omega⟩, fun _ => ⟨hph, h2, 0, gr_rc_0, rfl⟩, fun w => absurd w hph⟩
  · rw [pk_un e, pk_un e, pk_un e]
    obtain ⟨m1, ⟨kk, m2, m3, m4⟩, m5, m6⟩ := M g hg
    refine ⟨fun r hr => ?_, ⟨kk, m2, m3, fun i hi => ?_⟩, m5, m6⟩
    · rw [a2 _ (by omega), b2 _ (by omega)]; exact m1 r hr
    · rw [m4 i hi, b3 _ (by omega)]
theorem i_vc_start {k : Nat} {u : SX} {v : SY} (I : i_Rel k u v) (hk : k + 5 ≤ 2564) : wpX_start (fun r u' => wpY_start (fun r' v' => r' = r ∧ i_Rel (k + 5) u' v') v) u := by
  refine zz_el (Q := fun u v => wpX_start (fun r u' => wpY_start (fun r' v' => r' = r ∧ i_Rel (k + 5) u' v') v) u) ?_ I
  intro mb mi mv oc ni nb ph xrm xnc xcc xsc xpc ync ycl xop xsx xsy xsz xbo xbf xbe xin xee xdm xid xfm xgm xkm xlm xnb xnp xnv xph xln xpa xrs xax xay xaz xfo xsr xso xst xco xcx xcy xcz xcb xpd xps xss xtu xcu xou xot xrg ysr ymk yre ydm yid yfr ylv yis yas ycd yfi ypd yps yot yrg yrv R
  have R0 := R
  obtain ⟨nc, cc, bf, be, rt, S, H, M⟩ := R
  have hmv := S.2.2.1.2
  have hoc := S.2.2.2.1.2
  by_cases h0 : ph = 0
  · exact br_t h0 (br_t h0 ⟨rfl, zz_in R0⟩)
  · refine br_f h0 (x_startMachine (f := 0) (by omega) hmv fun r0 a0 b0 => x_startMachine (f := 1) (by omega) hmv fun r1 a1 b1 => ?_)
    by_cases h2 : ph = 2
    · refine br_t h2 (x_startMachine (f := 2) (by omega) hmv fun r2 a2 b2 => br_f h0 (y_startMachine (f := 0) (by omega) hmv fun o0 s0 c0 d0 e0 => y_startMachine (f := 1) (by omega) hmv fun o1 s1 c1 d1 e1 => br_t h2 (y_startMachine (f := 2) (by omega) hmv fun o2 s2 c2 d2 e2 => ⟨rfl, zz_in ⟨nc, cc, bf, be, rt, S, H, ?_⟩⟩)))
      have M0 := rl_M_start M hoc (by omega) h0 (fun w => by omega) a0 b0 c0 d0 e0
      have M1 := rl_M_start M0 hoc (by omega) h0 (fun w => by omega) a1 b1 c1 d1 e1
      exact rl_M_start M1 hoc (by omega) h0 (fun w => h2) a2 b2 c2 d2 e2
    · refine br_f h2 (br_f h0 (y_startMachine (f := 0) (by omega) hmv fun o0 s0 c0 d0 e0 => y_startMachine (f := 1) (by omega) hmv fun o1 s1 c1 d1 e1 => br_f h2 ⟨rfl, zz_in ⟨nc, cc, bf, be, rt, S, H, ?_⟩⟩))
      have M0 := rl_M_start M hoc (by omega) h0 (fun w => by omega) a0 b0 c0 d0 e0
      exact rl_M_start M0 hoc (by omega) h0 (fun w => by omega) a1 b1 c1 d1 e1
def zz_cl (p a b : Int32) : Int32 := if a ≤ p then (if p ≤ b then p else b) else a
theorem zz_cl_n {p : Int32} {a b : Nat} (hab : a ≤ b) (hb : b < 2 ^ 31) : ∃ m, a ≤ m ∧ m ≤ b ∧ zz_cl p (nI a) (nI b) = nI m := by
  unfold zz_cl
  by_cases h1 : nI a ≤ p
  · rw [if_pos h1]
    by_cases h2 : p ≤ nI b
    · rw [if_pos h2]
      obtain ⟨j, hj, rfl⟩ := nI_of (zi_out (by omega) h1)
      exact ⟨j, (nI_leI (by omega) hj).mp h1, (nI_leI hj hb).mp h2, rfl⟩
    · rw [if_neg h2]; exact ⟨b, hab, Nat.le_refl _, rfl⟩
  · rw [if_neg h1]; exact ⟨a, Nat.le_refl _, hab, rfl⟩
theorem x_clamp {post : Int32 → Prop} {u : SX} {p a b : Int32} (h : post (zz_cl p a b)) : wpX_clamp post u p a b := by
  obtain ⟨_, _, _, _, _, _, _, _, _, _, _, _, _, _, _, _, _, _, _, _, _, _, _, _, _, _, _, _, _, _, _, _, _, _, _, _, _, _, _, _, _, _, _, _, _, _, _, _, _, _, _, _, _, _⟩ := u
  unfold zz_cl at h
  refine ⟨fun w => ⟨fun w' => ?_, fun w' => ?_⟩, fun w => ?_⟩
  · rw [if_pos w, if_pos w'] at h; exact h
  · rw [if_pos w, if_neg w'] at h; exact h
  · rw [if_neg w] at h; exact h
theorem y_clamp {post : Int32 → Prop} {u : SY} {p a b : Int32} (h : post (zz_cl p a b)) : wpY_clamp post u p a b := by
  obtain ⟨_, _, _, _, _, _, _, _, _, _, _, _, _, _, _, _, _, _, _, _, _, _, _, _, _, _, _, _, _, _, _, _, _⟩ := u
  unfold zz_cl at h
  refine ⟨fun w => ⟨fun w' => ?_, fun w' => ?_⟩, fun w => ?_⟩
  · rw [if_pos w, if_pos w'] at h; exact h
  · rw [if_pos w, if_neg w'] at h; exact h
  · rw [if_neg w] at h; exact h
theorem i_vc0 (k0 : Int32) (k1 : Int32) (k2 : Int32) (k3 : Int32) : wpX_init (fun u => wpY_init (fun v => i_Rel 4 u v) k0 k1 k2 k3) k0 k1 k2 k3 := by
  obtain ⟨mb, b1, b2, eb⟩ := zz_cl_n (p := k0) (a := 2) (b := 10) (by omega) (by omega)
  obtain ⟨mi, i1, i2, ei⟩ := zz_cl_n (p := k1) (a := 4) (b := 40) (by omega) (by omega)
  obtain ⟨mv, v1, v2, ev⟩ := zz_cl_n (p := k2) (a := 1) (b := 6) (by omega) (by omega)
  obtain ⟨oc, o1, o2, eo⟩ := zz_cl_n (p := k3) (a := 1) (b := 64) (by omega) (by omega)
  have eb' : zz_cl k0 2 10 = nI mb := eb
  have ei' : zz_cl k1 4 40 = nI mi := ei
  have ev' : zz_cl k2 1 6 = nI mv := ev
  have eo' : zz_cl k3 1 64 = nI oc := eo
  have ez : zb_fl 6 0 (fun _ => 0) = fun _ => 0 := by
    funext j
    by_cases w : j < 6
    · rw [zb_fl_t w]
    · rw [zb_fl_f w]
  unfold wpX_init
  refine x_clamp ?_
  rw [eb']
  refine x_clamp ?_
  rw [ei']
  refine x_clamp ?_
  rw [ev']
  refine x_clamp ?_
  rw [eo']
  refine x_clear (ni := 0) (nb := 0) fun rg hrg => ?_
  rw [ez]
  unfold wpY_init
  refine y_clamp ?_
  rw [eb']
  refine y_clamp ?_
  rw [ei']
  refine y_clamp ?_
  rw [ev']
  refine y_clamp ?_
  rw [eo']
  refine y_idleAll (ni := 0) fun ot rg' hrg' => zz_in (ni := 0) (nb := 0) ⟨0, 0, fun _ => 0, fun _ => 0, fun _ => 0, rl_S_0 ⟨b1, b2⟩ ⟨i1, i2⟩ ⟨v1, v2⟩ ⟨o1, o2⟩ (fun i hi => ⟨rfl, rfl, rfl, rfl⟩), Or.inl ⟨rfl, rfl, rfl, rfl⟩, rl_M_idle hrg hrg'⟩
end
section
/-! ===== construct: targets, and facts on names ===== -/
section
variable {mb mi mv oc ni nb : Nat} {ph xrm xnc xcc xsc xpc : Int32} {xop xsx xsy xsz xbo xbf xbe xin xee xdm xid xfm xgm xkm xlm xnb xnp xnv xph xln xpa xrs xax xay xaz xfo xsr xso xst xco xcx xcy xcz xcb xpd xps xss xtu xcu xou xot xrg : Nat → Int32}
theorem x_targetsExist {post : Int32 → Prop} (hn : ni ≤ 40) (h1 : sc_TG xop xsx xsy xsz ni nb → post 1) (h0 : ¬ sc_TG xop xsx xsy xsz ni nb → post 0) : wpX_targetsExist post ((nI mb), (nI mi), (nI mv), (nI oc), ph, (nI ni), (nI nb), xrm, xnc, xcc, xsc, xpc, xop, xsx, xsy, xsz, xbo, xbf, xbe, xin, xee, xdm, xid, xfm, xgm, xkm, xlm, xnb, xnp, xnv, xph, xln, xpa, xrs, xax, xay, xaz, xfo, xsr, xso, xst, xco, xcx, xcy, xcz, xcb, xpd, xps, xss, xtu, xcu, xou, xot, xrg) := by
  refine loop_0 (fun n i (_ : Unit) => wX_targetsExist_2 post (nI mb) (nI mi) (nI mv) (nI oc) ph (nI ni) (nI nb) xrm xnc xcc xsc xpc xop xsx xsy xsz xbo xbf xbe xin xee xdm xid xfm xgm xkm xlm xnb xnp xnv xph xln xpa xrs xax xay xaz xfo xsr xso xst xco xcx xcy xcz xcb xpd xps xss xtu xcu xou xot xrg n (nI i)) (fun i _ => sc_TG xop xsx xsy xsz i nb) ni () (fun i hi => by omega) ?_ ?_
  · intro n _ hI
    exact zc_ex (h1 hI)
  · intro n i _ hi hI ih
    have hv : vp_in (nI i) 40 := pk_in i 40 (by omega)
    have st36 : (xop i = 9 → xsx i < nI nb) → wX_targetsExist_36 post (wX_targetsExist_2 post (nI mb) (nI mi) (nI mv) (nI oc) ph (nI ni) (nI nb) xrm xnc xcc xsc xpc xop xsx xsy xsz xbo xbf xbe xin xee xdm xid xfm xgm xkm xlm xnb xnp xnv xph xln xpa xrs xax xay xaz xfo xsr xso xst xco xcx xcy xcz xcb xpd xps xss xtu xcu xou xot xrg n) (nI i) (nI mb) (nI mi) (nI mv) (nI oc) ph (nI ni) (nI nb) xrm xnc xcc xsc xpc xop xsx xsy xsz xbo xbf xbe xin xee xdm xid xfm xgm xkm xlm xnb xnp xnv xph xln xpa xrs xax xay xaz xfo xsr xso xst xco xcx xcy xcz xcb xpd xps xss xtu xcu xou xot xrg := by
      intro f1
      refine ⟨hv, zc_eq i (fun q => ⟨hv, zc_ge i (fun w => h0 (fun T => ?_)) (fun w => ⟨hv, zc_lt i (fun w' => zn_1 (ih () fun j hj => ?_)) (fun w' => h0 (fun T => w' ((T i hi).2 q).2))⟩)⟩) (fun q => zn_1 (ih () fun j hj => ?_))⟩
      · exact Int32.not_le.mpr ((T i hi).2 q).1 w
      · by_cases e : j = i
        · rw [e]; exact ⟨f1, fun _ => ⟨Int32.not_le.mp w, w'⟩⟩
        · exact hI j (by omega)
      · by_cases e : j = i
        · rw [e]; exact ⟨f1, fun z => absurd z q⟩
        · exact hI j (by omega)
    exact zc_go hi ⟨hv, zc_eq i (fun q => ⟨hv, zc_lt i (fun w => st36 (fun _ => w)) (fun w => h0 (fun T => w ((T i hi).1 q)))⟩) (fun q => st36 (fun z => absurd z q))⟩
end
theorem sc_TG_iff {n nb : Nat} {op fx fy fz : Nat → Int32} {bf be : Nat → Nat} (B : sc_BL op n nb bf be) (C : sc_CL op n) : sc_TG op fx fy fz n nb ↔ ∀ e, e < 20 → sc_rt op fx fy fz nb be e < nI nb := by
  have h10 := B.2.1
  have hp := (B.2.2.2.1 C.1).1
  have hm : (-1 : Int32) < nI nb := Int32.lt_of_lt_of_le (by decide) (nI_pos' (by omega))
  constructor
  · intro T e he
    unfold sc_rt
    by_cases hb : e / 2 < nb
    · rw [if_pos hb]
      have h1 := sc_be_le B _ hb
      have h2 := (B.2.2.2.2.2 _ hb).1
      have hT := T (be (e / 2) - 1) (by omega)
      by_cases h9 : op (be (e / 2) - 1) = 9
      · rw [if_pos h9]
        split
        · exact hT.1 h9
        · exact hm
      · rw [if_neg h9]
        by_cases h0 : op (be (e / 2) - 1) = 10
        · rw [if_pos h0]
          split
          · exact (hT.2 h0).1
          · exact (hT.2 h0).2
        · rw [if_neg h0]; exact hm
    · rw [if_neg hb]; exact hm
  · intro h i hi
    obtain ⟨l1, l2, l3⟩ := sc_loc B i hi
    have key : ¬ op i < 9 → be (sc_tc op i) - 1 = i := by
      intro w
      rcases Nat.lt_or_ge (i + 1) (be (sc_tc op i)) with y | y
      · exact absurd ((B.2.2.2.2.2 _ l1).2 i l2 y) w
      · omega
    have e0 : (2 * sc_tc op i) / 2 = sc_tc op i := by omega
    have e1 : (2 * sc_tc op i + 1) / 2 = sc_tc op i := by omega
    have f0 : (2 * sc_tc op i) % 2 = 0 := by omega
    have f1 : ¬ (2 * sc_tc op i + 1) % 2 = 0 := by omega
    refine ⟨fun h9 => ?_, fun h0 => ?_⟩
    · have k1 := key (by rw [h9]; decide)
      have := h (2 * sc_tc op i) (by omega)
      unfold sc_rt at this
      rw [e0, if_pos l1, k1, if_pos h9, if_pos f0] at this
      exact this
    · have k1 := key (by rw [h0]; decide)
      have a := h (2 * sc_tc op i) (by omega)
      have b := h (2 * sc_tc op i + 1) (by omega)
      unfold sc_rt at a b
      have n9 : ¬ op i = 9 := by rw [h0]; decide
      rw [e0, if_pos l1, k1, if_neg n9, if_pos h0, if_pos f0] at a
      rw [e1, if_pos l1, k1, if_neg n9, if_pos h0, if_neg f1] at b
      exact ⟨a, b⟩
section
variable {mb mi mv oc ni : Nat} {ph ync ycl : Int32} {ysr yin ymk yre ydm yid yfr ylv yis yph yar yrs yas yfo ycd yfi ypd yps yss ytu ybl you yot yrg yrv : Nat → Int32} {op fx fy fz : Nat → Int32} {nb : Nat} {bf be : Nat → Nat}
theorem y_cons36 {post : Int32 → SY → Prop} (hs : sc_YS ysr op fx fy fz) (B : sc_BL op ni nb bf be) (C : sc_CL op ni)
    (h1 : sc_TG op fx fy fz ni nb → ∀ n, wY_construct_36 post (nI nb) (nI mb) (nI mi) (nI mv) (nI oc) ph (nI ni) ync ycl ysr yin ymk yre ydm yid yfr ylv yis yph yar yrs yas yfo ycd yfi ypd yps yss ytu ybl you yot yrg yrv (n + 1) (nI 20)) (h0 : ¬ sc_TG op fx fy fz ni nb → post (-8) ((nI mb), (nI mi), (nI mv), (nI oc), ph, (nI ni), ync, ycl, ysr, yin, ymk, yre, ydm, yid, yfr, ylv, yis, yph, yar, yrs, yas, yfo, ycd, yfi, ypd, yps, yss, ytu, ybl, you, yot, yrg, yrv)) : ∃ n : Nat, wY_construct_36 post (nI nb) (nI mb) (nI mi) (nI mv) (nI oc) ph (nI ni) ync ycl ysr yin ymk yre ydm yid yfr ylv yis yph yar yrs yas yfo ycd yfi ypd yps yss ytu ybl you yot yrg yrv n 0 := by
  refine loop_0 (fun n e (_ : Unit) => wY_construct_36 post (nI nb) (nI mb) (nI mi) (nI mv) (nI oc) ph (nI ni) ync ycl ysr yin ymk yre ydm yid yfr ylv yis yph yar yrs yas yfo ycd yfi ypd yps yss ytu ybl you yot yrg yrv n (nI e)) (fun e _ => ∀ e', e' < e → sc_rt op fx fy fz nb be e' < nI nb) 20 () (fun e' he' => by omega) ?_ ?_
  · intro n _ hI
    exact h1 ((sc_TG_iff B C).mpr hI) n
  · intro n e _ he hI ih
    refine zc_go he (y_rawTarget hs B C he ⟨fun w => zn_1 (ih () fun e' he' => ?_), fun w => h0 (fun T => w ((sc_TG_iff B C).mp T e he))⟩)
    by_cases y : e' = e
    · rw [y]; exact w
    · exact hI e' (by omega)
end
/-- names are in range -/
theorem nu_ld_r {op fx R : Nat → Int32} {v : Int32} {lo nc : Nat} : ∀ {k : Nat}, (∀ j, lo ≤ j → j < lo + k → R j = -1 ∨ ∃ q, q < nc ∧ R j = nI q) → nu_ld op fx R v lo k < 0 ∨ ∃ q, q < nc ∧ nu_ld op fx R v lo k = nI q
  | 0, _ => Or.inl (show (-1 : Int32) < 0 by decide)
  | k + 1, h => by
    simp only [nu_ld]
    by_cases w : sc_de op fx (lo + k) v = true
    · rw [if_pos w]
      rcases h (lo + k) (by omega) (by omega) with y | y
      · rw [y]; exact Or.inl (by decide)
      · exact Or.inr y
    · rw [if_neg w]; exact nu_ld_r (fun j h1 h2 => h j h1 (by omega))
theorem nu_E_r {ln P id : Nat → Int32} {v nc : Nat} (hv : v < nc) (hid : ∀ b, b < 10 → id b = -1 ∨ ∃ a, a < 10 ∧ id b = nI a) (hl : ∀ b, b < 10 → ln (b * 6 + v) < 0 ∨ ∃ q, q < nc ∧ ln (b * 6 + v) = nI q) (hP : ∀ b, b < 10 → P (b * 6 + v) < 0 ∨ ∃ q, q < nc ∧ P (b * 6 + v) = nI q) :
    ∀ k b, b < 10 → ∃ q, q < nc ∧ nu_E ln P id v k b = nI q
  | 0, _, _ => ⟨v, hv, rfl⟩
  | k + 1, b, hb => by
    simp only [nu_E]
    by_cases w : ln (b * 6 + v) < 0
    · rw [if_pos w]
      by_cases w' : P (b * 6 + v) < 0
      · rw [if_pos w']
        rcases hid b hb with z | ⟨a, ha, z⟩
        · rw [z, if_pos (by decide)]; exact ⟨v, hv, rfl⟩
        · rw [z, if_neg zi_nlt, nI_clamp (by omega)]; exact nu_E_r hv hid hl hP k a ha
      · rw [if_neg w']; exact (hP b hb).resolve_left w'
    · rw [if_neg w]; exact (hl b hb).resolve_left w
theorem nu_E_id {ln P id id' : Nat → Int32} {v : Nat} (hid : ∀ b, b < 10 → id b = -1 ∨ ∃ a, a < 10 ∧ id b = nI a) (he : ∀ b, b < 10 → id' b = id b) : ∀ k b, b < 10 → nu_E ln P id' v k b = nu_E ln P id v k b
  | 0, _, _ => rfl
  | k + 1, b, hb => by
    simp only [nu_E]
    rw [he b hb]
    rcases hid b hb with z | ⟨a, ha, z⟩
    · rw [z, if_pos (show (-1 : Int32) < 0 by decide), if_pos (show (-1 : Int32) < 0 by decide)]
    · rw [z, if_neg zi_nlt, if_neg zi_nlt, nI_clamp (by omega), nu_E_id hid he k a ha]
theorem nu_nm_id {op fx R ln P id id' : Nat → Int32} {lo v b i : Nat} (hid : ∀ b, b < 10 → id b = -1 ∨ ∃ a, a < 10 ∧ id b = nI a) (he : ∀ b, b < 10 → id' b = id b) (hb : b < 10) : nu_nm op fx R ln P id' lo v b i = nu_nm op fx R ln P id lo v b i := by
  unfold nu_nm nu_S
  rw [he b hb]
  rcases hid b hb with z | ⟨a, ha, z⟩
  · rw [z, if_pos (show (-1 : Int32) < 0 by decide), if_pos (show (-1 : Int32) < 0 by decide)]
  · rw [z, if_neg zi_nlt, if_neg zi_nlt, nI_clamp (by omega), nu_E_id hid he 10 a ha]
theorem nu_pa_id {rt ln P id id' f : Nat → Int32} {K : Nat} (hid : ∀ b, b < 10 → id b = -1 ∨ ∃ a, a < 10 ∧ id b = nI a) (he : ∀ b, b < 10 → id' b = id b) : nu_pa rt ln P id' f K = nu_pa rt ln P id f K := by
  funext j
  by_cases w : j < 120
  · by_cases y : j < K ∧ nu_pc rt P j
    · rw [nu_pa_t w y.1 y.2, nu_pa_t w y.1 y.2, nu_E_id hid he 10 _ (by omega)]
    · rw [nu_pa_f w y, nu_pa_f w y]
  · rw [nu_pa_o w, nu_pa_o w]
theorem nu_nm_r {op fx R ln P id : Nat → Int32} {lo v b i nc : Nat} (hnc : nc ≤ 96) (hv : v < nc) (hb : b < 10) (hid : ∀ b, b < 10 → id b = -1 ∨ ∃ a, a < 10 ∧ id b = nI a) (hl : ∀ b, b < 10 → ln (b * 6 + v) < 0 ∨ ∃ q, q < nc ∧ ln (b * 6 + v) = nI q) (hP : ∀ b, b < 10 → P (b * 6 + v) < 0 ∨ ∃ q, q < nc ∧ P (b * 6 + v) = nI q)
    (hR : ∀ j, lo ≤ j → j < lo + (i - lo) → R j = -1 ∨ ∃ q, q < nc ∧ R j = nI q) : ∃ q, q < nc ∧ nu_nm op fx R ln P id lo v b i = nI q := by
  unfold nu_nm
  rcases nu_ld_r (op := op) (fx := fx) (v := nI v) hR with w | ⟨q, hq, w⟩
  · rw [if_pos w]
    unfold nu_S
    by_cases w' : P (b * 6 + v) < 0
    · rw [if_pos w']
      by_cases e : b = 0
      · rw [if_pos e]; exact ⟨v, hv, rfl⟩
      · rw [if_neg e]
        rcases hid b hb with z | ⟨a, ha, z⟩
        · rw [z, if_pos (by decide)]; exact ⟨v, hv, rfl⟩
        · rw [z, if_neg zi_nlt, nI_clamp (by omega)]; exact nu_E_r hv hid hl hP 10 a ha
    · rw [if_neg w']; exact (hP b hb).resolve_left w'
  · rw [w, if_neg zi_nlt]; exact ⟨q, hq, rfl⟩
theorem gr_LV_rc {rt : Nat → Int32} {ue df : Nat → Bool} {b : Nat} (h : gr_LV rt ue df b) : gr_rc rt b = true := h (fun b => gr_rc rt b = true) (fun _ _ w _ => w) (fun _ _ _ w _ _ _ => w)
theorem sc_us_v {mb mv n : Nat} {op fx fy fz : Nat → Int32} (S : sc_SV mb mv n op fx fy fz) (hmv : mv ≤ 6) {i v : Nat} (hi : i < n) (hv : v < 32) (h : sc_us op fx fy fz i (nI v) = true) : v < mv := by
  obtain ⟨_, s2, s3, s4, _⟩ := S i hi
  unfold sc_us at h
  simp only [Bool.or_eq_true, Bool.and_eq_true, decide_eq_true_iff] at h
  rcases h with ⟨a, b⟩ | ⟨a, b⟩ | ⟨a, b⟩
  · obtain ⟨x, x1, x2⟩ := s2 (Or.inr a)
    have := zi_inj (x2.symm.trans b); omega
  · obtain ⟨x, x1, x2⟩ := s3 a
    have := zi_inj (x2.symm.trans b); omega
  · obtain ⟨x, x1, x2⟩ := s4 a
    have := zi_inj (x2.symm.trans b); omega
/-- the SSA form is in order -/
theorem nu_O {mb mv ni nb nc : Nat} {rt op fx fy fz R ln P id id' A1 A2 A3 yas nB nP nV : Nat → Int32} {bf be : Nat → Nat} (B : sc_BL op ni nb bf be) (S : sc_SV mb mv ni op fx fy fz) (hmv : mv ≤ 6) (N : nu_N rt op fx mv ni 60 ni nc P R nB nP nV) (hnc : nc ≤ 96)
    (hL : nu_L rt op fx bf be nb R ln) (hid : ∀ b, b < 10 → id b = -1 ∨ ∃ a, a < 10 ∧ id b = nI a) (he : ∀ b, b < 10 → id' b = id b)
    (T : nu_T rt op fx fy fz R ln P id bf ni A1 A2 A3) (Y : ys_T rt op fx fy fz R P id' ln bf ni yas) : rl_O ni nc rt op fx fy fz R A1 A2 A3 yas := by
  intro i hi hr
  have hn := B.1
  have h10 := B.2.1
  obtain ⟨l1, l2, l3⟩ := sc_loc B i hi
  obtain ⟨t1, t2, t3⟩ := T i hi hr
  obtain ⟨y0, y1⟩ := Y i hi
  obtain ⟨y1, y2, y3⟩ := y1 hr
  have es : nu_sr op fx R ln P id' bf i = nu_sr op fx R ln P id bf i := by
    funext v
    unfold nu_sr
    exact nu_nm_id hid he (by omega)
  rw [es] at y1 y2 y3
  obtain ⟨n1, n2, n3, n4, n5, n6, n7, n8, n9⟩ := N
  have hR : ∀ j, j < 40 → R j = -1 ∨ ∃ q, q < nc ∧ R j = nI q := by
    intro j hj
    rcases n5 j hj with w | ⟨_, _, _, _, q, _, q2, q3, _⟩
    · exact Or.inl w
    · exact Or.inr ⟨q, q2, q3⟩
  have hP : ∀ v, v < 6 → ∀ b, b < 10 → P (b * 6 + v) < 0 ∨ ∃ q, q < nc ∧ P (b * 6 + v) = nI q := by
    intro v hv b hb
    rcases n4 (b * 6 + v) (by omega) with w | w | ⟨_, q, _, q2, q3, _⟩
    · rw [w]; exact Or.inl (by decide)
    · omega
    · exact Or.inr ⟨q, q2, q3⟩
  have hl : ∀ v, v < 6 → ∀ b, b < 10 → ln (b * 6 + v) < 0 ∨ ∃ q, q < nc ∧ ln (b * 6 + v) = nI q := by
    intro v hv b hb
    rw [hL b hb v hv]
    by_cases w : b < nb ∧ gr_rc rt b = true
    · rw [if_pos w]
      have := sc_be_le B b w.1
      exact nu_ld_r (fun j w1 w2 => hR j (by omega))
    · rw [if_neg w]; exact Or.inl (by decide)
  have hsr : ∀ v, v < mv → ∃ q, q < nc ∧ nu_sr op fx R ln P id bf i v = nI q := fun v hv =>
    nu_nm_r hnc (by omega) (by omega) hid (hl v (by omega)) (hP v (by omega)) (fun j w1 w2 => hR j (by omega))
  obtain ⟨s1, s2, s3, s4, _⟩ := S i hi
  obtain ⟨o1, o2, o3, o4, o5, o6⟩ := sc_opf s1
  refine ⟨⟨y0, y1.trans t1.symm, y2.trans t2.symm, y3.trans t3.symm⟩, fun w => ?_, fun w => ?_, fun w => ?_, fun w => ?_, fun w => ?_, fun w => ⟨?_, ?_⟩⟩
  · rw [t1]; unfold nu_A1; rw [if_pos w]
  · obtain ⟨x, x1, x2⟩ := s2 (Or.inr w)
    have hd : ¬ sc_df (op i) = true := fun z => by rw [o3 z] at w; exact absurd w (by decide)
    rw [t1]; unfold nu_A1; rw [if_neg hd, if_pos w, x2, nI_clamp (by omega)]; exact hsr x x1
  · obtain ⟨x, x1, x2⟩ := s3 w
    rw [t2]; unfold nu_A2; rw [if_pos w, x2, nI_clamp (by omega)]; exact hsr x x1
  · obtain ⟨x, x1, x2⟩ := s4 w
    rw [t3]; unfold nu_A3; rw [if_pos w, x2, nI_clamp (by omega)]; exact hsr x x1
  · rw [t1]; unfold nu_A1; rw [w]; rfl
  · rw [t2]; unfold nu_A2; rw [w]; rfl
  · rw [t3]; unfold nu_A3; rw [w]; rfl
theorem nu_PA {mv ni nb nc : Nat} {rt op fx R ln P id f nB nP nV : Nat → Int32} {bf be : Nat → Nat} (B : sc_BL op ni nb bf be) (hmv : mv ≤ 6) (N : nu_N rt op fx mv ni 60 ni nc P R nB nP nV) (hnc : nc ≤ 96)
    (hL : nu_L rt op fx bf be nb R ln) (hid : ∀ b, b < 10 → id b = -1 ∨ ∃ a, a < 10 ∧ id b = nI a) : rl_P nc rt P (nu_pa rt ln P id f 120) := by
  have hn := B.1
  obtain ⟨n1, n2, n3, n4, n5, n6, n7, n8, n9⟩ := N
  intro j hj
  by_cases w : nu_pc rt P j
  · refine Or.inl ⟨w, ?_⟩
    rw [nu_pa_t hj hj w]
    obtain ⟨t, ht, _, hp⟩ := w
    have e : (t * 6 + j % 6) % 6 = j % 6 := by omega
    have hv : j % 6 < mv := by
      rcases n9 (t * 6 + j % 6) (by omega) with y | y
      · rw [y] at hp; exact absurd (by decide) hp
      · rw [e] at y; exact y.1
    refine nu_E_r (by omega) hid (fun b hb => ?_) (fun b hb => ?_) 10 _ (by omega)
    · rw [hL b hb _ (by omega)]
      by_cases w : b < nb ∧ gr_rc rt b = true
      · rw [if_pos w]
        have := sc_be_le B b w.1
        refine nu_ld_r (fun i w1 w2 => ?_)
        rcases n5 i (by omega) with y | ⟨_, _, _, _, q, _, q2, q3, _⟩
        · exact Or.inl y
        · exact Or.inr ⟨q, q2, q3⟩
      · rw [if_neg w]; exact Or.inl (by decide)
    · rcases n4 (b * 6 + j % 6) (by omega) with w | w | ⟨_, q, _, q2, q3, _⟩
      · rw [w]; exact Or.inl (by decide)
      · omega
      · exact Or.inr ⟨q, q2, q3⟩
  · exact Or.inr ⟨w, nu_pa_f hj (fun y => w y.2)⟩
end
section
/-! ===== construct ===== -/
theorem gr_id_r {rt : Nat → Int32} {b : Nat} : gr_id rt b = -1 ∨ ∃ a, a < 10 ∧ gr_id rt b = nI a := by
  rcases gr_id_or (rt := rt) (b := b) with w | ⟨a, ha, _, w⟩
  · exact Or.inl w
  · exact Or.inr ⟨a, ha, w⟩
theorem nu_N_R {rt op fx : Nat → Int32} {mv ni c : Nat} {P R nB nP nV : Nat → Int32} (hn : ni ≤ 40) (hc : c ≤ 96) (N : nu_N rt op fx mv ni 60 ni c P R nB nP nV) : ∀ i, i < ni → gr_rc rt (sc_tc op i) = true → sc_df (op i) = true → ¬ R i < 0 := by
  intro i hi h1 h2
  obtain ⟨n1, n2, n3, n4, n5, n6, n7, n8, n9⟩ := N
  rcases n5 i (by omega) with w | ⟨_, _, _, _, q, _, q2, q3, _⟩
  · exact absurd w (n6 i hi hi h1 h2)
  · rw [q3]; exact zi_nlt
theorem i_vc_construct {k : Nat} {u : SX} {v : SY} (I : i_Rel k u v) (hk : k + 5 ≤ 2564) : wpX_construct (fun r u' => wpY_construct (fun r' v' => r' = r ∧ i_Rel (k + 5) u' v') v) u := by
  refine zz_el (Q := fun u v => wpX_construct (fun r u' => wpY_construct (fun r' v' => r' = r ∧ i_Rel (k + 5) u' v') v) u) ?_ I
  intro mb mi mv oc ni nb ph xrm xnc xcc xsc xpc ync ycl xop xsx xsy xsz xbo xbf xbe xin xee xdm xid xfm xgm xkm xlm xnb xnp xnv xph xln xpa xrs xax xay xaz xfo xsr xso xst xco xcx xcy xcz xcb xpd xps xss xtu xcu xou xot xrg ysr ymk yre ydm yid yfr ylv yis yas ycd yfi ypd yps yot yrg yrv R0
  have R1 := R0
  obtain ⟨nc0, cc0, bf, be, rt0, S, H, M⟩ := R0
  obtain ⟨S1, S2, S3, S4, S5, S6, B, SV, YS, hbo, hbf, hbe⟩ := S
  have hn := B.1
  have h10 := B.2.1
  by_cases h0 : ph = 0
  rotate_left
  · exact br_f h0 (br_f h0 ⟨rfl, zz_in R1⟩)
  refine br_t h0 (pk_eq ni 0 (fun e => ?_) (fun e => ?_))
  · exact br_t h0 (pk_eq ni 0 (fun _ => ⟨rfl, zz_in R1⟩) (fun w => absurd e w))
  have hYpre : ∀ {Q : Int32 → SY → Prop}, ((decide (0 < ni) && decide (xop (ni - 1) < 9)) = true → Q (-7) ((nI mb), (nI mi), (nI mv), (nI oc), ph, (nI ni), ync, ycl, ysr, xin, ymk, yre, ydm, yid, yfr, ylv, yis, xph, xpa, xrs, yas, xfo, ycd, yfi, ypd, yps, xss, xtu, xcu, xou, yot, yrg, yrv)) → ((decide (0 < ni) && decide (xop (ni - 1) < 9)) = false → ∃ n : Nat, wY_construct_36 Q (nI nb) (nI mb) (nI mi) (nI mv) (nI oc) ph (nI ni) ync ycl ysr xin ymk yre ydm yid yfr ylv yis xph xpa xrs yas xfo ycd yfi ypd yps xss xtu xcu xou yot yrg yrv n 0) → wpY_construct Q ((nI mb), (nI mi), (nI mv), (nI oc), ph, (nI ni), ync, ycl, ysr, xin, ymk, yre, ydm, yid, yfr, ylv, yis, xph, xpa, xrs, yas, xfo, ycd, yfi, ypd, yps, xss, xtu, xcu, xou, yot, yrg, yrv) := by
    intro Q q1 q2
    exact br_t h0 (pk_eq ni 0 (fun w => absurd w e) (fun _ => y_isOpen hn YS (zc_b (fun w => y_blocks YS B (q2 w)) (fun w => q1 w))))
  refine x_blockIsOpen hn (zc_b (fun hop => ?_) (fun hop => hYpre (fun _ => ⟨rfl, zz_in R1⟩) (fun w => by rw [hop] at w; exact absurd w (by decide))))
  have hni : 0 < ni := by omega
  have C : sc_CL xop ni := by
    refine ⟨hni, fun w => ?_⟩
    rw [decide_eq_true hni, decide_eq_true w] at hop; exact absurd hop (by decide)
  refine x_targetsExist hn (fun T => br_f (by decide) ?_) (fun T => br_t rfl (hYpre (fun w => by rw [hop] at w; exact absurd w (by decide)) (fun _ => y_cons36 YS B C (fun T' => absurd T' T) (fun _ => ⟨rfl, zz_in R1⟩))))
  obtain ⟨rt, hrt⟩ : ∃ rt, rt = sc_rt xop xsx xsy xsz nb be := ⟨_, rfl⟩
  have V : gr_V rt nb := by rw [hrt]; exact sc_V B C SV S1.2 T
  obtain ⟨U, hU⟩ : ∃ U : Nat → Nat → Bool, U = fun v b => sc_ue xop xsx xsy xsz (bf b) (be b) (nI v) := ⟨_, rfl⟩
  obtain ⟨D, hD⟩ : ∃ D : Nat → Nat → Bool, D = fun v b => sc_dd xop xsx (bf b) (be b) (nI v) := ⟨_, rfl⟩
  have hV : ∀ v b, v < 32 → gr_LV rt (U v) (D v) b → v < 6 := by
    intro v b hv hl
    obtain ⟨c, hc, _, hcr, hu⟩ := gr_LV_iff.mp hl
    have hcl := gr_rc_lt V hcr
    rw [hU] at hu
    obtain ⟨j, j1, j2, j3, _⟩ := zb_dt.mp hu
    have := sc_be_le B c hcl
    have := sc_us_v SV S3.2 (by omega) hv j3
    omega
  refine x_findReachable B hbe hrt V fun rm hrm => x_findEdges B hbe hrt V hrm fun E hE => x_findDominators V hrm hE fun Dm Id hDm hId => x_findFrontiers V hE hDm fun F hF => x_findLive V hE hrm B hbf hbe S3.2 SV hU hD hV fun L G K hL hK => x_placePhis V S3.2 hK hF hL fun ln0 hln0 => ?_
  have hid : ∀ b, b < 10 → Id b = -1 ∨ ∃ a, a < 10 ∧ Id b = nI a := fun b hb => by rw [hId b hb]; exact gr_id_r
  refine x_giveNames B C hbf hbe S3.1 S3.2 SV V hrm (fun j hj => ?_) hln0 fun c P R nB nP nV ln hXn N hc hln => ?_
  · by_cases w : xp_W rt U D mv j
    · exact Or.inr ⟨xp_t hj w, w.1, (gr_IF_lt V w.2.1).2.2⟩
    · exact Or.inl (xp_f hj w)
  refine x_renameInstructions B hbf hbe S3.2 SV V hrm hid (nu_N_R hn hc N) fun A1 A2 A3 sr hT => x_fillPhiArguments S3.2 V hE hid (fun j hj w => ?_) (x_idleAll fun rg hrg => ?_)
  · rcases N.2.2.2.2.2.2.2.2 j hj with y | y
    · rw [y] at w; exact absurd (by decide) w
    · exact y.1
  -- the reference
  refine hYpre (fun w => by rw [hop] at w; exact absurd w (by decide)) (fun _ => y_cons36 YS B C (fun _ n => ?_) (fun T' => absurd T T'))
  refine zc_ex (N := 20) (y_analyse YS B C SV S3.2 hrt V hU hD fun M' Re Dy Iy Fy Ly hRe hDy hIy hFy hLy => ?_)
  refine y_mk_phi (D := D) (U := U) YS B SV V S3.2 hRe hFy hD hLy fun Mi => y_mk_num YS B V S3.2 hRe (fun j hj w => ?_) fun c' P' R' hYn => ?_
  · rw [xp_f hj (fun y => by have := y.1; omega)]; decide
  have hsame : (c', P', R') = (c, P, R) := hYn.trans hXn.symm
  injection hsame with e1 e2
  injection e2 with e2 e3
  subst e1 e2 e3
  have heq : ∀ b, b < 10 → Iy b = Id b := fun b hb => (hIy b hb).trans (hId b hb).symm
  refine y_mk_ssa (ln := ln) YS B C S3.2 SV V hRe hIy (fun i hi => zb_fl_t hi) hln (nu_N_R hn hc N) fun A hA => y_mk_arg YS B C SV hrt V hRe hIy hln (nu_N_R hn hc N) ?_
  rw [nu_pa_id hid heq]
  refine y_idleAll fun ot rg' hrg' => ⟨rfl, zz_in ⟨c', 0, bf, be, rt, ⟨S1, S2, S3, S4, S5, S6, B, SV, YS, hbo, hbf, hbe⟩, Or.inr ⟨Or.inl ⟨rfl, ?_⟩, rfl, rfl, ⟨C, hrt, V, hrm, hRe, hE, hDm, hDy, hId, hIy, hF, hFy, fun b hb v hv => ⟨fun w => ?_, fun w => ?_⟩⟩, N, hc, nu_O B SV S3.2 N hc hln hid heq hT hA, nu_PA B S3.2 N hc hln hid, fun i hi => Or.inl (zb_fl_t hi)⟩, rl_M_idle hrg hrg'⟩⟩
  · rcases H with H | ⟨H | H, _⟩
    · exact H.2.2
    · rw [h0] at H; exact absurd H.1 (by decide)
    · rw [h0] at H; exact absurd H.1 (by decide)
  · rw [hLy b hb v hv w, hL b hb v (by omega)]
  · rw [hL b hb v (by omega), zb_df]
    intro y
    rw [gr_LV_rc y] at w; exact absurd w (by decide)
end
section
/-! ===== folding a copy ===== -/
def fo_v (b : Bool) (a nm s : Int32) : Int32 := if b = true ∧ a = nm then s else a
def fo_n (b : Bool) (a nm : Int32) : Nat := if b = true ∧ a = nm then 1 else 0
theorem fo_vt {b : Bool} {a nm s : Int32} (h1 : b = true) (h2 : a = nm) : fo_v b a nm s = s := if_pos ⟨h1, h2⟩
theorem fo_vf {b : Bool} {a nm s : Int32} (h : ¬ (b = true ∧ a = nm)) : fo_v b a nm s = a := if_neg h
theorem fo_nt {b : Bool} {a nm : Int32} (h1 : b = true) (h2 : a = nm) : fo_n b a nm = 1 := if_pos ⟨h1, h2⟩
theorem fo_nf {b : Bool} {a nm : Int32} (h : ¬ (b = true ∧ a = nm)) : fo_n b a nm = 0 := if_neg h
noncomputable def fo_in (rt op fo : Nat → Int32) (i : Nat) : Bool := gr_rc rt (sc_tc op i) && decide (fo i = 0)
def fo_c (op A1 A2 A3 : Nat → Int32) (nm : Int32) (i : Nat) : Nat := fo_n (sc_rx (op i)) (A1 i) nm + fo_n (sc_ry (op i)) (A2 i) nm + fo_n (sc_rz (op i)) (A3 i) nm
noncomputable def fo_s (rt op fo A1 A2 A3 : Nat → Int32) (nm : Int32) : Nat → Nat
  | 0 => 0
  | i + 1 => fo_s rt op fo A1 A2 A3 nm i + (if fo_in rt op fo i = true then fo_c op A1 A2 A3 nm i else 0)
/-- a row of operands behind the fold, up to instruction k -/
noncomputable def fo_A (rt op fo : Nat → Int32) (cl : Int32 → Bool) (nm s : Int32) (A : Nat → Int32) (k : Nat) : Nat → Int32 := fun j => if j < k ∧ fo_in rt op fo j = true then fo_v (cl (op j)) (A j) nm s else A j
theorem fo_A_0 {rt op fo : Nat → Int32} {cl : Int32 → Bool} {nm s : Int32} {A : Nat → Int32} : fo_A rt op fo cl nm s A 0 = A := by
  funext j; unfold fo_A; rw [if_neg (fun w => by omega)]
theorem fo_A_i {rt op fo : Nat → Int32} {cl : Int32 → Bool} {nm s : Int32} {A : Nat → Int32} {k : Nat} : fo_A rt op fo cl nm s A k k = A k := by
  unfold fo_A; rw [if_neg (fun w => by omega)]
theorem fo_A_t {rt op fo : Nat → Int32} {cl : Int32 → Bool} {nm s : Int32} {A : Nat → Int32} {k : Nat} (h : fo_in rt op fo k = true) : upd (fo_A rt op fo cl nm s A k) k (fo_v (cl (op k)) (A k) nm s) = fo_A rt op fo cl nm s A (k + 1) := by
  funext j
  by_cases e : j = k
  · rw [e, pk_us]; unfold fo_A; rw [if_pos ⟨by omega, h⟩]
  · rw [pk_un e]; unfold fo_A
    by_cases w : j < k ∧ fo_in rt op fo j = true
    · rw [if_pos w, if_pos ⟨by omega, w.2⟩]
    · rw [if_neg w, if_neg (fun y => w ⟨by omega, y.2⟩)]
theorem fo_A_f {rt op fo : Nat → Int32} {cl : Int32 → Bool} {nm s : Int32} {A : Nat → Int32} {k : Nat} (h : fo_in rt op fo k = false) : fo_A rt op fo cl nm s A k = fo_A rt op fo cl nm s A (k + 1) := by
  funext j
  unfold fo_A
  by_cases w : j < k ∧ fo_in rt op fo j = true
  · rw [if_pos w, if_pos ⟨by omega, w.2⟩]
  · rw [if_neg w, if_neg (fun y => ?_)]
    by_cases e : j = k
    · rw [e, h] at y; exact absurd y.2 (by decide)
    · exact w ⟨by omega, y.2⟩
theorem zb_ui {a : Nat → Int32} {k : Nat} : upd a k (a k) = a := by
  funext j
  by_cases w : j = k
  · rw [w, pk_us]
  · rw [pk_un w]
/-- the arguments behind the fold -/
def fo_P (nm s : Int32) (A : Nat → Int32) (k : Nat) : Nat → Int32 := fun j => if j < k then fo_v true (A j) nm s else A j
theorem fo_P_0 {nm s : Int32} {A : Nat → Int32} : fo_P nm s A 0 = A := by
  funext j; unfold fo_P; rw [if_neg (by omega)]
theorem fo_P_i {nm s : Int32} {A : Nat → Int32} {k : Nat} : fo_P nm s A k k = A k := by
  unfold fo_P; rw [if_neg (by omega)]
theorem fo_P_t {nm s : Int32} {A : Nat → Int32} {k : Nat} (h : A k = nm) : upd (fo_P nm s A k) k s = fo_P nm s A (k + 1) := by
  funext j
  by_cases e : j = k
  · rw [e, pk_us]; unfold fo_P; rw [if_pos (by omega), fo_vt rfl h]
  · rw [pk_un e]; unfold fo_P
    by_cases w : j < k
    · rw [if_pos w, if_pos (by omega)]
    · rw [if_neg w, if_neg (by omega)]
theorem fo_P_f {nm s : Int32} {A : Nat → Int32} {k : Nat} (h : ¬ A k = nm) : fo_P nm s A k = fo_P nm s A (k + 1) := by
  funext j
  unfold fo_P
  by_cases w : j < k
  · rw [if_pos w, if_pos (by omega)]
  · rw [if_neg w]
    by_cases e : j = k
    · rw [if_pos (by omega), e, fo_vf (fun y => h y.2)]
    · rw [if_neg (by omega)]
noncomputable def fo_t (rt op fo A1 A2 A3 pa : Nat → Int32) (nm : Int32) (ni : Nat) : Nat := fo_s rt op fo A1 A2 A3 nm ni + zk_c (fun j => decide (pa j = nm)) 120
section
variable {mb mi mv oc ni nb : Nat} {ph xrm xnc xcc xsc xpc : Int32} {xop xsx xsy xsz xbo xbf xbe xin xee xdm xid xfm xgm xkm xlm xnb xnp xnv xph xln xpa xrs xax xay xaz xfo xsr xso xst xco xcx xcy xcz xcb xpd xps xss xtu xcu xou xot xrg : Nat → Int32} {rt : Nat → Int32}
theorem x_replaceOperands {post : Int32 → SX → Prop} {i : Nat} {nm s : Int32} (hi : i < 40)
    (h : post (nI (fo_c xop xax xay xaz nm i)) ((nI mb), (nI mi), (nI mv), (nI oc), ph, (nI ni), (nI nb), xrm, xnc, xcc, xsc, xpc, xop, xsx, xsy, xsz, xbo, xbf, xbe, xin, xee, xdm, xid, xfm, xgm, xkm, xlm, xnb, xnp, xnv, xph, xln, xpa, xrs, upd xax i (fo_v (sc_rx (xop i)) (xax i) nm s), upd xay i (fo_v (sc_ry (xop i)) (xay i) nm s), upd xaz i (fo_v (sc_rz (xop i)) (xaz i) nm s), xfo, xsr, xso, xst, xco, xcx, xcy, xcz, xcb, xpd, xps, xss, xtu, xcu, xou, xot, xrg)) : wpX_replaceOperands post ((nI mb), (nI mi), (nI mv), (nI oc), ph, (nI ni), (nI nb), xrm, xnc, xcc, xsc, xpc, xop, xsx, xsy, xsz, xbo, xbf, xbe, xin, xee, xdm, xid, xfm, xgm, xkm, xlm, xnb, xnp, xnv, xph, xln, xpa, xrs, xax, xay, xaz, xfo, xsr, xso, xst, xco, xcx, xcy, xcz, xcb, xpd, xps, xss, xtu, xcu, xou, xot, xrg) (nI i) nm s := by
  have hv : vp_in (nI i) 40 := pk_in i 40 hi
  unfold fo_c at h
  have st69 : ∀ c : Nat, c = fo_n (sc_rx (xop i)) (xax i) nm + fo_n (sc_ry (xop i)) (xay i) nm → wX_replaceOperands_69 post (nI i) nm s (xop i) (nI c) (nI mb) (nI mi) (nI mv) (nI oc) ph (nI ni) (nI nb) xrm xnc xcc xsc xpc xop xsx xsy xsz xbo xbf xbe xin xee xdm xid xfm xgm xkm xlm xnb xnp xnv xph xln xpa xrs (upd xax i (fo_v (sc_rx (xop i)) (xax i) nm s)) (upd xay i (fo_v (sc_ry (xop i)) (xay i) nm s)) xaz xfo xsr xso xst xco xcx xcy xcz xcb xpd xps xss xtu xcu xou xot xrg := by
    intro c hc
    rw [← hc] at h
    refine x_readsZ (zc_b (fun q => ?_) (fun q => ⟨hv, zc_eq i (fun w => zs_st i (zn_1 ?_) hi) (fun w => ?_)⟩))
    · rw [fo_nf (fun y => by rw [q] at y; exact absurd y.1 (by decide)), fo_vf (a := xaz i) (fun y => by rw [q] at y; exact absurd y.1 (by decide)), zb_ui] at h; exact h
    · rw [fo_nt q w, fo_vt (a := xaz i) q w] at h; exact h
    · rw [fo_nf (fun y => w y.2), fo_vf (a := xaz i) (fun y => w y.2), zb_ui] at h; exact h
  have st40 : ∀ c : Nat, c = fo_n (sc_rx (xop i)) (xax i) nm → wX_replaceOperands_40 post (nI i) nm s (xop i) (nI c) (nI mb) (nI mi) (nI mv) (nI oc) ph (nI ni) (nI nb) xrm xnc xcc xsc xpc xop xsx xsy xsz xbo xbf xbe xin xee xdm xid xfm xgm xkm xlm xnb xnp xnv xph xln xpa xrs (upd xax i (fo_v (sc_rx (xop i)) (xax i) nm s)) xay xaz xfo xsr xso xst xco xcx xcy xcz xcb xpd xps xss xtu xcu xou xot xrg := by
    intro c hc
    refine x_readsY (zc_b (fun q => ?_) (fun q => ⟨hv, zc_eq i (fun w => zs_st i (zn_1 ?_) hi) (fun w => ?_)⟩))
    · have := st69 c (by rw [fo_nf (b := sc_ry (xop i)) (fun y => by rw [q] at y; exact absurd y.1 (by decide))]; exact hc)
      rw [fo_vf (a := xay i) (fun y => by rw [q] at y; exact absurd y.1 (by decide)), zb_ui] at this; exact this
    · have := st69 (c + 1) (by rw [fo_nt q w, hc])
      rw [fo_vt (a := xay i) q w] at this; exact this
    · have := st69 c (by rw [fo_nf (b := sc_ry (xop i)) (fun y => w y.2)]; exact hc)
      rw [fo_vf (a := xay i) (fun y => w y.2), zb_ui] at this; exact this
  refine zs_rn i (x_readsX (zc_b (fun q => ?_) (fun q => ⟨hv, zc_eq i (fun w => zs_st i (nm_r (e' := nI 1) (by decide) ?_) hi) (fun w => ?_)⟩))) hi
  · have := st40 0 (by rw [fo_nf (fun y => by rw [q] at y; exact absurd y.1 (by decide))])
    rw [fo_vf (a := xax i) (fun y => by rw [q] at y; exact absurd y.1 (by decide)), zb_ui] at this; exact this
  · have := st40 1 (by rw [fo_nt q w])
    rw [fo_vt (a := xax i) q w] at this; exact this
  · have := st40 0 (by rw [fo_nf (fun y => w y.2)])
    rw [fo_vf (a := xax i) (fun y => w y.2), zb_ui] at this; exact this
theorem x_foldName {post : Int32 → SX → Prop} {m p : Nat} {s : Int32} (hn : ni ≤ 40) (hrm : ∀ i, i < 32 → bt xrm i = gr_rc rt i) (hbo : ∀ i, i < ni → xbo i = nI (sc_tc xop i)) (ht : ∀ i, i < ni → sc_tc xop i < 10)
    (hm : m < 100) (hp : p < 40) (hnp : xnp m = nI p) (hs : xay p = s)
    (h : post (nI (fo_t rt xop xfo xax xay xaz xpa (nI m) ni)) ((nI mb), (nI mi), (nI mv), (nI oc), ph, (nI ni), (nI nb), xrm, xnc, xcc, xsc, xpc, xop, xsx, xsy, xsz, xbo, xbf, xbe, xin, xee, xdm, xid, xfm, xgm, xkm, xlm, xnb, xnp, xnv, xph, xln, fo_P (nI m) s xpa 120, xrs, fo_A rt xop xfo sc_rx (nI m) s xax ni, fo_A rt xop xfo sc_ry (nI m) s xay ni, fo_A rt xop xfo sc_rz (nI m) s xaz ni, upd xfo p 1, xsr, xso, xst, xco, xcx, xcy, xcz, xcb, xpd, xps, xss, xtu, xcu, xou, xot, xrg)) : wpX_foldName post ((nI mb), (nI mi), (nI mv), (nI oc), ph, (nI ni), (nI nb), xrm, xnc, xcc, xsc, xpc, xop, xsx, xsy, xsz, xbo, xbf, xbe, xin, xee, xdm, xid, xfm, xgm, xkm, xlm, xnb, xnp, xnv, xph, xln, xpa, xrs, xax, xay, xaz, xfo, xsr, xso, xst, xco, xcx, xcy, xcz, xcb, xpd, xps, xss, xtu, xcu, xou, xot, xrg) (nI m) := by
  refine zs_rn m ?_ hm
  rw [hnp]
  refine zs_rn p ?_ hp
  rw [hs]
  have key : ∃ n : Nat, wX_foldName_20 post (nI m) (nI p) s n (nI (fo_s rt xop xfo xax xay xaz (nI m) 0)) (nI 0) (nI mb) (nI mi) (nI mv) (nI oc) ph (nI ni) (nI nb) xrm xnc xcc xsc xpc xop xsx xsy xsz xbo xbf xbe xin xee xdm xid xfm xgm xkm xlm xnb xnp xnv xph xln xpa xrs (fo_A rt xop xfo sc_rx (nI m) s xax 0) (fo_A rt xop xfo sc_ry (nI m) s xay 0) (fo_A rt xop xfo sc_rz (nI m) s xaz 0) xfo xsr xso xst xco xcx xcy xcz xcb xpd xps xss xtu xcu xou xot xrg := by
    refine loop_0 (fun n i (_ : Unit) => wX_foldName_20 post (nI m) (nI p) s n (nI (fo_s rt xop xfo xax xay xaz (nI m) i)) (nI i) (nI mb) (nI mi) (nI mv) (nI oc) ph (nI ni) (nI nb) xrm xnc xcc xsc xpc xop xsx xsy xsz xbo xbf xbe xin xee xdm xid xfm xgm xkm xlm xnb xnp xnv xph xln xpa xrs (fo_A rt xop xfo sc_rx (nI m) s xax i) (fo_A rt xop xfo sc_ry (nI m) s xay i) (fo_A rt xop xfo sc_rz (nI m) s xaz i) xfo xsr xso xst xco xcx xcy xcz xcb xpd xps xss xtu xcu xou xot xrg) (fun _ _ => True) ni () trivial ?_ ?_
    · intro n _ _
      refine zc_ex ?_
      have key2 : ∃ n : Nat, wX_foldName_60 post (nI m) (nI p) s (nI mb) (nI mi) (nI mv) (nI oc) ph (nI ni) (nI nb) xrm xnc xcc xsc xpc n (nI (fo_s rt xop xfo xax xay xaz (nI m) ni + zk_c (fun j => decide (xpa j = nI m)) 0)) (nI 0) xop xsx xsy xsz xbo xbf xbe xin xee xdm xid xfm xgm xkm xlm xnb xnp xnv xph xln (fo_P (nI m) s xpa 0) xrs (fo_A rt xop xfo sc_rx (nI m) s xax ni) (fo_A rt xop xfo sc_ry (nI m) s xay ni) (fo_A rt xop xfo sc_rz (nI m) s xaz ni) xfo xsr xso xst xco xcx xcy xcz xcb xpd xps xss xtu xcu xou xot xrg := by
        refine loop_0 (fun n a (_ : Unit) => wX_foldName_60 post (nI m) (nI p) s (nI mb) (nI mi) (nI mv) (nI oc) ph (nI ni) (nI nb) xrm xnc xcc xsc xpc n (nI (fo_s rt xop xfo xax xay xaz (nI m) ni + zk_c (fun j => decide (xpa j = nI m)) a)) (nI a) xop xsx xsy xsz xbo xbf xbe xin xee xdm xid xfm xgm xkm xlm xnb xnp xnv xph xln (fo_P (nI m) s xpa a) xrs (fo_A rt xop xfo sc_rx (nI m) s xax ni) (fo_A rt xop xfo sc_ry (nI m) s xay ni) (fo_A rt xop xfo sc_rz (nI m) s xaz ni) xfo xsr xso xst xco xcx xcy xcz xcb xpd xps xss xtu xcu xou xot xrg) (fun _ _ => True) 120 () trivial ?_ ?_
        · intro n _ _
          exact zc_ex (zs_st p h hp)
        · intro n a _ ha _ ih
          refine zc_go ha ⟨pk_in a 120 ha, zc_eq a (fun w => zs_st a (zn_1 (zn_1 ?_)) ha) (fun w => zn_1 ?_)⟩
          · rw [fo_P_i] at w
            have := ih () trivial
            rw [zk_st (decide_eq_true w), ← fo_P_t w] at this
            exact this
          · rw [fo_P_i] at w
            have := ih () trivial
            rw [zk_sf (decide_eq_false w), ← fo_P_f w] at this
            exact this
      rw [fo_P_0] at key2; exact key2
    · intro n i _ hi _ ih
      refine zc_go hi (x_inSsa (rt := rt) hrm (by omega) (ht i hi) (hbo i hi) (zc_b (fun w => zn_1 ?_) (fun w => ?_)))
      · have := ih () trivial
        have e : fo_s rt xop xfo xax xay xaz (nI m) (i + 1) = fo_s rt xop xfo xax xay xaz (nI m) i := by
          simp only [fo_s]
          rw [if_neg]; · rfl
          · intro y; unfold fo_in at y; rw [w] at y; exact absurd y (by decide)
        rw [e, ← fo_A_f w, ← fo_A_f w, ← fo_A_f w] at this
        exact this
      · refine x_replaceOperands (by omega) ?_
        have := ih () trivial
        have e : fo_s rt xop xfo xax xay xaz (nI m) (i + 1) = fo_s rt xop xfo xax xay xaz (nI m) i + fo_c xop xax xay xaz (nI m) i := by
          simp only [fo_s]
          rw [if_pos]
          exact w
        have ec : fo_c xop (fo_A rt xop xfo sc_rx (nI m) s xax i) (fo_A rt xop xfo sc_ry (nI m) s xay i) (fo_A rt xop xfo sc_rz (nI m) s xaz i) (nI m) i = fo_c xop xax xay xaz (nI m) i := by
          unfold fo_c; rw [fo_A_i, fo_A_i, fo_A_i]
        rw [e, ← fo_A_t w, ← fo_A_t w, ← fo_A_t w] at this
        rw [ec, fo_A_i, fo_A_i, fo_A_i]
        exact nm_r (nI_add _ _) (zn_1 this)
  rw [fo_A_0, fo_A_0, fo_A_0] at key; exact key
end
end
section
/-! ===== the reference folds a copy ===== -/
section
variable {mb mi mv oc ni : Nat} {ph ync ycl : Int32} {ysr yin ymk yre ydm yid yfr ylv yis yph yar yrs yas yfo ycd yfi ypd yps yss ytu ybl you yot yrg yrv : Nat → Int32} {op fx fy fz A1 A2 A3 rt : Nat → Int32} {nb : Nat} {bf be : Nat → Nat}
def fo_W (rt op A1 A2 A3 A : Nat → Int32) (ni : Nat) : Prop := ∀ j, j < ni → gr_rc rt (sc_tc op j) = true → A (j * 4) = op j ∧ A (j * 4 + 1) = A1 j ∧ A (j * 4 + 2) = A2 j ∧ A (j * 4 + 3) = A3 j
theorem y_fold {post : Int32 → SY → Prop} {nm s : Int32} {p : Nat} (hs : sc_YS ysr op fx fy fz) (B : sc_BL op ni nb bf be) {mb' mv' : Nat} (S : sc_SV mb' mv' ni op fx fy fz) (hr : ∀ b, b < 10 → yre b = zb_i (gr_rc rt b)) (hp : p < 40) (hW : fo_W rt op A1 A2 A3 yas ni)
    (h : ∀ A ot rg : Nat → Int32, fo_W rt op (fo_A rt op yfo sc_rx nm s A1 ni) (fo_A rt op yfo sc_ry nm s A2 ni) (fo_A rt op yfo sc_rz nm s A3 ni) A ni → (∀ j, j < 384 → rg j = 0) → post (nI (fo_t rt op yfo A1 A2 A3 yar nm ni)) ((nI mb), (nI mi), (nI mv), (nI oc), ph, (nI ni), ync, ycl, ysr, yin, ymk, yre, ydm, yid, yfr, ylv, yis, yph, fo_P nm s yar 120, yrs, A, upd yfo p 1, ycd, yfi, ypd, yps, mc_3 yss 0, mc_3 ytu 0, mc_3 ybl (-1), mc_3 you 0, ot, rg, yrv)) :
    ∃ n : Nat, wY_foldCopy_46 post nm (nI p) s (nI mb) (nI mi) (nI mv) (nI oc) ph (nI ni) ync ycl n 0 0 ysr yin ymk yre ydm yid yfr ylv yis yph yar yrs yas yfo ycd yfi ypd yps yss ytu ybl you yot yrg yrv := by
  have hn := B.1
  have key : ∃ n : Nat, wY_foldCopy_46 post nm (nI p) s (nI mb) (nI mi) (nI mv) (nI oc) ph (nI ni) ync ycl n (nI (fo_s rt op yfo A1 A2 A3 nm 0)) (nI 0) ysr yin ymk yre ydm yid yfr ylv yis yph yar yrs yas yfo ycd yfi ypd yps yss ytu ybl you yot yrg yrv := by
    refine loop_0 (fun n i (A : Nat → Int32) => wY_foldCopy_46 post nm (nI p) s (nI mb) (nI mi) (nI mv) (nI oc) ph (nI ni) ync ycl n (nI (fo_s rt op yfo A1 A2 A3 nm i)) (nI i) ysr yin ymk yre ydm yid yfr ylv yis yph yar yrs A yfo ycd yfi ypd yps yss ytu ybl you yot yrg yrv) (fun i A => fo_W rt op (fo_A rt op yfo sc_rx nm s A1 i) (fo_A rt op yfo sc_ry nm s A2 i) (fo_A rt op yfo sc_rz nm s A3 i) A ni) ni yas ?_ ?_ ?_
    · rw [fo_A_0, fo_A_0, fo_A_0]; exact hW
    · intro n A hA
      refine zc_ex ?_
      have key2 : ∃ n : Nat, wY_foldCopy_146 post nm (nI p) s (nI mb) (nI mi) (nI mv) (nI oc) ph (nI ni) ync ycl n (nI (fo_s rt op yfo A1 A2 A3 nm ni + zk_c (fun j => decide (yar j = nm)) 0)) (nI 0) ysr yin ymk yre ydm yid yfr ylv yis yph (fo_P nm s yar 0) yrs A yfo ycd yfi ypd yps yss ytu ybl you yot yrg yrv := by
        refine loop_0 (fun n a (_ : Unit) => wY_foldCopy_146 post nm (nI p) s (nI mb) (nI mi) (nI mv) (nI oc) ph (nI ni) ync ycl n (nI (fo_s rt op yfo A1 A2 A3 nm ni + zk_c (fun j => decide (yar j = nm)) a)) (nI a) ysr yin ymk yre ydm yid yfr ylv yis yph (fo_P nm s yar a) yrs A yfo ycd yfi ypd yps yss ytu ybl you yot yrg yrv) (fun _ _ => True) 120 () trivial ?_ ?_
        · intro n _ _
          exact zc_ex (zs_st p (y_idleAll fun ot rg hrg => h A ot rg hA hrg) hp)
        · intro n a _ ha _ ih
          refine zc_go ha ⟨pk_in a 120 ha, zc_eq a (fun w => zs_st a (zn_1 (zn_1 ?_)) ha) (fun w => zn_1 ?_)⟩
          · rw [fo_P_i] at w
            have := ih () trivial
            rw [zk_st (decide_eq_true w), ← fo_P_t w] at this
            exact this
          · rw [fo_P_i] at w
            have := ih () trivial
            rw [zk_sf (decide_eq_false w), ← fo_P_f w] at this
            exact this
      rw [fo_P_0] at key2; exact key2
    · intro n i A hi hA ih
      obtain ⟨o1, o2, o3, o4, o5, o6⟩ := sc_opf (S i hi).1
      refine zc_go hi (y_inSsa (yas := A) hs B hr hi (zc_b (fun w => zn_1 ?_) (fun w => ?_)))
      · have := ih A (by rw [← fo_A_f w, ← fo_A_f w, ← fo_A_f w]; exact hA)
        have e : fo_s rt op yfo A1 A2 A3 nm (i + 1) = fo_s rt op yfo A1 A2 A3 nm i := by
          simp only [fo_s]
          rw [if_neg]; · rfl
          · intro y; unfold fo_in at y; rw [w] at y; exact absurd y (by decide)
        rw [e] at this; exact this
      · have hrc : gr_rc rt (sc_tc op i) = true := by rw [Bool.and_eq_true] at w; exact w.1
        have es : fo_s rt op yfo A1 A2 A3 nm (i + 1) = fo_s rt op yfo A1 A2 A3 nm i + (fo_n (sc_rx (op i)) (A1 i) nm + fo_n (sc_ry (op i)) (A2 i) nm + fo_n (sc_rz (op i)) (A3 i) nm) := by
          simp only [fo_s]
          rw [if_pos]; · rfl
          · exact w
        obtain ⟨q0, q1, q2, q3⟩ := hA i hi hrc
        rw [fo_A_i] at q1 q2 q3
        have fin : ∀ (A' : Nat → Int32) (c : Nat), (∀ j, (j < i * 4 ∨ i * 4 + 4 ≤ j) → A' j = A j) → A' (i * 4) = op i → A' (i * 4 + 1) = fo_v (sc_rx (op i)) (A1 i) nm s → A' (i * 4 + 2) = fo_v (sc_ry (op i)) (A2 i) nm s → A' (i * 4 + 3) = fo_v (sc_rz (op i)) (A3 i) nm s →
            c = fo_s rt op yfo A1 A2 A3 nm i + (fo_n (sc_rx (op i)) (A1 i) nm + fo_n (sc_ry (op i)) (A2 i) nm + fo_n (sc_rz (op i)) (A3 i) nm) → wY_foldCopy_78 post (wY_foldCopy_46 post nm (nI p) s (nI mb) (nI mi) (nI mv) (nI oc) ph (nI ni) ync ycl n) nm (nI p) s (nI i) (op i) (nI mb) (nI mi) (nI mv) (nI oc) ph (nI ni) ync ycl 1 (nI c) (nI 2) ysr yin ymk yre ydm yid yfr ylv yis yph yar yrs A' yfo ycd yfi ypd yps yss ytu ybl you yot yrg yrv := by
          intro A' c a0 a1 a2 a3 a4 hc
          refine zc_ex (N := 2) (zn_1 ?_)
          rw [hc, ← es]
          refine ih A' fun j hj hjr => ?_
          rw [← fo_A_t w, ← fo_A_t w, ← fo_A_t w]
          by_cases e : j = i
          · subst e
            rw [pk_us, pk_us, pk_us]; exact ⟨a1, a2, a3, a4⟩
          · rw [pk_un e, pk_un e, pk_un e, a0 _ (by omega), a0 _ (by omega), a0 _ (by omega), a0 _ (by omega)]
            exact hA j hj hjr
        have step1 : ∀ (A' : Nat → Int32) (c : Nat), (∀ j, (j < i * 4 ∨ i * 4 + 4 ≤ j) → A' j = A j) → A' (i * 4) = op i → A' (i * 4 + 1) = fo_v (sc_rx (op i)) (A1 i) nm s → A' (i * 4 + 2) = fo_v (sc_ry (op i)) (A2 i) nm s → A' (i * 4 + 3) = A3 i →
            c = fo_s rt op yfo A1 A2 A3 nm i + (fo_n (sc_rx (op i)) (A1 i) nm + fo_n (sc_ry (op i)) (A2 i) nm) → wY_foldCopy_78 post (wY_foldCopy_46 post nm (nI p) s (nI mb) (nI mi) (nI mv) (nI oc) ph (nI ni) ync ycl n) nm (nI p) s (nI i) (op i) (nI mb) (nI mi) (nI mv) (nI oc) ph (nI ni) ync ycl 2 (nI c) (nI 1) ysr yin ymk yre ydm yid yfr ylv yis yph yar yrs A' yfo ycd yfi ypd yps yss ytu ybl you yot yrg yrv := by
          intro A' c a0 a1 a2 a3 a4 hc
          refine zc_go (N := 2) (by omega) (y_operandField (yas := A') ?_)
          show _ ∧ _
          cases hz : sc_rz (op i)
          · have e : sc_of (op i) (nI 1) = -1 := by
              unfold sc_of; rw [if_neg (by decide), if_pos (by decide), hz]; rfl
            rw [e]
            refine br_t (by decide) (zn_1 (fin A' c a0 a1 a2 a3 ?_ ?_))
            · rw [a4, fo_vf (fun y => by rw [hz] at y; exact absurd y.1 (by decide))]
            · rw [hc, fo_nf (b := sc_rz (op i)) (fun y => by rw [hz] at y; exact absurd y.1 (by decide))]; omega
          · have e : sc_of (op i) (nI 1) = nI 3 := by
              unfold sc_of; rw [if_neg (by decide), if_pos (by decide), hz]; rfl
            rw [e]
            refine br_f zi_nlt ⟨pk_in (i * 4 + 3) 160 (by omega) (zi_4k i 3), zc_eq (i * 4 + 3) (fun y => zs_st (i * 4 + 3) (zn_1 (zn_1 (fin _ (c + 1) (fun j hj => ?_) ?_ ?_ ?_ ?_ ?_))) (by omega) (zi_4k i 3)) (fun y => zn_1 (fin A' c a0 a1 a2 a3 ?_ ?_)) (zi_4k i 3)⟩
            · rw [pk_un (by omega)]; exact a0 j hj
            · rw [pk_un (by omega)]; exact a1
            · rw [pk_un (by omega)]; exact a2
            · rw [pk_un (by omega)]; exact a3
            · rw [pk_us, fo_vt hz (a4.symm.trans y)]
            · rw [hc, fo_nt hz (a4.symm.trans y)]; omega
            · rw [a4, fo_vf (fun z => y (a4.trans z.2))]
            · rw [hc, fo_nf (b := sc_rz (op i)) (fun z => y (a4.trans z.2))]; omega
        refine zs_rn (i * 4) ⟨3, ?_⟩ (by omega) (zi_4 i)
        rw [q0]
        refine zc_go (N := 2) (i := 0) (by omega) (y_operandField (yas := A) ?_)
        show _ ∧ _
        cases hy : sc_ry (op i)
        · have ny : ∀ a, fo_v (sc_ry (op i)) a nm s = a := fun a => fo_vf (fun y => by rw [hy] at y; exact absurd y.1 (by decide))
          have cy : fo_n (sc_ry (op i)) (A2 i) nm = 0 := fo_nf (fun y => by rw [hy] at y; exact absurd y.1 (by decide))
          cases hx : sc_rx (op i)
          · have e : sc_of (op i) 0 = -1 := by
              unfold sc_of; rw [if_pos rfl, hy, hx]; rfl
            rw [e]
            refine br_t (by decide) (nm_r (e' := nI 1) (by decide) (step1 A _ (fun _ _ => rfl) q0 ?_ ?_ q3 ?_))
            · rw [q1, fo_vf (fun y => by rw [hx] at y; exact absurd y.1 (by decide))]
            · rw [ny]; exact q2
            · rw [cy, fo_nf (b := sc_rx (op i)) (fun y => by rw [hx] at y; exact absurd y.1 (by decide))]; omega
          · have e : sc_of (op i) 0 = nI 1 := by
              unfold sc_of; rw [if_pos rfl, hy, hx]; rfl
            rw [e]
            refine br_f zi_nlt ⟨pk_in (i * 4 + 1) 160 (by omega) (zi_4k i 1), zc_eq (i * 4 + 1) (fun y => zs_st (i * 4 + 1) (zn_1 (nm_r (e' := nI 1) (by decide) (step1 _ (fo_s rt op yfo A1 A2 A3 nm i + 1) (fun j hj => ?_) ?_ ?_ ?_ ?_ ?_))) (by omega) (zi_4k i 1)) (fun y => nm_r (e' := nI 1) (by decide) (step1 A _ (fun _ _ => rfl) q0 ?_ ?_ q3 ?_)) (zi_4k i 1)⟩
            · rw [pk_un (by omega)]
            · rw [pk_un (by omega)]; exact q0
            · rw [pk_us, fo_vt hx (q1.symm.trans y)]
            · rw [pk_un (by omega), ny]; exact q2
            · rw [pk_un (by omega)]; exact q3
            · rw [cy, fo_nt hx (q1.symm.trans y)]
            · rw [q1, fo_vf (fun z => y (q1.trans z.2))]
            · rw [ny]; exact q2
            · rw [cy, fo_nf (b := sc_rx (op i)) (fun z => y (q1.trans z.2))]; omega
        · have e : sc_of (op i) 0 = nI 2 := by
            unfold sc_of; rw [if_pos rfl, hy]; rfl
          rw [e]
          have nx : ∀ a, fo_v (sc_rx (op i)) a nm s = a := fun a => fo_vf (fun y => by rw [o1 hy] at y; exact absurd y.1 (by decide))
          have cx : fo_n (sc_rx (op i)) (A1 i) nm = 0 := fo_nf (fun y => by rw [o1 hy] at y; exact absurd y.1 (by decide))
          refine br_f zi_nlt ⟨pk_in (i * 4 + 2) 160 (by omega) (zi_4k i 2), zc_eq (i * 4 + 2) (fun y => zs_st (i * 4 + 2) (zn_1 (nm_r (e' := nI 1) (by decide) (step1 _ (fo_s rt op yfo A1 A2 A3 nm i + 1) (fun j hj => ?_) ?_ ?_ ?_ ?_ ?_))) (by omega) (zi_4k i 2)) (fun y => nm_r (e' := nI 1) (by decide) (step1 A _ (fun _ _ => rfl) q0 ?_ ?_ q3 ?_)) (zi_4k i 2)⟩
          · rw [pk_un (by omega)]
          · rw [pk_un (by omega)]; exact q0
          · rw [pk_un (by omega), nx]; exact q1
          · rw [pk_us, fo_vt hy (q2.symm.trans y)]
          · rw [pk_un (by omega)]; exact q3
          · rw [cx, fo_nt hy (q2.symm.trans y)]
          · rw [nx]; exact q1
          · rw [q2, fo_vf (fun z => y (q2.trans z.2))]
          · rw [cx, fo_nf (b := sc_ry (op i)) (fun z => y (q2.trans z.2))]; omega
  exact key
end
end
section
/-! ===== foldCopy and propagate ===== -/
section
variable {mb mi mv oc ni nb : Nat} {ph xrm xnc xcc xsc xpc : Int32} {xop xsx xsy xsz xbo xbf xbe xin xee xdm xid xfm xgm xkm xlm xnb xnp xnv xph xln xpa xrs xax xay xaz xfo xsr xso xst xco xcx xcy xcz xcb xpd xps xss xtu xcu xou xot xrg : Nat → Int32} {ync ycl : Int32} {ysr yin ymk yre ydm yid yfr ylv yis yph yar yrs yas yfo ycd yfi ypd yps yss ytu ybl you yot yrg yrv : Nat → Int32} {rt : Nat → Int32} {nc : Nat} {bf be : Nat → Nat}
theorem fo_case (hn : ni ≤ 40) (YS : sc_YS ysr xop xsx xsy xsz) (N : nu_N rt xop xsx mv ni 60 ni nc xph xrs xnb xnp xnv) (hnc : nc ≤ 96) (hF : rl_F xop xfo) (x : Int32) :
    (∃ m p, m < nc ∧ p < ni ∧ x = nI m ∧ xnp m = nI p ∧ xrs p = nI m ∧ xfo p = 0 ∧ xop p = 1 ∧ gr_rc rt (sc_tc xop p) = true ∧ (∀ post : Int32 → Prop, post 1 → wpX_isLiveCopy post ((nI mb), (nI mi), (nI mv), (nI oc), ph, (nI ni), (nI nb), xrm, nI nc, xcc, xsc, xpc, xop, xsx, xsy, xsz, xbo, xbf, xbe, xin, xee, xdm, xid, xfm, xgm, xkm, xlm, xnb, xnp, xnv, xph, xln, xpa, xrs, xax, xay, xaz, xfo, xsr, xso, xst, xco, xcx, xcy, xcz, xcb, xpd, xps, xss, xtu, xcu, xou, xot, xrg) x) ∧ (∀ post : Int32 → Prop, post (nI p) → wpY_copyOf post ((nI mb), (nI mi), (nI mv), (nI oc), ph, (nI ni), nI nc, ycl, ysr, yin, ymk, yre, ydm, yid, yfr, ylv, yis, yph, yar, xrs, yas, xfo, ycd, yfi, ypd, yps, yss, ytu, ybl, you, yot, yrg, yrv) x)) ∨
    ((∀ post : Int32 → Prop, post 0 → wpX_isLiveCopy post ((nI mb), (nI mi), (nI mv), (nI oc), ph, (nI ni), (nI nb), xrm, nI nc, xcc, xsc, xpc, xop, xsx, xsy, xsz, xbo, xbf, xbe, xin, xee, xdm, xid, xfm, xgm, xkm, xlm, xnb, xnp, xnv, xph, xln, xpa, xrs, xax, xay, xaz, xfo, xsr, xso, xst, xco, xcx, xcy, xcz, xcb, xpd, xps, xss, xtu, xcu, xou, xot, xrg) x) ∧ (∀ post : Int32 → Prop, post (-1) → wpY_copyOf post ((nI mb), (nI mi), (nI mv), (nI oc), ph, (nI ni), nI nc, ycl, ysr, yin, ymk, yre, ydm, yid, yfr, ylv, yis, yph, yar, xrs, yas, xfo, ycd, yfi, ypd, yps, yss, ytu, ybl, you, yot, yrg, yrv) x)) := by
  obtain ⟨n1, n2, n3, n4, n5, n6, n7, n8, n9⟩ := N
  rcases pk_ix x (n := nc) (by omega) with w | w | ⟨m, hm, rfl⟩
  · exact Or.inr ⟨fun _ h => br_t w h, fun _ h => br_t w h⟩
  · exact Or.inr ⟨fun _ h => br_f (zi_out (by omega) w) (br_f (Int32.not_lt.mpr w) h), fun _ h => br_f (zi_out (by omega) w) (br_f (Int32.not_lt.mpr w) h)⟩
  · have hlt : nI m < nI nc := nI_lt hm (by omega)
    have none : xnp m = -1 → (∀ i, i < ni → ¬ xrs i = nI m) → ((∀ post : Int32 → Prop, post 0 → wpX_isLiveCopy post ((nI mb), (nI mi), (nI mv), (nI oc), ph, (nI ni), (nI nb), xrm, nI nc, xcc, xsc, xpc, xop, xsx, xsy, xsz, xbo, xbf, xbe, xin, xee, xdm, xid, xfm, xgm, xkm, xlm, xnb, xnp, xnv, xph, xln, xpa, xrs, xax, xay, xaz, xfo, xsr, xso, xst, xco, xcx, xcy, xcz, xcb, xpd, xps, xss, xtu, xcu, xou, xot, xrg) (nI m)) ∧ (∀ post : Int32 → Prop, post (-1) → wpY_copyOf post ((nI mb), (nI mi), (nI mv), (nI oc), ph, (nI ni), nI nc, ycl, ysr, yin, ymk, yre, ydm, yid, yfr, ylv, yis, yph, yar, xrs, yas, xfo, ycd, yfi, ypd, yps, yss, ytu, ybl, you, yot, yrg, yrv) (nI m))) := by
      intro h1 h2
      refine ⟨fun post h => br_f zi_nlt (br_t hlt (zs_rn m ?_ (by omega))), fun post h => br_f zi_nlt (br_t hlt (y_instructionOf_no hn h2 (by omega) (br_t (by decide) h)))⟩
      rw [h1]; exact br_t (by decide) h
    have uniq : ∀ i, i < ni → xrs i = nI m → xnp m = nI i ∧ mv ≤ m ∧ gr_rc rt (sc_tc xop i) = true := by
      intro i hi w
      rcases n5 i (by omega) with y | ⟨_, _, _, y0, q, q1, q2, q3, q4, _⟩
      · exact absurd (w.symm.trans y) (zi_neg (by omega))
      · have e : q = m := zi_inj (q3.symm.trans w)
        rw [e] at q4 q1; exact ⟨q4, q1, y0⟩
    rcases Nat.lt_or_ge m mv with hmv | hmv
    · exact Or.inr (none (n3 m hmv).2.1 (fun i hi w => by have := (uniq i hi w).2.1; omega))
    · rcases n7 m hmv hm with ⟨j, hj, hpj⟩ | ⟨i, hi, hri⟩
      · have hnp : xnp m = -1 := by
          rcases n4 j hj with y | y | ⟨_, q, q1, q2, q3, q4, _⟩
          · exact absurd (hpj.symm.trans y) (zi_neg (by omega))
          · omega
          · rw [← zi_inj (q3.symm.trans hpj)]; exact q4
        exact Or.inr (none hnp (fun i hi w => by
          have := (uniq i hi w).1
          rw [hnp] at this; exact zi_neg (by omega) this.symm))
      · obtain ⟨hnp, _, hrc⟩ := uniq i hi hri
        have hfirst : ∀ j, j < i → ¬ xrs j = nI m := fun j hj w => by
          have := (uniq j (by omega) w).1
          rw [hnp] at this
          have := zi_inj this; omega
        have hv : vp_in (nI i) 40 := pk_in i 40 (by omega)
        have hX : ∀ post : Int32 → Prop, (xfo i = 0 ∧ xop i = 1 → post 1) → (¬ (xfo i = 0 ∧ xop i = 1) → post 0) → wpX_isLiveCopy post ((nI mb), (nI mi), (nI mv), (nI oc), ph, (nI ni), (nI nb), xrm, nI nc, xcc, xsc, xpc, xop, xsx, xsy, xsz, xbo, xbf, xbe, xin, xee, xdm, xid, xfm, xgm, xkm, xlm, xnb, xnp, xnv, xph, xln, xpa, xrs, xax, xay, xaz, xfo, xsr, xso, xst, xco, xcx, xcy, xcz, xcb, xpd, xps, xss, xtu, xcu, xou, xot, xrg) (nI m) := by
          intro post h1 h2
          refine br_f zi_nlt (br_t hlt (zs_rn m ?_ (by omega)))
          rw [hnp]
          exact br_f zi_nlt ⟨hv, zc_eq i (fun w => ⟨hv, zc_eq i (fun w' => h1 ⟨w, w'⟩) (fun w' => h2 (fun y => w' y.2))⟩) (fun w => h2 (fun y => w y.1))⟩
        have hY : ∀ post : Int32 → Prop, (xfo i = 0 ∧ xop i = 1 → post (nI i)) → (¬ (xfo i = 0 ∧ xop i = 1) → post (-1)) → wpY_copyOf post ((nI mb), (nI mi), (nI mv), (nI oc), ph, (nI ni), nI nc, ycl, ysr, yin, ymk, yre, ydm, yid, yfr, ylv, yis, yph, yar, xrs, yas, xfo, ycd, yfi, ypd, yps, yss, ytu, ybl, you, yot, yrg, yrv) (nI m) := by
          intro post h1 h2
          refine br_f zi_nlt (br_t hlt (y_instructionOf hn hi hri hfirst (by omega) (br_f zi_nlt (br_t (nI_lt (b := 40) (by omega) (by decide)) ⟨hv, zc_eq i (fun w => h2 (fun y => ?_)) (fun w => ⟨pk_in (i * 4) 160 (by omega) (zi_4 i), zc_eq (i * 4) (fun w' => h1 ⟨?_, ?_⟩) (fun w' => h2 (fun y => w' ?_)) (zi_4 i)⟩)⟩))))
          · rw [w] at y; exact absurd y.1 (by decide)
          · exact (hF i (by omega)).resolve_right (fun y => w y.1)
          · rw [(YS i (by omega)).1] at w'; exact w'
          · rw [(YS i (by omega)).1]; exact y.2
        by_cases hc : xfo i = 0 ∧ xop i = 1
        · exact Or.inl ⟨m, i, hm, hi, rfl, hnp, hri, hc.1, hc.2, hrc, fun post h => hX post (fun _ => h) (fun w => absurd hc w), fun post h => hY post (fun _ => h) (fun w => absurd hc w)⟩
        · exact Or.inr ⟨fun post h => hX post (fun w => absurd w hc) (fun _ => h), fun post h => hY post (fun w => absurd w hc) (fun _ => h)⟩
end
theorem fo_Nk {mv ni nc m p : Nat} {mb : Nat} {rt xop xsx xsy xsz xnb xnp xnv xph xpa xrs xax xay xaz xfo yas A : Nat → Int32} (hn : ni ≤ 40) (SV : sc_SV mb mv ni xop xsx xsy xsz) (N : rl_N mv ni nc rt xop xsx xsy xsz xnb xnp xnv xph xpa xrs xax xay xaz xfo yas)
    (hm : m < nc) (hp : p < ni) (hop : xop p = 1) (hrc : gr_rc rt (sc_tc xop p) = true)
    (hW : fo_W rt xop (fo_A rt xop xfo sc_rx (nI m) (xay p) xax ni) (fo_A rt xop xfo sc_ry (nI m) (xay p) xay ni) (fo_A rt xop xfo sc_rz (nI m) (xay p) xaz ni) A ni) :
    rl_N mv ni nc rt xop xsx xsy xsz xnb xnp xnv xph (fo_P (nI m) (xay p) xpa 120) xrs (fo_A rt xop xfo sc_rx (nI m) (xay p) xax ni) (fo_A rt xop xfo sc_ry (nI m) (xay p) xay ni) (fo_A rt xop xfo sc_rz (nI m) (xay p) xaz ni) (upd xfo p 1) A := by
  obtain ⟨N1, hnc, O, P, F⟩ := N
  obtain ⟨s, hs, es⟩ : ∃ s, s < nc ∧ xay p = nI s := (O p hp hrc).2.2.2.1 (by rw [hop]; decide)
  have hA : ∀ (cl : Int32 → Bool) (a : Nat → Int32) (i : Nat), (cl (xop i) = true → ∃ k, k < nc ∧ a i = nI k) → cl (xop i) = true → ∃ k, k < nc ∧ fo_A rt xop xfo cl (nI m) (xay p) a ni i = nI k := by
    intro cl a i h1 h2
    unfold fo_A fo_v
    split
    · split
      · exact ⟨s, hs, es⟩
      · exact h1 h2
    · exact h1 h2
  have hB : ∀ (cl : Int32 → Bool) (a : Nat → Int32) (i : Nat), cl (xop i) = false → fo_A rt xop xfo cl (nI m) (xay p) a ni i = a i := by
    intro cl a i h1
    unfold fo_A
    split
    · exact fo_vf (fun y => by rw [h1] at y; exact absurd y.1 (by decide))
    · rfl
  refine ⟨N1, hnc, fun i hi hr => ?_, fun j hj => ?_, fun i hi => ?_⟩
  · obtain ⟨_, o1, o2, o3, o4, o5, o6⟩ := O i hi hr
    have hop := sc_opf (SV i hi).1
    refine ⟨hW i hi hr, fun w => ?_, fun w => hA sc_rx xax i o2 w, fun w => hA sc_ry xay i o3 w, fun w => hA sc_rz xaz i o4 w, fun w => ?_, fun w => ⟨?_, ?_⟩⟩
    · rw [hB sc_rx xax i (hop.2.2.1 w)]; exact o1 w
    · rw [hB sc_rx xax i (by rw [w]; decide)]; exact o5 w
    · rw [hB sc_ry xay i (by rw [w]; decide)]; exact (o6 w).1
    · rw [hB sc_rz xaz i (by rw [w]; decide)]; exact (o6 w).2
  · have e : fo_P (nI m) (xay p) xpa 120 j = fo_v true (xpa j) (nI m) (xay p) := if_pos hj
    rw [e]
    rcases P j hj with ⟨a, b⟩ | ⟨a, b⟩
    · refine Or.inl ⟨a, ?_⟩
      unfold fo_v
      split
      · exact ⟨s, hs, es⟩
      · exact b
    · refine Or.inr ⟨a, ?_⟩
      rw [fo_vf (fun y => zi_neg (by omega) (y.2.symm.trans b))]; exact b
  · by_cases e : i = p
    · rw [e, pk_us]; exact Or.inr ⟨rfl, hop⟩
    · rw [pk_un e]; exact F i hi
theorem fo_W_of {ni nc : Nat} {rt xop xsx xsy xsz xrs xax xay xaz yas : Nat → Int32} (O : rl_O ni nc rt xop xsx xsy xsz xrs xax xay xaz yas) : fo_W rt xop xax xay xaz yas ni := fun j hj hr => (O j hj hr).1
theorem i_vc_foldCopy {k : Nat} {u : SX} {v : SY} (I : i_Rel k u v) (hk : k + 5 ≤ 2564) (v1 : Int32) : wpX_foldCopy (fun r u' => wpY_foldCopy (fun r' v' => r' = r ∧ i_Rel (k + 5) u' v') v v1) u v1 := by
  refine zz_el (Q := fun u v => wpX_foldCopy (fun r u' => wpY_foldCopy (fun r' v' => r' = r ∧ i_Rel (k + 5) u' v') v v1) u v1) ?_ I
  intro mb mi mv oc ni nb ph xrm xnc xcc xsc xpc ync ycl xop xsx xsy xsz xbo xbf xbe xin xee xdm xid xfm xgm xkm xlm xnb xnp xnv xph xln xpa xrs xax xay xaz xfo xsr xso xst xco xcx xcy xcz xcb xpd xps xss xtu xcu xou xot xrg ysr ymk yre ydm yid yfr ylv yis yas ycd yfi ypd yps yot yrg yrv R0
  have R1 := R0
  obtain ⟨nc, cc, bf, be, rt, S, H, M⟩ := R0
  by_cases h0 : ph = 1
  rotate_left
  · exact br_f h0 (br_f h0 ⟨rfl, zz_in R1⟩)
  have S' := S
  obtain ⟨S1, S2, S3, S4, S5, S6, B, SV, YS, hbo, hbf, hbe⟩ := S
  have hn := B.1
  have h10 := B.2.1
  rcases H with ⟨w, _⟩ | ⟨H1, e1, e2, A, N⟩
  · rw [h0] at w; exact absurd w (by decide)
  have H1' : ph = 1 ∧ xcc = 0 ∧ xsc = 0 := by
    rcases H1 with w | w
    · exact w
    · rw [h0] at w; exact absurd w.1 (by decide)
  subst e1 e2
  have A' := A
  obtain ⟨C, hrt, V, hrm, hre, _⟩ := A
  refine br_t h0 ?_
  rcases fo_case (xph := xph) (mb := mb) (mi := mi) (oc := oc) (nb := nb) (ph := ph) hn YS N.1 N.2.1 N.2.2.2.2 v1 with ⟨m, p, hm, hp, rfl, hnp, hrs, hfo, hop, hrc, hX, hY⟩ | ⟨hX, hY⟩
  rotate_left
  · exact hX _ (br_t rfl (br_t h0 (hY _ (br_t (by decide) ⟨rfl, zz_in R1⟩))))
  refine hX _ (br_f (by decide) (x_foldName (rt := rt) hn hrm hbo (fun i hi => by have := (sc_loc B i hi).1; omega) (by have := N.2.1; omega) (by omega) hnp rfl (x_idleAll fun rg hrg => ?_)))
  refine br_t h0 (hY _ (br_f zi_nlt (br_t (nI_lt (b := 40) (by omega) (by decide)) (zs_rn (p * 4 + 2) ?_ (by omega) (zi_4b p)))))
  rw [(N.2.2.1 p hp hrc).1.2.2.1]
  refine y_fold (A1 := xax) (A2 := xay) (A3 := xaz) YS B SV hre (by omega) (fo_W_of N.2.2.1) fun A ot rg' hA hrg' => ⟨rfl, zz_in ⟨nc, cc, bf, be, rt, S', Or.inr ⟨Or.inl H1', rfl, rfl, A', fo_Nk hn SV N hm hp hop hrc hA⟩, rl_M_idle hrg hrg'⟩⟩
end
section
/-! ===== propagate ===== -/
theorem mc_33 {a : Nat → Int32} {x : Int32} : mc_3 (mc_3 a x) x = mc_3 a x := by
  funext j
  by_cases hj : j < 3
  · rw [mc_3v hj, mc_3v hj]
  · have e : ∀ b : Nat → Int32, mc_3 b x j = b j := by
      intro b
      unfold mc_3
      rw [pk_un (by omega), pk_un (by omega), pk_un (by omega)]
    rw [e, e]
def fo_mk (op A1 A2 A3 : Nat → Int32) : Nat → Int32 := fun j => if j % 4 = 0 then op (j / 4) else if j % 4 = 1 then A1 (j / 4) else if j % 4 = 2 then A2 (j / 4) else A3 (j / 4)
theorem fo_mkW {rt op A1 A2 A3 : Nat → Int32} {ni : Nat} : fo_W rt op A1 A2 A3 (fo_mk op A1 A2 A3) ni := by
  intro j hj hr
  unfold fo_mk
  have a0 : (j * 4) % 4 = 0 := by omega
  have a1 : (j * 4 + 1) % 4 = 1 := by omega
  have a2 : (j * 4 + 2) % 4 = 2 := by omega
  have a3 : (j * 4 + 3) % 4 = 3 := by omega
  have b0 : (j * 4) / 4 = j := by omega
  have b1 : (j * 4 + 1) / 4 = j := by omega
  have b2 : (j * 4 + 2) / 4 = j := by omega
  have b3 : (j * 4 + 3) / 4 = j := by omega
  rw [a0, a1, a2, a3, b0, b1, b2, b3]
  exact ⟨rfl, rfl, rfl, rfl⟩
section
variable {rt : Nat → Int32} {nc : Nat} {bf be : Nat → Nat} {mb mi mv oc ni nb : Nat} {ph xrm xcc xsc xpc ycl : Int32} {xop xsx xsy xsz xbo xbf xbe xin xee xdm xid xfm xgm xkm xlm xnb xnp xnv xph xln xrs xsr xso xst xco xcx xcy xcz xcb xpd xps xss xtu xcu xou xot xrg ysr yin ymk yre ydm yid yfr ylv yis ycd yfi ypd yps yrv : Nat → Int32}
theorem fo_prop (B : sc_BL xop ni nb bf be) (SV : sc_SV mb mv ni xop xsx xsy xsz) (YS : sc_YS ysr xop xsx xsy xsz) (hre : ∀ b, b < 10 → yre b = zb_i (gr_rc rt b)) (hrm : ∀ i, i < 32 → bt xrm i = gr_rc rt i) (hbo : ∀ i, i < ni → xbo i = nI (sc_tc xop i)) (h1 : ph = 1) :
    ∀ (t m : Nat), m + t = nc → ∀ (xax xay xaz xpa xfo yas0 : Nat → Int32) (d : Nat), rl_N mv ni nc rt xop xsx xsy xsz xnb xnp xnv xph xpa xrs xax xay xaz xfo yas0 →
    ∃ (A1 A2 A3 pa fo : Nat → Int32) (d' : Nat), d' ≤ d + t ∧ d ≤ d' ∧
      (∀ post : Int32 → SX → Prop, (∀ n, wX_propagate_14 post (n + 1) (nI d') (nI nc) (nI mb) (nI mi) (nI mv) (nI oc) ph (nI ni) (nI nb) xrm (nI nc) xcc xsc xpc xop xsx xsy xsz xbo xbf xbe xin xee xdm xid xfm xgm xkm xlm xnb xnp xnv xph xln pa xrs A1 A2 A3 fo xsr xso xst xco xcx xcy xcz xcb xpd xps xss xtu xcu xou xot xrg) → ∀ n, t < n → wX_propagate_14 post n (nI d) (nI m) (nI mb) (nI mi) (nI mv) (nI oc) ph (nI ni) (nI nb) xrm (nI nc) xcc xsc xpc xop xsx xsy xsz xbo xbf xbe xin xee xdm xid xfm xgm xkm xlm xnb xnp xnv xph xln xpa xrs xax xay xaz xfo xsr xso xst xco xcx xcy xcz xcb xpd xps xss xtu xcu xou xot xrg) ∧
      (∀ (yas yss ytu ybl you yot yrg : Nat → Int32), rl_N mv ni nc rt xop xsx xsy xsz xnb xnp xnv xph xpa xrs xax xay xaz xfo yas → ∀ post : Int32 → SY → Prop,
        (∀ A ss tu bl ou ot rg : Nat → Int32, rl_N mv ni nc rt xop xsx xsy xsz xnb xnp xnv xph pa xrs A1 A2 A3 fo A →
          ((d' = d ∧ ss = yss ∧ tu = ytu ∧ bl = ybl ∧ ou = you ∧ ot = yot ∧ rg = yrg) ∨ (d < d' ∧ ss = mc_3 yss 0 ∧ tu = mc_3 ytu 0 ∧ bl = mc_3 ybl (-1) ∧ ou = mc_3 you 0 ∧ ∀ j, j < 384 → rg j = 0)) →
          post (nI d') ((nI mb), (nI mi), (nI mv), (nI oc), ph, (nI ni), nI nc, ycl, ysr, yin, ymk, yre, ydm, yid, yfr, ylv, yis, xph, pa, xrs, A, fo, ycd, yfi, ypd, yps, ss, tu, bl, ou, ot, rg, yrv)) → ∀ n, t < n → wY_propagate_14 post n (nI d) (nI m) (nI mb) (nI mi) (nI mv) (nI oc) ph (nI ni) (nI nc) ycl ysr yin ymk yre ydm yid yfr ylv yis xph xpa xrs yas xfo ycd yfi ypd yps yss ytu ybl you yot yrg yrv) := by
  have hn := B.1
  have h10 := B.2.1
  intro t
  induction t with
  | zero =>
    intro m hm xax xay xaz xpa xfo yas0 d N
    have hnc := N.2.1
    have e : m = nc := by omega
    subst e
    refine ⟨xax, xay, xaz, xpa, xfo, d, by omega, Nat.le_refl _, fun post h n hn' => ?_, fun yas yss ytu ybl you yot yrg N' post h n hn' => ?_⟩
    · obtain ⟨n', rfl⟩ : ∃ n', n = n' + 1 := ⟨n - 1, by omega⟩
      exact h n'
    · obtain ⟨n', rfl⟩ : ∃ n', n = n' + 1 := ⟨n - 1, by omega⟩
      exact zc_ex (h yas yss ytu ybl you yot yrg N' (Or.inl ⟨rfl, rfl, rfl, rfl, rfl, rfl, rfl⟩))
  | succ t ih =>
    intro m hm xax xay xaz xpa xfo yas0 d N
    have hnc := N.2.1
    have hml : m < nc := by omega
    have hcase := fun (yas yss ytu ybl you yot yrg : Nat → Int32) => fo_case (xph := xph) (mb := mb) (mi := mi) (oc := oc) (nb := nb) (ph := ph) (xrm := xrm) (xcc := xcc) (xsc := xsc) (xpc := xpc) (ycl := ycl) (xsy := xsy) (xsz := xsz) (xbo := xbo) (xbf := xbf) (xbe := xbe) (xin := xin) (xee := xee) (xdm := xdm) (xid := xid) (xfm := xfm) (xgm := xgm) (xkm := xkm) (xlm := xlm) (xln := xln) (xpa := xpa) (xax := xax) (xay := xay) (xaz := xaz) (xsr := xsr) (xso := xso) (xst := xst) (xco := xco) (xcx := xcx) (xcy := xcy) (xcz := xcz) (xcb := xcb) (xpd := xpd) (xps := xps) (xss := xss) (xtu := xtu) (xcu := xcu) (xou := xou) (xot := xot) (xrg := xrg) (yin := yin) (ymk := ymk) (yre := yre) (ydm := ydm) (yid := yid) (yfr := yfr) (ylv := ylv) (yis := yis) (yph := xph) (yar := xpa) (yas := yas) (ycd := ycd) (yfi := yfi) (ypd := ypd) (yps := yps) (yss := yss) (ytu := ytu) (ybl := ybl) (you := you) (yot := yot) (yrg := yrg) (yrv := yrv) hn YS N.1 N.2.1 N.2.2.2.2 (nI m)
    by_cases hl : ∃ p, p < ni ∧ xnp m = nI p ∧ xrs p = nI m ∧ xfo p = 0 ∧ xop p = 1 ∧ gr_rc rt (sc_tc xop p) = true
    · obtain ⟨p, hp, hnp, hrs, hfo, hop, hrc⟩ := hl
      have hX : ∀ post : Int32 → Prop, post 1 → wpX_isLiveCopy post ((nI mb), (nI mi), (nI mv), (nI oc), ph, (nI ni), (nI nb), xrm, nI nc, xcc, xsc, xpc, xop, xsx, xsy, xsz, xbo, xbf, xbe, xin, xee, xdm, xid, xfm, xgm, xkm, xlm, xnb, xnp, xnv, xph, xln, xpa, xrs, xax, xay, xaz, xfo, xsr, xso, xst, xco, xcx, xcy, xcz, xcb, xpd, xps, xss, xtu, xcu, xou, xot, xrg) (nI m) := by
        intro post h
        refine br_f zi_nlt (br_t (nI_lt hml (by omega)) (zs_rn m ?_ (by omega)))
        rw [hnp]
        exact br_f zi_nlt ⟨pk_in p 40 (by omega), zc_eq p (fun _ => ⟨pk_in p 40 (by omega), zc_eq p (fun _ => h) (fun w => absurd hop w)⟩) (fun w => absurd hfo w)⟩
      obtain ⟨B1, B2, B3, pa, fo, d', hd, hd2, hX', hY'⟩ := ih (m + 1) (by omega) _ _ _ _ _ _ (d + 1) (fo_Nk hn SV N hml hp hop hrc fo_mkW)
      refine ⟨B1, B2, B3, pa, fo, d', by omega, by omega, fun post h n hn' => ?_, fun yas yss ytu ybl you yot yrg N' post h n hn' => ?_⟩
      · obtain ⟨n', rfl⟩ : ∃ n', n = n' + 1 := ⟨n - 1, by omega⟩
        refine zc_go hml (hX _ (br_f (by decide) (x_foldName (rt := rt) hn hrm hbo (fun i hi => by have := (sc_loc B i hi).1; omega) (by omega) (by omega) hnp rfl (zn_1 (zn_1 (hX' post h n' (by omega)))))))
      · obtain ⟨n', rfl⟩ : ∃ n', n = n' + 1 := ⟨n - 1, by omega⟩
        rcases hcase yas yss ytu ybl you yot yrg with ⟨m', p', hm', hp', em, hnp', hrs', hfo', hop', hrc', _, hY⟩ | ⟨hX2, _⟩
        · have e : m = m' := zi_inj em
          subst e
          have e2 : p' = p := by
            have := hnp'.symm.trans hnp
            exact zi_inj this
          subst e2
          refine zc_go hml (hY _ (br_f zi_nlt (br_t h1 (hY _ (br_f zi_nlt (br_t (nI_lt (b := 40) (by omega) (by decide)) (zs_rn (p' * 4 + 2) ?_ (by omega) (zi_4b p'))))))))
          rw [(N'.2.2.1 p' hp hrc).1.2.2.1]
          refine y_fold (A1 := xax) (A2 := xay) (A3 := xaz) YS B SV hre (by omega) (fo_W_of N'.2.2.1) fun A ot rg hA hrg => zn_1 (zn_1 (hY' A _ _ _ _ _ _ (fo_Nk hn SV N' hml hp hop hrc hA) post (fun A' ss tu bl ou ot' rg' N'' hM => h A' ss tu bl ou ot' rg' N'' (Or.inr ?_)) n' (by omega)))
          rcases hM with ⟨a, b1, b2, b3, b4, b5, b6⟩ | ⟨a, b1, b2, b3, b4, b5⟩
          · refine ⟨by omega, b1, b2, b3, b4, ?_⟩
            rw [b6]; exact hrg
          · rw [mc_33] at b1 b2 b3 b4
            exact ⟨by omega, b1, b2, b3, b4, b5⟩
        · have h01 := hX2 (fun r => r = 0) rfl
          have h11 : ∀ post : Int32 → Prop, wpX_isLiveCopy post ((nI mb), (nI mi), (nI mv), (nI oc), ph, (nI ni), (nI nb), xrm, nI nc, xcc, xsc, xpc, xop, xsx, xsy, xsz, xbo, xbf, xbe, xin, xee, xdm, xid, xfm, xgm, xkm, xlm, xnb, xnp, xnv, xph, xln, xpa, xrs, xax, xay, xaz, xfo, xsr, xso, xst, xco, xcx, xcy, xcz, xcb, xpd, xps, xss, xtu, xcu, xou, xot, xrg) (nI m) → post 1 := by
            intro post q
            have q1 := (q.2 zi_nlt).1 (nI_lt hml (by omega))
            have q2 := q1.2 _ rfl
            rw [zb_rd m, hnp] at q2
            have q3 := (q2.2 zi_nlt).2
            have q4 := (q3.1 (by rw [zb_rd p]; exact hfo)).2
            exact q4.1 (by rw [zb_rd p]; exact hop)
          exact absurd (h11 _ h01) (by decide)
    · obtain ⟨B1, B2, B3, pa, fo, d', hd, hd2, hX', hY'⟩ := ih (m + 1) (by omega) xax xay xaz xpa xfo yas0 d N
      refine ⟨B1, B2, B3, pa, fo, d', by omega, hd2, fun post h n hn' => ?_, fun yas yss ytu ybl you yot yrg N' post h n hn' => ?_⟩
      · obtain ⟨n', rfl⟩ : ∃ n', n = n' + 1 := ⟨n - 1, by omega⟩
        rcases hcase yas0 xss xtu xcu xou xot xrg with ⟨m', p', hm', hp', em, hnp', hrs', hfo', hop', hrc', _, _⟩ | ⟨hX, _⟩
        · have e : m = m' := zi_inj em
          subst e
          exact absurd ⟨p', hp', hnp', hrs', hfo', hop', hrc'⟩ hl
        · exact zc_go hml (hX _ (br_t rfl (zn_1 (hX' post h n' (by omega)))))
      · obtain ⟨n', rfl⟩ : ∃ n', n = n' + 1 := ⟨n - 1, by omega⟩
        rcases hcase yas yss ytu ybl you yot yrg with ⟨m', p', hm', hp', em, hnp', hrs', hfo', hop', hrc', _, _⟩ | ⟨_, hY⟩
        · have e : m = m' := zi_inj em
          subst e
          exact absurd ⟨p', hp', hnp', hrs', hfo', hop', hrc'⟩ hl
        · exact zc_go hml (hY _ (br_t (by decide) (zn_1 (hY' yas yss ytu ybl you yot yrg N' post h n' (by omega)))))
end
theorem i_vc_propagate {k : Nat} {u : SX} {v : SY} (I : i_Rel k u v) (hk : k + 5 ≤ 2564) : wpX_propagate (fun r u' => wpY_propagate (fun r' v' => r' = r ∧ i_Rel (k + 5) u' v') v) u := by
  refine zz_el (Q := fun u v => wpX_propagate (fun r u' => wpY_propagate (fun r' v' => r' = r ∧ i_Rel (k + 5) u' v') v) u) ?_ I
  intro mb mi mv oc ni nb ph xrm xnc xcc xsc xpc ync ycl xop xsx xsy xsz xbo xbf xbe xin xee xdm xid xfm xgm xkm xlm xnb xnp xnv xph xln xpa xrs xax xay xaz xfo xsr xso xst xco xcx xcy xcz xcb xpd xps xss xtu xcu xou xot xrg ysr ymk yre ydm yid yfr ylv yis yas ycd yfi ypd yps yot yrg yrv R0
  have R1 := R0
  obtain ⟨nc, cc, bf, be, rt, S, H, M⟩ := R0
  by_cases h0 : ph = 1
  rotate_left
  · exact br_f h0 (br_f h0 ⟨rfl, zz_in R1⟩)
  have S' := S
  obtain ⟨S1, S2, S3, S4, S5, S6, B, SV, YS, hbo, hbf, hbe⟩ := S
  have hn := B.1
  have h10 := B.2.1
  rcases H with ⟨w, _⟩ | ⟨H1, e1, e2, A, N⟩
  · rw [h0] at w; exact absurd w (by decide)
  have H1' : ph = 1 ∧ xcc = 0 ∧ xsc = 0 := by
    rcases H1 with w | w
    · exact w
    · rw [h0] at w; exact absurd w.1 (by decide)
  subst e1 e2
  have A' := A
  obtain ⟨C, hrt, V, hrm, hre, _⟩ := A
  have hnc := N.2.1
  obtain ⟨A1, A2, A3, pa, fo, d', hd, hd2, hX, hY⟩ := fo_prop (mb := mb) (mi := mi) (oc := oc) (xcc := xcc) (xsc := xsc) (xpc := xpc) (ycl := ycl) (xbf := xbf) (xbe := xbe) (xin := xin) (xee := xee) (xdm := xdm) (xid := xid) (xfm := xfm) (xgm := xgm) (xkm := xkm) (xlm := xlm) (xln := xln) (xsr := xsr) (xso := xso) (xst := xst) (xco := xco) (xcx := xcx) (xcy := xcy) (xcz := xcz) (xcb := xcb) (xpd := xpd) (xps := xps) (xss := xss) (xtu := xtu) (xcu := xcu) (xou := xou) (xot := xot) (xrg := xrg) (yin := xin) (ymk := ymk) (ydm := ydm) (yid := yid) (yfr := yfr) (ylv := ylv) (yis := yis) (ycd := ycd) (yfi := yfi) (ypd := ypd) (yps := yps) (yrv := yrv) B SV YS hre hrm hbo h0 nc 0 (by omega) xax xay xaz xpa xfo yas 0 N
  refine br_t h0 ⟨nc + 1, hX _ (fun n => zc_ex (pk_le d' 0 (fun w => ?_) (fun w => x_idleAll fun rg hrg => ?_))) (nc + 1) (by omega)⟩
  · refine br_t h0 ⟨nc + 1, hY yas xss xtu xcu xou yot yrg N _ (fun A ss tu bl ou ot rg N' hM => ⟨rfl, ?_⟩) (nc + 1) (by omega)⟩
    rcases hM with ⟨_, rfl, rfl, rfl, rfl, rfl, rfl⟩ | ⟨y, _⟩
    · exact zz_in ⟨nc, cc, bf, be, rt, S', Or.inr ⟨Or.inl H1', rfl, rfl, A', N'⟩, M⟩
    · omega
  · refine br_t h0 ⟨nc + 1, hY yas xss xtu xcu xou yot yrg N _ (fun A ss tu bl ou ot rg' N' hM => ⟨rfl, ?_⟩) (nc + 1) (by omega)⟩
    rcases hM with ⟨y, _⟩ | ⟨_, rfl, rfl, rfl, rfl, hrg'⟩
    · omega
    · exact zz_in ⟨nc, cc, bf, be, rt, S', Or.inr ⟨Or.inl H1', rfl, rfl, A', N'⟩, rl_M_idle hrg hrg'⟩
end
section
/-! ===== machines: one instruction ===== -/
def mr_V (oc : Nat) (xou xot xrg yot yrg : Nat → Int32) : Prop := ∀ f, f < 3 → (∀ r, r < 100 → xrg (f * 100 + r) = yrg (f * 128 + r)) ∧ (∃ k, k ≤ oc ∧ xou f = nI k ∧ ∀ i, i < k → xot (f * 64 + i) = yot (f * 64 + i))
theorem mr_V_reg {oc f x : Nat} {xou xot xrg yot yrg : Nat → Int32} {va : Int32} (V : mr_V oc xou xot xrg yot yrg) (hf : f < 3) (hx : x < 100) : mr_V oc xou xot (upd xrg (f * 100 + x) va) yot (upd yrg (f * 128 + x) va) := by
  intro g hg
  refine ⟨fun r hr => ?_, (V g hg).2⟩
  by_cases e : g * 100 + r = f * 100 + x
  · have e1 : g = f := by omega
    have e2 : r = x := by omega
    rw [e1, e2, pk_us, pk_us]
  · rw [pk_un e, pk_un (fun w => e (by omega))]; exact (V g hg).1 r hr
theorem mr_V_out {oc f kk : Nat} {xou xot xrg yot yrg : Nat → Int32} {va : Int32} (V : mr_V oc xou xot xrg yot yrg) (hoc : oc ≤ 64) (hf : f < 3) (hk : xou f = nI kk) (hlt : kk < oc) : mr_V oc (upd xou f (nI (kk + 1))) (upd xot (f * 64 + kk) va) xrg (upd yot (f * 64 + kk) va) yrg := by
  intro g hg
  obtain ⟨v1, k', h1, h2, h3⟩ := V g hg
  refine ⟨v1, ?_⟩
  by_cases e : g = f
  · subst e
    have ek : k' = kk := zi_inj (h2.symm.trans hk)
    subst ek
    refine ⟨k' + 1, by omega, pk_us, fun i hi => ?_⟩
    by_cases e : i = k'
    · rw [e, pk_us, pk_us]
    · rw [pk_un (by omega), pk_un (by omega)]; exact h3 i (by omega)
  · refine ⟨k', h1, by rw [pk_un e]; exact h2, fun i hi => ?_⟩
    rw [pk_un (by omega), pk_un (by omega)]; exact h3 i hi
section
variable {mb mi mv oc ni : Nat} {ph ync ycl : Int32} {ysr yin ymk yre ydm yid yfr ylv yis yph yar yrs yas yfo ycd yfi ypd yps yss ytu ybl you yot yrg yrv : Nat → Int32}
theorem y_getReg_ex {f : Nat} (hf : f < 3) (y : Int32) : ∃ a : Int32, (∀ r, r < 128 → y = nI r → a = yrg (f * 128 + r)) ∧ ∀ post : Int32 → Prop, post a → wpY_getReg post ((nI mb), (nI mi), (nI mv), (nI oc), ph, (nI ni), ync, ycl, ysr, yin, ymk, yre, ydm, yid, yfr, ylv, yis, yph, yar, yrs, yas, yfo, ycd, yfi, ypd, yps, yss, ytu, ybl, you, yot, yrg, yrv) (nI f) y := by
  rcases pk_ix y (n := 128) (by omega) with w | w | ⟨r, hr, rfl⟩
  · refine ⟨0, fun r hr e => ?_, fun post h => br_f zi_nlt (br_f (nI_nlt (a := 2) (by omega) (by decide)) (br_t w h))⟩
    rw [e] at w; exact absurd w zi_nlt
  · refine ⟨0, fun r hr e => ?_, fun post h => br_f zi_nlt (br_f (nI_nlt (a := 2) (by omega) (by decide)) (br_f (zi_out (by omega) w) (br_f (Int32.not_lt.mpr w) h)))⟩
    rw [e] at w; exact absurd w (nI_ge hr (by decide))
  · exact ⟨yrg (f * 128 + r), fun r' hr' e => by rw [zi_inj e], fun post h => y_getReg hf hr h⟩
theorem y_setReg {post : SY → Prop} {f r : Nat} {va : Int32} (hf : f < 3) (hr : r < 128) (h : post ((nI mb), (nI mi), (nI mv), (nI oc), ph, (nI ni), ync, ycl, ysr, yin, ymk, yre, ydm, yid, yfr, ylv, yis, yph, yar, yrs, yas, yfo, ycd, yfi, ypd, yps, yss, ytu, ybl, you, yot, upd yrg (f * 128 + r) va, yrv)) : wpY_setReg post ((nI mb), (nI mi), (nI mv), (nI oc), ph, (nI ni), ync, ycl, ysr, yin, ymk, yre, ydm, yid, yfr, ylv, yis, yph, yar, yrs, yas, yfo, ycd, yfi, ypd, yps, yss, ytu, ybl, you, yot, yrg, yrv) (nI f) (nI r) va :=
  br_f zi_nlt (br_f (nI_nlt (a := 2) (by omega) (by decide)) (br_f zi_nlt (br_t (nI_lt (b := 128) hr (by decide)) (zs_st (f * 128 + r) h (by omega) (zi_128 f r)))))
end
section
variable {mb mi mv oc ni nb : Nat} {ph xrm xnc xcc xsc xpc : Int32} {xop xsx xsy xsz xbo xbf xbe xin xee xdm xid xfm xgm xkm xlm xnb xnp xnv xph xln xpa xrs xax xay xaz xfo xsr xso xst xco xcx xcy xcz xcb xpd xps xss xtu xcu xou xot xrg : Nat → Int32} {ync ycl : Int32} {ysr yin ymk yre ydm yid yfr ylv yis yph yar yrs yas yfo ycd yfi ypd yps yss ytu ybl you yot yrg yrv : Nat → Int32}
theorem ex_out {f k : Nat} {x y z : Int32} (hf : f < 3) (hk : k ≤ 8) (hoc : oc ≤ 64) (V : mr_V oc xou xot xrg yot yrg)
    (hx : (sc_df (nI k) = true ∨ sc_rx (nI k) = true) → ∃ r, r < 100 ∧ x = nI r) (hy : sc_ry (nI k) = true → ∃ r, r < 100 ∧ y = nI r) (hz : sc_rz (nI k) = true → ∃ r, r < 100 ∧ z = nI r) :
    ∃ (b : Bool) (ss ou ot rg ot' rg' : Nat → Int32), mr_V oc ou ot rg ot' rg' ∧ (∀ g, g ≠ f → ss g = xss g) ∧ (b = true → ss = xss) ∧ (b = false → ¬ ss f = 1) ∧
      (∀ post : Int32 → SX → Prop, post (zb_i b) ((nI mb), (nI mi), (nI mv), (nI oc), ph, (nI ni), (nI nb), xrm, xnc, xcc, xsc, xpc, xop, xsx, xsy, xsz, xbo, xbf, xbe, xin, xee, xdm, xid, xfm, xgm, xkm, xlm, xnb, xnp, xnv, xph, xln, xpa, xrs, xax, xay, xaz, xfo, xsr, xso, xst, xco, xcx, xcy, xcz, xcb, xpd, xps, ss, xtu, xcu, ou, ot, rg) → wpX_execute post ((nI mb), (nI mi), (nI mv), (nI oc), ph, (nI ni), (nI nb), xrm, xnc, xcc, xsc, xpc, xop, xsx, xsy, xsz, xbo, xbf, xbe, xin, xee, xdm, xid, xfm, xgm, xkm, xlm, xnb, xnp, xnv, xph, xln, xpa, xrs, xax, xay, xaz, xfo, xsr, xso, xst, xco, xcx, xcy, xcz, xcb, xpd, xps, xss, xtu, xcu, xou, xot, xrg) (nI f) (nI k) x y z) ∧
      (∀ post : Int32 → SY → Prop, post (zb_i b) ((nI mb), (nI mi), (nI mv), (nI oc), ph, (nI ni), ync, ycl, ysr, yin, ymk, yre, ydm, yid, yfr, ylv, yis, yph, yar, yrs, yas, yfo, ycd, yfi, ypd, yps, ss, ytu, ybl, ou, ot', rg', yrv) → wpY_exec post ((nI mb), (nI mi), (nI mv), (nI oc), ph, (nI ni), ync, ycl, ysr, yin, ymk, yre, ydm, yid, yfr, ylv, yis, yph, yar, yrs, yas, yfo, ycd, yfi, ypd, yps, xss, ytu, ybl, xou, yot, yrg, yrv) (nI f) (nI k) x y z) := by
  obtain ⟨a, ha, hA⟩ := y_getReg_ex (mb := mb) (mi := mi) (mv := mv) (oc := oc) (ni := ni) (ph := ph) (ync := ync) (ycl := ycl) (ysr := ysr) (yin := yin) (ymk := ymk) (yre := yre) (ydm := ydm) (yid := yid) (yfr := yfr) (ylv := ylv) (yis := yis) (yph := yph) (yar := yar) (yrs := yrs) (yas := yas) (yfo := yfo) (ycd := ycd) (yfi := yfi) (ypd := ypd) (yps := yps) (yss := xss) (ytu := ytu) (ybl := ybl) (you := xou) (yot := yot) (yrg := yrg) (yrv := yrv) hf y
  obtain ⟨b, hb, hB⟩ := y_getReg_ex (mb := mb) (mi := mi) (mv := mv) (oc := oc) (ni := ni) (ph := ph) (ync := ync) (ycl := ycl) (ysr := ysr) (yin := yin) (ymk := ymk) (yre := yre) (ydm := ydm) (yid := yid) (yfr := yfr) (ylv := ylv) (yis := yis) (yph := yph) (yar := yar) (yrs := yrs) (yas := yas) (yfo := yfo) (ycd := ycd) (yfi := yfi) (ypd := ypd) (yps := yps) (yss := xss) (ytu := ytu) (ybl := ybl) (you := xou) (yot := yot) (yrg := yrg) (yrv := yrv) hf z
  obtain ⟨c, hc, hC⟩ := y_getReg_ex (mb := mb) (mi := mi) (mv := mv) (oc := oc) (ni := ni) (ph := ph) (ync := ync) (ycl := ycl) (ysr := ysr) (yin := yin) (ymk := ymk) (yre := yre) (ydm := ydm) (yid := yid) (yfr := yfr) (ylv := ylv) (yis := yis) (yph := yph) (yar := yar) (yrs := yrs) (yas := yas) (yfo := yfo) (ycd := ycd) (yfi := yfi) (ypd := ypd) (yps := yps) (yss := xss) (ytu := ytu) (ybl := ybl) (you := xou) (yot := yot) (yrg := yrg) (yrv := yrv) hf x
  have hle : nI f ≤ 2 := nI_le (b := 2) (by omega) (by decide)
  have e100 : nI f * 100 = nI (f * 100) := pk_mul f 100
  have hin : ∀ r, r < 100 → vp_in (nI (f * 100) + nI r) 300 := fun r hr => pk_in (f * 100 + r) 300 (by omega) (nI_add _ _)
  have hrd : ∀ r, r < 100 → xrg (nI (f * 100) + nI r).toNatClampNeg = yrg (f * 128 + r) := fun r hr => by
    rw [zb_rd (f * 100 + r) (nI_add _ _)]; exact (V f hf).1 r hr
  have hya : sc_ry (nI k) = true → ∃ r, r < 100 ∧ y = nI r ∧ a = yrg (f * 128 + r) := fun w => by
    obtain ⟨r, h1, h2⟩ := hy w
    exact ⟨r, h1, h2, ha r (by omega) h2⟩
  have hzb : sc_rz (nI k) = true → ∃ r, r < 100 ∧ z = nI r ∧ b = yrg (f * 128 + r) := fun w => by
    obtain ⟨r, h1, h2⟩ := hz w
    exact ⟨r, h1, h2, hb r (by omega) h2⟩
  have hxc : (sc_df (nI k) = true ∨ sc_rx (nI k) = true) → ∃ r, r < 100 ∧ x = nI r ∧ c = yrg (f * 128 + r) := fun w => by
    obtain ⟨r, h1, h2⟩ := hx w
    exact ⟨r, h1, h2, hc r (by omega) h2⟩
  have hcase : k = 0 ∨ k = 1 ∨ k = 2 ∨ k = 3 ∨ k = 4 ∨ k = 5 ∨ k = 6 ∨ k = 7 ∨ k = 8 := by omega
  rcases hcase with rfl | rfl | rfl | rfl | rfl | rfl | rfl | rfl | rfl
  · obtain ⟨r, hr, rfl, _⟩ := hxc (by decide)
    refine ⟨true, xss, xou, xot, upd xrg (f * 100 + r) y, yot, upd yrg (f * 128 + r) y, mr_V_reg V hf hr, fun _ _ => rfl, fun _ => rfl, fun w => absurd w (by decide), fun post h => nm_r e100 (br_f (by decide) (br_f (by decide) (br_f (by decide) (br_f (by decide) (br_t (by decide) (zs_st (f * 100 + r) h (by omega) (nI_add _ _))))))), fun post h => br_f zi_nlt (br_t hle (hA _ (hB _ (hC _ (br_t (by decide) (y_setReg hf (by omega) h))))))⟩
  · obtain ⟨r, hr, rfl, _⟩ := hxc (by decide)
    obtain ⟨p, hp, rfl, rfl⟩ := hya (by decide)
    refine ⟨true, xss, xou, xot, upd xrg (f * 100 + r) (yrg (f * 128 + p)), yot, upd yrg (f * 128 + r) (yrg (f * 128 + p)), mr_V_reg V hf hr, fun _ _ => rfl, fun _ => rfl, fun w => absurd w (by decide), fun post h => nm_r e100 (br_f (by decide) (br_f (by decide) (br_f (by decide) (br_f (by decide) (br_f (by decide) (br_t (by decide) ⟨hin p hp, ?_⟩)))))), fun post h => br_f zi_nlt (br_t hle (hA _ (hB _ (hC _ (br_f (by decide) (br_t (by decide) (y_setReg hf (by omega) h)))))))⟩
    rw [hrd p hp]
    exact zs_st (f * 100 + r) h (by omega) (nI_add _ _)
  · obtain ⟨r, hr, rfl, _⟩ := hxc (by decide)
    obtain ⟨p, hp, rfl, rfl⟩ := hya (by decide)
    obtain ⟨q, hq, rfl, rfl⟩ := hzb (by decide)
    refine ⟨true, xss, xou, xot, upd xrg (f * 100 + r) (yrg (f * 128 + p) + yrg (f * 128 + q)), yot, upd yrg (f * 128 + r) (yrg (f * 128 + p) + yrg (f * 128 + q)), mr_V_reg V hf hr, fun _ _ => rfl, fun _ => rfl, fun w => absurd w (by decide), fun post h => nm_r e100 (br_f (by decide) (br_f (by decide) (br_f (by decide) (br_f (by decide) (br_f (by decide) (br_f (by decide) (br_t (by decide) ⟨hin p hp, hin q hq, ?_⟩))))))), fun post h => br_f zi_nlt (br_t hle (hA _ (hB _ (hC _ (br_f (by decide) (br_f (by decide) (br_t (by decide) (y_setReg hf (by omega) h))))))))⟩
    rw [hrd p hp, hrd q hq]
    exact zs_st (f * 100 + r) h (by omega) (nI_add _ _)
  · obtain ⟨r, hr, rfl, _⟩ := hxc (by decide)
    obtain ⟨p, hp, rfl, rfl⟩ := hya (by decide)
    obtain ⟨q, hq, rfl, rfl⟩ := hzb (by decide)
    refine ⟨true, xss, xou, xot, upd xrg (f * 100 + r) (yrg (f * 128 + p) - yrg (f * 128 + q)), yot, upd yrg (f * 128 + r) (yrg (f * 128 + p) - yrg (f * 128 + q)), mr_V_reg V hf hr, fun _ _ => rfl, fun _ => rfl, fun w => absurd w (by decide), fun post h => nm_r e100 (br_f (by decide) (br_f (by decide) (br_f (by decide) (br_f (by decide) (br_f (by decide) (br_f (by decide) (br_f (by decide) (br_t (by decide) ⟨hin p hp, hin q hq, ?_⟩)))))))), fun post h => br_f zi_nlt (br_t hle (hA _ (hB _ (hC _ (br_f (by decide) (br_f (by decide) (br_f (by decide) (br_t (by decide) (y_setReg hf (by omega) h)))))))))⟩
    rw [hrd p hp, hrd q hq]
    exact zs_st (f * 100 + r) h (by omega) (nI_add _ _)
  · obtain ⟨r, hr, rfl, _⟩ := hxc (by decide)
    obtain ⟨p, hp, rfl, rfl⟩ := hya (by decide)
    obtain ⟨q, hq, rfl, rfl⟩ := hzb (by decide)
    refine ⟨true, xss, xou, xot, upd xrg (f * 100 + r) (yrg (f * 128 + p) * yrg (f * 128 + q)), yot, upd yrg (f * 128 + r) (yrg (f * 128 + p) * yrg (f * 128 + q)), mr_V_reg V hf hr, fun _ _ => rfl, fun _ => rfl, fun w => absurd w (by decide), fun post h => nm_r e100 (br_f (by decide) (br_f (by decide) (br_f (by decide) (br_f (by decide) (br_f (by decide) (br_f (by decide) (br_f (by decide) (br_f (by decide) (br_t (by decide) ⟨hin p hp, hin q hq, ?_⟩))))))))), fun post h => br_f zi_nlt (br_t hle (hA _ (hB _ (hC _ (br_f (by decide) (br_f (by decide) (br_f (by decide) (br_f (by decide) (br_t (by decide) (y_setReg hf (by omega) h))))))))))⟩
    rw [hrd p hp, hrd q hq]
    exact zs_st (f * 100 + r) h (by omega) (nI_add _ _)
  · obtain ⟨r, hr, rfl, _⟩ := hxc (by decide)
    obtain ⟨p, hp, rfl, rfl⟩ := hya (by decide)
    obtain ⟨q, hq, rfl, rfl⟩ := hzb (by decide)
    by_cases w : yrg (f * 128 + q) ≤ yrg (f * 128 + p)
    · refine ⟨true, xss, xou, xot, upd xrg (f * 100 + r) 0, yot, upd yrg (f * 128 + r) 0, mr_V_reg V hf hr, fun _ _ => rfl, fun _ => rfl, fun w => absurd w (by decide), fun post h => nm_r e100 (br_f (by decide) (br_f (by decide) (br_f (by decide) (br_f (by decide) (br_f (by decide) (br_f (by decide) (br_f (by decide) (br_f (by decide) (br_f (by decide) (br_t (by decide) ⟨hin p hp, hin q hq, ?_⟩)))))))))), fun post h => br_f zi_nlt (br_t hle (hA _ (hB _ (hC _ (br_f (by decide) (br_f (by decide) (br_f (by decide) (br_f (by decide) (br_f (by decide) (br_t (by decide) (br_t w (y_setReg hf (by omega) h))))))))))))⟩
      rw [hrd p hp, hrd q hq]
      exact br_t w (zs_st (f * 100 + r) h (by omega) (nI_add _ _))
    · refine ⟨true, xss, xou, xot, upd xrg (f * 100 + r) 1, yot, upd yrg (f * 128 + r) 1, mr_V_reg V hf hr, fun _ _ => rfl, fun _ => rfl, fun w => absurd w (by decide), fun post h => nm_r e100 (br_f (by decide) (br_f (by decide) (br_f (by decide) (br_f (by decide) (br_f (by decide) (br_f (by decide) (br_f (by decide) (br_f (by decide) (br_f (by decide) (br_t (by decide) ⟨hin p hp, hin q hq, ?_⟩)))))))))), fun post h => br_f zi_nlt (br_t hle (hA _ (hB _ (hC _ (br_f (by decide) (br_f (by decide) (br_f (by decide) (br_f (by decide) (br_f (by decide) (br_t (by decide) (br_f w (y_setReg hf (by omega) h))))))))))))⟩
      rw [hrd p hp, hrd q hq]
      exact br_f w (zs_st (f * 100 + r) h (by omega) (nI_add _ _))
  · obtain ⟨r, hr, rfl, _⟩ := hxc (by decide)
    obtain ⟨p, hp, rfl, rfl⟩ := hya (by decide)
    refine ⟨true, xss, xou, xot, upd xrg (f * 100 + r) (yrg (f * 128 + p) + z), yot, upd yrg (f * 128 + r) (yrg (f * 128 + p) + z), mr_V_reg V hf hr, fun _ _ => rfl, fun _ => rfl, fun w => absurd w (by decide), fun post h => nm_r e100 (br_f (by decide) (br_f (by decide) (br_f (by decide) (br_f (by decide) (br_f (by decide) (br_f (by decide) (br_f (by decide) (br_f (by decide) (br_f (by decide) (br_f (by decide) (br_t (by decide) ⟨hin p hp, ?_⟩))))))))))), fun post h => br_f zi_nlt (br_t hle (hA _ (hB _ (hC _ (br_f (by decide) (br_f (by decide) (br_f (by decide) (br_f (by decide) (br_f (by decide) (br_f (by decide) (br_t (by decide) (y_setReg hf (by omega) h))))))))))))⟩
    rw [hrd p hp]
    exact zs_st (f * 100 + r) h (by omega) (nI_add _ _)
  · obtain ⟨r, hr, rfl, rfl⟩ := hxc (by decide)
    obtain ⟨_, kk, k1, k2, _⟩ := V f hf
    by_cases w : kk < oc
    · refine ⟨true, xss, upd xou f (nI (kk + 1)), upd xot (f * 64 + kk) (yrg (f * 128 + r)), xrg, upd yot (f * 64 + kk) (yrg (f * 128 + r)), yrg, mr_V_out V hoc hf k2 w, fun _ _ => rfl, fun _ => rfl, fun w => absurd w (by decide), fun post h => nm_r e100 (br_t (by decide) ⟨hin r hr, ?_⟩), fun post h => br_f zi_nlt (br_t hle (hA _ (hB _ (hC _ (br_f (by decide) (br_f (by decide) (br_f (by decide) (br_f (by decide) (br_f (by decide) (br_f (by decide) (br_f (by decide) (br_t (by decide) (zs_rn f ?_ hf)))))))))))))⟩
      · rw [hrd r hr]
        refine zs_rn f ?_ hf
        rw [k2]
        refine br_t (nI_lt w (by omega)) (zs_st (f * 64 + kk) (zs_st f ⟨by decide, ?_⟩ hf) (by omega) (zi_64 f kk))
        rw [nI_1]; exact h
      · rw [k2]
        refine br_f (nI_ge w (by omega)) (br_f zi_nlt (br_t (nI_lt (b := 64) (by omega) (by decide)) (zs_st (f * 64 + kk) (zs_st f ?_ hf) (by omega) (zi_64 f kk))))
        rw [nI_1]; exact h
    · refine ⟨false, upd xss f 4, xou, xot, xrg, yot, yrg, V, fun g hg => pk_un hg, fun w => absurd w (by decide), fun _ => by rw [pk_us]; decide, fun post h => nm_r e100 (br_t (by decide) ⟨hin r hr, ?_⟩), fun post h => br_f zi_nlt (br_t hle (hA _ (hB _ (hC _ (br_f (by decide) (br_f (by decide) (br_f (by decide) (br_f (by decide) (br_f (by decide) (br_f (by decide) (br_f (by decide) (br_t (by decide) (zs_rn f ?_ hf)))))))))))))⟩
      · refine zs_rn f ?_ hf
        rw [k2]
        exact br_f (nI_nlt (by omega) (by omega)) (zs_st f ⟨by decide, h⟩ hf)
      · rw [k2]
        exact br_t (nI_le (by omega) (by omega)) (zs_st f h hf)
  · obtain ⟨r, hr, rfl, rfl⟩ := hxc (by decide)
    by_cases w : yrg (f * 128 + r) = 0
    · refine ⟨false, upd xss f 3, xou, xot, xrg, yot, yrg, V, fun g hg => pk_un hg, fun w => absurd w (by decide), fun _ => by rw [pk_us]; decide, fun post h => nm_r e100 (br_f (by decide) (br_t (by decide) ⟨hin r hr, ?_⟩)), fun post h => br_f zi_nlt (br_t hle (hA _ (hB _ (hC _ (br_f (by decide) (br_f (by decide) (br_f (by decide) (br_f (by decide) (br_f (by decide) (br_f (by decide) (br_f (by decide) (br_f (by decide) (br_t (by decide) (br_t w (zs_st f h hf)))))))))))))))⟩
      rw [hrd r hr]
      exact br_t w (zs_st f h hf)
    · refine ⟨true, xss, xou, xot, xrg, yot, yrg, V, fun _ _ => rfl, fun _ => rfl, fun w => absurd w (by decide), fun post h => nm_r e100 (br_f (by decide) (br_t (by decide) ⟨hin r hr, ?_⟩)), fun post h => br_f zi_nlt (br_t hle (hA _ (hB _ (hC _ (br_f (by decide) (br_f (by decide) (br_f (by decide) (br_f (by decide) (br_f (by decide) (br_f (by decide) (br_f (by decide) (br_f (by decide) (br_t (by decide) (br_f w h))))))))))))))⟩
      rw [hrd r hr]
      exact br_f w h
end
end
section
/-! ===== machines: a turn of the source form ===== -/
/-- what a terminator's edges are -/
theorem sc_rt_9 {op fx fy fz : Nat → Int32} {nb b i : Nat} {be : Nat → Nat} (hb : b < nb) (hi : be b - 1 = i) (h : op i = 9) : sc_rt op fx fy fz nb be (2 * b) = fx i := by
  have e0 : (2 * b) / 2 = b := by omega
  have f0 : (2 * b) % 2 = 0 := by omega
  unfold sc_rt
  rw [e0, if_pos hb, hi, if_pos h, if_pos f0]
theorem sc_rt_10 {op fx fy fz : Nat → Int32} {nb b i : Nat} {be : Nat → Nat} (hb : b < nb) (hi : be b - 1 = i) (h : op i = 10) : sc_rt op fx fy fz nb be (2 * b) = fy i ∧ sc_rt op fx fy fz nb be (2 * b + 1) = fz i := by
  have e0 : (2 * b) / 2 = b := by omega
  have f0 : (2 * b) % 2 = 0 := by omega
  have e1 : (2 * b + 1) / 2 = b := by omega
  have f1 : ¬ (2 * b + 1) % 2 = 0 := by omega
  have n9 : ¬ op i = 9 := by rw [h]; decide
  unfold sc_rt
  rw [e0, e1, if_pos hb, hi]
  exact ⟨by rw [if_neg n9, if_pos h, if_pos f0], by rw [if_pos hb, if_neg n9, if_pos h, if_neg f1]⟩
section
variable {mb mi mv oc ni nb : Nat} {ph xrm xnc xcc xsc xpc ync ycl : Int32} {xop xsx xsy xsz xbo xbf xbe xin xee xdm xid xfm xgm xkm xlm xnb xnp xnv xph xln xpa xrs xax xay xaz xfo xsr xso xst xco xcx xcy xcz xcb xpd xps xtu ysr yin ymk yre ydm yid yfr ylv yis yph yar yrs yas yfo ycd yfi ypd yps ytu yrv rt : Nat → Int32} {bf be : Nat → Nat}
theorem tn_src (B : sc_BL xop ni nb bf be) (C : sc_CL xop ni) (SV : sc_SV mb mv ni xop xsx xsy xsz) (YS : sc_YS ysr xop xsx xsy xsz) (hmb : mb ≤ 10) (hmv : mv ≤ 6) (hoc : oc ≤ 64) (hrt : rt = sc_rt xop xsx xsy xsz nb be) (V : gr_V rt nb) (hee : ∀ e, e < 20 → xee e = gr_ee rt e) (hbe : ∀ b, b < nb → xbe b = nI (be b)) {b : Nat} (hb : gr_rc rt b = true) :
    ∀ d i, i + d = be b → bf b ≤ i → 0 < d → ∀ (xss xcu xou xot xrg yot yrg : Nat → Int32), mr_V oc xou xot xrg yot yrg →
    ∃ ss cu ou ot rg ot' rg' : Nat → Int32, mr_V oc ou ot rg ot' rg' ∧ (∀ g, g ≠ 0 → ss g = xss g ∧ cu g = xcu g) ∧ (ss 0 = 1 → ∃ b', gr_rc rt b' = true ∧ cu 0 = nI b') ∧
      (∀ post : SX → Prop, post ((nI mb), (nI mi), (nI mv), (nI oc), ph, (nI ni), (nI nb), xrm, xnc, xcc, xsc, xpc, xop, xsx, xsy, xsz, xbo, xbf, xbe, xin, xee, xdm, xid, xfm, xgm, xkm, xlm, xnb, xnp, xnv, xph, xln, xpa, xrs, xax, xay, xaz, xfo, xsr, xso, xst, xco, xcx, xcy, xcz, xcb, xpd, xps, ss, xtu, cu, ou, ot, rg) → ∀ n, d < n → wX_turnOnInstructions_27 post (nI 0) (nI b) n 1 (nI i) (nI mb) (nI mi) (nI mv) (nI oc) ph (nI ni) (nI nb) xrm xnc xcc xsc xpc xop xsx xsy xsz xbo xbf xbe xin xee xdm xid xfm xgm xkm xlm xnb xnp xnv xph xln xpa xrs xax xay xaz xfo xsr xso xst xco xcx xcy xcz xcb xpd xps xss xtu xcu xou xot xrg) ∧
      (∀ post : SY → Prop, post ((nI mb), (nI mi), (nI mv), (nI oc), ph, (nI ni), ync, ycl, ysr, yin, ymk, yre, ydm, yid, yfr, ylv, yis, yph, yar, yrs, yas, yfo, ycd, yfi, ypd, yps, ss, ytu, cu, ou, ot', rg', yrv) → ∀ n, d ≤ n → wY_turnSource_27 post (nI (be b - 1)) n (nI i) (nI mb) (nI mi) (nI mv) (nI oc) ph (nI ni) ync ycl ysr yin ymk yre ydm yid yfr ylv yis yph yar yrs yas yfo ycd yfi ypd yps xss ytu xcu xou yot yrg yrv) := by
  have hn := B.1
  have h10 := V.2.1
  have hbl := gr_rc_lt V hb
  have hb1 := sc_be_le B b hbl
  have he : xbe (nI b).toNatClampNeg = nI (be b) := by rw [zb_rd b, hbe b hbl]
  intro d
  induction d with
  | zero => intro i _ _ h; omega
  | succ d ih =>
    intro i hi hlo _ xss xcu xou xot xrg yot yrg MV
    have hini : i < ni := by omega
    have hib : i < be b := by omega
    have hv40 : vp_in (nI i) 40 := pk_in i 40 (by omega)
    obtain ⟨s0, s1, s2, s3⟩ := YS i (by omega)
    obtain ⟨⟨k, hk, ek⟩, t2, t3, t4, t5, t6⟩ := SV i hini
    by_cases h9 : xop i < 9
    · have hk8 : k ≤ 8 := by
        rw [ek] at h9
        have := (nI_ltI (by omega) (by decide : (9 : Nat) < 2 ^ 31)).mp h9
        omega
      have hnl : i + 1 < be b := by
        rcases Nat.lt_or_ge (i + 1) (be b) with y | y
        · exact y
        · have := sc_term B C b hbl
          have e : be b - 1 = i := by omega
          rw [e] at this; exact absurd h9 this
      obtain ⟨r, ss, ou, ot, rg, ot', rg', MV', q1, q2, q3, qX, qY⟩ := ex_out (mb := mb) (mi := mi) (mv := mv) (ni := ni) (nb := nb) (ph := ph) (xrm := xrm) (xnc := xnc) (xcc := xcc) (xsc := xsc) (xpc := xpc) (ync := ync) (ycl := ycl) (xop := xop) (xsx := xsx) (xsy := xsy) (xsz := xsz) (xbo := xbo) (xbf := xbf) (xbe := xbe) (xin := xin) (xee := xee) (xdm := xdm) (xid := xid) (xfm := xfm) (xgm := xgm) (xkm := xkm) (xlm := xlm) (xnb := xnb) (xnp := xnp) (xnv := xnv) (xph := xph) (xln := xln) (xpa := xpa) (xrs := xrs) (xax := xax) (xay := xay) (xaz := xaz) (xfo := xfo) (xsr := xsr) (xso := xso) (xst := xst) (xco := xco) (xcx := xcx) (xcy := xcy) (xcz := xcz) (xcb := xcb) (xpd := xpd) (xps := xps) (xss := xss) (xtu := xtu) (xcu := xcu) (ysr := ysr) (yin := yin) (ymk := ymk) (yre := yre) (ydm := ydm) (yid := yid) (yfr := yfr) (ylv := ylv) (yis := yis) (yph := yph) (yar := yar) (yrs := yrs) (yas := yas) (yfo := yfo) (ycd := ycd) (yfi := yfi) (ypd := ypd) (yps := yps) (ytu := ytu) (ybl := xcu) (yrv := yrv)
        (f := 0) (k := k) (x := xsx i) (y := xsy i) (z := xsz i) (by omega) hk8 hoc MV (fun w => by rw [← ek] at w; obtain ⟨a, a1, a2⟩ := t2 w; exact ⟨a, by omega, a2⟩) (fun w => by rw [← ek] at w; obtain ⟨a, a1, a2⟩ := t3 w; exact ⟨a, by omega, a2⟩) (fun w => by rw [← ek] at w; obtain ⟨a, a1, a2⟩ := t4 w; exact ⟨a, by omega, a2⟩)
      rw [← ek] at qX qY
      have n8 : ¬ 8 < xop i := by rw [ek]; exact nI_nlt (a := 8) (by omega) (by decide)
      have Xgo : ∀ (post : SX → Prop) (n : Nat), (∀ y : Int32, y = nI i + 1 → wX_turnOnInstructions_27 post (nI 0) (nI b) n (zb_i r) y (nI mb) (nI mi) (nI mv) (nI oc) ph (nI ni) (nI nb) xrm xnc xcc xsc xpc xop xsx xsy xsz xbo xbf xbe xin xee xdm xid xfm xgm xkm xlm xnb xnp xnv xph xln xpa xrs xax xay xaz xfo xsr xso xst xco xcx xcy xcz xcb xpd xps ss xtu xcu ou ot rg) → wX_turnOnInstructions_27 post (nI 0) (nI b) (n + 1) 1 (nI i) (nI mb) (nI mi) (nI mv) (nI oc) ph (nI ni) (nI nb) xrm xnc xcc xsc xpc xop xsx xsy xsz xbo xbf xbe xin xee xdm xid xfm xgm xkm xlm xnb xnp xnv xph xln xpa xrs xax xay xaz xfo xsr xso xst xco xcx xcy xcz xcb xpd xps xss xtu xcu xou xot xrg := by
        intro post n hq
        refine ⟨pk_in b 10 (by omega), ?_⟩
        rw [he]
        refine zc_go hib (br_f (by decide) ⟨hv40, zc_lt i (fun _ => br_t rfl ⟨hv40, hv40, hv40, hv40, ?_⟩) (fun w => absurd h9 w)⟩)
        rw [zb_ra (a := xop) i, zb_ra (a := xsx) i, zb_ra (a := xsy) i, zb_ra (a := xsz) i]
        exact qX _ hq
      have Ygo : ∀ (post : SY → Prop) (n : Nat), (zb_i r = 0 → post ((nI mb), (nI mi), (nI mv), (nI oc), ph, (nI ni), ync, ycl, ysr, yin, ymk, yre, ydm, yid, yfr, ylv, yis, yph, yar, yrs, yas, yfo, ycd, yfi, ypd, yps, ss, ytu, xcu, ou, ot', rg', yrv)) → (¬ zb_i r = 0 → ∀ y : Int32, y = nI i + 1 → wY_turnSource_27 post (nI (be b - 1)) n y (nI mb) (nI mi) (nI mv) (nI oc) ph (nI ni) ync ycl ysr yin ymk yre ydm yid yfr ylv yis yph yar yrs yas yfo ycd yfi ypd yps ss ytu xcu ou ot' rg' yrv) → wY_turnSource_27 post (nI (be b - 1)) (n + 1) (nI i) (nI mb) (nI mi) (nI mv) (nI oc) ph (nI ni) ync ycl ysr yin ymk yre ydm yid yfr ylv yis yph yar yrs yas yfo ycd yfi ypd yps xss ytu xcu xou yot yrg yrv := by
        intro post n hq1 hq2
        refine br_f (nI_nlt (by omega) (by omega)) (br_f (nI_ge hini (by omega)) (zs_rn (i * 4) (zs_rn (i * 4 + 1) (zs_rn (i * 4 + 2) (zs_rn (i * 4 + 3) ?_ (by omega) (zi_4c i)) (by omega) (zi_4b i)) (by omega) (zi_4a i)) (by omega) (zi_4 i)))
        rw [s0, s1, s2, s3]
        exact br_f n8 (qY _ ⟨hq1, hq2⟩)
      cases r
      · refine ⟨ss, xcu, ou, ot, rg, ot', rg', MV', fun g hg => ⟨q1 g hg, rfl⟩, fun w => absurd w (q3 rfl), fun post h n hn' => ?_, fun post h n hn' => ?_⟩
        · obtain ⟨n', rfl⟩ : ∃ n', n = n' + 1 + 1 := ⟨n - 2, by omega⟩
          refine Xgo post (n' + 1) (zn_1 ⟨pk_in b 10 (by omega), ?_⟩)
          rw [he]
          exact zc_go hnl (br_t rfl h)
        · obtain ⟨n', rfl⟩ : ∃ n', n = n' + 1 := ⟨n - 1, by omega⟩
          exact Ygo post n' (fun _ => h) (fun w => absurd rfl w)
      · have e := q2 rfl
        subst e
        obtain ⟨ss, cu, ou2, ot2, rg2, ot2', rg2', MV2, p1, p2, pX, pY⟩ := ih (i + 1) (by omega) (by omega) (by omega) ss xcu ou ot rg ot' rg' MV'
        refine ⟨ss, cu, ou2, ot2, rg2, ot2', rg2', MV2, p1, p2, fun post h n hn' => ?_, fun post h n hn' => ?_⟩
        · obtain ⟨n', rfl⟩ : ∃ n', n = n' + 1 := ⟨n - 1, by omega⟩
          exact Xgo post n' (zn_1 (pX post h n' (by omega)))
        · obtain ⟨n', rfl⟩ : ∃ n', n = n' + 1 := ⟨n - 1, by omega⟩
          exact Ygo post n' (fun w => absurd w (by decide)) (fun _ => zn_1 (pY post h n' (by omega)))
    · have hlast : be b - 1 = i := by
        rcases Nat.lt_or_ge (i + 1) (be b) with y | y
        · exact absurd ((B.2.2.2.2.2 b hbl).2 i hlo y) h9
        · omega
      have n8 : 8 < xop i := Int32.lt_of_lt_of_le (by decide) (Int32.not_lt.mp h9)
      have hcase : xop i = 9 ∨ xop i = 10 ∨ xop i = 11 := by
        rw [ek] at h9 ⊢
        have : ¬ k < 9 := fun w => h9 (nI_lt (b := 9) w (by decide))
        have : k = 9 ∨ k = 10 ∨ k = 11 := by omega
        rcases this with rfl | rfl | rfl
        · exact Or.inl rfl
        · exact Or.inr (Or.inl rfl)
        · exact Or.inr (Or.inr rfl)
      have Xend : ∀ (post : SX → Prop) (n : Nat) (ss cu : Nat → Int32), post ((nI mb), (nI mi), (nI mv), (nI oc), ph, (nI ni), (nI nb), xrm, xnc, xcc, xsc, xpc, xop, xsx, xsy, xsz, xbo, xbf, xbe, xin, xee, xdm, xid, xfm, xgm, xkm, xlm, xnb, xnp, xnv, xph, xln, xpa, xrs, xax, xay, xaz, xfo, xsr, xso, xst, xco, xcx, xcy, xcz, xcb, xpd, xps, ss, xtu, cu, xou, xot, xrg) → ∀ y : Int32, y = nI i + 1 → wX_turnOnInstructions_27 post (nI 0) (nI b) (n + 1) 0 y (nI mb) (nI mi) (nI mv) (nI oc) ph (nI ni) (nI nb) xrm xnc xcc xsc xpc xop xsx xsy xsz xbo xbf xbe xin xee xdm xid xfm xgm xkm xlm xnb xnp xnv xph xln xpa xrs xax xay xaz xfo xsr xso xst xco xcx xcy xcz xcb xpd xps ss xtu cu xou xot xrg := by
        intro post n ss cu h
        refine zn_1 ⟨pk_in b 10 (by omega), ?_⟩
        rw [he]
        have e : i + 1 = be b := by omega
        rw [e]
        exact zc_ex h
      have Xpre' : ∀ (post : SX → Prop) (n : Nat) (ss cu : Nat → Int32), (∀ {Q : SX → Prop}, Q ((nI mb), (nI mi), (nI mv), (nI oc), ph, (nI ni), (nI nb), xrm, xnc, xcc, xsc, xpc, xop, xsx, xsy, xsz, xbo, xbf, xbe, xin, xee, xdm, xid, xfm, xgm, xkm, xlm, xnb, xnp, xnv, xph, xln, xpa, xrs, xax, xay, xaz, xfo, xsr, xso, xst, xco, xcx, xcy, xcz, xcb, xpd, xps, ss, xtu, cu, xou, xot, xrg) → wpX_leaveBlock Q ((nI mb), (nI mi), (nI mv), (nI oc), ph, (nI ni), (nI nb), xrm, xnc, xcc, xsc, xpc, xop, xsx, xsy, xsz, xbo, xbf, xbe, xin, xee, xdm, xid, xfm, xgm, xkm, xlm, xnb, xnp, xnv, xph, xln, xpa, xrs, xax, xay, xaz, xfo, xsr, xso, xst, xco, xcx, xcy, xcz, xcb, xpd, xps, xss, xtu, xcu, xou, xot, xrg) (nI 0) (nI b) (nI i)) → post ((nI mb), (nI mi), (nI mv), (nI oc), ph, (nI ni), (nI nb), xrm, xnc, xcc, xsc, xpc, xop, xsx, xsy, xsz, xbo, xbf, xbe, xin, xee, xdm, xid, xfm, xgm, xkm, xlm, xnb, xnp, xnv, xph, xln, xpa, xrs, xax, xay, xaz, xfo, xsr, xso, xst, xco, xcx, xcy, xcz, xcb, xpd, xps, ss, xtu, cu, xou, xot, xrg) → wX_turnOnInstructions_27 post (nI 0) (nI b) (n + 1 + 1) 1 (nI i) (nI mb) (nI mi) (nI mv) (nI oc) ph (nI ni) (nI nb) xrm xnc xcc xsc xpc xop xsx xsy xsz xbo xbf xbe xin xee xdm xid xfm xgm xkm xlm xnb xnp xnv xph xln xpa xrs xax xay xaz xfo xsr xso xst xco xcx xcy xcz xcb xpd xps xss xtu xcu xou xot xrg := by
        intro post n ss cu hl h
        refine ⟨pk_in b 10 (by omega), ?_⟩
        rw [he]
        refine zc_go hib (br_f (by decide) ⟨hv40, zc_lt i (fun w => absurd w h9) (fun _ => ?_)⟩)
        exact hl (Xend post n ss cu h)
      have Ypre : ∀ (post : SY → Prop) (n : Nat), ((xop i = 9 → ∀ a : Nat → Int32, a = upd xcu 0 (xsx i) → post ((nI mb), (nI mi), (nI mv), (nI oc), ph, (nI ni), ync, ycl, ysr, yin, ymk, yre, ydm, yid, yfr, ylv, yis, yph, yar, yrs, yas, yfo, ycd, yfi, ypd, yps, xss, ytu, a, xou, yot, yrg, yrv)) ∧ (¬ xop i = 9 → ((xop i = 10 → wpY_getReg (fun r => (r = 0 → ∀ a : Nat → Int32, a = upd xcu 0 (xsz i) → post ((nI mb), (nI mi), (nI mv), (nI oc), ph, (nI ni), ync, ycl, ysr, yin, ymk, yre, ydm, yid, yfr, ylv, yis, yph, yar, yrs, yas, yfo, ycd, yfi, ypd, yps, xss, ytu, a, xou, yot, yrg, yrv)) ∧ (¬ r = 0 → ∀ a : Nat → Int32, a = upd xcu 0 (xsy i) → post ((nI mb), (nI mi), (nI mv), (nI oc), ph, (nI ni), ync, ycl, ysr, yin, ymk, yre, ydm, yid, yfr, ylv, yis, yph, yar, yrs, yas, yfo, ycd, yfi, ypd, yps, xss, ytu, a, xou, yot, yrg, yrv))) ((nI mb), (nI mi), (nI mv), (nI oc), ph, (nI ni), ync, ycl, ysr, yin, ymk, yre, ydm, yid, yfr, ylv, yis, yph, yar, yrs, yas, yfo, ycd, yfi, ypd, yps, xss, ytu, xcu, xou, yot, yrg, yrv) 0 (xsx i)) ∧ (¬ xop i = 10 → ∀ a : Nat → Int32, a = upd xss 0 2 → post ((nI mb), (nI mi), (nI mv), (nI oc), ph, (nI ni), ync, ycl, ysr, yin, ymk, yre, ydm, yid, yfr, ylv, yis, yph, yar, yrs, yas, yfo, ycd, yfi, ypd, yps, a, ytu, xcu, xou, yot, yrg, yrv))))) → wY_turnSource_27 post (nI (be b - 1)) (n + 1) (nI i) (nI mb) (nI mi) (nI mv) (nI oc) ph (nI ni) ync ycl ysr yin ymk yre ydm yid yfr ylv yis yph yar yrs yas yfo ycd yfi ypd yps xss ytu xcu xou yot yrg yrv := by
        intro post n hq
        refine br_f (nI_nlt (by omega) (by omega)) (br_f (nI_ge hini (by omega)) (zs_rn (i * 4) (zs_rn (i * 4 + 1) (zs_rn (i * 4 + 2) (zs_rn (i * 4 + 3) ?_ (by omega) (zi_4c i)) (by omega) (zi_4b i)) (by omega) (zi_4a i)) (by omega) (zi_4 i)))
        rw [s0, s1, s2, s3]
        exact br_t n8 hq
      have x85 : ∀ {Q : SX → Prop} (e : Nat) (x : Int32), e < 20 → xee e = x → Q ((nI mb), (nI mi), (nI mv), (nI oc), ph, (nI ni), (nI nb), xrm, xnc, xcc, xsc, xpc, xop, xsx, xsy, xsz, xbo, xbf, xbe, xin, xee, xdm, xid, xfm, xgm, xkm, xlm, xnb, xnp, xnv, xph, xln, xpa, xrs, xax, xay, xaz, xfo, xsr, xso, xst, xco, xcx, xcy, xcz, xcb, xpd, xps, xss, xtu, upd xcu 0 x, xou, xot, xrg) → wX_leaveBlock_74 Q (nI 0) (nI e) (nI mb) (nI mi) (nI mv) (nI oc) ph (nI ni) (nI nb) xrm xnc xcc xsc xpc xop xsx xsy xsz xbo xbf xbe xin xee xdm xid xfm xgm xkm xlm xnb xnp xnv xph xln xpa xrs xax xay xaz xfo xsr xso xst xco xcx xcy xcz xcb xpd xps xss xtu xcu xou xot xrg := by
        intro Q e x he' hx hQ
        refine br_f (by decide) ⟨pk_in e 20 he', ?_⟩
        rw [zb_ra (a := xee) e, hx]
        exact zs_st 0 hQ (by omega)
      have e0 : gr_ee rt (2 * b) = rt (2 * b) := gr_ee_t (by rw [show (2 * b) / 2 = b by omega]; exact hb)
      have e1 : gr_ee rt (2 * b + 1) = rt (2 * b + 1) := gr_ee_t (by rw [show (2 * b + 1) / 2 = b by omega]; exact hb)
      rcases hcase with h | h | h
      · have hx : rt (2 * b) = xsx i := by rw [hrt]; exact sc_rt_9 hbl hlast h
        obtain ⟨t, ht, hr', ex⟩ : ∃ t, t < nb ∧ gr_rc rt t = true ∧ xsx i = nI t := by
          rcases gr_ee_or V (e := 2 * b) (by omega) with z | ⟨z1, z2, t, w1, w2, w3, w4, w5, w6⟩
          · rw [e0, hx] at z
            obtain ⟨x, x1, x2, x3⟩ := t5 h
            exact absurd (x3.symm.trans z) (zi_neg (by omega))
          · exact ⟨t, w2, w5, by rw [← hx, ← e0]; exact w3⟩
        refine ⟨xss, upd xcu 0 (xsx i), xou, xot, xrg, yot, yrg, MV, fun g hg => ⟨rfl, pk_un hg⟩, fun _ => ⟨t, hr', by rw [pk_us]; exact ex⟩, fun post hp n hn' => ?_, fun post hp n hn' => ?_⟩
        · obtain ⟨n', rfl⟩ : ∃ n', n = n' + 1 + 1 := ⟨n - 2, by omega⟩
          refine Xpre' post n' xss (upd xcu 0 (xsx i)) (fun hQ => ?_) hp
          refine ⟨hv40, zc_eq i (fun w => absurd (h.symm.trans w) (by decide)) (fun _ => nm_r (zi_20 b) ⟨hv40, zc_eq i (fun w => absurd (h.symm.trans w) (by decide)) (fun _ => x85 (2 * b) (xsx i) (by omega) (by rw [hee _ (by omega), e0]; exact hx) hQ)⟩)⟩
        · obtain ⟨n', rfl⟩ : ∃ n', n = n' + 1 := ⟨n - 1, by omega⟩
          exact Ypre post n' (br_t h (nm_e hp))
      · obtain ⟨hy, hz⟩ := sc_rt_10 (fx := xsx) (fy := xsy) (fz := xsz) hbl hlast h
        rw [← hrt] at hy hz
        obtain ⟨y, z, y1, y2, z1, z2, _, y3, z3⟩ := t6 h
        have hgood : ∀ (e : Nat) (x : Int32), e < 20 → e / 2 = b → rt e = x → ¬ x = -1 → ∃ t, gr_rc rt t = true ∧ x = nI t := by
          intro e x he' hb' hx hne
          have ee : gr_ee rt e = rt e := gr_ee_t (by rw [hb']; exact hb)
          rcases gr_ee_or V he' with z | ⟨_, _, t, w1, w2, w3, w4, w5, w6⟩
          · rw [ee, hx] at z; exact absurd z hne
          · exact ⟨t, w5, by rw [← hx]; exact w4⟩
        obtain ⟨x, hx1, hx2⟩ := t2 (Or.inr (by rw [h]; decide))
        have hreg : xrg (0 * 100 + x) = yrg (0 * 128 + x) := (MV 0 (by omega)).1 x (by omega)
        have hvx : vp_in (nI 0 * 100 + xsx i) 300 := by rw [hx2]; exact pk_in (0 * 100 + x) 300 (by omega) (zi_100 0 x)
        have hrx : xrg (nI 0 * 100 + xsx i).toNatClampNeg = yrg (0 * 128 + x) := by rw [hx2, zb_rd (0 * 100 + x) (zi_100 0 x)]; exact hreg
        by_cases hz0 : yrg (0 * 128 + x) = 0
        · obtain ⟨t, hr', ex⟩ := hgood (2 * b + 1) (xsz i) (by omega) (by omega) hz (by rw [z3]; exact zi_neg (by omega))
          refine ⟨xss, upd xcu 0 (xsz i), xou, xot, xrg, yot, yrg, MV, fun g hg => ⟨rfl, pk_un hg⟩, fun _ => ⟨t, hr', by rw [pk_us]; exact ex⟩, fun post hp n hn' => ?_, fun post hp n hn' => ?_⟩
          · obtain ⟨n', rfl⟩ : ∃ n', n = n' + 1 + 1 := ⟨n - 2, by omega⟩
            refine Xpre' post n' xss (upd xcu 0 (xsz i)) (fun hQ => ?_) hp
            refine ⟨hv40, zc_eq i (fun w => absurd (h.symm.trans w) (by decide)) (fun _ => nm_r (zi_20 b) ⟨hv40, zc_eq i (fun _ => br_t rfl ⟨hv40, ?_⟩) (fun w => absurd h w)⟩)⟩
            rw [zb_ra (a := xsx) i]
            refine ⟨hvx, ?_⟩
            rw [hrx]
            exact br_t hz0 (zn_1 (x85 (2 * b + 1) (xsz i) (by omega) (by rw [hee _ (by omega), e1]; exact hz) hQ))
          · obtain ⟨n', rfl⟩ : ∃ n', n = n' + 1 := ⟨n - 1, by omega⟩
            refine Ypre post n' (br_f (by rw [h]; decide) (br_t h ?_))
            rw [hx2]
            exact y_getReg (f := 0) (by omega) (by omega) (br_t hz0 (nm_e hp))
        · obtain ⟨t, hr', ex⟩ := hgood (2 * b) (xsy i) (by omega) (by omega) hy (by rw [y3]; exact zi_neg (by omega))
          refine ⟨xss, upd xcu 0 (xsy i), xou, xot, xrg, yot, yrg, MV, fun g hg => ⟨rfl, pk_un hg⟩, fun _ => ⟨t, hr', by rw [pk_us]; exact ex⟩, fun post hp n hn' => ?_, fun post hp n hn' => ?_⟩
          · obtain ⟨n', rfl⟩ : ∃ n', n = n' + 1 + 1 := ⟨n - 2, by omega⟩
            refine Xpre' post n' xss (upd xcu 0 (xsy i)) (fun hQ => ?_) hp
            refine ⟨hv40, zc_eq i (fun w => absurd (h.symm.trans w) (by decide)) (fun _ => nm_r (zi_20 b) ⟨hv40, zc_eq i (fun _ => br_t rfl ⟨hv40, ?_⟩) (fun w => absurd h w)⟩)⟩
            rw [zb_ra (a := xsx) i]
            refine ⟨hvx, ?_⟩
            rw [hrx]
            exact br_f hz0 (x85 (2 * b) (xsy i) (by omega) (by rw [hee _ (by omega), e0]; exact hy) hQ)
          · obtain ⟨n', rfl⟩ : ∃ n', n = n' + 1 := ⟨n - 1, by omega⟩
            refine Ypre post n' (br_f (by rw [h]; decide) (br_t h ?_))
            rw [hx2]
            exact y_getReg (f := 0) (by omega) (by omega) (br_f hz0 (nm_e hp))
      · refine ⟨upd xss 0 2, xcu, xou, xot, xrg, yot, yrg, MV, fun g hg => ⟨pk_un hg, rfl⟩, fun w => by rw [pk_us] at w; exact absurd w (by decide), fun post hp n hn' => ?_, fun post hp n hn' => ?_⟩
        · obtain ⟨n', rfl⟩ : ∃ n', n = n' + 1 + 1 := ⟨n - 2, by omega⟩
          refine Xpre' post n' (upd xss 0 2) xcu (fun hQ => ?_) hp
          exact ⟨hv40, zc_eq i (fun _ => zs_st 0 hQ (by omega)) (fun w => absurd h w)⟩
        · obtain ⟨n', rfl⟩ : ∃ n', n = n' + 1 := ⟨n - 1, by omega⟩
          exact Ypre post n' (br_f (by rw [h]; decide) (br_f (by rw [h]; decide) (nm_e hp)))
end
end
section
/-! ===== machines: the phi functions of an edge ===== -/
def tp_s (P pa rg : Nat → Int32) (e t : Nat) (sr : Nat → Int32) : Nat → Nat → Int32
  | 0 => sr
  | v + 1 => if P (t * 6 + v) < 0 then tp_s P pa rg e t sr v else upd (tp_s P pa rg e t sr v) v (rg (100 + (pa (e * 6 + v)).toNatClampNeg))
def tp_r (P sr : Nat → Int32) (base t : Nat) (rg : Nat → Int32) : Nat → Nat → Int32
  | 0 => rg
  | v + 1 => if P (t * 6 + v) < 0 then tp_r P sr base t rg v else upd (tp_r P sr base t rg v) (base + (P (t * 6 + v)).toNatClampNeg) (sr v)
def tp_g (rg : Nat → Int32) (x : Int32) : Int32 := if x < 0 then 0 else if x < 128 then rg (1 * 128 + x.toNatClampNeg) else 0
def tp_v (pa rg : Nat → Int32) (e : Nat) (rv : Nat → Int32) : Nat → Nat → Int32
  | 0 => rv
  | v + 1 => upd (tp_v pa rg e rv v) v (tp_g rg (pa (e * 6 + v)))
theorem tp_vv {pa rg : Nat → Int32} {e : Nat} {rv : Nat → Int32} : ∀ {k v : Nat}, v < k → tp_v pa rg e rv k v = tp_g rg (pa (e * 6 + v))
  | 0, _, h => by omega
  | k + 1, v, h => by
    simp only [tp_v]
    by_cases w : v = k
    · rw [w, pk_us]
    · rw [pk_un w]; exact tp_vv (by omega)
theorem tp_ss {P pa rg : Nat → Int32} {e t : Nat} {sr : Nat → Int32} : ∀ {k v : Nat}, v < k → ¬ P (t * 6 + v) < 0 → tp_s P pa rg e t sr k v = rg (100 + (pa (e * 6 + v)).toNatClampNeg)
  | 0, _, h, _ => by omega
  | k + 1, v, h, hp => by
    simp only [tp_s]
    by_cases w : v = k
    · rw [w] at hp ⊢
      rw [if_neg hp, pk_us]
    · split
      · exact tp_ss (by omega) hp
      · rw [pk_un w]; exact tp_ss (by omega) hp
theorem tp_r_ext {P sr : Nat → Int32} {base t mv : Nat} {rg : Nat → Int32} (h : ∀ v, mv ≤ v → v < 6 → P (t * 6 + v) < 0) : ∀ d, mv + d ≤ 6 → tp_r P sr base t rg (mv + d) = tp_r P sr base t rg mv
  | 0, _ => rfl
  | d + 1, hd => by
    show (if P (t * 6 + (mv + d)) < 0 then tp_r P sr base t rg (mv + d) else _) = _
    rw [if_pos (h _ (by omega) (by omega))]; exact tp_r_ext h d (by omega)
theorem tp_V {oc e t mv : Nat} {P pa sr rv xou xot xrg yot yrg : Nat → Int32} (V : mr_V oc xou xot xrg yot yrg)
    (hP : ∀ v, v < mv → P (t * 6 + v) < 0 ∨ ((∃ k, k < 100 ∧ P (t * 6 + v) = nI k) ∧ sr v = rv v)) : ∀ v, v ≤ mv → mr_V oc xou xot (tp_r P sr 100 t xrg v) yot (tp_r P rv 128 t yrg v)
  | 0, _ => V
  | v + 1, h => by
    have ih := tp_V (e := e) (pa := pa) V hP v (by omega)
    simp only [tp_r]
    rcases hP v (by omega) with w | ⟨⟨k, k1, k2⟩, w⟩
    · rw [if_pos w, if_pos w]; exact ih
    · have n : ¬ P (t * 6 + v) < 0 := by rw [k2]; exact zi_nlt
      rw [if_neg n, if_neg n, k2, nI_clamp (by omega), w]
      exact mr_V_reg (f := 1) ih (by omega) k1
section
variable {mb mi mv oc ni nb : Nat} {ph xrm xnc xcc xsc xpc : Int32} {xop xsx xsy xsz xbo xbf xbe xin xee xdm xid xfm xgm xkm xlm xnb xnp xnv xph xln xpa xrs xax xay xaz xfo xsr xso xst xco xcx xcy xcz xcb xpd xps xss xtu xcu xou xot xrg : Nat → Int32}
theorem x_takePhis {post : SX → Prop} {e t : Nat} (he : e < 20) (ht : t < 10) (hmv : mv ≤ 6) (het : xee e = nI t) (hP : ∀ v, v < mv → xph (t * 6 + v) < 0 ∨ ((∃ k, k < 100 ∧ xph (t * 6 + v) = nI k) ∧ ∃ k, k < 100 ∧ xpa (e * 6 + v) = nI k))
    (h : post ((nI mb), (nI mi), (nI mv), (nI oc), ph, (nI ni), (nI nb), xrm, xnc, xcc, xsc, xpc, xop, xsx, xsy, xsz, xbo, xbf, xbe, xin, xee, xdm, xid, xfm, xgm, xkm, xlm, xnb, xnp, xnv, xph, xln, xpa, xrs, xax, xay, xaz, xfo, tp_s xph xpa xrg e t xsr mv, xso, xst, xco, xcx, xcy, xcz, xcb, xpd, xps, xss, xtu, xcu, xou, xot, tp_r xph (tp_s xph xpa xrg e t xsr mv) 100 t xrg mv)) : wpX_takePhis post ((nI mb), (nI mi), (nI mv), (nI oc), ph, (nI ni), (nI nb), xrm, xnc, xcc, xsc, xpc, xop, xsx, xsy, xsz, xbo, xbf, xbe, xin, xee, xdm, xid, xfm, xgm, xkm, xlm, xnb, xnp, xnv, xph, xln, xpa, xrs, xax, xay, xaz, xfo, xsr, xso, xst, xco, xcx, xcy, xcz, xcb, xpd, xps, xss, xtu, xcu, xou, xot, xrg) (nI e) := by
  refine zs_rn e ?_ he
  rw [het]
  refine loop_0 (fun n v (sr : Nat → Int32) => wX_takePhis_13 post (nI e) (nI t) 100 (nI mb) (nI mi) (nI mv) (nI oc) ph (nI ni) (nI nb) xrm xnc xcc xsc xpc n (nI v) xop xsx xsy xsz xbo xbf xbe xin xee xdm xid xfm xgm xkm xlm xnb xnp xnv xph xln xpa xrs xax xay xaz xfo sr xso xst xco xcx xcy xcz xcb xpd xps xss xtu xcu xou xot xrg) (fun v sr => sr = tp_s xph xpa xrg e t xsr v) mv xsr rfl ?_ ?_
  · intro n sr hsr
    subst hsr
    refine zc_ex ?_
    refine loop_0 (fun n v (rg : Nat → Int32) => wX_takePhis_72 post (nI t) 100 (nI mb) (nI mi) (nI mv) (nI oc) ph (nI ni) (nI nb) xrm xnc xcc xsc xpc n (nI v) xop xsx xsy xsz xbo xbf xbe xin xee xdm xid xfm xgm xkm xlm xnb xnp xnv xph xln xpa xrs xax xay xaz xfo (tp_s xph xpa xrg e t xsr mv) xso xst xco xcx xcy xcz xcb xpd xps xss xtu xcu xou xot rg) (fun v rg => rg = tp_r xph (tp_s xph xpa xrg e t xsr mv) 100 t xrg v) mv xrg rfl ?_ ?_
    · intro n rg hrg
      rw [hrg]; exact zc_ex h
    · intro n v rg hv hrg ih
      refine zc_go hv ⟨pk_in (t * 6 + v) 60 (by omega) (zi_6 t v), zc_lt (t * 6 + v) (fun q => zn_1 (ih _ ?_)) (fun q => ⟨pk_in (t * 6 + v) 60 (by omega) (zi_6 t v), pk_in v 6 (by omega), ?_⟩) (zi_6 t v)⟩
      · simp only [tp_r]; rw [if_pos q]; exact hrg
      · obtain ⟨⟨k, k1, k2⟩, _⟩ := (hP v hv).resolve_left q
        have e1 : xph (nI t * 6 + nI v).toNatClampNeg = nI k := by rw [zb_rd (t * 6 + v) (zi_6 t v)]; exact k2
        rw [e1, zb_ra (a := tp_s xph xpa xrg e t xsr mv) v]
        refine zs_st (100 + k) (zn_1 (ih _ ?_)) (by omega) (nI_add 100 k)
        simp only [tp_r]; rw [if_neg q, k2, nI_clamp (by omega), hrg]
  · intro n v sr hv hsr ih
    refine zc_go hv ⟨pk_in (t * 6 + v) 60 (by omega) (zi_6 t v), zc_lt (t * 6 + v) (fun q => zn_1 (ih _ ?_)) (fun q => ⟨pk_in (e * 6 + v) 120 (by omega) (zi_6 e v), ?_⟩) (zi_6 t v)⟩
    · simp only [tp_s]; rw [if_pos q]; exact hsr
    · obtain ⟨_, ⟨k, k1, k2⟩⟩ := (hP v hv).resolve_left q
      have e1 : xpa (nI e * 6 + nI v).toNatClampNeg = nI k := by rw [zb_rd (e * 6 + v) (zi_6 e v)]; exact k2
      rw [e1]
      refine ⟨pk_in (100 + k) 300 (by omega) (nI_add 100 k), ?_⟩
      rw [zb_ra (a := xrg) (x := 100 + nI k) (100 + k) (nI_add 100 k)]
      refine zs_st v (zn_1 (ih _ ?_)) (by omega)
      simp only [tp_s]; rw [if_neg q, k2, nI_clamp (by omega), hsr]
end
section
variable {mb mi mv oc ni : Nat} {ph ync ycl : Int32} {ysr yin ymk yre ydm yid yfr ylv yis yph yar yrs yas yfo ycd yfi ypd yps yss ytu ybl you yot yrg yrv : Nat → Int32} {op fx fy fz : Nat → Int32} {nb : Nat} {bf be : Nat → Nat} {rt : Nat → Int32}
theorem y_getReg_g {post : Int32 → Prop} {x : Int32} (h : post (tp_g yrg x)) : wpY_getReg post ((nI mb), (nI mi), (nI mv), (nI oc), ph, (nI ni), ync, ycl, ysr, yin, ymk, yre, ydm, yid, yfr, ylv, yis, yph, yar, yrs, yas, yfo, ycd, yfi, ypd, yps, yss, ytu, ybl, you, yot, yrg, yrv) 1 x := by
  unfold tp_g at h
  refine br_f (by decide) (br_f (by decide) ⟨fun w => ?_, fun w => ⟨fun w' => ?_, fun w' => ?_⟩⟩)
  · rw [if_pos w] at h; exact h
  · rw [if_neg w, if_pos w'] at h
    obtain ⟨r, hr, rfl⟩ := nI_of w
    have hr' := (nI_ltI hr (by decide : (128 : Nat) < 2 ^ 31)).mp w'
    rw [nI_clamp hr] at h
    refine ⟨pk_in (1 * 128 + r) 384 (by omega) (zi_128 1 r), ?_⟩
    rw [zb_rd (x := 1 * 128 + nI r) (1 * 128 + r) (zi_128 1 r)]; exact h
  · rw [if_neg w, if_neg w'] at h; exact h
theorem y_takeEdge {post : SY → Prop} (hs : sc_YS ysr op fx fy fz) (B : sc_BL op ni nb bf be) (C : sc_CL op ni) (hrt : rt = sc_rt op fx fy fz nb be) (V : gr_V rt nb) (hr : ∀ b, b < 10 → yre b = zb_i (gr_rc rt b)) {e t : Nat} (he : e < 20) (ht : t < 10) (het : gr_ee rt e = nI t)
    (hP : ∀ v, v < 6 → yph (t * 6 + v) < 0 ∨ ∃ k, k < 100 ∧ yph (t * 6 + v) = nI k)
    (h : post ((nI mb), (nI mi), (nI mv), (nI oc), ph, (nI ni), ync, ycl, ysr, yin, ymk, yre, ydm, yid, yfr, ylv, yis, yph, yar, yrs, yas, yfo, ycd, yfi, ypd, yps, yss, ytu, upd ybl 1 (nI t), you, yot, tp_r yph (tp_v yar yrg e yrv 6) 128 t yrg 6, tp_v yar yrg e yrv 6)) : wpY_takeEdge post ((nI mb), (nI mi), (nI mv), (nI oc), ph, (nI ni), ync, ycl, ysr, yin, ymk, yre, ydm, yid, yfr, ylv, yis, yph, yar, yrs, yas, yfo, ycd, yfi, ypd, yps, yss, ytu, ybl, you, yot, yrg, yrv) (nI e) := by
  have hr' := hr
  have V' := V
  rw [hrt] at hr' V'
  unfold wpY_takeEdge
  refine y_edgeEnd hs B C V' hr' he ?_
  rw [← hrt, het]
  refine br_f zi_nlt (br_f (nI_ge (b := 10) ht (by decide)) (br_f zi_nlt (br_t (nI_lt (b := 20) he (by decide)) ?_)))
  refine loop_0 (fun n v (rv : Nat → Int32) => wY_takeEdge_29 post (nI e) (nI t) (nI mb) (nI mi) (nI mv) (nI oc) ph (nI ni) ync ycl n (nI v) ysr yin ymk yre ydm yid yfr ylv yis yph yar yrs yas yfo ycd yfi ypd yps yss ytu ybl you yot yrg rv) (fun v rv => rv = tp_v yar yrg e yrv v) 6 yrv rfl ?_ ?_
  · intro n rv hrv
    subst hrv
    refine zc_ex ?_
    refine loop_0 (fun n v (rg : Nat → Int32) => wY_takeEdge_65 post (nI t) n (nI v) (nI mb) (nI mi) (nI mv) (nI oc) ph (nI ni) ync ycl ysr yin ymk yre ydm yid yfr ylv yis yph yar yrs yas yfo ycd yfi ypd yps yss ytu ybl you yot rg (tp_v yar yrg e yrv 6)) (fun v rg => rg = tp_r yph (tp_v yar yrg e yrv 6) 128 t yrg v) 6 yrg rfl ?_ ?_
    · intro n rg hrg
      rw [hrg]; exact zc_ex (nm_e h)
    · intro n v rg hv hrg ih
      refine zc_go hv ⟨pk_in (t * 6 + v) 60 (by omega) (zi_6 t v), zc_lt (t * 6 + v) (fun q => zn_1 (ih _ ?_)) (fun q => ⟨pk_in (t * 6 + v) 60 (by omega) (zi_6 t v), pk_in v 6 (by omega), ?_⟩) (zi_6 t v)⟩
      · simp only [tp_r]; rw [if_pos q]; exact hrg
      · obtain ⟨k, k1, k2⟩ := (hP v hv).resolve_left q
        have e1 : yph (nI t * 6 + nI v).toNatClampNeg = nI k := by rw [zb_rd (t * 6 + v) (zi_6 t v)]; exact k2
        rw [e1, zb_ra (a := tp_v yar yrg e yrv 6) v]
        refine y_setReg (f := 1) (by omega) (by omega) (zn_1 (ih _ ?_))
        simp only [tp_r]; rw [if_neg q, k2, nI_clamp (by omega), hrg]
  · intro n v rv hv hrv ih
    refine zc_go hv ⟨pk_in (e * 6 + v) 120 (by omega) (zi_6 e v), ?_⟩
    rw [zb_ra (a := yar) (e * 6 + v) (zi_6 e v)]
    refine y_getReg_g (zs_st v (zn_1 (ih _ ?_)) (by omega))
    simp only [tp_v]; rw [hrv]
end
end
section
/-! ===== machines: a turn of the SSA form ===== -/
section
variable {mb mi mv oc ni nb nc : Nat} {ph xrm xnc xcc xsc xpc ync ycl : Int32} {xop xsx xsy xsz xbo xbf xbe xin xee xdm xid xfm xgm xkm xlm xnb xnp xnv xph xln xpa xrs xax xay xaz xfo xso xst xco xcx xcy xcz xcb xpd xps xtu ysr yin ymk yre ydm yid yfr ylv yis yrs yas ycd yfi ypd yps ytu rt : Nat → Int32} {bf be : Nat → Nat}
/-- an edge is taken -/
theorem tn_edge (B : sc_BL xop ni nb bf be) (C : sc_CL xop ni) (YS : sc_YS ysr xop xsx xsy xsz) (hmv : mv ≤ 6) (hrt : rt = sc_rt xop xsx xsy xsz nb be) (V : gr_V rt nb) (hre : ∀ b, b < 10 → yre b = zb_i (gr_rc rt b)) (hee : ∀ e, e < 20 → xee e = gr_ee rt e)
    (N : nu_N rt xop xsx mv ni 60 ni nc xph xrs xnb xnp xnv) (hnc : nc ≤ 96) (P : rl_P nc rt xph xpa) {e : Nat} (he : e < 20) (hne : ¬ gr_ee rt e = -1) (xss xcu xou xot xrg xsr yot yrg yrv : Nat → Int32) (MV : mr_V oc xou xot xrg yot yrg) :
    ∃ (t : Nat) (rg sr rg' rv : Nat → Int32), gr_rc rt t = true ∧ xee e = nI t ∧ mr_V oc xou xot rg yot rg' ∧ (∀ {Q : SX → Prop}, Q ((nI mb), (nI mi), (nI mv), (nI oc), ph, (nI ni), (nI nb), xrm, xnc, xcc, xsc, xpc, xop, xsx, xsy, xsz, xbo, xbf, xbe, xin, xee, xdm, xid, xfm, xgm, xkm, xlm, xnb, xnp, xnv, xph, xln, xpa, xrs, xax, xay, xaz, xfo, sr, xso, xst, xco, xcx, xcy, xcz, xcb, xpd, xps, xss, xtu, xcu, xou, xot, rg) → wpX_takePhis Q ((nI mb), (nI mi), (nI mv), (nI oc), ph, (nI ni), (nI nb), xrm, xnc, xcc, xsc, xpc, xop, xsx, xsy, xsz, xbo, xbf, xbe, xin, xee, xdm, xid, xfm, xgm, xkm, xlm, xnb, xnp, xnv, xph, xln, xpa, xrs, xax, xay, xaz, xfo, xsr, xso, xst, xco, xcx, xcy, xcz, xcb, xpd, xps, xss, xtu, xcu, xou, xot, xrg) (nI e)) ∧
      (∀ {Q : SY → Prop}, Q ((nI mb), (nI mi), (nI mv), (nI oc), ph, (nI ni), ync, ycl, ysr, yin, ymk, yre, ydm, yid, yfr, ylv, yis, xph, xpa, yrs, yas, xfo, ycd, yfi, ypd, yps, xss, ytu, upd xcu 1 (nI t), xou, yot, rg', rv) → wpY_takeEdge Q ((nI mb), (nI mi), (nI mv), (nI oc), ph, (nI ni), ync, ycl, ysr, yin, ymk, yre, ydm, yid, yfr, ylv, yis, xph, xpa, yrs, yas, xfo, ycd, yfi, ypd, yps, xss, ytu, xcu, xou, yot, yrg, yrv) (nI e)) := by
  have h10 := V.2.1
  obtain ⟨t, t1, t2, t3, t4, t5⟩ : ∃ t, 1 ≤ t ∧ t < nb ∧ gr_ee rt e = nI t ∧ gr_rc rt t = true ∧ True := by
    rcases gr_ee_or V he with z | ⟨_, _, t, w1, w2, w3, w4, w5, w6⟩
    · exact absurd z hne
    · exact ⟨t, w1, w2, w3, w5, trivial⟩
  obtain ⟨n1, n2, n3, n4, n5, n6, n7, n8, n9⟩ := N
  have hphi : ∀ v, v < 6 → xph (t * 6 + v) < 0 ∨ ∃ k, k < 100 ∧ xph (t * 6 + v) = nI k := by
    intro v hv
    rcases n4 (t * 6 + v) (by omega) with w | w | ⟨_, k, _, k2, k3, _⟩
    · rw [w]; exact Or.inl (by decide)
    · omega
    · exact Or.inr ⟨k, by omega, k3⟩
  have hpa : ∀ v, v < 6 → ¬ xph (t * 6 + v) < 0 → ∃ k, k < 100 ∧ xpa (e * 6 + v) = nI k := by
    intro v hv w
    have e1 : (e * 6 + v) / 6 = e := by omega
    have e2 : (e * 6 + v) % 6 = v := by omega
    rcases P (e * 6 + v) (by omega) with ⟨_, k, k1, k2⟩ | ⟨y, _⟩
    · exact ⟨k, by omega, k2⟩
    · exact absurd ⟨t, by omega, by rw [e1]; exact t3, by rw [e2]; exact w⟩ y
  have hneg : ∀ v, mv ≤ v → v < 6 → xph (t * 6 + v) < 0 := by
    intro v h1 h2
    have e2 : (t * 6 + v) % 6 = v := by omega
    rcases n9 (t * 6 + v) (by omega) with w | w
    · rw [w]; decide
    · rw [e2] at w; omega
  have hP : ∀ v, v < mv → xph (t * 6 + v) < 0 ∨ ((∃ k, k < 100 ∧ xph (t * 6 + v) = nI k) ∧ ∃ k, k < 100 ∧ xpa (e * 6 + v) = nI k) := by
    intro v hv
    rcases hphi v (by omega) with w | w
    · exact Or.inl w
    · obtain ⟨k, k1, k2⟩ := w
      exact Or.inr ⟨⟨k, k1, k2⟩, hpa v (by omega) (by rw [k2]; exact zi_nlt)⟩
  have ext := tp_r_ext (P := xph) (sr := tp_v xpa yrg e yrv 6) (base := 128) (rg := yrg) hneg (6 - mv) (by omega)
  have e6 : mv + (6 - mv) = 6 := by omega
  rw [e6] at ext
  refine ⟨t, tp_r xph (tp_s xph xpa xrg e t xsr mv) 100 t xrg mv, tp_s xph xpa xrg e t xsr mv, tp_r xph (tp_v xpa yrg e yrv 6) 128 t yrg mv, tp_v xpa yrg e yrv 6, t4, (hee e he).trans t3, ?_, fun hQ => x_takePhis he (by omega) hmv ((hee e he).trans t3) hP hQ, fun hQ => y_takeEdge YS B C hrt V hre he (by omega) t3 hphi (by rw [ext]; exact hQ)⟩
  refine tp_V (e := e) (pa := xpa) MV (fun v hv => ?_) mv (Nat.le_refl _)
  rcases hP v hv with w | ⟨⟨k, k1, k2⟩, ⟨k', k1', k2'⟩⟩
  · exact Or.inl w
  · refine Or.inr ⟨⟨k, k1, k2⟩, ?_⟩
    rw [tp_ss hv (by rw [k2]; exact zi_nlt), tp_vv (by omega), k2', nI_clamp (by omega)]
    unfold tp_g
    have hl : nI k' < (128 : Int32) := nI_lt (b := 128) (by omega) (by decide)
    rw [if_neg zi_nlt, if_pos hl, nI_clamp (by omega)]
    exact (MV 1 (by omega)).1 k' k1'
theorem tn_ssa (B : sc_BL xop ni nb bf be) (C : sc_CL xop ni) (SV : sc_SV mb mv ni xop xsx xsy xsz) (YS : sc_YS ysr xop xsx xsy xsz) (hmb : mb ≤ 10) (hmv : mv ≤ 6) (hoc : oc ≤ 64) (hrt : rt = sc_rt xop xsx xsy xsz nb be) (V : gr_V rt nb) (hre : ∀ b, b < 10 → yre b = zb_i (gr_rc rt b)) (hee : ∀ e, e < 20 → xee e = gr_ee rt e) (hbe : ∀ b, b < nb → xbe b = nI (be b))
    (NN : rl_N mv ni nc rt xop xsx xsy xsz xnb xnp xnv xph xpa xrs xax xay xaz xfo yas) {b : Nat} (hb : gr_rc rt b = true) :
    ∀ d i, i + d = be b → bf b ≤ i → 0 < d → ∀ (xss xcu xou xot xrg xsr yot yrg yrv : Nat → Int32), mr_V oc xou xot xrg yot yrg →
    ∃ ss cu ou ot rg sr ot' rg' rv : Nat → Int32, mr_V oc ou ot rg ot' rg' ∧ (∀ g, g ≠ 1 → ss g = xss g ∧ cu g = xcu g) ∧ (ss 1 = 1 → ∃ b', gr_rc rt b' = true ∧ cu 1 = nI b') ∧
      (∀ post : SX → Prop, post ((nI mb), (nI mi), (nI mv), (nI oc), ph, (nI ni), (nI nb), xrm, xnc, xcc, xsc, xpc, xop, xsx, xsy, xsz, xbo, xbf, xbe, xin, xee, xdm, xid, xfm, xgm, xkm, xlm, xnb, xnp, xnv, xph, xln, xpa, xrs, xax, xay, xaz, xfo, sr, xso, xst, xco, xcx, xcy, xcz, xcb, xpd, xps, ss, xtu, cu, ou, ot, rg) → ∀ n, d < n → wX_turnOnInstructions_27 post (nI 1) (nI b) n 1 (nI i) (nI mb) (nI mi) (nI mv) (nI oc) ph (nI ni) (nI nb) xrm xnc xcc xsc xpc xop xsx xsy xsz xbo xbf xbe xin xee xdm xid xfm xgm xkm xlm xnb xnp xnv xph xln xpa xrs xax xay xaz xfo xsr xso xst xco xcx xcy xcz xcb xpd xps xss xtu xcu xou xot xrg) ∧
      (∀ post : SY → Prop, post ((nI mb), (nI mi), (nI mv), (nI oc), ph, (nI ni), ync, ycl, ysr, yin, ymk, yre, ydm, yid, yfr, ylv, yis, xph, xpa, yrs, yas, xfo, ycd, yfi, ypd, yps, ss, ytu, cu, ou, ot', rg', rv) → ∀ n, d ≤ n → wY_turnSsa_27 post (nI b) (nI (be b - 1)) n (nI i) (nI mb) (nI mi) (nI mv) (nI oc) ph (nI ni) ync ycl ysr yin ymk yre ydm yid yfr ylv yis xph xpa yrs yas xfo ycd yfi ypd yps xss ytu xcu xou yot yrg yrv) := by
  have hn := B.1
  have h10 := V.2.1
  have hbl := gr_rc_lt V hb
  have hb1 := sc_be_le B b hbl
  have he : xbe (nI b).toNatClampNeg = nI (be b) := by rw [zb_rd b, hbe b hbl]
  obtain ⟨N, hnc, O, P, F⟩ := NN
  intro d
  induction d with
  | zero => intro i _ _ h; omega
  | succ d ih =>
    intro i hi hlo _ xss xcu xou xot xrg xsr yot yrg yrv MV
    have hini : i < ni := by omega
    have hib : i < be b := by omega
    have hv40 : vp_in (nI i) 40 := pk_in i 40 (by omega)
    have hrci : gr_rc rt (sc_tc xop i) = true := by rw [(sc_tc_bf B b hbl).2 i hlo hib]; exact hb
    obtain ⟨⟨s0, s1, s2, s3⟩, u1, u2, u3, u4, u5, u6⟩ := O i hini hrci
    obtain ⟨⟨k, hk, ek⟩, t2, t3, t4, t5, t6⟩ := SV i hini
    obtain ⟨o1, o2, o3, o4, o5, o6⟩ := sc_opf (SV i hini).1
    by_cases h9 : xop i < 9
    · have hk8 : k ≤ 8 := by
        rw [ek] at h9
        have := (nI_ltI (by omega) (by decide : (9 : Nat) < 2 ^ 31)).mp h9
        omega
      have hnl : i + 1 < be b := by
        rcases Nat.lt_or_ge (i + 1) (be b) with y | y
        · exact y
        · have := sc_term B C b hbl
          have e : be b - 1 = i := by omega
          rw [e] at this; exact absurd h9 this
      by_cases hfo : xfo i = 0
      rotate_left
      · -- folded
        obtain ⟨ss, cu, ou2, ot2, rg2, sr2, ot2', rg2', rv2, MV2, p1, p2, pX, pY⟩ := ih (i + 1) (by omega) (by omega) (by omega) xss xcu xou xot xrg xsr yot yrg yrv MV
        refine ⟨ss, cu, ou2, ot2, rg2, sr2, ot2', rg2', rv2, MV2, p1, p2, fun post h n hn' => ?_, fun post h n hn' => ?_⟩
        · obtain ⟨n', rfl⟩ : ∃ n', n = n' + 1 := ⟨n - 1, by omega⟩
          refine ⟨pk_in b 10 (by omega), ?_⟩
          rw [he]
          exact zc_go hib (br_f (by decide) ⟨hv40, zc_lt i (fun _ => br_f (by decide) ⟨hv40, zc_eq i (fun w => absurd w hfo) (fun _ => zn_1 (pX post h n' (by omega)))⟩) (fun w => absurd h9 w)⟩)
        · obtain ⟨n', rfl⟩ : ∃ n', n = n' + 1 := ⟨n - 1, by omega⟩
          exact br_f (nI_nlt (by omega) (by omega)) (br_f (nI_ge hini (by omega)) ⟨hv40, zc_eq i (fun w => absurd w hfo) (fun _ => zn_1 (pY post h n' (by omega)))⟩)
      obtain ⟨r, ss, ou, ot, rg, ot', rg', MV', q1, q2, q3, qX, qY⟩ := ex_out (mb := mb) (mi := mi) (mv := mv) (ni := ni) (nb := nb) (ph := ph) (xrm := xrm) (xnc := xnc) (xcc := xcc) (xsc := xsc) (xpc := xpc) (ync := ync) (ycl := ycl) (xop := xop) (xsx := xsx) (xsy := xsy) (xsz := xsz) (xbo := xbo) (xbf := xbf) (xbe := xbe) (xin := xin) (xee := xee) (xdm := xdm) (xid := xid) (xfm := xfm) (xgm := xgm) (xkm := xkm) (xlm := xlm) (xnb := xnb) (xnp := xnp) (xnv := xnv) (xph := xph) (xln := xln) (xpa := xpa) (xrs := xrs) (xax := xax) (xay := xay) (xaz := xaz) (xfo := xfo) (xsr := xsr) (xso := xso) (xst := xst) (xco := xco) (xcx := xcx) (xcy := xcy) (xcz := xcz) (xcb := xcb) (xpd := xpd) (xps := xps) (xss := xss) (xtu := xtu) (xcu := xcu) (ysr := ysr) (yin := yin) (ymk := ymk) (yre := yre) (ydm := ydm) (yid := yid) (yfr := yfr) (ylv := ylv) (yis := yis) (yrs := yrs) (yas := yas) (ycd := ycd) (yfi := yfi) (ypd := ypd) (yps := yps) (ytu := ytu) (ybl := xcu) (yrv := yrv)
        (yfo := xfo) (yph := xph) (yar := xpa) (f := 1) (k := k) (x := xax i) (y := xay i) (z := xaz i) (by omega) hk8 hoc MV (fun w => by
          rw [← ek] at w
          rcases w with w | w
          · rw [u1 w]
            rcases N.2.2.2.2.1 i (by omega) with y | ⟨_, _, _, _, q, _, q2, q3, _⟩
            · exact absurd y (N.2.2.2.2.2.1 i hini hini hrci w)
            · exact ⟨q, by omega, q3⟩
          · obtain ⟨a, a1, a2⟩ := u2 w; exact ⟨a, by omega, a2⟩) (fun w => by rw [← ek] at w; obtain ⟨a, a1, a2⟩ := u3 w; exact ⟨a, by omega, a2⟩) (fun w => by rw [← ek] at w; obtain ⟨a, a1, a2⟩ := u4 w; exact ⟨a, by omega, a2⟩)
      rw [← ek] at qX qY
      have n8 : ¬ 8 < xop i := by rw [ek]; exact nI_nlt (a := 8) (by omega) (by decide)
      have Xgo : ∀ (post : SX → Prop) (n : Nat), (∀ y : Int32, y = nI i + 1 → wX_turnOnInstructions_27 post (nI 1) (nI b) n (zb_i r) y (nI mb) (nI mi) (nI mv) (nI oc) ph (nI ni) (nI nb) xrm xnc xcc xsc xpc xop xsx xsy xsz xbo xbf xbe xin xee xdm xid xfm xgm xkm xlm xnb xnp xnv xph xln xpa xrs xax xay xaz xfo xsr xso xst xco xcx xcy xcz xcb xpd xps ss xtu xcu ou ot rg) → wX_turnOnInstructions_27 post (nI 1) (nI b) (n + 1) 1 (nI i) (nI mb) (nI mi) (nI mv) (nI oc) ph (nI ni) (nI nb) xrm xnc xcc xsc xpc xop xsx xsy xsz xbo xbf xbe xin xee xdm xid xfm xgm xkm xlm xnb xnp xnv xph xln xpa xrs xax xay xaz xfo xsr xso xst xco xcx xcy xcz xcb xpd xps xss xtu xcu xou xot xrg := by
        intro post n hq
        refine ⟨pk_in b 10 (by omega), ?_⟩
        rw [he]
        refine zc_go hib (br_f (by decide) ⟨hv40, zc_lt i (fun _ => br_f (by decide) ⟨hv40, zc_eq i (fun _ => ⟨hv40, hv40, hv40, hv40, ?_⟩) (fun w => absurd hfo w)⟩) (fun w => absurd h9 w)⟩)
        rw [zb_ra (a := xop) i, zb_ra (a := xax) i, zb_ra (a := xay) i, zb_ra (a := xaz) i]
        exact qX _ hq
      have Ygo : ∀ (post : SY → Prop) (n : Nat), (zb_i r = 0 → post ((nI mb), (nI mi), (nI mv), (nI oc), ph, (nI ni), ync, ycl, ysr, yin, ymk, yre, ydm, yid, yfr, ylv, yis, xph, xpa, yrs, yas, xfo, ycd, yfi, ypd, yps, ss, ytu, xcu, ou, ot', rg', yrv)) → (¬ zb_i r = 0 → ∀ y : Int32, y = nI i + 1 → wY_turnSsa_27 post (nI b) (nI (be b - 1)) n y (nI mb) (nI mi) (nI mv) (nI oc) ph (nI ni) ync ycl ysr yin ymk yre ydm yid yfr ylv yis xph xpa yrs yas xfo ycd yfi ypd yps ss ytu xcu ou ot' rg' yrv) → wY_turnSsa_27 post (nI b) (nI (be b - 1)) (n + 1) (nI i) (nI mb) (nI mi) (nI mv) (nI oc) ph (nI ni) ync ycl ysr yin ymk yre ydm yid yfr ylv yis xph xpa yrs yas xfo ycd yfi ypd yps xss ytu xcu xou yot yrg yrv := by
        intro post n hq1 hq2
        refine br_f (nI_nlt (by omega) (by omega)) (br_f (nI_ge hini (by omega)) ⟨hv40, zc_eq i (fun _ => zs_rn (i * 4) (zs_rn (i * 4 + 1) (zs_rn (i * 4 + 2) (zs_rn (i * 4 + 3) ?_ (by omega) (zi_4c i)) (by omega) (zi_4b i)) (by omega) (zi_4a i)) (by omega) (zi_4 i)) (fun w => absurd hfo w)⟩)
        rw [s0, s1, s2, s3]
        exact br_f n8 (qY _ ⟨hq1, hq2⟩)
      cases r
      · refine ⟨ss, xcu, ou, ot, rg, xsr, ot', rg', yrv, MV', fun g hg => ⟨q1 g hg, rfl⟩, fun w => absurd w (q3 rfl), fun post h n hn' => ?_, fun post h n hn' => ?_⟩
        · obtain ⟨n', rfl⟩ : ∃ n', n = n' + 1 + 1 := ⟨n - 2, by omega⟩
          refine Xgo post (n' + 1) (zn_1 ⟨pk_in b 10 (by omega), ?_⟩)
          rw [he]
          exact zc_go hnl (br_t rfl h)
        · obtain ⟨n', rfl⟩ : ∃ n', n = n' + 1 := ⟨n - 1, by omega⟩
          exact Ygo post n' (fun _ => h) (fun w => absurd rfl w)
      · have e := q2 rfl
        subst e
        obtain ⟨ss, cu, ou2, ot2, rg2, sr2, ot2', rg2', rv2, MV2, p1, p2, pX, pY⟩ := ih (i + 1) (by omega) (by omega) (by omega) ss xcu ou ot rg xsr ot' rg' yrv MV'
        refine ⟨ss, cu, ou2, ot2, rg2, sr2, ot2', rg2', rv2, MV2, p1, p2, fun post h n hn' => ?_, fun post h n hn' => ?_⟩
        · obtain ⟨n', rfl⟩ : ∃ n', n = n' + 1 := ⟨n - 1, by omega⟩
          exact Xgo post n' (zn_1 (pX post h n' (by omega)))
        · obtain ⟨n', rfl⟩ : ∃ n', n = n' + 1 := ⟨n - 1, by omega⟩
          exact Ygo post n' (fun w => absurd w (by decide)) (fun _ => zn_1 (pY post h n' (by omega)))
    · have hlast : be b - 1 = i := by
        rcases Nat.lt_or_ge (i + 1) (be b) with y | y
        · exact absurd ((B.2.2.2.2.2 b hbl).2 i hlo y) h9
        · omega
      have n8 : 8 < xop i := Int32.lt_of_lt_of_le (by decide) (Int32.not_lt.mp h9)
      have hfo : xfo i = 0 := (F i (by omega)).resolve_right (fun w => h9 (by rw [w.2]; decide))
      have hcase : xop i = 9 ∨ xop i = 10 ∨ xop i = 11 := by
        rw [ek] at h9 ⊢
        have : ¬ k < 9 := fun w => h9 (nI_lt (b := 9) w (by decide))
        have : k = 9 ∨ k = 10 ∨ k = 11 := by omega
        rcases this with rfl | rfl | rfl
        · exact Or.inl rfl
        · exact Or.inr (Or.inl rfl)
        · exact Or.inr (Or.inr rfl)
      have Xend : ∀ (post : SX → Prop) (n : Nat) (ss cu rg sr : Nat → Int32), post ((nI mb), (nI mi), (nI mv), (nI oc), ph, (nI ni), (nI nb), xrm, xnc, xcc, xsc, xpc, xop, xsx, xsy, xsz, xbo, xbf, xbe, xin, xee, xdm, xid, xfm, xgm, xkm, xlm, xnb, xnp, xnv, xph, xln, xpa, xrs, xax, xay, xaz, xfo, sr, xso, xst, xco, xcx, xcy, xcz, xcb, xpd, xps, ss, xtu, cu, xou, xot, rg) → ∀ y : Int32, y = nI i + 1 → wX_turnOnInstructions_27 post (nI 1) (nI b) (n + 1) 0 y (nI mb) (nI mi) (nI mv) (nI oc) ph (nI ni) (nI nb) xrm xnc xcc xsc xpc xop xsx xsy xsz xbo xbf xbe xin xee xdm xid xfm xgm xkm xlm xnb xnp xnv xph xln xpa xrs xax xay xaz xfo sr xso xst xco xcx xcy xcz xcb xpd xps ss xtu cu xou xot rg := by
        intro post n ss cu rg sr h
        refine zn_1 ⟨pk_in b 10 (by omega), ?_⟩
        rw [he]
        have e : i + 1 = be b := by omega
        rw [e]
        exact zc_ex h
      have Xpre' : ∀ (post : SX → Prop) (n : Nat) (ss cu rg sr : Nat → Int32), (∀ {Q : SX → Prop}, Q ((nI mb), (nI mi), (nI mv), (nI oc), ph, (nI ni), (nI nb), xrm, xnc, xcc, xsc, xpc, xop, xsx, xsy, xsz, xbo, xbf, xbe, xin, xee, xdm, xid, xfm, xgm, xkm, xlm, xnb, xnp, xnv, xph, xln, xpa, xrs, xax, xay, xaz, xfo, sr, xso, xst, xco, xcx, xcy, xcz, xcb, xpd, xps, ss, xtu, cu, xou, xot, rg) → wpX_leaveBlock Q ((nI mb), (nI mi), (nI mv), (nI oc), ph, (nI ni), (nI nb), xrm, xnc, xcc, xsc, xpc, xop, xsx, xsy, xsz, xbo, xbf, xbe, xin, xee, xdm, xid, xfm, xgm, xkm, xlm, xnb, xnp, xnv, xph, xln, xpa, xrs, xax, xay, xaz, xfo, xsr, xso, xst, xco, xcx, xcy, xcz, xcb, xpd, xps, xss, xtu, xcu, xou, xot, xrg) (nI 1) (nI b) (nI i)) → post ((nI mb), (nI mi), (nI mv), (nI oc), ph, (nI ni), (nI nb), xrm, xnc, xcc, xsc, xpc, xop, xsx, xsy, xsz, xbo, xbf, xbe, xin, xee, xdm, xid, xfm, xgm, xkm, xlm, xnb, xnp, xnv, xph, xln, xpa, xrs, xax, xay, xaz, xfo, sr, xso, xst, xco, xcx, xcy, xcz, xcb, xpd, xps, ss, xtu, cu, xou, xot, rg) → wX_turnOnInstructions_27 post (nI 1) (nI b) (n + 1 + 1) 1 (nI i) (nI mb) (nI mi) (nI mv) (nI oc) ph (nI ni) (nI nb) xrm xnc xcc xsc xpc xop xsx xsy xsz xbo xbf xbe xin xee xdm xid xfm xgm xkm xlm xnb xnp xnv xph xln xpa xrs xax xay xaz xfo xsr xso xst xco xcx xcy xcz xcb xpd xps xss xtu xcu xou xot xrg := by
        intro post n ss cu rg sr hl h
        refine ⟨pk_in b 10 (by omega), ?_⟩
        rw [he]
        refine zc_go hib (br_f (by decide) ⟨hv40, zc_lt i (fun w => absurd w h9) (fun _ => ?_)⟩)
        exact hl (Xend post n ss cu rg sr h)
      have Ypre : ∀ (post : SY → Prop) (n : Nat), ((xop i = 9 → wpY_takeEdge (fun u => post u) ((nI mb), (nI mi), (nI mv), (nI oc), ph, (nI ni), ync, ycl, ysr, yin, ymk, yre, ydm, yid, yfr, ylv, yis, xph, xpa, yrs, yas, xfo, ycd, yfi, ypd, yps, xss, ytu, xcu, xou, yot, yrg, yrv) (nI (2 * b))) ∧ (¬ xop i = 9 → ((xop i = 10 → wpY_getReg (fun r => (r = 0 → wpY_takeEdge (fun u => post u) ((nI mb), (nI mi), (nI mv), (nI oc), ph, (nI ni), ync, ycl, ysr, yin, ymk, yre, ydm, yid, yfr, ylv, yis, xph, xpa, yrs, yas, xfo, ycd, yfi, ypd, yps, xss, ytu, xcu, xou, yot, yrg, yrv) (nI (2 * b + 1))) ∧ (¬ r = 0 → wpY_takeEdge (fun u => post u) ((nI mb), (nI mi), (nI mv), (nI oc), ph, (nI ni), ync, ycl, ysr, yin, ymk, yre, ydm, yid, yfr, ylv, yis, xph, xpa, yrs, yas, xfo, ycd, yfi, ypd, yps, xss, ytu, xcu, xou, yot, yrg, yrv) (nI (2 * b)))) ((nI mb), (nI mi), (nI mv), (nI oc), ph, (nI ni), ync, ycl, ysr, yin, ymk, yre, ydm, yid, yfr, ylv, yis, xph, xpa, yrs, yas, xfo, ycd, yfi, ypd, yps, xss, ytu, xcu, xou, yot, yrg, yrv) 1 (xax i)) ∧ (¬ xop i = 10 → ∀ a : Nat → Int32, a = upd xss 1 2 → post ((nI mb), (nI mi), (nI mv), (nI oc), ph, (nI ni), ync, ycl, ysr, yin, ymk, yre, ydm, yid, yfr, ylv, yis, xph, xpa, yrs, yas, xfo, ycd, yfi, ypd, yps, a, ytu, xcu, xou, yot, yrg, yrv))))) → wY_turnSsa_27 post (nI b) (nI (be b - 1)) (n + 1) (nI i) (nI mb) (nI mi) (nI mv) (nI oc) ph (nI ni) ync ycl ysr yin ymk yre ydm yid yfr ylv yis xph xpa yrs yas xfo ycd yfi ypd yps xss ytu xcu xou yot yrg yrv := by
        intro post n hq
        refine br_f (nI_nlt (by omega) (by omega)) (br_f (nI_ge hini (by omega)) ⟨hv40, zc_eq i (fun _ => zs_rn (i * 4) (zs_rn (i * 4 + 1) (zs_rn (i * 4 + 2) (zs_rn (i * 4 + 3) ?_ (by omega) (zi_4c i)) (by omega) (zi_4b i)) (by omega) (zi_4a i)) (by omega) (zi_4 i)) (fun w => absurd hfo w)⟩)
        rw [s0, s1, s2, s3]
        refine br_t n8 ?_
        have z0 : 2 * nI b = nI (2 * b) := zi_20 b
        have z1 : nI (2 * b) + 1 = nI (2 * b + 1) := nI_1 _
        rw [z0, z1]
        exact hq
      have x74 : ∀ {Q : SX → Prop} (e t : Nat) (rg sr : Nat → Int32), e < 20 → xee e = nI t → (∀ {Q : SX → Prop}, Q ((nI mb), (nI mi), (nI mv), (nI oc), ph, (nI ni), (nI nb), xrm, xnc, xcc, xsc, xpc, xop, xsx, xsy, xsz, xbo, xbf, xbe, xin, xee, xdm, xid, xfm, xgm, xkm, xlm, xnb, xnp, xnv, xph, xln, xpa, xrs, xax, xay, xaz, xfo, sr, xso, xst, xco, xcx, xcy, xcz, xcb, xpd, xps, xss, xtu, xcu, xou, xot, rg) → wpX_takePhis Q ((nI mb), (nI mi), (nI mv), (nI oc), ph, (nI ni), (nI nb), xrm, xnc, xcc, xsc, xpc, xop, xsx, xsy, xsz, xbo, xbf, xbe, xin, xee, xdm, xid, xfm, xgm, xkm, xlm, xnb, xnp, xnv, xph, xln, xpa, xrs, xax, xay, xaz, xfo, xsr, xso, xst, xco, xcx, xcy, xcz, xcb, xpd, xps, xss, xtu, xcu, xou, xot, xrg) (nI e)) → Q ((nI mb), (nI mi), (nI mv), (nI oc), ph, (nI ni), (nI nb), xrm, xnc, xcc, xsc, xpc, xop, xsx, xsy, xsz, xbo, xbf, xbe, xin, xee, xdm, xid, xfm, xgm, xkm, xlm, xnb, xnp, xnv, xph, xln, xpa, xrs, xax, xay, xaz, xfo, sr, xso, xst, xco, xcx, xcy, xcz, xcb, xpd, xps, xss, xtu, upd xcu 1 (nI t), xou, xot, rg) → wX_leaveBlock_74 Q (nI 1) (nI e) (nI mb) (nI mi) (nI mv) (nI oc) ph (nI ni) (nI nb) xrm xnc xcc xsc xpc xop xsx xsy xsz xbo xbf xbe xin xee xdm xid xfm xgm xkm xlm xnb xnp xnv xph xln xpa xrs xax xay xaz xfo xsr xso xst xco xcx xcy xcz xcb xpd xps xss xtu xcu xou xot xrg := by
        intro Q e t rg sr he' hx ht hQ
        refine br_t rfl (ht ⟨pk_in e 20 he', ?_⟩)
        rw [zb_ra (a := xee) e, hx]
        exact zs_st 1 hQ (by omega)
      have hne : ∀ e, e < 20 → e / 2 = b → ¬ rt e = -1 → ¬ gr_ee rt e = -1 := by
        intro e he' hb' hx
        rw [gr_ee_t (by rw [hb']; exact hb)]; exact hx
      rcases hcase with h | h | h
      · have hx : rt (2 * b) = xsx i := by rw [hrt]; exact sc_rt_9 hbl hlast h
        obtain ⟨x, x1, x2, x3⟩ := t5 h
        obtain ⟨t, rg, sr, rg', rv, g1, g2, g3, gX, gY⟩ := tn_edge (mb := mb) (mi := mi) (ph := ph) (xrm := xrm) (xnc := xnc) (xcc := xcc) (xsc := xsc) (xpc := xpc) (ync := ync) (ycl := ycl) (xbo := xbo) (xbf := xbf) (xbe := xbe) (xin := xin) (xdm := xdm) (xid := xid) (xfm := xfm) (xgm := xgm) (xkm := xkm) (xlm := xlm) (xln := xln) (xax := xax) (xay := xay) (xaz := xaz) (xfo := xfo) (xso := xso) (xst := xst) (xco := xco) (xcx := xcx) (xcy := xcy) (xcz := xcz) (xcb := xcb) (xpd := xpd) (xps := xps) (xtu := xtu) (yin := yin) (ymk := ymk) (ydm := ydm) (yid := yid) (yfr := yfr) (ylv := ylv) (yis := yis) (yrs := yrs) (yas := yas) (ycd := ycd) (yfi := yfi) (ypd := ypd) (yps := yps) (ytu := ytu) B C YS hmv hrt V hre hee N hnc P (e := 2 * b) (by omega) (hne _ (by omega) (by omega) (by rw [hx, x3]; exact zi_neg (by omega))) xss xcu xou xot xrg xsr yot yrg yrv MV
        refine ⟨xss, upd xcu 1 (nI t), xou, xot, rg, sr, yot, rg', rv, g3, fun g hg => ⟨rfl, pk_un hg⟩, fun _ => ⟨t, g1, pk_us⟩, fun post hp n hn' => ?_, fun post hp n hn' => ?_⟩
        · obtain ⟨n', rfl⟩ : ∃ n', n = n' + 1 + 1 := ⟨n - 2, by omega⟩
          refine Xpre' post n' xss (upd xcu 1 (nI t)) rg sr (fun hQ => ?_) hp
          exact ⟨hv40, zc_eq i (fun w => absurd (h.symm.trans w) (by decide)) (fun _ => nm_r (zi_20 b) ⟨hv40, zc_eq i (fun w => absurd (h.symm.trans w) (by decide)) (fun _ => x74 (2 * b) t rg sr (by omega) g2 gX hQ)⟩)⟩
        · obtain ⟨n', rfl⟩ : ∃ n', n = n' + 1 := ⟨n - 1, by omega⟩
          exact Ypre post n' (br_t h (gY hp))
      · obtain ⟨hy, hz⟩ := sc_rt_10 (fx := xsx) (fy := xsy) (fz := xsz) hbl hlast h
        rw [← hrt] at hy hz
        obtain ⟨y, z, y1, y2, z1, z2, _, y3, z3⟩ := t6 h
        obtain ⟨x, hx1, hx2⟩ := u2 (by rw [h]; decide)
        have hreg : xrg (1 * 100 + x) = yrg (1 * 128 + x) := (MV 1 (by omega)).1 x (by omega)
        have hvx : vp_in (nI 1 * 100 + xax i) 300 := by rw [hx2]; exact pk_in (1 * 100 + x) 300 (by omega) (zi_100 1 x)
        have hrx : xrg (nI 1 * 100 + xax i).toNatClampNeg = yrg (1 * 128 + x) := by rw [hx2, zb_rd (1 * 100 + x) (zi_100 1 x)]; exact hreg
        have go : ∀ e, e < 20 → e / 2 = b → ¬ rt e = -1 → (∀ {Q : SX → Prop}, wX_leaveBlock_74 Q (nI 1) (nI e) (nI mb) (nI mi) (nI mv) (nI oc) ph (nI ni) (nI nb) xrm xnc xcc xsc xpc xop xsx xsy xsz xbo xbf xbe xin xee xdm xid xfm xgm xkm xlm xnb xnp xnv xph xln xpa xrs xax xay xaz xfo xsr xso xst xco xcx xcy xcz xcb xpd xps xss xtu xcu xou xot xrg → wpX_leaveBlock Q ((nI mb), (nI mi), (nI mv), (nI oc), ph, (nI ni), (nI nb), xrm, xnc, xcc, xsc, xpc, xop, xsx, xsy, xsz, xbo, xbf, xbe, xin, xee, xdm, xid, xfm, xgm, xkm, xlm, xnb, xnp, xnv, xph, xln, xpa, xrs, xax, xay, xaz, xfo, xsr, xso, xst, xco, xcx, xcy, xcz, xcb, xpd, xps, xss, xtu, xcu, xou, xot, xrg) (nI 1) (nI b) (nI i)) →
            (∀ (post : SY → Prop) (n : Nat), wpY_takeEdge (fun u => post u) ((nI mb), (nI mi), (nI mv), (nI oc), ph, (nI ni), ync, ycl, ysr, yin, ymk, yre, ydm, yid, yfr, ylv, yis, xph, xpa, yrs, yas, xfo, ycd, yfi, ypd, yps, xss, ytu, xcu, xou, yot, yrg, yrv) (nI e) → wY_turnSsa_27 post (nI b) (nI (be b - 1)) (n + 1) (nI i) (nI mb) (nI mi) (nI mv) (nI oc) ph (nI ni) ync ycl ysr yin ymk yre ydm yid yfr ylv yis xph xpa yrs yas xfo ycd yfi ypd yps xss ytu xcu xou yot yrg yrv) →
            ∃ ss cu ou ot rg sr ot' rg' rv : Nat → Int32, mr_V oc ou ot rg ot' rg' ∧ (∀ g, g ≠ 1 → ss g = xss g ∧ cu g = xcu g) ∧ (ss 1 = 1 → ∃ b', gr_rc rt b' = true ∧ cu 1 = nI b') ∧
              (∀ post : SX → Prop, post ((nI mb), (nI mi), (nI mv), (nI oc), ph, (nI ni), (nI nb), xrm, xnc, xcc, xsc, xpc, xop, xsx, xsy, xsz, xbo, xbf, xbe, xin, xee, xdm, xid, xfm, xgm, xkm, xlm, xnb, xnp, xnv, xph, xln, xpa, xrs, xax, xay, xaz, xfo, sr, xso, xst, xco, xcx, xcy, xcz, xcb, xpd, xps, ss, xtu, cu, ou, ot, rg) → ∀ n, d + 1 < n → wX_turnOnInstructions_27 post (nI 1) (nI b) n 1 (nI i) (nI mb) (nI mi) (nI mv) (nI oc) ph (nI ni) (nI nb) xrm xnc xcc xsc xpc xop xsx xsy xsz xbo xbf xbe xin xee xdm xid xfm xgm xkm xlm xnb xnp xnv xph xln xpa xrs xax xay xaz xfo xsr xso xst xco xcx xcy xcz xcb xpd xps xss xtu xcu xou xot xrg) ∧
              (∀ post : SY → Prop, post ((nI mb), (nI mi), (nI mv), (nI oc), ph, (nI ni), ync, ycl, ysr, yin, ymk, yre, ydm, yid, yfr, ylv, yis, xph, xpa, yrs, yas, xfo, ycd, yfi, ypd, yps, ss, ytu, cu, ou, ot', rg', rv) → ∀ n, d + 1 ≤ n → wY_turnSsa_27 post (nI b) (nI (be b - 1)) n (nI i) (nI mb) (nI mi) (nI mv) (nI oc) ph (nI ni) ync ycl ysr yin ymk yre ydm yid yfr ylv yis xph xpa yrs yas xfo ycd yfi ypd yps xss ytu xcu xou yot yrg yrv) := by
          intro e he' hb' hx hX hY
          obtain ⟨t, rg, sr, rg', rv, g1, g2, g3, gX, gY⟩ := tn_edge (mb := mb) (mi := mi) (ph := ph) (xrm := xrm) (xnc := xnc) (xcc := xcc) (xsc := xsc) (xpc := xpc) (ync := ync) (ycl := ycl) (xbo := xbo) (xbf := xbf) (xbe := xbe) (xin := xin) (xdm := xdm) (xid := xid) (xfm := xfm) (xgm := xgm) (xkm := xkm) (xlm := xlm) (xln := xln) (xax := xax) (xay := xay) (xaz := xaz) (xfo := xfo) (xso := xso) (xst := xst) (xco := xco) (xcx := xcx) (xcy := xcy) (xcz := xcz) (xcb := xcb) (xpd := xpd) (xps := xps) (xtu := xtu) (yin := yin) (ymk := ymk) (ydm := ydm) (yid := yid) (yfr := yfr) (ylv := ylv) (yis := yis) (yrs := yrs) (yas := yas) (ycd := ycd) (yfi := yfi) (ypd := ypd) (yps := yps) (ytu := ytu) B C YS hmv hrt V hre hee N hnc P (e := e) he' (hne e he' hb' hx) xss xcu xou xot xrg xsr yot yrg yrv MV
          refine ⟨xss, upd xcu 1 (nI t), xou, xot, rg, sr, yot, rg', rv, g3, fun g hg => ⟨rfl, pk_un hg⟩, fun _ => ⟨t, g1, pk_us⟩, fun post hp n hn' => ?_, fun post hp n hn' => ?_⟩
          · obtain ⟨n', rfl⟩ : ∃ n', n = n' + 1 + 1 := ⟨n - 2, by omega⟩
            exact Xpre' post n' xss (upd xcu 1 (nI t)) rg sr (fun hQ => hX (x74 e t rg sr he' g2 gX hQ)) hp
          · obtain ⟨n', rfl⟩ : ∃ n', n = n' + 1 := ⟨n - 1, by omega⟩
            exact hY post n' (gY hp)
        by_cases hz0 : yrg (1 * 128 + x) = 0
        · refine go (2 * b + 1) (by omega) (by omega) (by rw [hz, z3]; exact zi_neg (by omega)) (fun hQ => ?_) (fun post n hQ => Ypre post n (br_f (by rw [h]; decide) (br_t h ?_)))
          · refine ⟨hv40, zc_eq i (fun w => absurd (h.symm.trans w) (by decide)) (fun _ => nm_r (zi_20 b) ⟨hv40, zc_eq i (fun _ => br_f (by decide) ⟨hv40, ?_⟩) (fun w => absurd h w)⟩)⟩
            rw [zb_ra (a := xax) i]
            refine ⟨hvx, ?_⟩
            rw [hrx]
            exact br_t hz0 (zn_1 hQ)
          · rw [hx2]
            exact y_getReg (f := 1) (by omega) (by omega) (br_t hz0 hQ)
        · refine go (2 * b) (by omega) (by omega) (by rw [hy, y3]; exact zi_neg (by omega)) (fun hQ => ?_) (fun post n hQ => Ypre post n (br_f (by rw [h]; decide) (br_t h ?_)))
          · refine ⟨hv40, zc_eq i (fun w => absurd (h.symm.trans w) (by decide)) (fun _ => nm_r (zi_20 b) ⟨hv40, zc_eq i (fun _ => br_f (by decide) ⟨hv40, ?_⟩) (fun w => absurd h w)⟩)⟩
            rw [zb_ra (a := xax) i]
            refine ⟨hvx, ?_⟩
            rw [hrx]
            exact br_f hz0 hQ
          · rw [hx2]
            exact y_getReg (f := 1) (by omega) (by omega) (br_f hz0 hQ)
      · refine ⟨upd xss 1 2, xcu, xou, xot, xrg, xsr, yot, yrg, yrv, MV, fun g hg => ⟨pk_un hg, rfl⟩, fun w => by rw [pk_us] at w; exact absurd w (by decide), fun post hp n hn' => ?_, fun post hp n hn' => ?_⟩
        · obtain ⟨n', rfl⟩ : ∃ n', n = n' + 1 + 1 := ⟨n - 2, by omega⟩
          refine Xpre' post n' (upd xss 1 2) xcu xrg xsr (fun hQ => ?_) hp
          exact ⟨hv40, zc_eq i (fun _ => zs_st 1 hQ (by omega)) (fun w => absurd h w)⟩
        · obtain ⟨n', rfl⟩ : ∃ n', n = n' + 1 := ⟨n - 1, by omega⟩
          exact Ypre post n' (br_f (by rw [h]; decide) (br_f (by rw [h]; decide) (nm_e hp)))
end
end
section
/-! ===== machines: a turn of the code form ===== -/
section
variable {mb mi mv oc ni : Nat} {ph ync ycl : Int32} {ysr yin ymk yre ydm yid yfr ylv yis yph yar yrs yas yfo ycd yfi ypd yps yss ytu ybl you yot yrg yrv : Nat → Int32} {nb : Nat}
theorem y_find_real {post : SY → Prop} {J18 : Int32 → Int32 → Int32 → Int32 → Int32 → Int32 → Int32 → Int32 → Int32 → Int32 → (Nat → Int32) → (Nat → Int32) → (Nat → Int32) → (Nat → Int32) → (Nat → Int32) → (Nat → Int32) → (Nat → Int32) → (Nat → Int32) → (Nat → Int32) → (Nat → Int32) → (Nat → Int32) → (Nat → Int32) → (Nat → Int32) → (Nat → Int32) → (Nat → Int32) → (Nat → Int32) → (Nat → Int32) → (Nat → Int32) → (Nat → Int32) → (Nat → Int32) → (Nat → Int32) → (Nat → Int32) → (Nat → Int32) → (Nat → Int32) → (Nat → Int32) → Prop} {x3 : Int32} {t b : Nat} (hnb : nb ≤ 10) (hb : b < nb) (h1 : yfi b = nI t) (h2 : ∀ b', b' < b → ¬ yfi b' = nI t) (ht : t < 2 ^ 31) (h : post ((nI mb), (nI mi), (nI mv), (nI oc), ph, (nI ni), ync, ycl, ysr, yin, ymk, yre, ydm, yid, yfr, ylv, yis, yph, yar, yrs, yas, yfo, ycd, yfi, ypd, yps, yss, ytu, upd ybl 2 (nI b), you, yot, yrg, yrv)) : ∃ n : Nat, wY_turnCode_173 post J18 (nI nb) x3 (nI t) (nI mb) (nI mi) (nI mv) (nI oc) ph (nI ni) ync ycl ysr yin ymk yre ydm yid yfr ylv yis yph yar yrs yas yfo ycd yfi ypd yps yss ytu ybl you yot yrg yrv n 0 := by
  refine loop_0 (fun n j (_ : Unit) => wY_turnCode_173 post J18 (nI nb) x3 (nI t) (nI mb) (nI mi) (nI mv) (nI oc) ph (nI ni) ync ycl ysr yin ymk yre ydm yid yfr ylv yis yph yar yrs yas yfo ycd yfi ypd yps yss ytu ybl you yot yrg yrv n (nI j)) (fun _ _ => True) b () trivial ?_ ?_
  · intro n _ _
    refine zc_go hb (br_f (nI_ge (b := 10) (by omega) (by decide)) ⟨pk_in b 32 (by omega), zc_lt b (fun w => ?_) (fun _ => ⟨pk_in b 32 (by omega), zc_eq b (fun _ => nm_e h) (fun w => absurd h1 w)⟩)⟩)
    rw [h1] at w; exact absurd w (nI_pos ht)
  · intro n j _ hj _ ih
    exact zc_go (show j < nb by omega) (br_f (nI_ge (b := 10) (by omega) (by decide)) ⟨pk_in j 32 (by omega), zc_lt j (fun _ => zn_1 (ih () trivial)) (fun _ => ⟨pk_in j 32 (by omega), zc_eq j (fun w => absurd w (h2 j hj)) (fun _ => zn_1 (ih () trivial))⟩)⟩)
theorem y_find_none {post : SY → Prop} {J18 : Int32 → Int32 → Int32 → Int32 → Int32 → Int32 → Int32 → Int32 → Int32 → Int32 → (Nat → Int32) → (Nat → Int32) → (Nat → Int32) → (Nat → Int32) → (Nat → Int32) → (Nat → Int32) → (Nat → Int32) → (Nat → Int32) → (Nat → Int32) → (Nat → Int32) → (Nat → Int32) → (Nat → Int32) → (Nat → Int32) → (Nat → Int32) → (Nat → Int32) → (Nat → Int32) → (Nat → Int32) → (Nat → Int32) → (Nat → Int32) → (Nat → Int32) → (Nat → Int32) → (Nat → Int32) → (Nat → Int32) → (Nat → Int32) → (Nat → Int32) → Prop} {x3 : Int32} {t : Nat} (hnb : nb ≤ 10) (h2 : ∀ b', b' < nb → ¬ yfi b' = nI t) (h : ∀ y : Int32, y = x3 + 1 → J18 (nI t) y (nI mb) (nI mi) (nI mv) (nI oc) ph (nI ni) ync ycl ysr yin ymk yre ydm yid yfr ylv yis yph yar yrs yas yfo ycd yfi ypd yps yss ytu ybl you yot yrg yrv) : ∃ n : Nat, wY_turnCode_173 post J18 (nI nb) x3 (nI t) (nI mb) (nI mi) (nI mv) (nI oc) ph (nI ni) ync ycl ysr yin ymk yre ydm yid yfr ylv yis yph yar yrs yas yfo ycd yfi ypd yps yss ytu ybl you yot yrg yrv n 0 := by
  refine loop_0 (fun n j (_ : Unit) => wY_turnCode_173 post J18 (nI nb) x3 (nI t) (nI mb) (nI mi) (nI mv) (nI oc) ph (nI ni) ync ycl ysr yin ymk yre ydm yid yfr ylv yis yph yar yrs yas yfo ycd yfi ypd yps yss ytu ybl you yot yrg yrv n (nI j)) (fun _ _ => True) nb () trivial ?_ ?_
  · intro n _ _
    exact zc_ex h
  · intro n j _ hj _ ih
    exact zc_go hj (br_f (nI_ge (b := 10) (by omega) (by decide)) ⟨pk_in j 32 (by omega), zc_lt j (fun _ => zn_1 (ih () trivial)) (fun _ => ⟨pk_in j 32 (by omega), zc_eq j (fun w => absurd w (h2 j hj)) (fun _ => zn_1 (ih () trivial))⟩)⟩)
end
section
variable {mb mi mv oc ni nb nc cc : Nat} {ph xrm xnc xsc xpc ync : Int32} {xop xsx xsy xsz xbo xbf xbe xin xee xdm xid xfm xgm xkm xlm xnb xnp xnv xph xln xpa xrs xax xay xaz xfo xsr xso xst xco xcx xcy xcz xcb xpd xps xtu ysr yin ymk yre ydm yid yfr ylv yis yph yar yrs yas yfo ycd yfi ypd yps ytu yrv rt : Nat → Int32}
theorem tn_code (hoc : oc ≤ 64) (V : gr_V rt nb) (hnc : nc ≤ 96) (hcc : cc ≤ 240) (hst : ∀ b, b < 30 → xst b = yfi b) (hsb : ∀ b, b < nb → (gr_rc rt b = true → ∃ t, t < cc ∧ xst b = nI t ∧ xcb t = nI b) ∧ (gr_rc rt b = false → xst b = -1))
    (hcd : ∀ c, c < cc → ycd (c * 4) = xco c ∧ ycd (c * 4 + 1) = xcx c ∧ ycd (c * 4 + 2) = xcy c ∧ ycd (c * 4 + 3) = xcz c) (hL : ∀ c, c < cc → rl_L nb nc cc rt xst xco xcx xcy xcz xcb c) :
    ∀ D d c st, d ≤ D → c + d = cc → st ≤ c → 0 < d → ∀ (xss xcu xou xot xrg yot yrg : Nat → Int32), mr_V oc xou xot xrg yot yrg →
    ∃ ss cu ou ot rg ot' rg' : Nat → Int32, mr_V oc ou ot rg ot' rg' ∧ (∀ g, g ≠ 2 → ss g = xss g ∧ cu g = xcu g) ∧ (ss 2 = 1 → ∃ b', gr_rc rt b' = true ∧ cu 2 = nI b') ∧
      (∀ post : SX → Prop, post ((nI mb), (nI mi), (nI mv), (nI oc), ph, (nI ni), (nI nb), xrm, xnc, nI cc, xsc, xpc, xop, xsx, xsy, xsz, xbo, xbf, xbe, xin, xee, xdm, xid, xfm, xgm, xkm, xlm, xnb, xnp, xnv, xph, xln, xpa, xrs, xax, xay, xaz, xfo, xsr, xso, xst, xco, xcx, xcy, xcz, xcb, xpd, xps, ss, xtu, cu, ou, ot, rg) → ∀ n, d < n → wX_turnOnCode_26 post n (nI c) 1 (nI st) (nI mb) (nI mi) (nI mv) (nI oc) ph (nI ni) (nI nb) xrm xnc (nI cc) xsc xpc xop xsx xsy xsz xbo xbf xbe xin xee xdm xid xfm xgm xkm xlm xnb xnp xnv xph xln xpa xrs xax xay xaz xfo xsr xso xst xco xcx xcy xcz xcb xpd xps xss xtu xcu xou xot xrg) ∧
      (∀ post : SY → Prop, post ((nI mb), (nI mi), (nI mv), (nI oc), ph, (nI ni), ync, nI cc, ysr, yin, ymk, yre, ydm, yid, yfr, ylv, yis, yph, yar, yrs, yas, yfo, ycd, yfi, ypd, yps, ss, ytu, cu, ou, ot', rg', yrv) → ∀ n, d ≤ n → wY_turnCode_18 post (nI nb) n (nI c) (nI st) (nI mb) (nI mi) (nI mv) (nI oc) ph (nI ni) ync (nI cc) ysr yin ymk yre ydm yid yfr ylv yis yph yar yrs yas yfo ycd yfi ypd yps xss ytu xcu xou yot yrg yrv) := by
  have h10 := V.2.1
  intro D
  induction D with
  | zero => intro d c st h1 _ _ h2; omega
  | succ D ih =>
    intro d c st hD hcd' hst' hd xss xcu xou xot xrg yot yrg MV
    have hc : c < cc := by omega
    have hv : vp_in (nI c) 240 := pk_in c 240 (by omega)
    obtain ⟨s0, s1, s2, s3⟩ := hcd c hc
    have Xstop : ∀ (post : SX → Prop) (n : Nat) (x y : Int32) (ss cu ou ot rg : Nat → Int32), post ((nI mb), (nI mi), (nI mv), (nI oc), ph, (nI ni), (nI nb), xrm, xnc, nI cc, xsc, xpc, xop, xsx, xsy, xsz, xbo, xbf, xbe, xin, xee, xdm, xid, xfm, xgm, xkm, xlm, xnb, xnp, xnv, xph, xln, xpa, xrs, xax, xay, xaz, xfo, xsr, xso, xst, xco, xcx, xcy, xcz, xcb, xpd, xps, ss, xtu, cu, ou, ot, rg) → wX_turnOnCode_26 post (n + 1) x 0 y (nI mb) (nI mi) (nI mv) (nI oc) ph (nI ni) (nI nb) xrm xnc (nI cc) xsc xpc xop xsx xsy xsz xbo xbf xbe xin xee xdm xid xfm xgm xkm xlm xnb xnp xnv xph xln xpa xrs xax xay xaz xfo xsr xso xst xco xcx xcy xcz xcb xpd xps ss xtu cu ou ot rg := by
      intro post n x y ss cu ou ot rg h
      exact ⟨fun _ => h, fun _ => br_t rfl h⟩
    have Ypre : ∀ (post : SY → Prop) (n : Nat), 8 < xco c → ((xco c = 11 → ∀ a : Nat → Int32, a = upd xss 2 2 → post ((nI mb), (nI mi), (nI mv), (nI oc), ph, (nI ni), ync, nI cc, ysr, yin, ymk, yre, ydm, yid, yfr, ylv, yis, yph, yar, yrs, yas, yfo, ycd, yfi, ypd, yps, a, ytu, xcu, xou, yot, yrg, yrv)) ∧ (¬ xco c = 11 → ((xco c = 10 → wpY_getReg (fun r => (r = 0 → ∃ m : Nat, wY_turnCode_173 post (wY_turnCode_18 post (nI nb) n) (nI nb) (nI st) (xcz c) (nI mb) (nI mi) (nI mv) (nI oc) ph (nI ni) ync (nI cc) ysr yin ymk yre ydm yid yfr ylv yis yph yar yrs yas yfo ycd yfi ypd yps xss ytu xcu xou yot yrg yrv m 0) ∧ (¬ r = 0 → ∃ m : Nat, wY_turnCode_173 post (wY_turnCode_18 post (nI nb) n) (nI nb) (nI st) (xcy c) (nI mb) (nI mi) (nI mv) (nI oc) ph (nI ni) ync (nI cc) ysr yin ymk yre ydm yid yfr ylv yis yph yar yrs yas yfo ycd yfi ypd yps xss ytu xcu xou yot yrg yrv m 0)) ((nI mb), (nI mi), (nI mv), (nI oc), ph, (nI ni), ync, nI cc, ysr, yin, ymk, yre, ydm, yid, yfr, ylv, yis, yph, yar, yrs, yas, yfo, ycd, yfi, ypd, yps, xss, ytu, xcu, xou, yot, yrg, yrv) 2 (xcx c)) ∧ (¬ xco c = 10 → ∃ m : Nat, wY_turnCode_173 post (wY_turnCode_18 post (nI nb) n) (nI nb) (nI st) (xcx c) (nI mb) (nI mi) (nI mv) (nI oc) ph (nI ni) ync (nI cc) ysr yin ymk yre ydm yid yfr ylv yis yph yar yrs yas yfo ycd yfi ypd yps xss ytu xcu xou yot yrg yrv m 0)))) → wY_turnCode_18 post (nI nb) (n + 1) (nI c) (nI st) (nI mb) (nI mi) (nI mv) (nI oc) ph (nI ni) ync (nI cc) ysr yin ymk yre ydm yid yfr ylv yis yph yar yrs yas yfo ycd yfi ypd yps xss ytu xcu xou yot yrg yrv := by
      intro post n h8 hq
      refine br_f (nI_ge (b := 1024) (by omega) (by decide)) (br_f zi_nlt (zc_go hc (br_t (nI_lt (b := 512) (by omega) (by decide)) (zs_rn (c * 4) (zs_rn (c * 4 + 1) (zs_rn (c * 4 + 2) (zs_rn (c * 4 + 3) ?_ (by omega) (zi_4c c)) (by omega) (zi_4b c)) (by omega) (zi_4a c)) (by omega) (zi_4 c)))))
      rw [s0, s1, s2, s3]
      exact br_t h8 hq
    -- a jump to x
    have go : ∀ x : Int32, rl_T nb cc rt xst xcb c x → 9 ≤ xco c → ¬ xco c = 11 → (∀ {Q : Int32 → Prop}, Q x → wpX_nextCell Q ((nI mb), (nI mi), (nI mv), (nI oc), ph, (nI ni), (nI nb), xrm, xnc, nI cc, xsc, xpc, xop, xsx, xsy, xsz, xbo, xbf, xbe, xin, xee, xdm, xid, xfm, xgm, xkm, xlm, xnb, xnp, xnv, xph, xln, xpa, xrs, xax, xay, xaz, xfo, xsr, xso, xst, xco, xcx, xcy, xcz, xcb, xpd, xps, xss, xtu, xcu, xou, xot, xrg) (nI c)) →
        (∀ (post : SY → Prop) (n : Nat), (∃ m : Nat, wY_turnCode_173 post (wY_turnCode_18 post (nI nb) n) (nI nb) (nI st) x (nI mb) (nI mi) (nI mv) (nI oc) ph (nI ni) ync (nI cc) ysr yin ymk yre ydm yid yfr ylv yis yph yar yrs yas yfo ycd yfi ypd yps xss ytu xcu xou yot yrg yrv m 0) → wY_turnCode_18 post (nI nb) (n + 1) (nI c) (nI st) (nI mb) (nI mi) (nI mv) (nI oc) ph (nI ni) ync (nI cc) ysr yin ymk yre ydm yid yfr ylv yis yph yar yrs yas yfo ycd yfi ypd yps xss ytu xcu xou yot yrg yrv) →
        ∃ ss cu ou ot rg ot' rg' : Nat → Int32, mr_V oc ou ot rg ot' rg' ∧ (∀ g, g ≠ 2 → ss g = xss g ∧ cu g = xcu g) ∧ (ss 2 = 1 → ∃ b', gr_rc rt b' = true ∧ cu 2 = nI b') ∧
          (∀ post : SX → Prop, post ((nI mb), (nI mi), (nI mv), (nI oc), ph, (nI ni), (nI nb), xrm, xnc, nI cc, xsc, xpc, xop, xsx, xsy, xsz, xbo, xbf, xbe, xin, xee, xdm, xid, xfm, xgm, xkm, xlm, xnb, xnp, xnv, xph, xln, xpa, xrs, xax, xay, xaz, xfo, xsr, xso, xst, xco, xcx, xcy, xcz, xcb, xpd, xps, ss, xtu, cu, ou, ot, rg) → ∀ n, d < n → wX_turnOnCode_26 post n (nI c) 1 (nI st) (nI mb) (nI mi) (nI mv) (nI oc) ph (nI ni) (nI nb) xrm xnc (nI cc) xsc xpc xop xsx xsy xsz xbo xbf xbe xin xee xdm xid xfm xgm xkm xlm xnb xnp xnv xph xln xpa xrs xax xay xaz xfo xsr xso xst xco xcx xcy xcz xcb xpd xps xss xtu xcu xou xot xrg) ∧
          (∀ post : SY → Prop, post ((nI mb), (nI mi), (nI mv), (nI oc), ph, (nI ni), ync, nI cc, ysr, yin, ymk, yre, ydm, yid, yfr, ylv, yis, yph, yar, yrs, yas, yfo, ycd, yfi, ypd, yps, ss, ytu, cu, ou, ot', rg', yrv) → ∀ n, d ≤ n → wY_turnCode_18 post (nI nb) n (nI c) (nI st) (nI mb) (nI mi) (nI mv) (nI oc) ph (nI ni) ync (nI cc) ysr yin ymk yre ydm yid yfr ylv yis yph yar yrs yas yfo ycd yfi ypd yps xss ytu xcu xou yot yrg yrv) := by
      rintro x ⟨t, ht, rfl, hT⟩ h9 h11 hX hY
      have ht240 : vp_in (nI t) 240 := pk_in t 240 (by omega)
      have uni : ∀ b', b' < nb → yfi b' = nI t → xcb t = nI b' := by
        intro b' hb' w
        rw [← hst b' (by omega)] at w
        rcases hr : gr_rc rt b' with _ | _
        · have := (hsb b' hb').2 hr
          rw [this] at w; exact absurd w.symm (zi_neg (by omega))
        · obtain ⟨t', t1, t2, t3⟩ := (hsb b' hb').1 hr
          have : t' = t := zi_inj (t2.symm.trans w)
          rw [← this]; exact t3
      rcases hT with ⟨b, hb, hcb, hxs⟩ | ⟨s, hs1, hs2, hcb, hct⟩
      · have hbl := gr_rc_lt V hb
        refine ⟨xss, upd xcu 2 (nI b), xou, xot, xrg, yot, yrg, MV, fun g hg => ⟨rfl, pk_un hg⟩, fun _ => ⟨b, hb, pk_us⟩, fun post hp n hn' => ?_, fun post hp n hn' => ?_⟩
        · obtain ⟨n', rfl⟩ : ∃ n', n = n' + 1 + 1 := ⟨n - 2, by omega⟩
          refine br_f (nI_ge (b := 240) (by omega) (by decide)) (br_f (by decide) (zc_go hc (zs_rn c (br_t h9 (br_f h11 (hX (zs_rn t ?_ (by omega))))) (by omega))))
          rw [hcb]
          exact br_f (nI_ge hbl (by omega)) (nm_e (zn_1 (Xstop post n' _ _ _ _ _ _ _ hp)))
        · obtain ⟨n', rfl⟩ : ∃ n', n = n' + 1 := ⟨n - 1, by omega⟩
          refine hY post n' (y_find_real (by omega) hbl (by rw [← hst b (by omega)]; exact hxs) (fun b' hb' w => ?_) (by omega) hp)
          have := zi_inj ((uni b' (by omega) w).symm.trans hcb)
          omega
      · obtain ⟨ss, cu, ou, ot, rg, ot', rg', MV', p1, p2, pX, pY⟩ := ih (cc - t) t (st + 1) (by omega) (by omega) (by omega) (by omega) xss xcu xou xot xrg yot yrg MV
        refine ⟨ss, cu, ou, ot, rg, ot', rg', MV', p1, p2, fun post hp n hn' => ?_, fun post hp n hn' => ?_⟩
        · obtain ⟨n', rfl⟩ : ∃ n', n = n' + 1 := ⟨n - 1, by omega⟩
          refine br_f (nI_ge (b := 240) (by omega) (by decide)) (br_f (by decide) (zc_go hc (zs_rn c (br_t h9 (br_f h11 (hX (zs_rn t ?_ (by omega))))) (by omega))))
          rw [hcb]
          exact br_t (nI_le hs1 (by omega)) (zn_1 (pX post hp n' (by omega)))
        · obtain ⟨n', rfl⟩ : ∃ n', n = n' + 1 := ⟨n - 1, by omega⟩
          refine hY post n' (y_find_none (by omega) (fun b' hb' w => ?_) (zn_1 (pY post hp n' (by omega))))
          have := zi_inj ((uni b' hb' w).symm.trans hcb)
          omega
    rcases hL c hc with ⟨k, hk, ek, hc1, r1, r2, r3⟩ | h | ⟨h, hT⟩ | ⟨h, ⟨k, hk, ek⟩, hT1, hT2⟩
    · rw [ek] at r1 r2 r3
      obtain ⟨r, ss, ou, ot, rg, ot', rg', MV', q1, q2, q3, qX, qY⟩ := ex_out (mb := mb) (mi := mi) (mv := mv) (ni := ni) (nb := nb) (ph := ph) (xrm := xrm) (xnc := xnc) (xcc := nI cc) (xsc := xsc) (xpc := xpc) (ync := ync) (ycl := nI cc) (xop := xop) (xsx := xsx) (xsy := xsy) (xsz := xsz) (xbo := xbo) (xbf := xbf) (xbe := xbe) (xin := xin) (xee := xee) (xdm := xdm) (xid := xid) (xfm := xfm) (xgm := xgm) (xkm := xkm) (xlm := xlm) (xnb := xnb) (xnp := xnp) (xnv := xnv) (xph := xph) (xln := xln) (xpa := xpa) (xrs := xrs) (xax := xax) (xay := xay) (xaz := xaz) (xfo := xfo) (xsr := xsr) (xso := xso) (xst := xst) (xco := xco) (xcx := xcx) (xcy := xcy) (xcz := xcz) (xcb := xcb) (xpd := xpd) (xps := xps) (xss := xss) (xtu := xtu) (xcu := xcu) (ysr := ysr) (yin := yin) (ymk := ymk) (yre := yre) (ydm := ydm) (yid := yid) (yfr := yfr) (ylv := ylv) (yis := yis) (yph := yph) (yar := yar) (yrs := yrs) (yas := yas) (yfo := yfo) (ycd := ycd) (yfi := yfi) (ypd := ypd) (yps := yps) (ytu := ytu) (ybl := xcu) (yrv := yrv)
        (f := 2) (k := k) (x := xcx c) (y := xcy c) (z := xcz c) (by omega) hk hoc MV (fun w => by obtain ⟨a, a1, a2⟩ := r1 w; exact ⟨a, by omega, a2⟩) (fun w => by obtain ⟨a, a1, a2⟩ := r2 w; exact ⟨a, by omega, a2⟩) (fun w => by obtain ⟨a, a1, a2⟩ := r3 w; exact ⟨a, by omega, a2⟩)
      rw [← ek] at qX qY
      have n9 : ¬ 9 ≤ xco c := by rw [ek]; exact nI_ge (b := 9) (by omega) (by decide)
      have n8 : ¬ 8 < xco c := by rw [ek]; exact nI_nlt (a := 8) (by omega) (by decide)
      have Xgo : ∀ (post : SX → Prop) (n : Nat), wX_turnOnCode_26 post n (nI (c + 1)) (zb_i r) (nI (st + 1)) (nI mb) (nI mi) (nI mv) (nI oc) ph (nI ni) (nI nb) xrm xnc (nI cc) xsc xpc xop xsx xsy xsz xbo xbf xbe xin xee xdm xid xfm xgm xkm xlm xnb xnp xnv xph xln xpa xrs xax xay xaz xfo xsr xso xst xco xcx xcy xcz xcb xpd xps ss xtu xcu ou ot rg → wX_turnOnCode_26 post (n + 1) (nI c) 1 (nI st) (nI mb) (nI mi) (nI mv) (nI oc) ph (nI ni) (nI nb) xrm xnc (nI cc) xsc xpc xop xsx xsy xsz xbo xbf xbe xin xee xdm xid xfm xgm xkm xlm xnb xnp xnv xph xln xpa xrs xax xay xaz xfo xsr xso xst xco xcx xcy xcz xcb xpd xps xss xtu xcu xou xot xrg := by
        intro post n hq
        refine br_f (nI_ge (b := 240) (by omega) (by decide)) (br_f (by decide) (zc_go hc (zs_rn c (br_f n9 ⟨hv, hv, hv, ?_⟩) (by omega))))
        rw [zb_ra (a := xcx) c, zb_ra (a := xcy) c, zb_ra (a := xcz) c]
        exact qX _ (zn_1 (zn_1 hq))
      have Ygo : ∀ (post : SY → Prop) (n : Nat), (zb_i r = 0 → post ((nI mb), (nI mi), (nI mv), (nI oc), ph, (nI ni), ync, nI cc, ysr, yin, ymk, yre, ydm, yid, yfr, ylv, yis, yph, yar, yrs, yas, yfo, ycd, yfi, ypd, yps, ss, ytu, xcu, ou, ot', rg', yrv)) → (¬ zb_i r = 0 → wY_turnCode_18 post (nI nb) n (nI (c + 1)) (nI (st + 1)) (nI mb) (nI mi) (nI mv) (nI oc) ph (nI ni) ync (nI cc) ysr yin ymk yre ydm yid yfr ylv yis yph yar yrs yas yfo ycd yfi ypd yps ss ytu xcu ou ot' rg' yrv) → wY_turnCode_18 post (nI nb) (n + 1) (nI c) (nI st) (nI mb) (nI mi) (nI mv) (nI oc) ph (nI ni) ync (nI cc) ysr yin ymk yre ydm yid yfr ylv yis yph yar yrs yas yfo ycd yfi ypd yps xss ytu xcu xou yot yrg yrv := by
        intro post n hq1 hq2
        refine br_f (nI_ge (b := 1024) (by omega) (by decide)) (br_f zi_nlt (zc_go hc (br_t (nI_lt (b := 512) (by omega) (by decide)) (zs_rn (c * 4) (zs_rn (c * 4 + 1) (zs_rn (c * 4 + 2) (zs_rn (c * 4 + 3) ?_ (by omega) (zi_4c c)) (by omega) (zi_4b c)) (by omega) (zi_4a c)) (by omega) (zi_4 c)))))
        rw [s0, s1, s2, s3]
        exact br_f n8 (qY _ ⟨hq1, fun w => zn_1 (zn_1 (hq2 w))⟩)
      cases r
      · refine ⟨ss, xcu, ou, ot, rg, ot', rg', MV', fun g hg => ⟨q1 g hg, rfl⟩, fun w => absurd w (q3 rfl), fun post h n hn' => ?_, fun post h n hn' => ?_⟩
        · obtain ⟨n', rfl⟩ : ∃ n', n = n' + 1 + 1 := ⟨n - 2, by omega⟩
          exact Xgo post (n' + 1) (Xstop post n' _ _ _ _ _ _ _ h)
        · obtain ⟨n', rfl⟩ : ∃ n', n = n' + 1 := ⟨n - 1, by omega⟩
          exact Ygo post n' (fun _ => h) (fun w => absurd rfl w)
      · have e := q2 rfl
        subst e
        obtain ⟨ss, cu, ou2, ot2, rg2, ot2', rg2', MV2, p1, p2, pX, pY⟩ := ih (d - 1) (c + 1) (st + 1) (by omega) (by omega) (by omega) (by omega) ss xcu ou ot rg ot' rg' MV'
        refine ⟨ss, cu, ou2, ot2, rg2, ot2', rg2', MV2, p1, p2, fun post h n hn' => ?_, fun post h n hn' => ?_⟩
        · obtain ⟨n', rfl⟩ : ∃ n', n = n' + 1 := ⟨n - 1, by omega⟩
          exact Xgo post n' (pX post h n' (by omega))
        · obtain ⟨n', rfl⟩ : ∃ n', n = n' + 1 := ⟨n - 1, by omega⟩
          exact Ygo post n' (fun w => absurd w (by decide)) (fun _ => pY post h n' (by omega))
    · refine ⟨upd xss 2 2, xcu, xou, xot, xrg, yot, yrg, MV, fun g hg => ⟨pk_un hg, rfl⟩, fun w => by rw [pk_us] at w; exact absurd w (by decide), fun post hp n hn' => ?_, fun post hp n hn' => ?_⟩
      · obtain ⟨n', rfl⟩ : ∃ n', n = n' + 1 + 1 := ⟨n - 2, by omega⟩
        exact br_f (nI_ge (b := 240) (by omega) (by decide)) (br_f (by decide) (zc_go hc (zs_rn c (br_t (by rw [h]; decide) (br_t h (nm_e (zn_1 (Xstop post n' _ _ _ _ _ _ _ hp))))) (by omega))))
      · obtain ⟨n', rfl⟩ : ∃ n', n = n' + 1 := ⟨n - 1, by omega⟩
        exact Ypre post n' (by rw [h]; decide) (br_t h (nm_e hp))
    · refine go (xcx c) hT (by rw [h]; decide) (by rw [h]; decide) (fun hQ => ⟨hv, zc_eq c (fun _ => ⟨hv, ?_⟩) (fun w => absurd h w)⟩) (fun post n hm => Ypre post n (by rw [h]; decide) (br_f (by rw [h]; decide) (br_f (by rw [h]; decide) hm)))
      rw [zb_rd c]; exact hQ
    · have hreg : xrg (2 * 100 + k) = yrg (2 * 128 + k) := (MV 2 (by omega)).1 k (by omega)
      have hvx : vp_in (200 + xcx c) 300 := by rw [ek]; exact pk_in (200 + k) 300 (by omega) (nI_add 200 k)
      have hrx : xrg (200 + xcx c).toNatClampNeg = yrg (2 * 128 + k) := by rw [ek, zb_rd (x := 200 + nI k) (200 + k) (nI_add 200 k)]; exact hreg
      by_cases hz0 : yrg (2 * 128 + k) = 0
      · refine go (xcz c) hT2 (by rw [h]; decide) (by rw [h]; decide) (fun hQ => ⟨hv, zc_eq c (fun w => absurd (h.symm.trans w) (by decide)) (fun _ => ⟨hv, ?_⟩)⟩) (fun post n hm => Ypre post n (by rw [h]; decide) (br_f (by rw [h]; decide) (br_t h ?_)))
        · rw [zb_ra (a := xcx) c]
          refine ⟨hvx, ?_⟩
          rw [hrx]
          refine br_t hz0 (br_t rfl ⟨hv, ?_⟩)
          rw [zb_rd c]; exact hQ
        · rw [ek]
          exact y_getReg (f := 2) (by omega) (by omega) (br_t hz0 hm)
      · refine go (xcy c) hT1 (by rw [h]; decide) (by rw [h]; decide) (fun hQ => ⟨hv, zc_eq c (fun w => absurd (h.symm.trans w) (by decide)) (fun _ => ⟨hv, ?_⟩)⟩) (fun post n hm => Ypre post n (by rw [h]; decide) (br_f (by rw [h]; decide) (br_t h ?_)))
        · rw [zb_ra (a := xcx) c]
          refine ⟨hvx, ?_⟩
          rw [hrx]
          refine br_f hz0 (br_f (by decide) ⟨hv, ?_⟩)
          rw [zb_rd c]; exact hQ
        · rw [ek]
          exact y_getReg (f := 2) (by omega) (by omega) (br_f hz0 hm)
end
end
section
/-! ===== run ===== -/
theorem mr_of {oc : Nat} {ph : Int32} {rt xss xcu xou xot xrg yot yrg : Nat → Int32} (M : rl_M oc ph rt xss xcu xou xot xrg yot yrg) : mr_V oc xou xot xrg yot yrg := fun f hf => ⟨(M f hf).1, (M f hf).2.1⟩
theorem mr_to {oc f : Nat} {ph : Int32} {rt xss xcu xou xot xrg yot yrg ss cu ou ot rg ot' rg' : Nat → Int32} (M : rl_M oc ph rt xss xcu xou xot xrg yot yrg) (hf : f < 3) (h1 : xss f = 1) (V : mr_V oc ou ot rg ot' rg') (hg : ∀ g, g ≠ f → ss g = xss g ∧ cu g = xcu g) (hs : ss f = 1 → ∃ b', gr_rc rt b' = true ∧ cu f = nI b') : rl_M oc ph rt ss cu ou ot rg ot' rg' := by
  intro g hg3
  obtain ⟨v1, v2⟩ := V g hg3
  obtain ⟨_, _, m3, m4⟩ := M g hg3
  refine ⟨v1, v2, ?_⟩
  by_cases e : g = f
  · subst e
    obtain ⟨p1, p2, _⟩ := m3 h1
    exact ⟨fun w => ⟨p1, p2, hs w⟩, fun w => absurd w p1⟩
  · rw [(hg g e).1, (hg g e).2]; exact ⟨m3, m4⟩
section
variable {mb mi mv oc ni nb nc cc : Nat} {ph xrm xnc xcc xsc xpc ync ycl : Int32} {xop xsx xsy xsz xbo xbf xbe xin xee xdm xid xfm xgm xkm xlm xnb xnp xnv xph xln xpa xrs xax xay xaz xfo xso xst xco xcx xcy xcz xcb xpd xps ysr yin ymk yre ydm yid yfr ylv yis yas ycd yfi ypd yps rt : Nat → Int32} {bf be : Nat → Nat}
theorem tr_0 (S : rl_S mb mi mv oc ni nb bf be xop xsx xsy xsz xbo xbf xbe ysr) (A : rl_A mv ni nb be rt xrm xop xsx xsy xsz xee xdm xid xfm xlm yre ydm yid yfr ylv) (xss xtu xcu xou xot xrg xsr yot yrg yrv : Nat → Int32) (M : rl_M oc ph rt xss xcu xou xot xrg yot yrg) (h1 : xss 0 = 1) :
    ∃ ss cu ou ot rg ot' rg' : Nat → Int32, rl_M oc ph rt ss cu ou ot rg ot' rg' ∧
      (∀ post : SX → Prop, post ((nI mb), (nI mi), (nI mv), (nI oc), ph, (nI ni), (nI nb), xrm, xnc, xcc, xsc, xpc, xop, xsx, xsy, xsz, xbo, xbf, xbe, xin, xee, xdm, xid, xfm, xgm, xkm, xlm, xnb, xnp, xnv, xph, xln, xpa, xrs, xax, xay, xaz, xfo, xsr, xso, xst, xco, xcx, xcy, xcz, xcb, xpd, xps, ss, upd xtu 0 (xtu 0 + 1), cu, ou, ot, rg) → wpX_turnOnInstructions post ((nI mb), (nI mi), (nI mv), (nI oc), ph, (nI ni), (nI nb), xrm, xnc, xcc, xsc, xpc, xop, xsx, xsy, xsz, xbo, xbf, xbe, xin, xee, xdm, xid, xfm, xgm, xkm, xlm, xnb, xnp, xnv, xph, xln, xpa, xrs, xax, xay, xaz, xfo, xsr, xso, xst, xco, xcx, xcy, xcz, xcb, xpd, xps, xss, xtu, xcu, xou, xot, xrg) (nI 0)) ∧
      (∀ post : SY → Prop, post ((nI mb), (nI mi), (nI mv), (nI oc), ph, (nI ni), ync, ycl, ysr, xin, ymk, yre, ydm, yid, yfr, ylv, yis, xph, xpa, xrs, yas, xfo, ycd, yfi, ypd, yps, ss, upd xtu 0 (xtu 0 + 1), cu, ou, ot', rg', yrv) → wpY_turnSource post ((nI mb), (nI mi), (nI mv), (nI oc), ph, (nI ni), ync, ycl, ysr, xin, ymk, yre, ydm, yid, yfr, ylv, yis, xph, xpa, xrs, yas, xfo, ycd, yfi, ypd, yps, xss, upd xtu 0 (xtu 0 + 1), xcu, xou, yot, yrg, yrv)) := by
  obtain ⟨S1, S2, S3, S4, S5, S6, B, SV, YS, hbo, hbf, hbe⟩ := S
  obtain ⟨C, hrt, V, hrm, hre, hee, _⟩ := A
  have h10 := V.2.1
  obtain ⟨b, hb, ecu⟩ := ((M 0 (by omega)).2.2.1 h1).2.2
  have hbl := gr_rc_lt V hb
  have hb2 := (B.2.2.2.2.2 b hbl).1
  have hb1 := sc_be_le B b hbl
  have hn := B.1
  obtain ⟨ss, cu, ou, ot, rg, ot', rg', MV', p1, p2, pX, pY⟩ := tn_src (mi := mi) (ph := ph) (xrm := xrm) (xnc := xnc) (xcc := xcc) (xsc := xsc) (xpc := xpc) (ync := ync) (ycl := ycl) (xbo := xbo) (xbf := xbf) (xin := xin) (xdm := xdm) (xid := xid) (xfm := xfm) (xgm := xgm) (xkm := xkm) (xlm := xlm) (xnb := xnb) (xnp := xnp) (xnv := xnv) (xph := xph) (xln := xln) (xpa := xpa) (xrs := xrs) (xax := xax) (xay := xay) (xaz := xaz) (xfo := xfo) (xsr := xsr) (xso := xso) (xst := xst) (xco := xco) (xcx := xcx) (xcy := xcy) (xcz := xcz) (xcb := xcb) (xpd := xpd) (xps := xps) (xtu := upd xtu 0 (xtu 0 + 1)) (yin := xin) (ymk := ymk) (yre := yre) (ydm := ydm) (yid := yid) (yfr := yfr) (ylv := ylv) (yis := yis) (yph := xph) (yar := xpa) (yrs := xrs) (yas := yas) (yfo := xfo) (ycd := ycd) (yfi := yfi) (ypd := ypd) (yps := yps) (ytu := upd xtu 0 (xtu 0 + 1)) (yrv := yrv) B C SV YS S1.2 S3.2 S4.2 hrt V hee hbe hb (be b - bf b) (bf b) (by omega) (Nat.le_refl _) (by omega) xss xcu xou xot xrg yot yrg (mr_of M)
  refine ⟨ss, cu, ou, ot, rg, ot', rg', mr_to M (by omega) h1 MV' p1 p2, fun post h => ⟨pk_in 0 3 (by omega), zs_st 0 (zs_rn 0 ?_ (by omega)) (by omega)⟩, fun post h => nm_r ecu ?_⟩
  · rw [ecu]
    refine zs_rn b ⟨be b - bf b + 1, ?_⟩ (by omega)
    rw [hbf b hbl]
    exact pX post h _ (by omega)
  · refine y_firstOf YS B hbl (y_termOf YS B C hbl (br_t (nI_pos' (by omega)) ⟨be b - bf b, pY post h _ (Nat.le_refl _)⟩))
theorem tr_1 (S : rl_S mb mi mv oc ni nb bf be xop xsx xsy xsz xbo xbf xbe ysr) (A : rl_A mv ni nb be rt xrm xop xsx xsy xsz xee xdm xid xfm xlm yre ydm yid yfr ylv) (NN : rl_N mv ni nc rt xop xsx xsy xsz xnb xnp xnv xph xpa xrs xax xay xaz xfo yas) (xss xtu xcu xou xot xrg xsr yot yrg yrv : Nat → Int32) (M : rl_M oc ph rt xss xcu xou xot xrg yot yrg) (h1 : xss 1 = 1) :
    ∃ ss cu ou ot rg sr ot' rg' rv : Nat → Int32, rl_M oc ph rt ss cu ou ot rg ot' rg' ∧
      (∀ post : SX → Prop, post ((nI mb), (nI mi), (nI mv), (nI oc), ph, (nI ni), (nI nb), xrm, xnc, xcc, xsc, xpc, xop, xsx, xsy, xsz, xbo, xbf, xbe, xin, xee, xdm, xid, xfm, xgm, xkm, xlm, xnb, xnp, xnv, xph, xln, xpa, xrs, xax, xay, xaz, xfo, sr, xso, xst, xco, xcx, xcy, xcz, xcb, xpd, xps, ss, upd xtu 1 (xtu 1 + 1), cu, ou, ot, rg) → wpX_turnOnInstructions post ((nI mb), (nI mi), (nI mv), (nI oc), ph, (nI ni), (nI nb), xrm, xnc, xcc, xsc, xpc, xop, xsx, xsy, xsz, xbo, xbf, xbe, xin, xee, xdm, xid, xfm, xgm, xkm, xlm, xnb, xnp, xnv, xph, xln, xpa, xrs, xax, xay, xaz, xfo, xsr, xso, xst, xco, xcx, xcy, xcz, xcb, xpd, xps, xss, xtu, xcu, xou, xot, xrg) (nI 1)) ∧
      (∀ post : SY → Prop, post ((nI mb), (nI mi), (nI mv), (nI oc), ph, (nI ni), ync, ycl, ysr, xin, ymk, yre, ydm, yid, yfr, ylv, yis, xph, xpa, xrs, yas, xfo, ycd, yfi, ypd, yps, ss, upd xtu 1 (xtu 1 + 1), cu, ou, ot', rg', rv) → wpY_turnSsa post ((nI mb), (nI mi), (nI mv), (nI oc), ph, (nI ni), ync, ycl, ysr, xin, ymk, yre, ydm, yid, yfr, ylv, yis, xph, xpa, xrs, yas, xfo, ycd, yfi, ypd, yps, xss, upd xtu 1 (xtu 1 + 1), xcu, xou, yot, yrg, yrv)) := by
  obtain ⟨S1, S2, S3, S4, S5, S6, B, SV, YS, hbo, hbf, hbe⟩ := S
  obtain ⟨C, hrt, V, hrm, hre, hee, _⟩ := A
  have h10 := V.2.1
  obtain ⟨b, hb, ecu⟩ := ((M 1 (by omega)).2.2.1 h1).2.2
  have hbl := gr_rc_lt V hb
  have hb2 := (B.2.2.2.2.2 b hbl).1
  have hb1 := sc_be_le B b hbl
  have hn := B.1
  obtain ⟨ss, cu, ou, ot, rg, sr, ot', rg', rv, MV', p1, p2, pX, pY⟩ := tn_ssa (mi := mi) (ph := ph) (xrm := xrm) (xnc := xnc) (xcc := xcc) (xsc := xsc) (xpc := xpc) (ync := ync) (ycl := ycl) (xbo := xbo) (xbf := xbf) (xin := xin) (xdm := xdm) (xid := xid) (xfm := xfm) (xgm := xgm) (xkm := xkm) (xlm := xlm) (xln := xln) (xso := xso) (xst := xst) (xco := xco) (xcx := xcx) (xcy := xcy) (xcz := xcz) (xcb := xcb) (xpd := xpd) (xps := xps) (xtu := upd xtu 1 (xtu 1 + 1)) (yin := xin) (ymk := ymk) (ydm := ydm) (yid := yid) (yfr := yfr) (ylv := ylv) (yis := yis) (yrs := xrs) (ycd := ycd) (yfi := yfi) (ypd := ypd) (yps := yps) (ytu := upd xtu 1 (xtu 1 + 1)) B C SV YS S1.2 S3.2 S4.2 hrt V hre hee hbe NN hb (be b - bf b) (bf b) (by omega) (Nat.le_refl _) (by omega) xss xcu xou xot xrg xsr yot yrg yrv (mr_of M)
  refine ⟨ss, cu, ou, ot, rg, sr, ot', rg', rv, mr_to M (by omega) h1 MV' p1 p2, fun post h => ⟨pk_in 1 3 (by omega), zs_st 1 (zs_rn 1 ?_ (by omega)) (by omega)⟩, fun post h => nm_r ecu ?_⟩
  · rw [ecu]
    refine zs_rn b ⟨be b - bf b + 1, ?_⟩ (by omega)
    rw [hbf b hbl]
    exact pX post h _ (by omega)
  · refine y_firstOf YS B hbl (y_termOf YS B C hbl (br_t (nI_pos' (by omega)) ⟨be b - bf b, pY post h _ (Nat.le_refl _)⟩))
theorem tr_2 (S : rl_S mb mi mv oc ni nb bf be xop xsx xsy xsz xbo xbf xbe ysr) (A : rl_A mv ni nb be rt xrm xop xsx xsy xsz xee xdm xid xfm xlm yre ydm yid yfr ylv) (hnc : nc ≤ 96) (Co : rl_C nb nc cc be rt xcc xsc ycl xop xso xst xco xcx xcy xcz xcb ycd yfi) (xss xtu xcu xou xot xrg xsr yot yrg yrv : Nat → Int32) (M : rl_M oc ph rt xss xcu xou xot xrg yot yrg) (h1 : xss 2 = 1) :
    ∃ ss cu ou ot rg ot' rg' : Nat → Int32, rl_M oc ph rt ss cu ou ot rg ot' rg' ∧
      (∀ post : SX → Prop, post ((nI mb), (nI mi), (nI mv), (nI oc), ph, (nI ni), (nI nb), xrm, xnc, xcc, xsc, xpc, xop, xsx, xsy, xsz, xbo, xbf, xbe, xin, xee, xdm, xid, xfm, xgm, xkm, xlm, xnb, xnp, xnv, xph, xln, xpa, xrs, xax, xay, xaz, xfo, xsr, xso, xst, xco, xcx, xcy, xcz, xcb, xpd, xps, ss, upd xtu 2 (xtu 2 + 1), cu, ou, ot, rg) → wpX_turnOnCode post ((nI mb), (nI mi), (nI mv), (nI oc), ph, (nI ni), (nI nb), xrm, xnc, xcc, xsc, xpc, xop, xsx, xsy, xsz, xbo, xbf, xbe, xin, xee, xdm, xid, xfm, xgm, xkm, xlm, xnb, xnp, xnv, xph, xln, xpa, xrs, xax, xay, xaz, xfo, xsr, xso, xst, xco, xcx, xcy, xcz, xcb, xpd, xps, xss, xtu, xcu, xou, xot, xrg)) ∧
      (∀ post : SY → Prop, post ((nI mb), (nI mi), (nI mv), (nI oc), ph, (nI ni), ync, ycl, ysr, xin, ymk, yre, ydm, yid, yfr, ylv, yis, xph, xpa, xrs, yas, xfo, ycd, yfi, ypd, yps, ss, upd xtu 2 (xtu 2 + 1), cu, ou, ot', rg', yrv) → wpY_turnCode post ((nI mb), (nI mi), (nI mv), (nI oc), ph, (nI ni), ync, ycl, ysr, xin, ymk, yre, ydm, yid, yfr, ylv, yis, xph, xpa, xrs, yas, xfo, ycd, yfi, ypd, yps, xss, upd xtu 2 (xtu 2 + 1), xcu, xou, yot, yrg, yrv)) := by
  obtain ⟨S1, S2, S3, S4, S5, S6, B, SV, YS, hbo, hbf, hbe⟩ := S
  obtain ⟨C, hrt, V, hrm, hre, hee, _⟩ := A
  obtain ⟨c1, c2, c3, c4, c5, c6, c7, c8, c9, c10, c11⟩ := Co
  subst c2 c3
  have h10 := V.2.1
  obtain ⟨b, hb, ecu⟩ := ((M 2 (by omega)).2.2.1 h1).2.2
  have hbl := gr_rc_lt V hb
  obtain ⟨t, t1, t2, t3⟩ := (c9 b hbl).1 hb
  obtain ⟨ss, cu, ou, ot, rg, ot', rg', MV', p1, p2, pX, pY⟩ := tn_code (mb := mb) (mi := mi) (mv := mv) (ni := ni) (ph := ph) (xrm := xrm) (xnc := xnc) (xsc := xsc) (xpc := xpc) (ync := ync) (xop := xop) (xsx := xsx) (xsy := xsy) (xsz := xsz) (xbo := xbo) (xbf := xbf) (xbe := xbe) (xin := xin) (xee := xee) (xdm := xdm) (xid := xid) (xfm := xfm) (xgm := xgm) (xkm := xkm) (xlm := xlm) (xnb := xnb) (xnp := xnp) (xnv := xnv) (xph := xph) (xln := xln) (xpa := xpa) (xrs := xrs) (xax := xax) (xay := xay) (xaz := xaz) (xfo := xfo) (xsr := xsr) (xso := xso) (xpd := xpd) (xps := xps) (xtu := upd xtu 2 (xtu 2 + 1)) (ysr := ysr) (yin := xin) (ymk := ymk) (yre := yre) (ydm := ydm) (yid := yid) (yfr := yfr) (ylv := ylv) (yis := yis) (yph := xph) (yar := xpa) (yrs := xrs) (yas := yas) (yfo := xfo) (ypd := ypd) (yps := yps) (ytu := upd xtu 2 (xtu 2 + 1)) (yrv := yrv) S4.2 V hnc c1 c6 c9 c10 c11 (cc - t) (cc - t) t 0 (Nat.le_refl _) (by omega) (by omega) (by omega) xss xcu xou xot xrg yot yrg (mr_of M)
  refine ⟨ss, cu, ou, ot, rg, ot', rg', mr_to M (by omega) h1 MV' p1 p2, fun post h => nm_e ?_, fun post h => ?_⟩
  · rw [ecu]
    refine zs_rn b ⟨cc - t + 1, ?_⟩ (by omega)
    rw [t2]
    exact pX post h _ (by omega)
  · unfold wpY_turnCode
    refine y_blocks YS B ?_
    rw [ecu]
    refine br_f zi_nlt (br_t (nI_lt (b := 32) (by omega) (by decide)) ⟨pk_in b 32 (by omega), ?_⟩)
    rw [zb_rd b, ← c6 b (by omega), t2]
    exact ⟨cc - t, pY post h _ (Nat.le_refl _)⟩
theorem y_run_idle {f lim : Nat} (hf : f < 3) (hl : lim ≤ 64) (xss xtu xcu xou yot yrg yrv : Nat → Int32) (h1 : ¬ xss f = 1) : ∀ d t, t + d = lim → ∀ post : Int32 → SY → Prop, post (xss f) ((nI mb), (nI mi), (nI mv), (nI oc), ph, (nI ni), ync, ycl, ysr, xin, ymk, yre, ydm, yid, yfr, ylv, yis, xph, xpa, xrs, yas, xfo, ycd, yfi, ypd, yps, xss, xtu, xcu, xou, yot, yrg, yrv) → ∀ n, d < n → wY_run_24 post (nI f) (nI lim) n (nI t) (nI mb) (nI mi) (nI mv) (nI oc) ph (nI ni) ync ycl ysr xin ymk yre ydm yid yfr ylv yis xph xpa xrs yas xfo ycd yfi ypd yps xss xtu xcu xou yot yrg yrv := by
  intro d
  induction d with
  | zero =>
    intro t ht post h n hn
    obtain ⟨n', rfl⟩ : ∃ n', n = n' + 1 := ⟨n - 1, by omega⟩
    have e : t = lim := by omega
    rw [e]
    refine zc_ex ⟨pk_in f 3 hf, ?_⟩
    rw [zb_rd f]; exact h
  | succ d ih =>
    intro t ht post h n hn
    obtain ⟨n', rfl⟩ : ∃ n', n = n' + 1 := ⟨n - 1, by omega⟩
    exact zc_go (show t < lim by omega) ⟨pk_in f 3 hf, zc_eq f (fun w => absurd w h1) (fun _ => zn_1 (ih (t + 1) (by omega) post h n' (by omega)))⟩
theorem run_out (S : rl_S mb mi mv oc ni nb bf be xop xsx xsy xsz xbo xbf xbe ysr) (H : rl_H mv ni nb nc cc be rt ph xrm xnc xcc xsc ync ycl xop xsx xsy xsz xee xdm xid xfm xlm xnb xnp xnv xph xpa xrs xax xay xaz xfo xso xst xco xcx xcy xcz xcb yre ydm yid yfr ylv yas ycd yfi) {f lim : Nat} (hf : f < 3) (hl : lim ≤ 64) :
    ∀ d t, t + d = lim → ∀ (xss xtu xcu xou xot xrg xsr yot yrg yrv : Nat → Int32), rl_M oc ph rt xss xcu xou xot xrg yot yrg →
    ∃ ss tu cu ou ot rg sr ot' rg' rv : Nat → Int32, rl_M oc ph rt ss cu ou ot rg ot' rg' ∧
      (∀ post : Int32 → SX → Prop, post (ss f) ((nI mb), (nI mi), (nI mv), (nI oc), ph, (nI ni), (nI nb), xrm, xnc, xcc, xsc, xpc, xop, xsx, xsy, xsz, xbo, xbf, xbe, xin, xee, xdm, xid, xfm, xgm, xkm, xlm, xnb, xnp, xnv, xph, xln, xpa, xrs, xax, xay, xaz, xfo, sr, xso, xst, xco, xcx, xcy, xcz, xcb, xpd, xps, ss, tu, cu, ou, ot, rg) → ∀ n, d < n → wX_run_24 post (nI f) (nI lim) n (nI t) (nI mb) (nI mi) (nI mv) (nI oc) ph (nI ni) (nI nb) xrm xnc xcc xsc xpc xop xsx xsy xsz xbo xbf xbe xin xee xdm xid xfm xgm xkm xlm xnb xnp xnv xph xln xpa xrs xax xay xaz xfo xsr xso xst xco xcx xcy xcz xcb xpd xps xss xtu xcu xou xot xrg) ∧
      (∀ post : Int32 → SY → Prop, post (ss f) ((nI mb), (nI mi), (nI mv), (nI oc), ph, (nI ni), ync, ycl, ysr, xin, ymk, yre, ydm, yid, yfr, ylv, yis, xph, xpa, xrs, yas, xfo, ycd, yfi, ypd, yps, ss, tu, cu, ou, ot', rg', rv) → ∀ n, d < n → wY_run_24 post (nI f) (nI lim) n (nI t) (nI mb) (nI mi) (nI mv) (nI oc) ph (nI ni) ync ycl ysr xin ymk yre ydm yid yfr ylv yis xph xpa xrs yas xfo ycd yfi ypd yps xss xtu xcu xou yot yrg yrv) := by
  have hv : vp_in (nI f) 3 := pk_in f 3 hf
  intro d
  induction d with
  | zero =>
    intro t ht xss xtu xcu xou xot xrg xsr yot yrg yrv M
    have e : t = lim := by omega
    refine ⟨xss, xtu, xcu, xou, xot, xrg, xsr, yot, yrg, yrv, M, fun post h n hn => ?_, fun post h n hn => ?_⟩
    · obtain ⟨n', rfl⟩ : ∃ n', n = n' + 1 := ⟨n - 1, by omega⟩
      rw [e]
      refine zc_ex ⟨hv, ?_⟩
      rw [zb_rd f]; exact h
    · obtain ⟨n', rfl⟩ : ∃ n', n = n' + 1 := ⟨n - 1, by omega⟩
      rw [e]
      refine zc_ex ⟨hv, ?_⟩
      rw [zb_rd f]; exact h
  | succ d ih =>
    intro t ht xss xtu xcu xou xot xrg xsr yot yrg yrv M
    by_cases h1 : xss f = 1
    rotate_left
    · refine ⟨xss, xtu, xcu, xou, xot, xrg, xsr, yot, yrg, yrv, M, fun post h n hn => ?_, fun post h n hn => y_run_idle hf hl xss xtu xcu xou yot yrg yrv h1 (d + 1) t ht post h n hn⟩
      obtain ⟨n', rfl⟩ : ∃ n', n = n' + 1 := ⟨n - 1, by omega⟩
      refine zc_go (show t < lim by omega) ⟨hv, zc_eq f (fun w => absurd w h1) (fun _ => ⟨hv, ?_⟩)⟩
      rw [zb_rd f]; exact h
    have hph := (M f hf).2.2.1 h1
    rcases H with ⟨w, _⟩ | ⟨H1, _, _, A, N⟩
    · exact absurd w hph.1
    have hfc : f = 0 ∨ f = 1 ∨ f = 2 := by omega
    rcases hfc with rfl | rfl | rfl
    · obtain ⟨s1, u1, o1, t1, g1, t1', g1', M1, X1, Y1⟩ := tr_0 (xnc := xnc) (xcc := xcc) (xsc := xsc) (xpc := xpc) (ync := ync) (ycl := ycl) (xin := xin) (xgm := xgm) (xkm := xkm) (xnb := xnb) (xnp := xnp) (xnv := xnv) (xph := xph) (xln := xln) (xpa := xpa) (xrs := xrs) (xax := xax) (xay := xay) (xaz := xaz) (xfo := xfo) (xso := xso) (xst := xst) (xco := xco) (xcx := xcx) (xcy := xcy) (xcz := xcz) (xcb := xcb) (xpd := xpd) (xps := xps) (ymk := ymk) (yis := yis) (yas := yas) (ycd := ycd) (yfi := yfi) (ypd := ypd) (yps := yps) S A xss xtu xcu xou xot xrg xsr yot yrg yrv M h1
      obtain ⟨ss, tu, cu, ou, ot, rg, sr, ot', rg', rv, M2, pX, pY⟩ := ih (t + 1) (by omega) s1 (upd xtu 0 (xtu 0 + 1)) u1 o1 t1 g1 xsr t1' g1' yrv M1
      refine ⟨ss, tu, cu, ou, ot, rg, sr, ot', rg', rv, M2, fun post h n hn => ?_, fun post h n hn => ?_⟩
      · obtain ⟨n', rfl⟩ : ∃ n', n = n' + 1 := ⟨n - 1, by omega⟩
        exact zc_go (show t < lim by omega) ⟨hv, zc_eq 0 (fun _ => br_f (by decide) (X1 _ (zn_1 (pX post h n' (by omega))))) (fun w => absurd h1 w)⟩
      · obtain ⟨n', rfl⟩ : ∃ n', n = n' + 1 := ⟨n - 1, by omega⟩
        exact zc_go (show t < lim by omega) ⟨hv, zc_eq 0 (fun _ => ⟨hv, zs_st 0 (br_t rfl (Y1 _ (zn_1 (pY post h n' (by omega))))) (by omega)⟩) (fun w => absurd h1 w)⟩
    · obtain ⟨s1, u1, o1, t1, g1, r1, t1', g1', v1, M1, X1, Y1⟩ := tr_1 (xnc := xnc) (xcc := xcc) (xsc := xsc) (xpc := xpc) (ync := ync) (ycl := ycl) (xin := xin) (xgm := xgm) (xkm := xkm) (xln := xln) (xso := xso) (xst := xst) (xco := xco) (xcx := xcx) (xcy := xcy) (xcz := xcz) (xcb := xcb) (xpd := xpd) (xps := xps) (ymk := ymk) (yis := yis) (ycd := ycd) (yfi := yfi) (ypd := ypd) (yps := yps) S A N xss xtu xcu xou xot xrg xsr yot yrg yrv M h1
      obtain ⟨ss, tu, cu, ou, ot, rg, sr, ot', rg', rv, M2, pX, pY⟩ := ih (t + 1) (by omega) s1 (upd xtu 1 (xtu 1 + 1)) u1 o1 t1 g1 r1 t1' g1' v1 M1
      refine ⟨ss, tu, cu, ou, ot, rg, sr, ot', rg', rv, M2, fun post h n hn => ?_, fun post h n hn => ?_⟩
      · obtain ⟨n', rfl⟩ : ∃ n', n = n' + 1 := ⟨n - 1, by omega⟩
        exact zc_go (show t < lim by omega) ⟨hv, zc_eq 1 (fun _ => br_f (by decide) (X1 _ (zn_1 (pX post h n' (by omega))))) (fun w => absurd h1 w)⟩
      · obtain ⟨n', rfl⟩ : ∃ n', n = n' + 1 := ⟨n - 1, by omega⟩
        exact zc_go (show t < lim by omega) ⟨hv, zc_eq 1 (fun _ => ⟨hv, zs_st 1 (br_f (by decide) (br_t rfl (Y1 _ (zn_1 (pY post h n' (by omega)))))) (by omega)⟩) (fun w => absurd h1 w)⟩
    · have Co : rl_C nb nc cc be rt xcc xsc ycl xop xso xst xco xcx xcy xcz xcb ycd yfi := by
        rcases H1 with w | w
        · rw [hph.2.1 rfl] at w; exact absurd w.1 (by decide)
        · exact w.2
      obtain ⟨s1, u1, o1, t1, g1, t1', g1', M1, X1, Y1⟩ := tr_2 (xnc := xnc) (xpc := xpc) (ync := ync) (xin := xin) (xgm := xgm) (xkm := xkm) (xnb := xnb) (xnp := xnp) (xnv := xnv) (xph := xph) (xln := xln) (xpa := xpa) (xrs := xrs) (xax := xax) (xay := xay) (xaz := xaz) (xfo := xfo) (xpd := xpd) (xps := xps) (ymk := ymk) (yis := yis) (yas := yas) (ypd := ypd) (yps := yps) S A N.2.1 Co xss xtu xcu xou xot xrg xsr yot yrg yrv M h1
      obtain ⟨ss, tu, cu, ou, ot, rg, sr, ot', rg', rv, M2, pX, pY⟩ := ih (t + 1) (by omega) s1 (upd xtu 2 (xtu 2 + 1)) u1 o1 t1 g1 xsr t1' g1' yrv M1
      refine ⟨ss, tu, cu, ou, ot, rg, sr, ot', rg', rv, M2, fun post h n hn => ?_, fun post h n hn => ?_⟩
      · obtain ⟨n', rfl⟩ : ∃ n', n = n' + 1 := ⟨n - 1, by omega⟩
        exact zc_go (show t < lim by omega) ⟨hv, zc_eq 2 (fun _ => br_t rfl (X1 _ (zn_1 (pX post h n' (by omega))))) (fun w => absurd h1 w)⟩
      · obtain ⟨n', rfl⟩ : ∃ n', n = n' + 1 := ⟨n - 1, by omega⟩
        exact zc_go (show t < lim by omega) ⟨hv, zc_eq 2 (fun _ => ⟨hv, zs_st 2 (br_f (by decide) (br_f (by decide) (Y1 _ (zn_1 (pY post h n' (by omega)))))) (by omega)⟩) (fun w => absurd h1 w)⟩
end
theorem i_vc_run {k : Nat} {u : SX} {v : SY} (I : i_Rel k u v) (hk : k + 5 ≤ 2564) (v1 : Int32) (v2 : Int32) : wpX_run (fun r u' => wpY_run (fun r' v' => r' = r ∧ i_Rel (k + 5) u' v') v v1 v2) u v1 v2 := by
  refine zz_el (Q := fun u v => wpX_run (fun r u' => wpY_run (fun r' v' => r' = r ∧ i_Rel (k + 5) u' v') v v1 v2) u v1 v2) ?_ I
  intro mb mi mv oc ni nb ph xrm xnc xcc xsc xpc ync ycl xop xsx xsy xsz xbo xbf xbe xin xee xdm xid xfm xgm xkm xlm xnb xnp xnv xph xln xpa xrs xax xay xaz xfo xsr xso xst xco xcx xcy xcz xcb xpd xps xss xtu xcu xou xot xrg ysr ymk yre ydm yid yfr ylv yis yas ycd yfi ypd yps yot yrg yrv R0
  have R1 := R0
  obtain ⟨nc, cc, bf, be, rt, S, H, M⟩ := R0
  rcases pk_ix v1 (n := 3) (by omega) with w | w | ⟨f, hf, rfl⟩
  · exact br_t w (br_t w ⟨rfl, zz_in R1⟩)
  · have h3 : ¬ v1 ≤ 2 := fun x => absurd (Int32.le_trans w x) (by decide)
    exact br_f (zi_out (by omega) w) (br_f h3 (br_f (zi_out (by omega) w) (br_f h3 ⟨rfl, zz_in R1⟩)))
  · have hle : nI f ≤ 2 := nI_le (b := 2) (by omega) (by decide)
    obtain ⟨lim, _, hl, el⟩ := zz_cl_n (p := v2) (a := 0) (b := 64) (by omega) (by omega)
    have el' : zz_cl v2 0 64 = nI lim := el
    obtain ⟨ss, tu, cu, ou, ot, rg, sr, ot', rg', rv, M2, pX, pY⟩ := run_out (xpc := xpc) (xin := xin) (xgm := xgm) (xkm := xkm) (xln := xln) (xpd := xpd) (xps := xps) (ymk := ymk) (yis := yis) (ypd := ypd) (yps := yps) S H hf hl lim 0 (by omega) xss xtu xcu xou xot xrg xsr yot yrg yrv M
    refine br_f zi_nlt (br_t hle (x_clamp ?_))
    rw [el']
    refine ⟨lim + 1, pX _ ?_ _ (by omega)⟩
    refine br_f zi_nlt (br_t hle (y_clamp ?_))
    rw [el']
    exact ⟨lim + 1, pY _ ⟨rfl, zz_in ⟨nc, cc, bf, be, rt, S, H, M2⟩⟩ _ (by omega)⟩
end
section
/-! ===== parallel moves: the plain part ===== -/
theorem mv_pg {f : Nat → Nat} {n : Nat} (hf : ∀ i, i < n → f i < n) (inj : ∀ i j, i < n → j < n → f i = f j → i = j) {y : Nat} (hy : y < n) : ∃ i, i < n ∧ f i = y := by
  apply Classical.byContradiction
  intro hno
  have key : ∀ k, k ≤ n → k ≤ zk_c (fun z => zb_d (∃ i, i < k ∧ f i = z)) n := by
    intro k
    induction k with
    | zero => intro _; exact Nat.zero_le _
    | succ k ih =>
      intro hk
      have a := ih (by omega)
      have b := zk_lt (f := fun z => zb_d (∃ i, i < k ∧ f i = z)) (g := fun z => zb_d (∃ i, i < k + 1 ∧ f i = z)) (a := f k) (N := n)
        (fun w => by
          obtain ⟨i, hi, e⟩ := zb_dt.mp w
          have := inj i k (by omega) (by omega) e
          omega)
        (zb_dt.mpr ⟨k, by omega, rfl⟩)
        (fun z _ w => by
          obtain ⟨i, hi, e⟩ := zb_dt.mp w
          exact zb_dt.mpr ⟨i, by omega, e⟩)
        (hf k (by omega))
      omega
  have a := key n (Nat.le_refl _)
  have b := zk_lt (f := fun z => zb_d (∃ i, i < n ∧ f i = z)) (g := fun _ => true) (a := y) (N := n) (fun w => hno (zb_dt.mp w)) rfl (fun _ _ _ => rfl) hy
  have c := zk_le (fun _ => true) n
  omega
/-- a pending move that nobody else reads -/
def mv_f (n : Nat) (D S : Nat → Int32) (i : Nat) : Prop := ∀ j, j < n → ¬ S j = D i
def mv_P (nc n : Nat) (w : Nat → Nat) (D S d s : Nat → Int32) : Prop :=
  n ≤ 6 ∧ (∀ i, i < n → w i < 6 ∧ d (w i) = D i ∧ s (w i) = S i ∧ ∃ a b, a < nc ∧ b ≤ nc ∧ a ≠ b ∧ D i = nI a ∧ S i = nI b) ∧
  (∀ i j, i < j → j < n → w i < w j ∧ D i < D j) ∧ (∀ v, v < 6 → ¬ d v < 0 → ∃ i, i < n ∧ w i = v)
def mv_rm (i0 n : Nat) (D : Nat → Int32) : Nat → Int32 := fun i => if i0 ≤ i ∧ i + 1 < n then D (i + 1) else D i
def mv_rs (n : Nat) (x y : Int32) (S : Nat → Int32) : Nat → Int32 := fun i => if i < n ∧ S i = x then y else S i
def mv_ry (n : Nat) (x y : Int32) (d s : Nat → Int32) : Nat → Int32 := fun i => if i < n ∧ ¬ d i < 0 ∧ s i = x then y else s i
def mv_rw (i0 : Nat) (w : Nat → Nat) : Nat → Nat := fun i => if i0 ≤ i then w (i + 1) else w i
theorem mv_rw_t {i0 i : Nat} {w : Nat → Nat} (h : i0 ≤ i) : mv_rw i0 w i = w (i + 1) := if_pos h
theorem mv_rw_f {i0 i : Nat} {w : Nat → Nat} (h : ¬ i0 ≤ i) : mv_rw i0 w i = w i := if_neg h
theorem mv_rm_0 {i0 : Nat} {D : Nat → Int32} : mv_rm i0 (i0 + 1) D = D := by
  funext i; unfold mv_rm; rw [if_neg (by omega)]
theorem mv_rm_s {i0 j : Nat} {D : Nat → Int32} (h : i0 < j) : upd (mv_rm i0 j D) (j - 1) (mv_rm i0 j D j) = mv_rm i0 (j + 1) D := by
  funext i
  have e : mv_rm i0 j D j = D j := by unfold mv_rm; rw [if_neg (by omega)]
  rw [e]
  by_cases w : i = j - 1
  · rw [w, pk_us]; unfold mv_rm; rw [if_pos (by omega), show j - 1 + 1 = j by omega]
  · rw [pk_un w]; unfold mv_rm
    by_cases q : i0 ≤ i ∧ i + 1 < j
    · rw [if_pos q, if_pos (by omega)]
    · rw [if_neg q, if_neg (by omega)]
theorem mv_rs_0 {x y : Int32} {S : Nat → Int32} : mv_rs 0 x y S = S := by
  funext i; unfold mv_rs; rw [if_neg (by omega)]
theorem mv_rs_v {n : Nat} {x y : Int32} {S : Nat → Int32} : mv_rs n x y S n = S n := by unfold mv_rs; rw [if_neg (by omega)]
theorem mv_rs_t {n : Nat} {x y : Int32} {S : Nat → Int32} (h : S n = x) : upd (mv_rs n x y S) n y = mv_rs (n + 1) x y S := by
  funext i
  by_cases w : i = n
  · rw [w, pk_us]; unfold mv_rs; rw [if_pos ⟨by omega, h⟩]
  · rw [pk_un w]; unfold mv_rs
    by_cases q : i < n ∧ S i = x
    · rw [if_pos q, if_pos ⟨by omega, q.2⟩]
    · rw [if_neg q, if_neg (fun z => q ⟨by omega, z.2⟩)]
theorem mv_rs_f {n : Nat} {x y : Int32} {S : Nat → Int32} (h : ¬ S n = x) : mv_rs n x y S = mv_rs (n + 1) x y S := by
  funext i
  unfold mv_rs
  by_cases w : i = n
  · rw [w, if_neg (by omega), if_neg (fun z => h z.2)]
  · by_cases q : i < n ∧ S i = x
    · rw [if_pos q, if_pos ⟨by omega, q.2⟩]
    · rw [if_neg q, if_neg (fun z => q ⟨by omega, z.2⟩)]
theorem mv_ry_0 {x y : Int32} {d s : Nat → Int32} : mv_ry 0 x y d s = s := by
  funext i; unfold mv_ry; rw [if_neg (by omega)]
theorem mv_ry_v {n : Nat} {x y : Int32} {d s : Nat → Int32} : mv_ry n x y d s n = s n := by unfold mv_ry; rw [if_neg (by omega)]
theorem mv_ry_t {n : Nat} {x y : Int32} {d s : Nat → Int32} (h0 : ¬ d n < 0) (h : s n = x) : upd (mv_ry n x y d s) n y = mv_ry (n + 1) x y d s := by
  funext i
  by_cases w : i = n
  · rw [w, pk_us]; unfold mv_ry; rw [if_pos ⟨by omega, h0, h⟩]
  · rw [pk_un w]; unfold mv_ry
    by_cases q : i < n ∧ ¬ d i < 0 ∧ s i = x
    · rw [if_pos q, if_pos ⟨by omega, q.2⟩]
    · rw [if_neg q, if_neg (fun z => q ⟨by omega, z.2⟩)]
theorem mv_ry_f {n : Nat} {x y : Int32} {d s : Nat → Int32} (h : ¬ (¬ d n < 0 ∧ s n = x)) : mv_ry n x y d s = mv_ry (n + 1) x y d s := by
  funext i
  unfold mv_ry
  by_cases w : i = n
  · rw [w, if_neg (by omega), if_neg (fun z => h z.2)]
  · by_cases q : i < n ∧ ¬ d i < 0 ∧ s i = x
    · rw [if_pos q, if_pos ⟨by omega, q.2⟩]
    · rw [if_neg q, if_neg (fun z => q ⟨by omega, z.2⟩)]
section
variable {nc n : Nat} {w : Nat → Nat} {D S d s : Nat → Int32}
theorem mv_inj (P : mv_P nc n w D S d s) {i j : Nat} (hi : i < n) (hj : j < n) (e : D i = D j) : i = j := by
  rcases Nat.lt_trichotomy i j with z | z | z
  · have := (P.2.2.1 i j z hj).2; rw [e] at this; exact absurd this Int32.lt_irrefl
  · exact z
  · have := (P.2.2.1 j i z hi).2; rw [e] at this; exact absurd this Int32.lt_irrefl
theorem mv_pos (P : mv_P nc n w D S d s) (hc : nc ≤ 96) {i : Nat} (hi : i < n) : ¬ d (w i) < 0 := by
  obtain ⟨_, e, _, a, b, ha, _, _, e2, _⟩ := P.2.1 i hi
  rw [e, e2]; exact zi_nlt
theorem mv_P_rm (P : mv_P nc n w D S d s) {i0 : Nat} (hi : i0 < n) : mv_P nc (n - 1) (mv_rw i0 w) (mv_rm i0 n D) (mv_rm i0 n S) (upd d (w i0) (-1)) s := by
  obtain ⟨p1, p2, p3, p4⟩ := P
  have g1 : ∀ i, i < n - 1 → i0 ≤ i → ∀ A, mv_rm i0 n A i = A (i + 1) := fun i h1 h2 A => by unfold mv_rm; rw [if_pos ⟨h2, by omega⟩]
  have g2 : ∀ i, ¬ i0 ≤ i → ∀ A, mv_rm i0 n A i = A i := fun i h2 A => by unfold mv_rm; rw [if_neg (fun z => h2 z.1)]
  have hne : ∀ i, i < n → i ≠ i0 → w i ≠ w i0 := fun i h1 h2 => by
    rcases Nat.lt_or_ge i i0 with z | z
    · have := (p3 i i0 z hi).1; omega
    · have := (p3 i0 i (by omega) h1).1; omega
  refine ⟨by omega, fun i h1 => ?_, fun i j h1 h2 => ?_, fun v h1 h2 => ?_⟩
  · by_cases z : i0 ≤ i
    · rw [g1 i h1 z, g1 i h1 z, mv_rw_t z, pk_un (hne _ (by omega) (by omega))]
      exact p2 (i + 1) (by omega)
    · rw [g2 i z, g2 i z, mv_rw_f z, pk_un (hne _ (by omega) (by omega))]
      exact p2 i (by omega)
  · by_cases z : i0 ≤ i
    · rw [g1 i (by omega) z, g1 j h2 (by omega), mv_rw_t z, mv_rw_t (by omega)]
      exact p3 _ _ (by omega) (by omega)
    · by_cases y : i0 ≤ j
      · rw [g2 i z, g1 j h2 y, mv_rw_f z, mv_rw_t y]; exact p3 _ _ (by omega) (by omega)
      · rw [g2 i z, g2 j y, mv_rw_f z, mv_rw_f y]; exact p3 _ _ (by omega) (by omega)
  · have hv : v ≠ w i0 := fun e => by rw [e, pk_us] at h2; exact h2 (by decide)
    rw [pk_un hv] at h2
    obtain ⟨i, q1, q2⟩ := p4 v h1 h2
    have q3 : i ≠ i0 := fun e => hv (by rw [← q2, e])
    by_cases z : i0 ≤ i
    · refine ⟨i - 1, by omega, ?_⟩
      rw [mv_rw_t (by omega), show i - 1 + 1 = i by omega]; exact q2
    · refine ⟨i, by omega, ?_⟩
      rw [mv_rw_f z]; exact q2
theorem mv_P_rs (P : mv_P nc n w D S d s) (hc : nc ≤ 96) (x : Int32) : mv_P nc n w D (mv_rs n x (nI nc) S) d (mv_ry 6 x (nI nc) d s) := by
  have P0 := P
  obtain ⟨p1, p2, p3, p4⟩ := P
  refine ⟨p1, fun i hi => ?_, p3, p4⟩
  obtain ⟨q1, q2, q3, a, b, qa, qb, qn, qd, qs⟩ := p2 i hi
  have hp := mv_pos P0 hc hi
  by_cases e : S i = x
  · have e1 : mv_rs n x (nI nc) S i = nI nc := by unfold mv_rs; rw [if_pos ⟨hi, e⟩]
    have e2 : mv_ry 6 x (nI nc) d s (w i) = nI nc := by unfold mv_ry; rw [if_pos ⟨q1, hp, by rw [q3]; exact e⟩]
    exact ⟨q1, q2, e2.trans e1.symm, a, nc, qa, Nat.le_refl _, by omega, qd, e1⟩
  · have e1 : mv_rs n x (nI nc) S i = S i := by unfold mv_rs; rw [if_neg (fun z => e z.2)]
    have e2 : mv_ry 6 x (nI nc) d s (w i) = s (w i) := by unfold mv_ry; rw [if_neg (fun z => e (by rw [← q3]; exact z.2.2))]
    exact ⟨q1, q2, by rw [e1, e2]; exact q3, a, b, qa, qb, qn, qd, by rw [e1]; exact qs⟩
/-- what the number of moves to come is bounded by -/
def mv_B (n m : Nat) (D S : Nat → Int32) : Prop := n + n / 2 ≤ m ∨ (1 ≤ n ∧ (∃ i, i < n ∧ mv_f n D S i) ∧ 1 + ((n - 1) + (n - 1) / 2) ≤ m) ∨
  (2 ≤ n ∧ mv_f n D S 0 ∧ (∃ k, 0 < k ∧ k < n ∧ ∀ j, 0 < j → j < n → ¬ S j = D k) ∧ 2 + ((n - 2) + (n - 2) / 2) ≤ m)
theorem mv_B_free {m i0 : Nat} (B : mv_B n (m + 1) D S) (h0 : i0 < n) (hf : mv_f n D S i0) (hm : ∀ j, j < i0 → ¬ mv_f n D S j) : mv_B (n - 1) m (mv_rm i0 n D) (mv_rm i0 n S) := by
  rcases B with b | ⟨_, _, b⟩ | ⟨b1, b2, ⟨k, k1, k2, k3⟩, b4⟩
  · exact Or.inl (by omega)
  · exact Or.inl (by omega)
  · have e : i0 = 0 := by
      rcases Nat.eq_zero_or_pos i0 with z | z
      · exact z
      · exact absurd b2 (hm 0 z)
    subst e
    refine Or.inr (Or.inl ⟨by omega, ⟨k - 1, by omega, fun j hj => ?_⟩, by omega⟩)
    unfold mv_rm
    rw [if_pos (by omega), if_pos (by omega), show k - 1 + 1 = k by omega]
    exact k3 (j + 1) (by omega) (by omega)
theorem mv_B_temp (P : mv_P nc n w D S d s) (hc : nc ≤ 96) {m : Nat} (B : mv_B n (m + 1) D S) (hn : 0 < n) (hm : ∀ j, j < n → ¬ mv_f n D S j) : mv_B n m D (mv_rs n (D 0) (nI nc) S) := by
  have b : n + n / 2 ≤ m + 1 := by
    rcases B with b | ⟨_, ⟨i, hi, b⟩, _⟩ | ⟨b1, b2, _⟩
    · exact b
    · exact absurd b (hm i hi)
    · exact absurd b2 (hm 0 hn)
  have hex : ∀ i, ∃ j, i < n → j < n ∧ S j = D i := by
    intro i
    by_cases hi : i < n
    · have := hm i hi
      obtain ⟨j, hj⟩ := Classical.not_forall.mp this
      have h1 : j < n := Classical.byContradiction fun z => hj fun y => absurd y z
      have h2 : S j = D i := Classical.byContradiction fun z => hj fun _ => z
      exact ⟨j, fun _ => ⟨h1, h2⟩⟩
    · exact ⟨0, fun z => absurd z hi⟩
  have hch : ∃ f : Nat → Nat, ∀ i, i < n → f i < n ∧ S (f i) = D i := ⟨fun i => Classical.choose (hex i), fun i => Classical.choose_spec (hex i)⟩
  obtain ⟨f, hf⟩ := hch
  have inj : ∀ i j, i < n → j < n → f i = f j → i = j := fun i j hi hj e => mv_inj P hi hj (by rw [← (hf i hi).2, ← (hf j hj).2, e])
  have sur := fun y (hy : y < n) => mv_pg (fun i hi => (hf i hi).1) inj hy
  obtain ⟨k, k1, k2⟩ := sur 0 hn
  have kD : S 0 = D k := by rw [← k2]; exact (hf k k1).2
  have kne : k ≠ 0 := fun e => by
    obtain ⟨_, _, _, a, b', ha, hb, hab, e1, e2⟩ := P.2.1 0 hn
    rw [e, e1, e2] at kD
    exact hab (zi_inj kD).symm
  have hnc : ∀ i, i < n → ¬ nI nc = D i := fun i hi e => by
    obtain ⟨_, _, _, a, b', ha, hb, hab, e1, e2⟩ := P.2.1 i hi
    rw [e1] at e
    have := zi_inj e
    omega
  refine Or.inr (Or.inr ⟨by omega, fun j hj => ?_, ⟨k, by omega, k1, fun j j1 j2 => ?_⟩, by omega⟩)
  · unfold mv_rs
    by_cases q : S j = D 0
    · rw [if_pos ⟨hj, q⟩]; exact hnc 0 hn
    · rw [if_neg (fun z => q z.2)]; exact q
  · unfold mv_rs
    by_cases q : S j = D 0
    · rw [if_pos ⟨j2, q⟩]; exact hnc k k1
    · rw [if_neg (fun z => q z.2)]
      intro e
      obtain ⟨i, i1, i2⟩ := sur j j2
      have : D i = D k := by rw [← (hf i i1).2, i2]; exact e
      have := mv_inj P i1 k1 this
      subst this
      omega
end
end
section
/-! ===== parallel moves: the two walks ===== -/
def dc_u (c : Nat) (o x y z : Int32) (cd : Nat → Int32) : Nat → Int32 := upd (upd (upd (upd cd (c * 4) o) (c * 4 + 1) x) (c * 4 + 2) y) (c * 4 + 3) z
section
variable {mb mi mv oc ni nb : Nat} {ph xrm xnc xcc xsc xpc : Int32} {xop xsx xsy xsz xbo xbf xbe xin xee xdm xid xfm xgm xkm xlm xnb xnp xnv xph xln xpa xrs xax xay xaz xfo xsr xso xst xco xcx xcy xcz xcb xpd xps xss xtu xcu xou xot xrg : Nat → Int32} {np : Nat}
theorem x_addCell {post : SX → Prop} {c : Nat} {p0 p1 p2 p3 p4 : Int32} (hc : c < 240) (hx : xcc = nI c) (h : post ((nI mb), (nI mi), (nI mv), (nI oc), ph, (nI ni), (nI nb), xrm, xnc, nI (c + 1), xsc, xpc, xop, xsx, xsy, xsz, xbo, xbf, xbe, xin, xee, xdm, xid, xfm, xgm, xkm, xlm, xnb, xnp, xnv, xph, xln, xpa, xrs, xax, xay, xaz, xfo, xsr, xso, xst, upd xco c p1, upd xcx c p2, upd xcy c p3, upd xcz c p4, upd xcb c p0, xpd, xps, xss, xtu, xcu, xou, xot, xrg)) : wpX_addCell post ((nI mb), (nI mi), (nI mv), (nI oc), ph, (nI ni), (nI nb), xrm, xnc, xcc, xsc, xpc, xop, xsx, xsy, xsz, xbo, xbf, xbe, xin, xee, xdm, xid, xfm, xgm, xkm, xlm, xnb, xnp, xnv, xph, xln, xpa, xrs, xax, xay, xaz, xfo, xsr, xso, xst, xco, xcx, xcy, xcz, xcb, xpd, xps, xss, xtu, xcu, xou, xot, xrg) p0 p1 p2 p3 p4 := by
  subst hx
  exact zc_go hc (zs_st c (zs_st c (zs_st c (zs_st c (zs_st c (zn_1 h))))))
theorem x_freeMove {post : Int32 → Prop} (hn : np ≤ 6) (hx : xpc = nI np) (h1 : ∀ i, i < np → mv_f np xpd xps i → (∀ j, j < i → ¬ mv_f np xpd xps j) → post (nI i)) (h2 : (∀ i, i < np → ¬ mv_f np xpd xps i) → post (-1)) : wpX_freeMove post ((nI mb), (nI mi), (nI mv), (nI oc), ph, (nI ni), (nI nb), xrm, xnc, xcc, xsc, xpc, xop, xsx, xsy, xsz, xbo, xbf, xbe, xin, xee, xdm, xid, xfm, xgm, xkm, xlm, xnb, xnp, xnv, xph, xln, xpa, xrs, xax, xay, xaz, xfo, xsr, xso, xst, xco, xcx, xcy, xcz, xcb, xpd, xps, xss, xtu, xcu, xou, xot, xrg) := by
  subst hx
  refine loop_0 (fun n i (_ : Unit) => wX_freeMove_2 post (nI mb) (nI mi) (nI mv) (nI oc) ph (nI ni) (nI nb) xrm xnc xcc xsc (nI np) xop xsx xsy xsz xbo xbf xbe xin xee xdm xid xfm xgm xkm xlm xnb xnp xnv xph xln xpa xrs xax xay xaz xfo xsr xso xst xco xcx xcy xcz xcb xpd xps xss xtu xcu xou xot xrg n (nI i)) (fun i _ => ∀ j, j < i → ¬ mv_f np xpd xps j) np () (fun j hj => by omega) ?_ ?_
  · intro n _ hI
    exact zc_ex (h2 hI)
  · intro n i _ hi hI ih
    refine zc_go hi ?_
    refine loop_0 (fun n' j (f : Int32) => wX_freeMove_14 post (wX_freeMove_2 post (nI mb) (nI mi) (nI mv) (nI oc) ph (nI ni) (nI nb) xrm xnc xcc xsc (nI np) xop xsx xsy xsz xbo xbf xbe xin xee xdm xid xfm xgm xkm xlm xnb xnp xnv xph xln xpa xrs xax xay xaz xfo xsr xso xst xco xcx xcy xcz xcb xpd xps xss xtu xcu xou xot xrg n) (nI i) (nI mb) (nI mi) (nI mv) (nI oc) ph (nI ni) (nI nb) xrm xnc xcc xsc (nI np) xop xsx xsy xsz xbo xbf xbe xin xee xdm xid xfm xgm xkm xlm xnb xnp xnv xph xln xpa xrs xax xay xaz xfo xsr xso xst xco xcx xcy xcz xcb xpd xps xss xtu xcu xou xot xrg n' f (nI j)) (fun j f => f = zb_i (zb_d (∃ u, u < j ∧ xps u = xpd i))) np 0 ?_ ?_ ?_
    · have : zb_d (∃ u, u < 0 ∧ xps u = xpd i) = false := zb_df.mpr fun ⟨u, h, _⟩ => by omega
      rw [this]; rfl
    · intro n' f hf
      rw [hf]
      refine zc_ex (zc_b (fun q => h1 i hi (fun j hj e => zb_df.mp q ⟨j, hj, e⟩) hI) (fun q => zn_1 (ih () fun j hj => ?_)))
      rcases Nat.lt_or_ge j i with z | z
      · exact hI j z
      · have : j = i := by omega
        subst this
        obtain ⟨u, hu, e⟩ := zb_dt.mp q
        exact fun w => w u hu e
    · intro n' j f hj hf ih2
      refine zc_go hj ⟨pk_in j 6 (by omega), pk_in i 6 (by omega), ?_⟩
      rw [zb_ra (a := xpd) i]
      refine zc_eq j (fun q => zn_1 (ih2 _ ?_)) (fun q => zn_1 (ih2 _ ?_))
      · rw [zb_dt.mpr ⟨j, by omega, q⟩]; rfl
      · rw [hf]
        congr 1
        refine zb_eq ⟨fun ⟨u, h, e⟩ => ⟨u, by omega, e⟩, fun ⟨u, h, e⟩ => ⟨u, ?_, e⟩⟩
        rcases Nat.lt_or_ge u j with z | z
        · exact z
        · have : u = j := by omega
          subst this; exact absurd e q
theorem x_removeMove {post : SX → Prop} {i0 : Nat} (hn : np ≤ 6) (hx : xpc = nI np) (hi : i0 < np) (h : post ((nI mb), (nI mi), (nI mv), (nI oc), ph, (nI ni), (nI nb), xrm, xnc, xcc, xsc, nI (np - 1), xop, xsx, xsy, xsz, xbo, xbf, xbe, xin, xee, xdm, xid, xfm, xgm, xkm, xlm, xnb, xnp, xnv, xph, xln, xpa, xrs, xax, xay, xaz, xfo, xsr, xso, xst, xco, xcx, xcy, xcz, xcb, mv_rm i0 np xpd, mv_rm i0 np xps, xss, xtu, xcu, xou, xot, xrg)) : wpX_removeMove post ((nI mb), (nI mi), (nI mv), (nI oc), ph, (nI ni), (nI nb), xrm, xnc, xcc, xsc, xpc, xop, xsx, xsy, xsz, xbo, xbf, xbe, xin, xee, xdm, xid, xfm, xgm, xkm, xlm, xnb, xnp, xnv, xph, xln, xpa, xrs, xax, xay, xaz, xfo, xsr, xso, xst, xco, xcx, xcy, xcz, xcb, xpd, xps, xss, xtu, xcu, xou, xot, xrg) (nI i0) := by
  subst hx
  refine zn_1 (pk_loop (fun n j (s : (Nat → Int32) × (Nat → Int32)) => wX_removeMove_4 post (nI mb) (nI mi) (nI mv) (nI oc) ph (nI ni) (nI nb) xrm xnc xcc xsc (nI np) n (nI j) xop xsx xsy xsz xbo xbf xbe xin xee xdm xid xfm xgm xkm xlm xnb xnp xnv xph xln xpa xrs xax xay xaz xfo xsr xso xst xco xcx xcy xcz xcb s.1 s.2 xss xtu xcu xou xot xrg) (fun j s => i0 < j ∧ s.1 = mv_rm i0 j xpd ∧ s.2 = mv_rm i0 j xps) np (i0 + 1) (xpd, xps) (by omega) ⟨by omega, mv_rm_0.symm, mv_rm_0.symm⟩ ?_ ?_)
  · intro n s hI
    rw [hI.2.1, hI.2.2]
    exact zc_ex (nm_r (zi_m1 (by omega)) h)
  · intro n j s hj hI ih
    have e : nI j - 1 = nI (j - 1) := zi_m1 (by omega)
    refine zc_go hj ⟨pk_in j 6 (by omega), ?_⟩
    rw [zb_ra (a := s.1) j]
    refine zs_st (j - 1) ⟨pk_in j 6 (by omega), ?_⟩ (by omega) e
    rw [zb_ra (a := s.2) j]
    refine zs_st (j - 1) (zn_1 (ih (upd s.1 (j - 1) (s.1 j), upd s.2 (j - 1) (s.2 j)) ⟨by omega, ?_, ?_⟩)) (by omega) e
    · show upd s.1 (j - 1) (s.1 j) = _
      rw [hI.2.1]; exact mv_rm_s hI.1
    · show upd s.2 (j - 1) (s.2 j) = _
      rw [hI.2.2]; exact mv_rm_s hI.1
theorem x_lm85 {post : SX → Prop} {blk x : Int32} {y n : Nat} (hn : np ≤ 6) (hx : xpc = nI np) (h : wX_layMoves_7 post blk n (nI (y + 1)) (nI mb) (nI mi) (nI mv) (nI oc) ph (nI ni) (nI nb) xrm xnc xcc xsc xpc xop xsx xsy xsz xbo xbf xbe xin xee xdm xid xfm xgm xkm xlm xnb xnp xnv xph xln xpa xrs xax xay xaz xfo xsr xso xst xco xcx xcy xcz xcb xpd (mv_rs np x xnc xps) xss xtu xcu xou xot xrg) : ∃ m, wX_layMoves_85 post (wX_layMoves_7 post blk n) blk (nI y) x (nI mb) (nI mi) (nI mv) (nI oc) ph (nI ni) (nI nb) xrm xnc xcc xsc xpc m 0 xop xsx xsy xsz xbo xbf xbe xin xee xdm xid xfm xgm xkm xlm xnb xnp xnv xph xln xpa xrs xax xay xaz xfo xsr xso xst xco xcx xcy xcz xcb xpd xps xss xtu xcu xou xot xrg := by
  subst hx
  refine loop_0 (fun m j (s : Nat → Int32) => wX_layMoves_85 post (wX_layMoves_7 post blk n) blk (nI y) x (nI mb) (nI mi) (nI mv) (nI oc) ph (nI ni) (nI nb) xrm xnc xcc xsc (nI np) m (nI j) xop xsx xsy xsz xbo xbf xbe xin xee xdm xid xfm xgm xkm xlm xnb xnp xnv xph xln xpa xrs xax xay xaz xfo xsr xso xst xco xcx xcy xcz xcb xpd s xss xtu xcu xou xot xrg) (fun j s => s = mv_rs j x xnc xps) np xps mv_rs_0.symm ?_ ?_
  · intro m s hI
    subst hI
    exact zc_ex (zn_1 h)
  · intro m j s hj hI ih
    refine zc_go hj ⟨pk_in j 6 (by omega), zc_eq j (fun q => zs_st j (zn_1 (ih _ ?_))) (fun q => zn_1 (ih _ ?_))⟩
    · rw [hI, mv_rs_v] at q; rw [hI]; exact mv_rs_t q
    · rw [hI, mv_rs_v] at q; rw [hI]; exact mv_rs_f q
end
section
variable {mb mi mv oc ni : Nat} {ph ync ycl : Int32} {ysr yin ymk yre ydm yid yfr ylv yis yph yar yrs yas yfo ycd yfi ypd yps yss ytu ybl you yot yrg yrv : Nat → Int32} {np nc : Nat} {w : Nat → Nat} {D S : Nat → Int32}
theorem y_addCell {post : SY → Prop} {c : Nat} {p0 p1 p2 p3 : Int32} (hc : c < 512) (hx : ycl = nI c) (h : post ((nI mb), (nI mi), (nI mv), (nI oc), ph, (nI ni), ync, nI (c + 1), ysr, yin, ymk, yre, ydm, yid, yfr, ylv, yis, yph, yar, yrs, yas, yfo, dc_u c p0 p1 p2 p3 ycd, yfi, ypd, yps, yss, ytu, ybl, you, yot, yrg, yrv)) : wpY_addCell post ((nI mb), (nI mi), (nI mv), (nI oc), ph, (nI ni), ync, ycl, ysr, yin, ymk, yre, ydm, yid, yfr, ylv, yis, yph, yar, yrs, yas, yfo, ycd, yfi, ypd, yps, yss, ytu, ybl, you, yot, yrg, yrv) p0 p1 p2 p3 := by
  subst hx
  exact br_f zi_nlt (br_t (nI_lt (b := 512) hc (by decide)) (zs_st (c * 4) (zs_st (c * 4 + 1) (zs_st (c * 4 + 2) (zs_st (c * 4 + 3) (zn_1 h) (by omega) (zi_4c c)) (by omega) (zi_4b c)) (by omega) (zi_4a c)) (by omega) (zi_4 c)))
theorem y_wm323 {post : SY → Prop} {x : Int32} {y n : Nat} (h : wY_writeMoves_99 post n (nI (y + 1)) (nI mb) (nI mi) (nI mv) (nI oc) ph (nI ni) ync ycl ysr yin ymk yre ydm yid yfr ylv yis yph yar yrs yas yfo ycd yfi ypd (mv_ry 6 x ync ypd yps) yss ytu ybl you yot yrg yrv) : ∃ m, wY_writeMoves_323 post (wY_writeMoves_99 post n) (nI y) x (nI mb) (nI mi) (nI mv) (nI oc) ph (nI ni) ync ycl m 0 ysr yin ymk yre ydm yid yfr ylv yis yph yar yrs yas yfo ycd yfi ypd yps yss ytu ybl you yot yrg yrv := by
  refine loop_0 (fun m j (s : Nat → Int32) => wY_writeMoves_323 post (wY_writeMoves_99 post n) (nI y) x (nI mb) (nI mi) (nI mv) (nI oc) ph (nI ni) ync ycl m (nI j) ysr yin ymk yre ydm yid yfr ylv yis yph yar yrs yas yfo ycd yfi ypd s yss ytu ybl you yot yrg yrv) (fun j s => s = mv_ry j x ync ypd yps) 6 yps mv_ry_0.symm ?_ ?_
  · intro m s hI
    subst hI
    exact zc_ex (zn_1 h)
  · intro m j s hj hI ih
    refine zc_go hj ⟨pk_in j 6 hj, zc_lt j (fun q0 => zn_1 (ih _ ?_)) (fun q0 => ⟨pk_in j 6 hj, zc_eq j (fun q => zs_st j (zn_1 (ih _ ?_))) (fun q => zn_1 (ih _ ?_))⟩)⟩
    · rw [hI]; exact mv_ry_f (fun z => z.1 q0)
    · rw [hI, mv_ry_v] at q; rw [hI]; exact mv_ry_t q0 q
    · rw [hI, mv_ry_v] at q; rw [hI]; exact mv_ry_f (fun z => q z.2)
theorem y_wm114 {post : SY → Prop} {c y n : Nat} (P : mv_P nc np w D S ypd yps) (hnc : nc ≤ 96) (hc : c < 512) (hx : ycl = nI c) (h0 : np = 0 → post ((nI mb), (nI mi), (nI mv), (nI oc), ph, (nI ni), ync, ycl, ysr, yin, ymk, yre, ydm, yid, yfr, ylv, yis, yph, yar, yrs, yas, yfo, ycd, yfi, ypd, yps, yss, ytu, ybl, you, yot, yrg, yrv))
    (h1 : ∀ i, i < np → mv_f np D S i → (∀ j, j < i → ¬ mv_f np D S j) → wY_writeMoves_99 post n (nI (y + 1)) (nI mb) (nI mi) (nI mv) (nI oc) ph (nI ni) ync (nI (c + 1)) ysr yin ymk yre ydm yid yfr ylv yis yph yar yrs yas yfo (dc_u c 1 (D i) (S i) 0 ycd) yfi (upd ypd (w i) (-1)) yps yss ytu ybl you yot yrg yrv)
    (h2 : 0 < np → (∀ i, i < np → ¬ mv_f np D S i) → wY_writeMoves_99 post n (nI (y + 1)) (nI mb) (nI mi) (nI mv) (nI oc) ph (nI ni) ync (nI (c + 1)) ysr yin ymk yre ydm yid yfr ylv yis yph yar yrs yas yfo (dc_u c 1 ync (D 0) 0 ycd) yfi ypd (mv_ry 6 (D 0) ync ypd yps) yss ytu ybl you yot yrg yrv) :
    ∃ m, wY_writeMoves_114 post (wY_writeMoves_99 post n) (nI y) (nI mb) (nI mi) (nI mv) (nI oc) ph (nI ni) ync ycl ysr yin ymk yre ydm yid yfr ylv yis yph yar yrs yas yfo ycd yfi ypd yps yss ytu ybl you yot yrg yrv m (-1) (-1) 0 := by
  have P0 := P
  obtain ⟨p1, p2, p3, p4⟩ := P
  have hwi : ∀ i j, i < np → j < np → w i = w j → i = j := fun i j hi hj e => by
    rcases Nat.lt_trichotomy i j with z | z | z
    · have := (p3 i j z hj).1; omega
    · exact z
    · have := (p3 j i z hi).1; omega
  have hle : ∀ i j, i ≤ j → j < np → w i ≤ w j ∧ D i ≤ D j := fun i j h hj => by
    rcases Nat.lt_or_ge i j with z | z
    · have := p3 i j z hj; exact ⟨by omega, Int32.le_of_lt this.2⟩
    · have : i = j := by omega
      subst this; exact ⟨Nat.le_refl _, Int32.le_refl _⟩
  refine loop_0 (fun m v (s : Int32 × Int32) => wY_writeMoves_114 post (wY_writeMoves_99 post n) (nI y) (nI mb) (nI mi) (nI mv) (nI oc) ph (nI ni) ync ycl ysr yin ymk yre ydm yid yfr ylv yis yph yar yrs yas yfo ycd yfi ypd yps yss ytu ybl you yot yrg yrv m s.1 s.2 (nI v))
    (fun v s => ((s.2 = -1 ∧ ∀ i, i < np → v ≤ w i) ∨ (0 < np ∧ w 0 < v ∧ s.2 = nI (w 0))) ∧ ((s.1 = -1 ∧ ∀ i, i < np → w i < v → ¬ mv_f np D S i) ∨ (∃ i, i < np ∧ mv_f np D S i ∧ (∀ j, j < i → ¬ mv_f np D S j) ∧ w i < v ∧ s.1 = nI (w i)))) 6 (-1, -1) ⟨Or.inl ⟨rfl, fun i hi => Nat.zero_le _⟩, Or.inl ⟨rfl, fun i hi h => by omega⟩⟩ ?_ ?_
  · intro m s hI
    refine zc_ex ?_
    rcases hI.1 with ⟨e5, z⟩ | ⟨z1, z2, e5⟩
    · have hnp : np = 0 := by
        rcases Nat.eq_zero_or_pos np with q | q
        · exact q
        · have := z 0 q; have := (p2 0 q).1; omega
      rw [e5]; exact br_f (by decide) (h0 hnp)
    · have hw0 := (p2 0 z1).1
      rw [e5]
      refine br_t (Int32.not_lt.mp zi_nlt) ?_
      rcases hI.2 with ⟨e4, q⟩ | ⟨i, i1, i2, i3, i4, e4⟩
      · rw [e4]
        refine br_t (by decide) (zs_rn (w 0) ?_ hw0)
        rw [(p2 0 z1).2.1]
        exact y_addCell (by omega) hx (y_wm323 (h2 z1 fun i hi => q i hi (p2 i hi).1))
      · rw [e4]
        refine br_f zi_nlt ⟨pk_in (w i) 6 i4, pk_in (w i) 6 i4, ?_⟩
        rw [zb_ra (a := ypd) (w i), zb_ra (a := yps) (w i), (p2 i i1).2.1, (p2 i i1).2.2.1]
        exact y_addCell (by omega) hx (zs_st (w i) (zn_1 (h1 i i1 i2 i3)) i4)
  · intro m v s hv hI ih
    refine zc_go hv ⟨pk_in v 6 hv, zc_lt v (fun q => zn_1 (ih s ?_)) (fun q => ?_)⟩
    · have nov : ∀ i, i < np → w i ≠ v := fun i hi e => by
        have := mv_pos P0 hnc hi
        rw [e] at this; exact this q
      refine ⟨?_, ?_⟩
      · rcases hI.1 with ⟨e5, z⟩ | ⟨z1, z2, e5⟩
        · exact Or.inl ⟨e5, fun i hi => by have := z i hi; have := nov i hi; omega⟩
        · exact Or.inr ⟨z1, by omega, e5⟩
      · rcases hI.2 with ⟨e4, z⟩ | ⟨i, i1, i2, i3, i4, e4⟩
        · exact Or.inl ⟨e4, fun i hi h => z i hi (by have := nov i hi; omega)⟩
        · exact Or.inr ⟨i, i1, i2, i3, by omega, e4⟩
    · obtain ⟨i, hi, ei⟩ := p4 v hv q
      have hD : ypd v = D i := by rw [← ei]; exact (p2 i hi).2.1
      have h213 : ∀ (x5 f : Int32), ((x5 = -1 ∧ ∀ i, i < np → v + 1 ≤ w i) ∨ (0 < np ∧ w 0 < v + 1 ∧ x5 = nI (w 0))) → f = zb_i (zb_d (∃ u, u < np ∧ S u = D i)) →
          wY_writeMoves_213 post (wY_writeMoves_99 post n) (wY_writeMoves_114 post (wY_writeMoves_99 post n) (nI y) (nI mb) (nI mi) (nI mv) (nI oc) ph (nI ni) ync ycl ysr yin ymk yre ydm yid yfr ylv yis yph yar yrs yas yfo ycd yfi ypd yps yss ytu ybl you yot yrg yrv m) (nI y) s.1 x5 (nI v) f (nI mb) (nI mi) (nI mv) (nI oc) ph (nI ni) ync ycl ysr yin ymk yre ydm yid yfr ylv yis yph yar yrs yas yfo ycd yfi ypd yps yss ytu ybl you yot yrg yrv := by
        intro x5 f h5 hf
        rw [hf]
        refine zc_b (fun q => ?_) (fun q => zn_1 (ih (s.1, x5) ⟨h5, ?_⟩))
        · have fr : mv_f np D S i := fun u hu e => zb_df.mp q ⟨u, hu, e⟩
          rcases hI.2 with ⟨e4, z⟩ | ⟨i', i1, i2, i3, i4, e4⟩
          · rw [e4]
            refine br_f (by decide) (zn_1 (ih (nI v, x5) ⟨h5, Or.inr ⟨i, hi, fr, fun j hj => z j (by omega) ?_, by omega, by rw [ei]⟩⟩))
            have := (p3 j i hj hi).1; omega
          · rw [e4]
            have hlt : i' < i := by
              rcases Nat.lt_or_ge i' i with z | z
              · exact z
              · have := (hle i i' z i1).1; omega
            refine br_t (Int32.not_lt.mp zi_nlt) ⟨pk_in v 6 hv, pk_in (w i') 6 (by omega), ?_⟩
            rw [zb_rd (w i'), zb_rd v, hD, (p2 i' i1).2.1]
            exact br_t (hle i' i (by omega) hi).2 (zn_1 (ih (nI (w i'), x5) ⟨h5, Or.inr ⟨i', i1, i2, i3, by omega, rfl⟩⟩))
        · obtain ⟨u, hu, e⟩ := zb_dt.mp q
          rcases hI.2 with ⟨e4, z⟩ | ⟨i', i1, i2, i3, i4, e4⟩
          · refine Or.inl ⟨e4, fun j hj h => ?_⟩
            rcases Nat.lt_or_ge (w j) v with y | y
            · exact z j hj y
            · have := hwi j i hj hi (by omega)
              subst this; exact fun r => r u hu e
          · exact Or.inr ⟨i', i1, i2, i3, by omega, e4⟩
      refine loop_0 (fun m' u (f : Int32) => wY_writeMoves_137 post (wY_writeMoves_99 post n) (wY_writeMoves_114 post (wY_writeMoves_99 post n) (nI y) (nI mb) (nI mi) (nI mv) (nI oc) ph (nI ni) ync ycl ysr yin ymk yre ydm yid yfr ylv yis yph yar yrs yas yfo ycd yfi ypd yps yss ytu ybl you yot yrg yrv m) (nI y) s.1 s.2 (nI v) (nI mb) (nI mi) (nI mv) (nI oc) ph (nI ni) ync ycl ysr yin ymk yre ydm yid yfr ylv yis yph yar yrs yas yfo ycd yfi ypd yps yss ytu ybl you yot yrg yrv m' f (nI u)) (fun u f => f = zb_i (zb_d (∃ j, j < np ∧ w j < u ∧ S j = D i))) 6 0 ?_ ?_ ?_
      · have : zb_d (∃ j, j < np ∧ w j < 0 ∧ S j = D i) = false := zb_df.mpr fun ⟨u, _, h, _⟩ => by omega
        rw [this]; rfl
      · intro m' f hf
        have hf' : f = zb_i (zb_d (∃ u, u < np ∧ S u = D i)) := by
          rw [hf]; congr 1
          exact zb_eq ⟨fun ⟨j, a, b, c⟩ => ⟨j, a, c⟩, fun ⟨j, a, c⟩ => ⟨j, a, (p2 j a).1, c⟩⟩
        refine zc_ex ?_
        rcases hI.1 with ⟨e5, z⟩ | ⟨z1, z2, e5⟩
        · have e0 : w 0 = v := by
            have := z 0 (by omega)
            have := (hle 0 i (by omega) hi).1
            omega
          rw [e5]
          exact br_f (by decide) (h213 _ _ (Or.inr ⟨by omega, by omega, by rw [e0]⟩) hf')
        · rw [e5]
          refine br_t (Int32.not_lt.mp zi_nlt) ⟨pk_in v 6 hv, pk_in (w 0) 6 (by omega), ?_⟩
          rw [zb_rd (w 0), zb_rd v, hD, (p2 0 z1).2.1]
          exact br_t (hle 0 i (by omega) hi).2 (h213 _ _ (Or.inr ⟨z1, by omega, rfl⟩) hf')
      · intro m' u f hu hf ih2
        refine zc_go hu ⟨pk_in u 6 hu, zc_lt u (fun q0 => zn_1 (ih2 _ ?_)) (fun q0 => ⟨pk_in u 6 hu, pk_in v 6 hv, ?_⟩)⟩
        · rw [hf]; congr 1
          refine zb_eq ⟨fun ⟨j, a, b, c⟩ => ⟨j, a, by omega, c⟩, fun ⟨j, a, b, c⟩ => ⟨j, a, ?_, c⟩⟩
          have := mv_pos P0 hnc a
          rcases Nat.lt_or_ge (w j) u with r | r
          · exact r
          · have e : w j = u := by omega
            rw [e] at this; exact absurd q0 this
        · obtain ⟨j, hj, ej⟩ := p4 u hu q0
          have hS : yps u = S j := by rw [← ej]; exact (p2 j hj).2.2.1
          rw [zb_ra (a := ypd) v, hD]
          refine zc_eq u (fun q => zn_1 (ih2 _ ?_)) (fun q => zn_1 (ih2 _ ?_))
          · rw [zb_dt.mpr ⟨j, hj, by omega, by rw [← hS]; exact q⟩]; rfl
          · rw [hf]; congr 1
            refine zb_eq ⟨fun ⟨j, a, b, c⟩ => ⟨j, a, by omega, c⟩, fun ⟨j', a, b, c⟩ => ⟨j', a, ?_, c⟩⟩
            rcases Nat.lt_or_ge (w j') u with r | r
            · exact r
            · have := hwi j' j a hj (by omega)
              subst this; exact absurd (hS.trans c) q
end
end
section
/-! ===== parallel moves: the cells that are laid ===== -/
def dc_n (nc : Nat) (x : Int32) : Prop := ∃ k, k ≤ nc ∧ x = nI k
def dc_t (nb : Nat) (rt : Nat → Int32) (cr : Nat → Bool) (x : Int32) : Prop := (∃ b, gr_rc rt b = true ∧ x = nI b) ∨ ∃ e, e < 20 ∧ cr e = true ∧ x = nI (nb + zk_c cr e)
/-- a cell before its targets are resolved -/
def dc_Q (nb nc : Nat) (rt : Nat → Int32) (cr : Nat → Bool) (o x y z b : Int32) : Prop :=
  (∃ k, k ≤ 8 ∧ o = nI k ∧ ((sc_df o = true ∨ sc_rx o = true) → dc_n nc x) ∧ (sc_ry o = true → dc_n nc y) ∧ (sc_rz o = true → dc_n nc z)) ∨
  o = 11 ∨ (o = 9 ∧ ∃ b, gr_rc rt b = true ∧ x = nI b) ∨ (o = 10 ∧ dc_n nc x ∧ dc_t nb rt cr y ∧ dc_t nb rt cr z ∧ ∃ k, k < nb ∧ b = nI k)
def dc_K (nb nc : Nat) (rt : Nat → Int32) (cr : Nat → Bool) (cc : Nat) (co cx cy cz cb cd : Nat → Int32) : Prop :=
  ∀ c, c < cc → (cd (c * 4) = co c ∧ cd (c * 4 + 1) = cx c ∧ cd (c * 4 + 2) = cy c ∧ cd (c * 4 + 3) = cz c) ∧ dc_Q nb nc rt cr (co c) (cx c) (cy c) (cz c) (cb c)
def dc_E (blk : Int32) (cc cc' : Nat) (cb cb' : Nat → Int32) : Prop := cc ≤ cc' ∧ (∀ c, c < cc → cb' c = cb c) ∧ ∀ c, cc ≤ c → c < cc' → cb' c = blk
theorem dc_E_r {blk : Int32} {cc : Nat} {cb : Nat → Int32} : dc_E blk cc cc cb cb := ⟨Nat.le_refl _, fun _ _ => rfl, fun c h1 h2 => by omega⟩
theorem dc_E_t {blk : Int32} {c1 c2 c3 : Nat} {b1 b2 b3 : Nat → Int32} (h : dc_E blk c1 c2 b1 b2) (g : dc_E blk c2 c3 b2 b3) : dc_E blk c1 c3 b1 b3 := by
  obtain ⟨h1, h2, h3⟩ := h
  obtain ⟨g1, g2, g3⟩ := g
  refine ⟨by omega, fun c q => by rw [g2 c (by omega)]; exact h2 c q, fun c q1 q2 => ?_⟩
  rcases Nat.lt_or_ge c c2 with z | z
  · rw [g2 c z]; exact h3 c q1 z
  · exact g3 c z q2
theorem dc_E_s {blk : Int32} {cc : Nat} {cb : Nat → Int32} : dc_E blk cc (cc + 1) cb (upd cb cc blk) :=
  ⟨by omega, fun c h => pk_un (by omega), fun c h1 h2 => by rw [show c = cc by omega, pk_us]⟩
theorem dc_u0 {c : Nat} {o x y z : Int32} {cd : Nat → Int32} : dc_u c o x y z cd (c * 4) = o ∧ dc_u c o x y z cd (c * 4 + 1) = x ∧ dc_u c o x y z cd (c * 4 + 2) = y ∧ dc_u c o x y z cd (c * 4 + 3) = z := by
  unfold dc_u
  refine ⟨?_, ?_, ?_, pk_us⟩
  · rw [pk_un (by omega), pk_un (by omega), pk_un (by omega), pk_us]
  · rw [pk_un (by omega), pk_un (by omega), pk_us]
  · rw [pk_un (by omega), pk_us]
theorem dc_u1 {c j : Nat} {o x y z : Int32} {cd : Nat → Int32} (h : j < c * 4) : dc_u c o x y z cd j = cd j := by
  unfold dc_u
  rw [pk_un (by omega), pk_un (by omega), pk_un (by omega), pk_un (by omega)]
theorem dc_K_s {nb nc cc : Nat} {rt : Nat → Int32} {cr : Nat → Bool} {co cx cy cz cb cd : Nat → Int32} {o x y z b : Int32} (K : dc_K nb nc rt cr cc co cx cy cz cb cd) (q : dc_Q nb nc rt cr o x y z b) :
    dc_K nb nc rt cr (cc + 1) (upd co cc o) (upd cx cc x) (upd cy cc y) (upd cz cc z) (upd cb cc b) (dc_u cc o x y z cd) := by
  intro c hc
  by_cases e : c = cc
  · subst e
    rw [pk_us, pk_us, pk_us, pk_us, pk_us]; exact ⟨dc_u0, q⟩
  · rw [pk_un e, pk_un e, pk_un e, pk_un e, pk_un e, dc_u1 (by omega), dc_u1 (by omega), dc_u1 (by omega), dc_u1 (by omega)]
    exact K c (by omega)
theorem dc_Q_1 {nb nc : Nat} {rt : Nat → Int32} {cr : Nat → Bool} {x y z b : Int32} (hx : dc_n nc x) (hy : dc_n nc y) : dc_Q nb nc rt cr 1 x y z b :=
  Or.inl ⟨1, by omega, rfl, fun _ => hx, fun _ => hy, fun w => absurd w (by decide)⟩
section
variable {mb mi mv oc ni nb : Nat} {ph xrm xnc xcc xsc xpc ync ycl : Int32} {xop xsx xsy xsz xbo xbf xbe xin xee xdm xid xfm xgm xkm xlm xnb xnp xnv xph xln xpa xrs xax xay xaz xfo xsr xso xst xco xcx xcy xcz xcb xpd xps xss xtu xcu xou xot xrg ysr ymk yre ydm yid yfr ylv yis yas ycd yfi ypd yps yot yrg yrv : Nat → Int32} {nc : Nat} {rt : Nat → Int32} {cr : Nat → Bool}
theorem mv_run {blk : Int32} (hnc : nc ≤ 96) (hxn : xnc = nI nc) (hyn : ync = nI nc) : ∀ (m y np cc : Nat) (w : Nat → Nat) (xco xcx xcy xcz xcb xpd xps ycd ypd yps : Nat → Int32),
    mv_P nc np w xpd xps ypd yps → mv_B np m xpd xps → y + m ≤ 9 → cc + m ≤ 240 → dc_K nb nc rt cr cc xco xcx xcy xcz xcb ycd →
    ∃ (cc' : Nat) (pc : Int32) (co cx cy cz cb pd ps cd yd ys : Nat → Int32), cc' ≤ cc + m ∧ dc_K nb nc rt cr cc' co cx cy cz cb cd ∧ dc_E blk cc cc' xcb cb ∧
      (∀ post : SX → Prop, post ((nI mb), (nI mi), (nI mv), (nI oc), ph, (nI ni), (nI nb), xrm, xnc, nI cc', xsc, pc, xop, xsx, xsy, xsz, xbo, xbf, xbe, xin, xee, xdm, xid, xfm, xgm, xkm, xlm, xnb, xnp, xnv, xph, xln, xpa, xrs, xax, xay, xaz, xfo, xsr, xso, xst, co, cx, cy, cz, cb, pd, ps, xss, xtu, xcu, xou, xot, xrg) → ∃ n, wX_layMoves_7 post blk n (nI y) (nI mb) (nI mi) (nI mv) (nI oc) ph (nI ni) (nI nb) xrm xnc (nI cc) xsc (nI np) xop xsx xsy xsz xbo xbf xbe xin xee xdm xid xfm xgm xkm xlm xnb xnp xnv xph xln xpa xrs xax xay xaz xfo xsr xso xst xco xcx xcy xcz xcb xpd xps xss xtu xcu xou xot xrg) ∧
      (∀ post : SY → Prop, post ((nI mb), (nI mi), (nI mv), (nI oc), ph, (nI ni), ync, nI cc', ysr, xin, ymk, yre, ydm, yid, yfr, ylv, yis, xph, xpa, xrs, yas, xfo, cd, yfi, yd, ys, xss, xtu, xcu, xou, yot, yrg, yrv) → ∃ n, wY_writeMoves_99 post n (nI y) (nI mb) (nI mi) (nI mv) (nI oc) ph (nI ni) ync (nI cc) ysr xin ymk yre ydm yid yfr ylv yis xph xpa xrs yas xfo ycd yfi ypd yps xss xtu xcu xou yot yrg yrv) := by
  intro m
  induction m with
  | zero =>
    intro y np cc w xco xcx xcy xcz xcb xpd xps ycd ypd yps P B hy hcc K
    have h0 : np = 0 := by
      rcases B with b | ⟨_, _, b⟩ | ⟨_, _, _, b⟩ <;> omega
    subst h0
    refine ⟨cc, nI 0, xco, xcx, xcy, xcz, xcb, xpd, xps, ycd, ypd, yps, by omega, K, dc_E_r, fun post h => ⟨1, ?_⟩, fun post h => ⟨1, ?_⟩⟩
    · exact br_f (nI_ge (b := 12) (by omega) (by decide)) (br_t (by decide) h)
    · exact br_f (nI_ge (b := 32) (by omega) (by decide)) (y_wm114 P hnc (c := cc) (by omega) rfl (fun _ => h) (fun i hi => by omega) (fun hi => by omega))
  | succ m ih =>
    intro y np cc w xco xcx xcy xcz xcb xpd xps ycd ypd yps P B hy hcc K
    subst hxn hyn
    rcases Nat.eq_zero_or_pos np with h0 | hpos
    · subst h0
      refine ⟨cc, nI 0, xco, xcx, xcy, xcz, xcb, xpd, xps, ycd, ypd, yps, by omega, K, dc_E_r, fun post h => ⟨1, ?_⟩, fun post h => ⟨1, ?_⟩⟩
      · exact br_f (nI_ge (b := 12) (by omega) (by decide)) (br_t (by decide) h)
      · exact br_f (nI_ge (b := 32) (by omega) (by decide)) (y_wm114 P hnc (c := cc) (by omega) rfl (fun _ => h) (fun i hi => by omega) (fun hi => by omega))
    have hn6 := P.1
    have gX : ¬ 12 ≤ nI y := nI_ge (b := 12) (by omega) (by decide)
    have gY : ¬ 32 ≤ nI y := nI_ge (b := 32) (by omega) (by decide)
    have gp : ¬ nI np ≤ 0 := fun z => by
      have := (nI_leI (a := np) (b := 0) (by omega) (by decide)).mp z
      omega
    by_cases hex : ∃ i, i < np ∧ mv_f np xpd xps i ∧ ∀ j, j < i → ¬ mv_f np xpd xps j
    · obtain ⟨i, hi, hf, hm⟩ := hex
      have uni : ∀ i', i' < np → mv_f np xpd xps i' → (∀ j, j < i' → ¬ mv_f np xpd xps j) → i' = i := fun i' a b c => by
        rcases Nat.lt_trichotomy i' i with z | z | z
        · exact absurd b (hm _ z)
        · exact z
        · exact absurd hf (c _ z)
      obtain ⟨_, _, _, a, b, qa, qb, _, ed, es⟩ := P.2.1 i hi
      obtain ⟨cc', pc, co, cx, cy, cz, cb, pd, ps, cd, yd, ys, r1, r2, r3, rX, rY⟩ := ih (y + 1) (np - 1) (cc + 1) (mv_rw i w) (upd xco cc 1) (upd xcx cc (xpd i)) (upd xcy cc (xps i)) (upd xcz cc 0) (upd xcb cc blk) (mv_rm i np xpd) (mv_rm i np xps) (dc_u cc 1 (xpd i) (xps i) 0 ycd) (upd ypd (w i) (-1)) yps
        (mv_P_rm P hi) (mv_B_free B hi hf hm) (by omega) (by omega) (dc_K_s K (dc_Q_1 ⟨a, by omega, ed⟩ ⟨b, qb, es⟩))
      refine ⟨cc', pc, co, cx, cy, cz, cb, pd, ps, cd, yd, ys, by omega, r2, dc_E_t dc_E_s r3, fun post h => ?_, fun post h => ?_⟩
      · obtain ⟨n, hn⟩ := rX post h
        refine ⟨n + 1, br_f gX (br_f gp (x_freeMove hn6 rfl (fun i' a b c => ?_) (fun z => absurd hf (z i hi))))⟩
        have := uni i' a b c
        subst this
        refine br_f zi_nlt ⟨pk_in i' 6 (by omega), pk_in i' 6 (by omega), ?_⟩
        rw [zb_ra (a := xpd) i', zb_ra (a := xps) i']
        exact x_addCell (by omega) rfl (x_removeMove hn6 rfl hi (zn_1 hn))
      · obtain ⟨n, hn⟩ := rY post h
        refine ⟨n + 1, br_f gY (y_wm114 P hnc (c := cc) (by omega) rfl (fun z => by omega) (fun i' a b c => ?_) (fun _ z => absurd hf (z i hi)))⟩
        have := uni i' a b c
        subst this
        exact hn
    · have hno : ∀ i, i < np → ¬ mv_f np xpd xps i := by
        intro i
        induction i using Nat.strongRecOn with
        | _ i hr => exact fun hi hf => hex ⟨i, hi, hf, fun j hj => hr j hj (by omega)⟩
      obtain ⟨_, _, _, a, b, qa, qb, _, ed, es⟩ := P.2.1 0 hpos
      obtain ⟨cc', pc, co, cx, cy, cz, cb, pd, ps, cd, yd, ys, r1, r2, r3, rX, rY⟩ := ih (y + 1) np (cc + 1) w (upd xco cc 1) (upd xcx cc (nI nc)) (upd xcy cc (xpd 0)) (upd xcz cc 0) (upd xcb cc blk) xpd (mv_rs np (xpd 0) (nI nc) xps) (dc_u cc 1 (nI nc) (xpd 0) 0 ycd) ypd (mv_ry 6 (xpd 0) (nI nc) ypd yps)
        (mv_P_rs P hnc _) (mv_B_temp P hnc B hpos hno) (by omega) (by omega) (dc_K_s K (dc_Q_1 ⟨nc, by omega, rfl⟩ ⟨a, by omega, ed⟩))
      refine ⟨cc', pc, co, cx, cy, cz, cb, pd, ps, cd, yd, ys, by omega, r2, dc_E_t dc_E_s r3, fun post h => ?_, fun post h => ?_⟩
      · obtain ⟨n, hn⟩ := rX post h
        refine ⟨n + 1, br_f gX (br_f gp (x_freeMove hn6 rfl (fun i' a b c => absurd b (hno i' a)) (fun _ => ?_)))⟩
        exact br_t (by decide) (nm_e (x_addCell (by omega) rfl (x_lm85 hn6 rfl hn)))
      · obtain ⟨n, hn⟩ := rY post h
        exact ⟨n + 1, br_f gY (y_wm114 P hnc (c := cc) (by omega) rfl (fun z => by omega) (fun i' a b c => absurd b (hno i' a)) (fun _ _ => hn))⟩
end
end
section
/-! ===== parallel moves: what is pending on an edge ===== -/
def cm_r (P A : Nat → Int32) (t e : Nat) (D S : Nat → Int32) : Nat → Nat × (Nat → Nat) × (Nat → Int32) × (Nat → Int32)
  | 0 => (0, fun _ => 0, D, S)
  | v + 1 => if P (t * 6 + v) < 0 ∨ P (t * 6 + v) = A (e * 6 + v) then cm_r P A t e D S v else
      ((cm_r P A t e D S v).1 + 1, (fun i => if i = (cm_r P A t e D S v).1 then v else (cm_r P A t e D S v).2.1 i), upd (cm_r P A t e D S v).2.2.1 (cm_r P A t e D S v).1 (P (t * 6 + v)), upd (cm_r P A t e D S v).2.2.2 (cm_r P A t e D S v).1 (A (e * 6 + v)))
def cl_d (k : Nat) (P A : Nat → Int32) (t e : Nat) (d : Nat → Int32) : Nat → Int32 := fun v => if v < k then (if P (t * 6 + v) = A (e * 6 + v) then -1 else P (t * 6 + v)) else d v
def cl_s (k : Nat) (A : Nat → Int32) (e : Nat) (s : Nat → Int32) : Nat → Int32 := fun v => if v < k then A (e * 6 + v) else s v
theorem cl_s_s {k : Nat} {A : Nat → Int32} {e : Nat} {s : Nat → Int32} : upd (cl_s k A e s) k (A (e * 6 + k)) = cl_s (k + 1) A e s := by
  funext j
  by_cases w : j = k
  · rw [w, pk_us]; exact (if_pos (by omega)).symm
  · rw [pk_un w]; unfold cl_s
    by_cases y : j < k
    · rw [if_pos y, if_pos (by omega)]
    · rw [if_neg y, if_neg (by omega)]
theorem cl_d_s {k : Nat} {P A : Nat → Int32} {t e : Nat} {d : Nat → Int32} {x : Int32} (h : x = if P (t * 6 + k) = A (e * 6 + k) then -1 else P (t * 6 + k)) : upd (cl_d k P A t e d) k x = cl_d (k + 1) P A t e d := by
  funext j
  by_cases w : j = k
  · rw [w, pk_us, h]; exact (if_pos (by omega)).symm
  · rw [pk_un w]; unfold cl_d
    by_cases y : j < k
    · rw [if_pos y, if_pos (show j < k + 1 by omega)]
    · rw [if_neg y, if_neg (show ¬ j < k + 1 by omega)]
section
variable {P A : Nat → Int32} {t e : Nat} {D S : Nat → Int32}
theorem cm_n {v : Nat} (h : P (t * 6 + v) < 0 ∨ P (t * 6 + v) = A (e * 6 + v)) : cm_r P A t e D S (v + 1) = cm_r P A t e D S v := by
  simp only [cm_r]; rw [if_pos h]
theorem cm_y {v : Nat} (h : ¬ (P (t * 6 + v) < 0 ∨ P (t * 6 + v) = A (e * 6 + v))) : cm_r P A t e D S (v + 1) = ((cm_r P A t e D S v).1 + 1, (fun i => if i = (cm_r P A t e D S v).1 then v else (cm_r P A t e D S v).2.1 i), upd (cm_r P A t e D S v).2.2.1 (cm_r P A t e D S v).1 (P (t * 6 + v)), upd (cm_r P A t e D S v).2.2.2 (cm_r P A t e D S v).1 (A (e * 6 + v))) := by
  simp only [cm_r]; rw [if_neg h]
theorem cm_ext {mv : Nat} (h : ∀ v, mv ≤ v → v < 6 → P (t * 6 + v) < 0) : ∀ d, mv + d ≤ 6 → cm_r P A t e D S (mv + d) = cm_r P A t e D S mv
  | 0, _ => rfl
  | d + 1, hd => by
    rw [← cm_ext h d (by omega)]
    exact cm_n (v := mv + d) (Or.inl (h _ (by omega) (by omega)))
theorem cm_I : ∀ v, (cm_r P A t e D S v).1 ≤ v ∧
    (∀ i, i < (cm_r P A t e D S v).1 → (cm_r P A t e D S v).2.1 i < v ∧ (cm_r P A t e D S v).2.2.1 i = P (t * 6 + (cm_r P A t e D S v).2.1 i) ∧ (cm_r P A t e D S v).2.2.2 i = A (e * 6 + (cm_r P A t e D S v).2.1 i) ∧
      ¬ (P (t * 6 + (cm_r P A t e D S v).2.1 i) < 0 ∨ P (t * 6 + (cm_r P A t e D S v).2.1 i) = A (e * 6 + (cm_r P A t e D S v).2.1 i))) ∧
    (∀ i j, i < j → j < (cm_r P A t e D S v).1 → (cm_r P A t e D S v).2.1 i < (cm_r P A t e D S v).2.1 j) ∧
    (∀ u, u < v → ¬ (P (t * 6 + u) < 0 ∨ P (t * 6 + u) = A (e * 6 + u)) → ∃ i, i < (cm_r P A t e D S v).1 ∧ (cm_r P A t e D S v).2.1 i = u)
  | 0 => ⟨Nat.le_refl _, fun i hi => absurd hi (Nat.not_lt_zero _), fun i j _ hj => absurd hj (Nat.not_lt_zero _), fun u hu => by omega⟩
  | v + 1 => by
    obtain ⟨i1, i2, i3, i4⟩ := cm_I v
    by_cases h : P (t * 6 + v) < 0 ∨ P (t * 6 + v) = A (e * 6 + v)
    · rw [cm_n h]
      refine ⟨by omega, fun i hi => ?_, i3, fun u hu q => i4 u ?_ q⟩
      · obtain ⟨a, b⟩ := i2 i hi
        exact ⟨by omega, b⟩
      · rcases Nat.lt_or_ge u v with z | z
        · exact z
        · have : u = v := by omega
          subst this; exact absurd h q
    · rw [cm_y h]
      generalize hr : cm_r P A t e D S v = r at i1 i2 i3 i4 ⊢
      obtain ⟨n, w, D', S'⟩ := r
      have gw : ∀ i, i ≠ n → (fun i => if i = n then v else w i) i = w i := fun i hi => if_neg hi
      have gn : (fun i => if i = n then v else w i) n = v := if_pos rfl
      refine ⟨Nat.succ_le_succ i1, fun i hi => ?_, fun i j hij hj => ?_, fun u hu q => ?_⟩
      · show (fun i => if i = n then v else w i) i < v + 1 ∧ upd D' n (P (t * 6 + v)) i = P (t * 6 + (fun i => if i = n then v else w i) i) ∧ upd S' n (A (e * 6 + v)) i = A (e * 6 + (fun i => if i = n then v else w i) i) ∧ ¬ (P (t * 6 + (fun i => if i = n then v else w i) i) < 0 ∨ P (t * 6 + (fun i => if i = n then v else w i) i) = A (e * 6 + (fun i => if i = n then v else w i) i))
        by_cases z : i = n
        · rw [z, gn, pk_us, pk_us]; exact ⟨by omega, rfl, rfl, h⟩
        · rw [gw i z, pk_un z, pk_un z]
          obtain ⟨a, b⟩ := i2 i (by have : i < n + 1 := hi; show i < n; omega)
          exact ⟨Nat.lt_succ_of_lt a, b⟩
      · show (fun i => if i = n then v else w i) i < (fun i => if i = n then v else w i) j
        have hj' : j < n + 1 := hj
        rw [gw i (by omega)]
        by_cases z : j = n
        · rw [z, gn]; exact (i2 i (show i < n by omega)).1
        · rw [gw j z]; exact i3 i j hij (show j < n by omega)
      · show ∃ i, i < n + 1 ∧ (fun i => if i = n then v else w i) i = u
        by_cases z : u = v
        · exact ⟨n, by omega, by rw [gn, z]⟩
        · obtain ⟨i, a, b⟩ := i4 u (by omega) q
          have a' : i < n := a
          exact ⟨i, by omega, by rw [gw i (by omega)]; exact b⟩
end
theorem cm_P {rt op fx xph xpa xrs xnb xnp xnv D S d s : Nat → Int32} {mv ni nc t e : Nat} (N : nu_N rt op fx mv ni 60 ni nc xph xrs xnb xnp xnv) (hnc : nc ≤ 96) (hP : rl_P nc rt xph xpa) (he : e < 20) (ht : t < 10) (het : gr_ee rt e = nI t) :
    mv_P nc (cm_r xph xpa t e D S 6).1 (cm_r xph xpa t e D S 6).2.1 (cm_r xph xpa t e D S 6).2.2.1 (cm_r xph xpa t e D S 6).2.2.2 (cl_d 6 xph xpa t e d) (cl_s 6 xpa e s) := by
  obtain ⟨i1, i2, i3, i4⟩ := cm_I (P := xph) (A := xpa) (t := t) (e := e) (D := D) (S := S) 6
  have hk : ∀ v, v < 6 → ¬ xph (t * 6 + v) < 0 → ∃ k, k < nc ∧ xph (t * 6 + v) = nI k := by
    intro v hv q
    rcases N.2.2.2.1 (t * 6 + v) (by omega) with z | z | ⟨_, k, _, k2, k3, _⟩
    · rw [z] at q; exact absurd (by decide) q
    · omega
    · exact ⟨k, k2, k3⟩
  refine ⟨i1, fun i hi => ?_, fun i j hij hj => ?_, fun v hv q => ?_⟩
  · obtain ⟨a1, a2, a3, a4⟩ := i2 i hi
    have q1 := fun z => a4 (Or.inl z)
    have q2 := fun z => a4 (Or.inr z)
    obtain ⟨a, ha, ea⟩ := hk _ a1 q1
    refine ⟨a1, ?_, ?_, ?_⟩
    · rw [a2]; unfold cl_d; rw [if_pos a1, if_neg q2]
    · rw [a3]; unfold cl_s; rw [if_pos a1]
    · rcases hP (e * 6 + (cm_r xph xpa t e D S 6).2.1 i) (by omega) with ⟨_, b, hb, eb⟩ | ⟨z, _⟩
      · refine ⟨a, b, ha, by omega, fun z => q2 ?_, by rw [a2]; exact ea, by rw [a3]; exact eb⟩
        rw [ea, eb, z]
      · refine absurd ⟨t, ht, ?_, ?_⟩ z
        · rw [show (e * 6 + (cm_r xph xpa t e D S 6).2.1 i) / 6 = e by omega]; exact het
        · rw [show (e * 6 + (cm_r xph xpa t e D S 6).2.1 i) % 6 = (cm_r xph xpa t e D S 6).2.1 i by omega]; exact q1
  · have hw := i3 i j hij hj
    obtain ⟨a1, a2, a3, a4⟩ := i2 i (by omega)
    obtain ⟨b1, b2, b3, b4⟩ := i2 j hj
    refine ⟨hw, ?_⟩
    obtain ⟨a, ha, ea⟩ := hk _ a1 (fun z => a4 (Or.inl z))
    obtain ⟨b, hb, eb⟩ := hk _ b1 (fun z => b4 (Or.inl z))
    have := N.2.2.2.2.2.2.2.1 (t * 6 + (cm_r xph xpa t e D S 6).2.1 i) (t * 6 + (cm_r xph xpa t e D S 6).2.1 j) a b (by omega) (by omega) (by omega) (by omega) ha hb ea eb
    rw [a2, b2, ea, eb]
    exact nI_lt this (by omega)
  · unfold cl_d at q
    rw [if_pos hv] at q
    by_cases z : xph (t * 6 + v) = xpa (e * 6 + v)
    · rw [if_pos z] at q; exact absurd (by decide) q
    · rw [if_neg z] at q
      exact i4 v hv (fun y => y.elim q z)
section
variable {mb mi mv oc ni nb : Nat} {ph xrm xnc xcc xsc xpc ync ycl : Int32} {xop xsx xsy xsz xbo xbf xbe xin xee xdm xid xfm xgm xkm xlm xnb xnp xnv xph xln xpa xrs xax xay xaz xfo xsr xso xst xco xcx xcy xcz xcb xpd xps xss xtu xcu xou xot xrg ysr ymk yre ydm yid yfr ylv yis yas ycd yfi ypd yps yot yrg yrv : Nat → Int32} {nc : Nat} {rt : Nat → Int32} {cr : Nat → Bool} {bf be : Nat → Nat}
theorem x_collect {post : SX → Prop} {e t : Nat} (hmv : mv ≤ 6) (he : e < 20) (ht : t < 10) (het : xee e = nI t) (hP : ∀ v, mv ≤ v → v < 6 → xph (t * 6 + v) < 0)
    (h : post ((nI mb), (nI mi), (nI mv), (nI oc), ph, (nI ni), (nI nb), xrm, xnc, xcc, xsc, nI (cm_r xph xpa t e xpd xps 6).1, xop, xsx, xsy, xsz, xbo, xbf, xbe, xin, xee, xdm, xid, xfm, xgm, xkm, xlm, xnb, xnp, xnv, xph, xln, xpa, xrs, xax, xay, xaz, xfo, xsr, xso, xst, xco, xcx, xcy, xcz, xcb, (cm_r xph xpa t e xpd xps 6).2.2.1, (cm_r xph xpa t e xpd xps 6).2.2.2, xss, xtu, xcu, xou, xot, xrg)) : wpX_collectMoves post ((nI mb), (nI mi), (nI mv), (nI oc), ph, (nI ni), (nI nb), xrm, xnc, xcc, xsc, xpc, xop, xsx, xsy, xsz, xbo, xbf, xbe, xin, xee, xdm, xid, xfm, xgm, xkm, xlm, xnb, xnp, xnv, xph, xln, xpa, xrs, xax, xay, xaz, xfo, xsr, xso, xst, xco, xcx, xcy, xcz, xcb, xpd, xps, xss, xtu, xcu, xou, xot, xrg) (nI e) := by
  have e6 : cm_r xph xpa t e xpd xps 6 = cm_r xph xpa t e xpd xps mv := by
    have := cm_ext (P := xph) (A := xpa) (t := t) (e := e) (D := xpd) (S := xps) hP (6 - mv) (by omega)
    rw [show mv + (6 - mv) = 6 by omega] at this; exact this
  rw [e6] at h
  refine zs_rn e ?_ he
  rw [het]
  refine br_t (Int32.not_lt.mp zi_nlt) ?_
  refine loop_0 (fun n v (s : Int32 × (Nat → Int32) × (Nat → Int32)) => wX_collectMoves_19 post (nI e) (nI t) (nI mb) (nI mi) (nI mv) (nI oc) ph (nI ni) (nI nb) xrm xnc xcc xsc n (nI v) s.1 xop xsx xsy xsz xbo xbf xbe xin xee xdm xid xfm xgm xkm xlm xnb xnp xnv xph xln xpa xrs xax xay xaz xfo xsr xso xst xco xcx xcy xcz xcb s.2.1 s.2.2 xss xtu xcu xou xot xrg) (fun v s => s.1 = nI (cm_r xph xpa t e xpd xps v).1 ∧ s.2.1 = (cm_r xph xpa t e xpd xps v).2.2.1 ∧ s.2.2 = (cm_r xph xpa t e xpd xps v).2.2.2) mv (0, xpd, xps) ⟨rfl, rfl, rfl⟩ ?_ ?_
  · intro n s hI
    obtain ⟨s1, s2, s3⟩ := s
    obtain ⟨r1, r2, r3⟩ := hI
    dsimp only at r1 r2 r3
    subst r1 r2 r3
    exact zc_ex h
  · intro n v s hv hI ih
    obtain ⟨s1, s2, s3⟩ := s
    obtain ⟨r1, r2, r3⟩ := hI
    dsimp only at r1 r2 r3
    subst r1 r2 r3
    have hc := (cm_I (P := xph) (A := xpa) (t := t) (e := e) (D := xpd) (S := xps) v).1
    refine zc_go hv (zs_rn (t * 6 + v) (zs_rn (e * 6 + v) ⟨fun q => zn_1 (ih _ ?_), fun q => ⟨fun q2 => zn_1 (ih _ ?_), fun q2 => zs_st (cm_r xph xpa t e xpd xps v).1 (zs_st (cm_r xph xpa t e xpd xps v).1 (zn_1 (zn_1 (ih (nI ((cm_r xph xpa t e xpd xps v).1 + 1), upd (cm_r xph xpa t e xpd xps v).2.2.1 (cm_r xph xpa t e xpd xps v).1 (xph (t * 6 + v)), upd (cm_r xph xpa t e xpd xps v).2.2.2 (cm_r xph xpa t e xpd xps v).1 (xpa (e * 6 + v))) ?_))))⟩⟩ (by omega) (zi_6 e v)) (by omega) (zi_6 t v))
    · rw [cm_n (Or.inl q)]; exact ⟨rfl, rfl, rfl⟩
    · rw [cm_n (Or.inr q2)]; exact ⟨rfl, rfl, rfl⟩
    · rw [cm_y (fun z => z.elim q q2)]; exact ⟨rfl, rfl, rfl⟩
theorem mv_lay {blk : Int32} {e t : Nat} (hnc : nc ≤ 96) (hxn : xnc = nI nc) (hyn : ync = nI nc) (hmv : mv ≤ 6) (hs : sc_YS ysr xop xsx xsy xsz) (B : sc_BL xop ni nb bf be) (C : sc_CL xop ni) (hrt : rt = sc_rt xop xsx xsy xsz nb be) (V : gr_V rt nb) (hr : ∀ b, b < 10 → yre b = zb_i (gr_rc rt b))
    (hee : ∀ e, e < 20 → xee e = gr_ee rt e) (N : nu_N rt xop xsx mv ni 60 ni nc xph xrs xnb xnp xnv) (hP : rl_P nc rt xph xpa) (he : e < 20) (ht : t < 10) (het : gr_ee rt e = nI t) {cc : Nat} (hcc : cc + 9 ≤ 240) (K : dc_K nb nc rt cr cc xco xcx xcy xcz xcb ycd) :
    ∃ (cc' : Nat) (pc : Int32) (co cx cy cz cb pd ps cd yd ys : Nat → Int32), cc' ≤ cc + 9 ∧ dc_K nb nc rt cr cc' co cx cy cz cb cd ∧ dc_E blk cc cc' xcb cb ∧
      (∀ post : SX → Prop, post ((nI mb), (nI mi), (nI mv), (nI oc), ph, (nI ni), (nI nb), xrm, xnc, nI cc', xsc, pc, xop, xsx, xsy, xsz, xbo, xbf, xbe, xin, xee, xdm, xid, xfm, xgm, xkm, xlm, xnb, xnp, xnv, xph, xln, xpa, xrs, xax, xay, xaz, xfo, xsr, xso, xst, co, cx, cy, cz, cb, pd, ps, xss, xtu, xcu, xou, xot, xrg) → wpX_layMoves post ((nI mb), (nI mi), (nI mv), (nI oc), ph, (nI ni), (nI nb), xrm, xnc, nI cc, xsc, xpc, xop, xsx, xsy, xsz, xbo, xbf, xbe, xin, xee, xdm, xid, xfm, xgm, xkm, xlm, xnb, xnp, xnv, xph, xln, xpa, xrs, xax, xay, xaz, xfo, xsr, xso, xst, xco, xcx, xcy, xcz, xcb, xpd, xps, xss, xtu, xcu, xou, xot, xrg) (nI e) blk) ∧
      (∀ post : SY → Prop, post ((nI mb), (nI mi), (nI mv), (nI oc), ph, (nI ni), ync, nI cc', ysr, xin, ymk, yre, ydm, yid, yfr, ylv, yis, xph, xpa, xrs, yas, xfo, cd, yfi, yd, ys, xss, xtu, xcu, xou, yot, yrg, yrv) → wpY_writeMoves post ((nI mb), (nI mi), (nI mv), (nI oc), ph, (nI ni), ync, nI cc, ysr, xin, ymk, yre, ydm, yid, yfr, ylv, yis, xph, xpa, xrs, yas, xfo, ycd, yfi, ypd, yps, xss, xtu, xcu, xou, yot, yrg, yrv) (nI e)) := by
  have P := cm_P (D := xpd) (S := xps) (d := ypd) (s := yps) N hnc hP he ht het
  have h6 := P.1
  obtain ⟨cc', pc, co, cx, cy, cz, cb, pd, ps, cd, yd, ys, r1, r2, r3, rX, rY⟩ := mv_run (mb := mb) (mi := mi) (mv := mv) (oc := oc) (ph := ph) (ni := ni) (nb := nb) (xrm := xrm) (xnc := xnc) (xsc := xsc) (xop := xop) (xsx := xsx) (xsy := xsy) (xsz := xsz) (xbo := xbo) (xbf := xbf) (xbe := xbe) (xin := xin) (xee := xee) (xdm := xdm) (xid := xid) (xfm := xfm) (xgm := xgm) (xkm := xkm) (xlm := xlm) (xnb := xnb) (xnp := xnp) (xnv := xnv) (xph := xph) (xln := xln) (xpa := xpa) (xrs := xrs) (xax := xax) (xay := xay) (xaz := xaz) (xfo := xfo) (xsr := xsr) (xso := xso) (xst := xst) (xss := xss) (xtu := xtu) (xcu := xcu) (xou := xou) (xot := xot) (xrg := xrg) (ync := ync) (ysr := ysr) (ymk := ymk) (yre := yre) (ydm := ydm) (yid := yid) (yfr := yfr) (ylv := ylv) (yis := yis) (yas := yas) (yfi := yfi) (yot := yot) (yrg := yrg) (yrv := yrv) (blk := blk) hnc hxn hyn 9 0 _ cc _ xco xcx xcy xcz xcb _ _ ycd _ _ P (Or.inl (by omega)) (by omega) hcc K
  refine ⟨cc', pc, co, cx, cy, cz, cb, pd, ps, cd, yd, ys, r1, r2, r3, fun post h => ?_, fun post h => ?_⟩
  · unfold wpX_layMoves
    refine x_collect hmv he ht ((hee e he).trans het) (fun v h1 h2 => ?_) (rX post h)
    rcases N.2.2.2.2.2.2.2.2 (t * 6 + v) (by omega) with z | z
    · rw [z]; decide
    · omega
  · have hr' := hr
    have V' := V
    rw [hrt] at hr' V'
    unfold wpY_writeMoves
    refine y_edgeEnd hs B C V' hr' he ?_
    rw [← hrt, het]
    refine br_f zi_nlt (br_f (nI_ge (b := 10) ht (by decide)) (br_f zi_nlt (br_t (nI_lt (b := 20) he (by decide)) ?_)))
    refine loop_0 (fun n v (s : (Nat → Int32) × (Nat → Int32)) => wY_writeMoves_29 post (nI e) (nI t) (nI mb) (nI mi) (nI mv) (nI oc) ph (nI ni) ync (nI cc) n (nI v) ysr xin ymk yre ydm yid yfr ylv yis xph xpa xrs yas xfo ycd yfi s.1 s.2 xss xtu xcu xou yot yrg yrv) (fun v s => s.1 = cl_d v xph xpa t e ypd ∧ s.2 = cl_s v xpa e yps) 6 (ypd, yps) ⟨?_, ?_⟩ ?_ ?_
    · funext j; exact (if_neg (by omega)).symm
    · funext j; exact (if_neg (by omega)).symm
    · intro n s hI
      obtain ⟨s1, s2⟩ := s
      obtain ⟨q1, q2⟩ := hI
      dsimp only at q1 q2
      subst q1 q2
      exact zc_ex (rY post h)
    · intro n v s hv hI ih
      obtain ⟨s1, s2⟩ := s
      obtain ⟨q1, q2⟩ := hI
      dsimp only at q1 q2
      subst q1 q2
      refine zc_go hv ⟨pk_in (t * 6 + v) 60 (by omega) (zi_6 t v), ?_⟩
      rw [zb_ra (a := xph) (t * 6 + v) (zi_6 t v)]
      refine zs_st v ⟨pk_in (e * 6 + v) 120 (by omega) (zi_6 e v), ?_⟩ hv
      rw [zb_ra (a := xpa) (e * 6 + v) (zi_6 e v)]
      refine zs_st v ⟨pk_in v 6 hv, pk_in v 6 hv, ?_⟩ hv
      rw [zb_rd v, pk_us, pk_us]
      refine ⟨fun q => ⟨pk_in v 6 hv, nm_e (zn_1 (ih (upd (upd (cl_d v xph xpa t e ypd) v (xph (t * 6 + v))) v (-1), upd (cl_s v xpa e yps) v (xpa (e * 6 + v))) ⟨?_, cl_s_s⟩))⟩, fun q => zn_1 (ih (upd (cl_d v xph xpa t e ypd) v (xph (t * 6 + v)), upd (cl_s v xpa e yps) v (xpa (e * 6 + v))) ⟨cl_d_s (by rw [if_neg q]), cl_s_s⟩)⟩
      show upd (upd (cl_d v xph xpa t e ypd) v (xph (t * 6 + v))) v (-1) = _
      rw [zb_uu]
      exact cl_d_s (by rw [if_pos q])
end
end
section
/-! ===== one block laid on both sides ===== -/
section
variable {mb mi mv oc ni nb : Nat} {ph xrm xnc xcc xsc xpc ync ycl : Int32} {xop xsx xsy xsz xbo xbf xbe xin xee xdm xid xfm xgm xkm xlm xnb xnp xnv xph xln xpa xrs xax xay xaz xfo xsr xso xst xco xcx xcy xcz xcb xpd xps xss xtu xcu xou xot xrg ysr ymk yre ydm yid yfr ylv yis yas ycd yfi ypd yps yot yrg yrv : Nat → Int32} {nc : Nat} {rt : Nat → Int32} {bf be : Nat → Nat}
theorem y76_skip {post : Int32 → SY → Prop} {b nJ : Nat} (hn : ni ≤ 40) (hs : sc_YS ysr xop xsx xsy xsz) (hb : b ≤ 40) : ∀ d i, i + d ≤ ni → (∀ k, i ≤ k → k < i + d → sc_tc xop k ≠ b) →
    (∃ n, wY_destruct_76 post (wY_destruct_43 post (nI nb) nJ) (nI nb) (nI b) n (nI (i + d)) (nI mb) (nI mi) (nI mv) (nI oc) ph (nI ni) ync ycl ysr xin ymk yre ydm yid yfr ylv yis xph xpa xrs yas xfo ycd yfi ypd yps xss xtu xcu xou yot yrg yrv) → ∃ n, wY_destruct_76 post (wY_destruct_43 post (nI nb) nJ) (nI nb) (nI b) n (nI i) (nI mb) (nI mi) (nI mv) (nI oc) ph (nI ni) ync ycl ysr xin ymk yre ydm yid yfr ylv yis xph xpa xrs yas xfo ycd yfi ypd yps xss xtu xcu xou yot yrg yrv := by
  intro d
  induction d with
  | zero => exact fun i _ _ h => h
  | succ d ih =>
    intro i hi hk h
    obtain ⟨n, hn'⟩ := ih (i + 1) (by omega) (fun k h1 h2 => hk k (by omega) (by omega)) (by rw [show i + 1 + d = i + (d + 1) by omega]; exact h)
    refine ⟨n + 1, zc_go (show i < ni by omega) ?_⟩
    refine y_blockOf (op := xop) hn hs (show i ≤ ni by omega) (br_f (fun e => hk i (Nat.le_refl _) (by omega) (zi_inj e ?_)) (zn_1 hn'))
    have := sc_tc_le xop i
    omega
theorem lb_run (S : rl_S mb mi mv oc ni nb bf be xop xsx xsy xsz xbo xbf xbe ysr) (A : rl_A mv ni nb be rt xrm xop xsx xsy xsz xee xdm xid xfm xlm yre ydm yid yfr ylv) (NN : rl_N mv ni nc rt xop xsx xsy xsz xnb xnp xnv xph xpa xrs xax xay xaz xfo yas)
    (hxn : xnc = nI nc) (hyn : ync = nI nc) (hso : ∀ e, e < 20 → xso e = if rl_cr rt xop be e = true then nI (nb + zk_c (rl_cr rt xop be) e) else -1) {b M : Nat} (hb : gr_rc rt b = true) (hM : xop (be b - 1) = 9 → 9 ≤ M) :
    ∀ d i, i + d = be b → bf b ≤ i → 0 < d → ∀ (cc : Nat) (xpc : Int32) (xco xcx xcy xcz xcb xpd xps ycd ypd yps : Nat → Int32), cc + d + M ≤ 240 → dc_K nb nc rt (rl_cr rt xop be) cc xco xcx xcy xcz xcb ycd →
    ∃ (cc' : Nat) (pc : Int32) (co cx cy cz cb pd ps cd yd ys : Nat → Int32), cc < cc' ∧ cc' ≤ cc + d + M ∧ dc_K nb nc rt (rl_cr rt xop be) cc' co cx cy cz cb cd ∧ dc_E (nI b) cc cc' xcb cb ∧ (∃ k, 9 ≤ k ∧ k ≤ 11 ∧ co (cc' - 1) = nI k) ∧
      (∀ post : SX → Prop, post ((nI mb), (nI mi), (nI mv), (nI oc), ph, (nI ni), (nI nb), xrm, xnc, nI cc', xsc, pc, xop, xsx, xsy, xsz, xbo, xbf, xbe, xin, xee, xdm, xid, xfm, xgm, xkm, xlm, xnb, xnp, xnv, xph, xln, xpa, xrs, xax, xay, xaz, xfo, xsr, xso, xst, co, cx, cy, cz, cb, pd, ps, xss, xtu, xcu, xou, xot, xrg) → ∃ n, wX_layBlock_16 post (nI b) (nI (be b - 1)) n (nI i) (nI mb) (nI mi) (nI mv) (nI oc) ph (nI ni) (nI nb) xrm xnc (nI cc) xsc xpc xop xsx xsy xsz xbo xbf xbe xin xee xdm xid xfm xgm xkm xlm xnb xnp xnv xph xln xpa xrs xax xay xaz xfo xsr xso xst xco xcx xcy xcz xcb xpd xps xss xtu xcu xou xot xrg) ∧
      (∀ (post : Int32 → SY → Prop) (nJ : Nat), (∃ n, wY_destruct_76 post (wY_destruct_43 post (nI nb) nJ) (nI nb) (nI b) n (nI (be b)) (nI mb) (nI mi) (nI mv) (nI oc) ph (nI ni) ync (nI cc') ysr xin ymk yre ydm yid yfr ylv yis xph xpa xrs yas xfo cd yfi yd ys xss xtu xcu xou yot yrg yrv) → ∃ n, wY_destruct_76 post (wY_destruct_43 post (nI nb) nJ) (nI nb) (nI b) n (nI i) (nI mb) (nI mi) (nI mv) (nI oc) ph (nI ni) ync (nI cc) ysr xin ymk yre ydm yid yfr ylv yis xph xpa xrs yas xfo ycd yfi ypd yps xss xtu xcu xou yot yrg yrv) := by
  have S0 := S
  have A0 := A
  obtain ⟨S1, S2, S3, S4, S5, S6, B, SV, YS, hbo, hbf, hbe⟩ := S
  obtain ⟨C, hrt, V, hrm, hre, hee, _⟩ := A
  obtain ⟨N, hnc, O, hP, F⟩ := NN
  have hn := B.1
  have h10 := V.2.1
  have hbl := gr_rc_lt V hb
  have hb1 := sc_be_le B b hbl
  have eb : ∀ e, e / 2 = b → gr_ee rt e = rt e := fun e he => gr_ee_t (by rw [he]; exact hb)
  intro d
  induction d with
  | zero => intro i _ _ h; omega
  | succ d ih =>
    intro i hi hlo _ cc xpc xco xcx xcy xcz xcb xpd xps ycd ypd yps hcc K
    have hini : i < ni := by omega
    have htc := (sc_tc_bf B b hbl).2 i hlo (by omega)
    have hv40 : vp_in (nI i) 40 := pk_in i 40 (by omega)
    have hrc : gr_rc rt (sc_tc xop i) = true := by rw [htc]; exact hb
    obtain ⟨⟨o0, o1, o2, o3⟩, od, orx, ory, orz, o9, o10⟩ := O i hini hrc
    obtain ⟨⟨k, hk, ek⟩, t2, t3, t4, t5, t6⟩ := SV i hini
    have gY : ∀ {post : Int32 → SY → Prop} {nJ n : Nat}, (¬ xfo i = 0 → wY_destruct_76 post (wY_destruct_43 post (nI nb) nJ) (nI nb) (nI b) n (nI (i + 1)) (nI mb) (nI mi) (nI mv) (nI oc) ph (nI ni) ync (nI cc) ysr xin ymk yre ydm yid yfr ylv yis xph xpa xrs yas xfo ycd yfi ypd yps xss xtu xcu xou yot yrg yrv) →
        (xfo i = 0 → xop i = 9 → wpY_writeMoves (fun u => match u with | (c1, c2, c3, c4, c5, c6, c7, c8, c9, c10, c11, c12, c13, c14, c15, c16, c17, c18, c19, c20, c21, c22, c23, c24, c25, c26, c27, c28, c29, c30, c31, c32, c33) => wY_destruct_166 post (wY_destruct_43 post (nI nb) nJ) (wY_destruct_76 post (wY_destruct_43 post (nI nb) nJ) (nI nb) (nI b) n) (nI nb) (nI b) (nI i) (xop i) (xax i) (xay i) (xaz i) c1 c2 c3 c4 c5 c6 c7 c8 c9 c10 c11 c12 c13 c14 c15 c16 c17 c18 c19 c20 c21 c22 c23 c24 c25 c26 c27 c28 c29 c30 c31 c32 c33) ((nI mb), (nI mi), (nI mv), (nI oc), ph, (nI ni), ync, nI cc, ysr, xin, ymk, yre, ydm, yid, yfr, ylv, yis, xph, xpa, xrs, yas, xfo, ycd, yfi, ypd, yps, xss, xtu, xcu, xou, yot, yrg, yrv) (nI (2 * b))) →
        (xfo i = 0 → ¬ xop i = 9 → wY_destruct_166 post (wY_destruct_43 post (nI nb) nJ) (wY_destruct_76 post (wY_destruct_43 post (nI nb) nJ) (nI nb) (nI b) n) (nI nb) (nI b) (nI i) (xop i) (xax i) (xay i) (xaz i) (nI mb) (nI mi) (nI mv) (nI oc) ph (nI ni) ync (nI cc) ysr xin ymk yre ydm yid yfr ylv yis xph xpa xrs yas xfo ycd yfi ypd yps xss xtu xcu xou yot yrg yrv) →
        wY_destruct_76 post (wY_destruct_43 post (nI nb) nJ) (nI nb) (nI b) (n + 1) (nI i) (nI mb) (nI mi) (nI mv) (nI oc) ph (nI ni) ync (nI cc) ysr xin ymk yre ydm yid yfr ylv yis xph xpa xrs yas xfo ycd yfi ypd yps xss xtu xcu xou yot yrg yrv := by
      intro post nJ n g1 g2 g3
      refine zc_go hini (y_blockOf (op := xop) hn YS (show i ≤ ni by omega) ?_)
      rw [htc]
      refine br_t rfl ⟨hv40, zc_eq i (fun q => ?_) (fun q => zn_1 (g1 q))⟩
      refine zs_rn (i * 4) (zs_rn (i * 4 + 1) (zs_rn (i * 4 + 2) (zs_rn (i * 4 + 3) ?_ (by omega) (zi_4c i)) (by omega) (zi_4b i)) (by omega) (zi_4a i)) (by omega) (zi_4 i)
      rw [o0, o1, o2, o3, zi_20 b]
      exact ⟨fun w => g2 q w, fun w => g3 q w⟩
    by_cases hd : d = 0
    · subst hd
      have ei : be b - 1 = i := by omega
      have hk9 : 9 ≤ k := by
        have := sc_term B C b hbl
        rw [ei, ek] at this
        rcases Nat.lt_or_ge k 9 with z | z
        · exact absurd (nI_lt (b := 9) z (by decide)) this
        · exact z
      have hf : xfo i = 0 := by
        rcases F i (by omega) with z | ⟨_, z⟩
        · exact z
        · rw [ek] at z; have := zi_inj (b := 1) z; omega
      rw [ei]
      have X0 : ∀ {post : SX → Prop} {n : Nat} {cd : Nat → Int32}, (xop i = 9 → wpX_layMoves (fun u => match u with | (c1, c2, c3, c4, c5, c6, c7, c8, c9, c10, c11, c12, c13, c14, c15, c16, c17, c18, c19, c20, c21, c22, c23, c24, c25, c26, c27, c28, c29, c30, c31, c32, c33, c34, c35, c36, c37, c38, c39, c40, c41, c42, c43, c44, c45, c46, c47, c48, c49, c50, c51, c52, c53, c54) => wX_layBlock_158 post (nI b) (nI i) (xay i) (xaz i) c1 c2 c3 c4 c5 c6 c7 c8 c9 c10 c11 c12 c13 c14 c15 c16 c17 c18 c19 c20 c21 c22 c23 c24 c25 c26 c27 c28 c29 c30 c31 c32 c33 c34 c35 c36 c37 c38 c39 c40 c41 c42 c43 c44 c45 c46 c47 c48 c49 c50 c51 c52 c53 c54) ((nI mb), (nI mi), (nI mv), (nI oc), ph, (nI ni), (nI nb), xrm, xnc, nI cc, xsc, xpc, xop, xsx, xsy, xsz, xbo, xbf, xbe, xin, xee, xdm, xid, xfm, xgm, xkm, xlm, xnb, xnp, xnv, xph, xln, xpa, xrs, xax, xay, xaz, xfo, xsr, xso, xst, xco, xcx, xcy, xcz, xcb, xpd, xps, xss, xtu, xcu, xou, xot, xrg) (nI (2 * b)) (nI b)) →
          (xop i = 10 → wX_layBlock_158 post (nI b) (nI i) (if rl_cr rt xop be (2 * b) = true then nI (nb + zk_c (rl_cr rt xop be) (2 * b)) else xay i) (if rl_cr rt xop be (2 * b + 1) = true then nI (nb + zk_c (rl_cr rt xop be) (2 * b + 1)) else xaz i) (nI mb) (nI mi) (nI mv) (nI oc) ph (nI ni) (nI nb) xrm xnc (nI cc) xsc xpc xop xsx xsy xsz xbo xbf xbe xin xee xdm xid xfm xgm xkm xlm xnb xnp xnv xph xln xpa xrs xax xay xaz xfo xsr xso xst xco xcx xcy xcz xcb xpd xps xss xtu xcu xou xot xrg) →
          (¬ xop i = 9 → ¬ xop i = 10 → wX_layBlock_158 post (nI b) (nI i) (xay i) (xaz i) (nI mb) (nI mi) (nI mv) (nI oc) ph (nI ni) (nI nb) xrm xnc (nI cc) xsc xpc xop xsx xsy xsz xbo xbf xbe xin xee xdm xid xfm xgm xkm xlm xnb xnp xnv xph xln xpa xrs xax xay xaz xfo xsr xso xst xco xcx xcy xcz xcb xpd xps xss xtu xcu xou xot xrg) →
          wX_layBlock_16 post (nI b) (nI i) (n + 1) (nI i) (nI mb) (nI mi) (nI mv) (nI oc) ph (nI ni) (nI nb) xrm xnc (nI cc) xsc xpc xop xsx xsy xsz xbo xbf xbe xin xee xdm xid xfm xgm xkm xlm xnb xnp xnv xph xln xpa xrs xax xay xaz xfo xsr xso xst xco xcx xcy xcz xcb xpd xps xss xtu xcu xou xot xrg := by
        intro post n cd g1 g2 g3
        refine zc_ex (zs_rn i (zs_rn i ⟨hv40, zc_eq i (fun q => ?_) (fun q => ⟨hv40, zc_eq i (fun q2 => ?_) (fun q2 => g3 q q2)⟩)⟩))
        · rw [zi_20 b]; exact g1 q
        · have g := g2 q2
          have g133 : ∀ y : Int32, wX_layBlock_158 post (nI b) (nI i) y (if rl_cr rt xop be (2 * b + 1) = true then nI (nb + zk_c (rl_cr rt xop be) (2 * b + 1)) else xaz i) (nI mb) (nI mi) (nI mv) (nI oc) ph (nI ni) (nI nb) xrm xnc (nI cc) xsc xpc xop xsx xsy xsz xbo xbf xbe xin xee xdm xid xfm xgm xkm xlm xnb xnp xnv xph xln xpa xrs xax xay xaz xfo xsr xso xst xco xcx xcy xcz xcb xpd xps xss xtu xcu xou xot xrg → wX_layBlock_133 post (nI b) (nI i) y (xaz i) (nI mb) (nI mi) (nI mv) (nI oc) ph (nI ni) (nI nb) xrm xnc (nI cc) xsc xpc xop xsx xsy xsz xbo xbf xbe xin xee xdm xid xfm xgm xkm xlm xnb xnp xnv xph xln xpa xrs xax xay xaz xfo xsr xso xst xco xcx xcy xcz xcb xpd xps xss xtu xcu xou xot xrg := by
            intro y gy
            have v1 : vp_in (2 * nI b + 1) 20 := pk_in (2 * b + 1) 20 (by omega) (zi_2 b 1)
            refine ⟨v1, zc_lt (2 * b + 1) (fun r => ?_) (fun r => zs_rn (2 * b + 1) ?_ (by omega) (zi_2 b 1)) (zi_2 b 1)⟩
            · rw [hso _ (by omega)] at r
              by_cases z : rl_cr rt xop be (2 * b + 1) = true
              · rw [if_pos z] at r; exact absurd r (zi_nlt (by have := zk_le (rl_cr rt xop be) (2 * b + 1); omega))
              · rw [if_neg z] at gy; exact gy
            · rw [hso _ (by omega)] at r ⊢
              by_cases z : rl_cr rt xop be (2 * b + 1) = true
              · rw [if_pos z] at gy ⊢; exact gy
              · rw [if_neg z] at r; exact absurd (by decide) r
          refine ⟨pk_in (2 * b) 20 (by omega) (zi_20 b), zc_lt (2 * b) (fun r => g133 _ ?_) (fun r => zs_rn (2 * b) (g133 _ ?_) (by omega) (zi_20 b)) (zi_20 b)⟩
          · rw [hso _ (by omega)] at r
            by_cases z : rl_cr rt xop be (2 * b) = true
            · rw [if_pos z] at r; exact absurd r (zi_nlt (by have := zk_le (rl_cr rt xop be) (2 * b); omega))
            · rw [if_neg z] at g; exact g
          · rw [hso _ (by omega)] at r ⊢
            by_cases z : rl_cr rt xop be (2 * b) = true
            · rw [if_pos z] at g ⊢; exact g
            · rw [if_neg z] at r; exact absurd (by decide) r
      have t1 : i + 1 = be b := by omega
      by_cases h9 : xop i = 9
      · have ee : gr_ee rt (2 * b) = xsx i := by rw [eb _ (by omega), hrt]; exact sc_rt_9 hbl ei h9
        obtain ⟨x, x1, x2, ex⟩ := t5 h9
        rcases gr_ee_or V (e := 2 * b) (by omega) with z | ⟨_, _, t, tt1, tt2, tt3, _, tt5, _⟩
        · rw [ee, ex] at z; exact absurd z (zi_neg (by omega))
        obtain ⟨c1, pc, co, cx, cy, cz, cb, pd, ps, cd, yd, ys, r1, r2, r3, rX, rY⟩ := mv_lay (mb := mb) (mi := mi) (mv := mv) (oc := oc) (ph := ph) (ni := ni) (nb := nb) (xrm := xrm) (xnc := xnc) (xsc := xsc) (xpc := xpc) (xop := xop) (xsx := xsx) (xsy := xsy) (xsz := xsz) (xbo := xbo) (xbf := xbf) (xbe := xbe) (xin := xin) (xee := xee) (xdm := xdm) (xid := xid) (xfm := xfm) (xgm := xgm) (xkm := xkm) (xlm := xlm) (xnb := xnb) (xnp := xnp) (xnv := xnv) (xph := xph) (xln := xln) (xpa := xpa) (xrs := xrs) (xax := xax) (xay := xay) (xaz := xaz) (xfo := xfo) (xsr := xsr) (xso := xso) (xst := xst) (xco := xco) (xcx := xcx) (xcy := xcy) (xcz := xcz) (xcb := xcb) (xpd := xpd) (xps := xps) (xss := xss) (xtu := xtu) (xcu := xcu) (xou := xou) (xot := xot) (xrg := xrg) (ync := ync) (ysr := ysr) (ymk := ymk) (yre := yre) (ydm := ydm) (yid := yid) (yfr := yfr) (ylv := ylv) (yis := yis) (yas := yas) (ycd := ycd) (yfi := yfi) (ypd := ypd) (yps := yps) (yot := yot) (yrg := yrg) (yrv := yrv) (bf := bf) (be := be) (rt := rt) (cr := rl_cr rt xop be) (blk := nI b) (e := 2 * b) (t := t) hnc hxn hyn S3.2 YS B C hrt V hre hee N hP (by omega) (by omega) tt3 (cc := cc) (by have := hM (by rw [ei]; exact h9); omega) K
        have q : dc_Q nb nc rt (rl_cr rt xop be) (xop i) (xax i) (xay i) (xaz i) (nI b) := Or.inr (Or.inr (Or.inl ⟨h9, t, tt5, by rw [o9 h9, ← ee]; exact tt3⟩))
        have hM9 := hM (by rw [ei]; exact h9)
        refine ⟨c1 + 1, pc, upd co c1 (xop i), upd cx c1 (xax i), upd cy c1 (xay i), upd cz c1 (xaz i), upd cb c1 (nI b), pd, ps, dc_u c1 (xop i) (xax i) (xay i) (xaz i) cd, yd, ys, by have := r3.1; omega, by omega, dc_K_s r2 q, dc_E_t r3 dc_E_s, ⟨k, hk9, hk, by rw [Nat.add_sub_cancel, pk_us]; exact ek⟩, fun post h => ⟨1, X0 (cd := cd) (fun _ => rX _ ⟨hv40, hv40, ?_⟩) (fun z => by rw [h9] at z; exact absurd z (by decide)) (fun z => absurd h9 z)⟩, fun post nJ h => ?_⟩
        · rw [zb_ra (a := xop) i, zb_ra (a := xax) i]
          exact x_addCell (by omega) rfl h
        · obtain ⟨n, hn'⟩ := h
          rw [← t1] at hn'
          exact ⟨n + 1, gY (fun z => absurd hf z) (fun _ _ => rY _ (br_f (by rw [h9]; decide) (y_addCell (by omega) rfl (zn_1 hn')))) (fun _ z => absurd h9 z)⟩
      by_cases h10' : xop i = 10
      · have ee := sc_rt_10 (fx := xsx) (fy := xsy) (fz := xsz) hbl ei h10'
        rw [← hrt, ← eb (2 * b) (by omega), ← eb (2 * b + 1) (by omega)] at ee
        obtain ⟨x, y, x1, x2, y1, y2, _, ex, ey⟩ := t6 h10'
        have dt : ∀ e a, e < 20 → gr_ee rt e = a → (∃ x, x < mb ∧ a = nI x) → dc_t nb rt (rl_cr rt xop be) (if rl_cr rt xop be e = true then nI (nb + zk_c (rl_cr rt xop be) e) else a) := by
          intro e a he ea ⟨x, hx, ax⟩
          by_cases z : rl_cr rt xop be e = true
          · rw [if_pos z]; exact Or.inr ⟨e, he, z, rfl⟩
          · rw [if_neg z]
            rcases gr_ee_or V he with z | ⟨_, _, t, tt1, tt2, tt3, _, tt5, _⟩
            · rw [ea, ax] at z; exact absurd z (zi_neg (by omega))
            · exact Or.inl ⟨t, tt5, by rw [← ea]; exact tt3⟩
        have d1 := dt (2 * b) (xay i) (by omega) (by rw [(o10 h10').1]; exact ee.1) ⟨x, by omega, by rw [(o10 h10').1]; exact ex⟩
        have d2 := dt (2 * b + 1) (xaz i) (by omega) (by rw [(o10 h10').2]; exact ee.2) ⟨y, by omega, by rw [(o10 h10').2]; exact ey⟩
        generalize hy1 : (if rl_cr rt xop be (2 * b) = true then nI (nb + zk_c (rl_cr rt xop be) (2 * b)) else xay i) = v1 at d1 X0
        generalize hy2 : (if rl_cr rt xop be (2 * b + 1) = true then nI (nb + zk_c (rl_cr rt xop be) (2 * b + 1)) else xaz i) = v2 at d2 X0
        have q : dc_Q nb nc rt (rl_cr rt xop be) (xop i) (xax i) v1 v2 (nI b) := by
          obtain ⟨k', a, e⟩ := orx (by rw [h10']; decide)
          exact Or.inr (Or.inr (Or.inr ⟨h10', ⟨k', by omega, e⟩, d1, d2, b, hbl, rfl⟩))
        refine ⟨cc + 1, xpc, upd xco cc (xop i), upd xcx cc (xax i), upd xcy cc v1, upd xcz cc v2, upd xcb cc (nI b), xpd, xps, dc_u cc (xop i) (xax i) v1 v2 ycd, ypd, yps, by omega, by omega, dc_K_s K q, dc_E_s, ⟨k, hk9, hk, by rw [Nat.add_sub_cancel, pk_us]; exact ek⟩, fun post h => ⟨1, X0 (cd := ycd) (fun z => absurd z h9) (fun _ => ⟨hv40, hv40, ?_⟩) (fun _ z => absurd h10' z)⟩, fun post nJ h => ?_⟩
        · rw [zb_ra (a := xop) i, zb_ra (a := xax) i]
          exact x_addCell (by omega) rfl h
        · obtain ⟨n, hn'⟩ := h
          rw [← t1] at hn'
          have f227 := (y_addCell (post := fun u => match u with | (c1, c2, c3, c4, c5, c6, c7, c8, c9, c10, c11, c12, c13, c14, c15, c16, c17, c18, c19, c20, c21, c22, c23, c24, c25, c26, c27, c28, c29, c30, c31, c32, c33) => ∀ x : Int32, x = nI i + 1 → wY_destruct_76 post (wY_destruct_43 post (nI nb) nJ) (nI nb) (nI b) n x c1 c2 c3 c4 c5 c6 c7 c8 c9 c10 c11 c12 c13 c14 c15 c16 c17 c18 c19 c20 c21 c22 c23 c24 c25 c26 c27 c28 c29 c30 c31 c32 c33) (c := cc) (p0 := xop i) (p1 := xax i) (p2 := v1) (p3 := v2) (by omega) rfl (zn_1 hn'))
          have f198 : wY_destruct_198 post (wY_destruct_43 post (nI nb) nJ) (wY_destruct_76 post (wY_destruct_43 post (nI nb) nJ) (nI nb) (nI b) n) (nI nb) (nI b) (nI i) (xop i) (xax i) v1 (xaz i) (nI mb) (nI mi) (nI mv) (nI oc) ph (nI ni) ync (nI cc) ysr xin ymk yre ydm yid yfr ylv yis xph xpa xrs yas xfo ycd yfi ypd yps xss xtu xcu xou yot yrg yrv := by
            unfold wY_destruct_198
            rw [show (2 : Int32) * nI b + 1 = nI (2 * b + 1) from zi_2 b 1]
            refine y_critical (op := xop) YS B C hrt V hre (e := 2 * b + 1) (by omega) (zc_b (fun z => ?_) (fun z => y_criticalBelow (op := xop) YS B C hrt V hre (by omega) (nm_r (nI_add _ _) ?_)))
            · rw [if_neg (by rw [z]; decide)] at hy2; rw [hy2]; exact f227
            · rw [if_pos z] at hy2; rw [hy2]; exact f227
          refine ⟨n + 1, gY (fun z => absurd hf z) (fun _ z => absurd z h9) (fun _ _ => br_t h10' ?_)⟩
          rw [zi_20 b]
          refine y_critical (op := xop) YS B C hrt V hre (e := 2 * b) (by omega) (zc_b (fun z => ?_) (fun z => y_criticalBelow (op := xop) YS B C hrt V hre (by omega) (nm_r (nI_add _ _) ?_)))
          · rw [if_neg (by rw [z]; decide)] at hy1; rw [hy1]; exact f198
          · rw [if_pos z] at hy1; rw [hy1]; exact f198
      · have e11 : xop i = 11 := by
          have : k = 11 := by
            have a : k ≠ 9 := fun z => h9 (by rw [ek, z]; rfl)
            have b : k ≠ 10 := fun z => h10' (by rw [ek, z]; rfl)
            omega
          rw [ek, this]; rfl
        refine ⟨cc + 1, xpc, upd xco cc (xop i), upd xcx cc (xax i), upd xcy cc (xay i), upd xcz cc (xaz i), upd xcb cc (nI b), xpd, xps, dc_u cc (xop i) (xax i) (xay i) (xaz i) ycd, ypd, yps, by omega, by omega, dc_K_s K (Or.inr (Or.inl e11)), dc_E_s, ⟨k, hk9, hk, by rw [Nat.add_sub_cancel, pk_us]; exact ek⟩, fun post h => ⟨1, X0 (cd := ycd) (fun z => absurd z h9) (fun z => absurd z h10') (fun _ _ => ⟨hv40, hv40, ?_⟩)⟩, fun post nJ h => ?_⟩
        · rw [zb_ra (a := xop) i, zb_ra (a := xax) i]
          exact x_addCell (by omega) rfl h
        · obtain ⟨n, hn'⟩ := h
          rw [← t1] at hn'
          exact ⟨n + 1, gY (fun z => absurd hf z) (fun _ z => absurd z h9) (fun _ _ => br_f h10' (y_addCell (by omega) rfl (zn_1 hn')))⟩
    · have hop : xop i < 9 := (B.2.2.2.2.2 b hbl).2 i hlo (by omega)
      have hk8 : k ≤ 8 := by
        rw [ek] at hop
        have := (nI_ltI (by omega) (by decide : (9 : Nat) < 2 ^ 31)).mp hop
        omega
      have nX : ¬ nI (be b - 1) ≤ nI i := nI_ge (by omega) (by omega)
      have n9 : ¬ xop i = 9 := fun w => by rw [w] at hop; exact absurd hop (by decide)
      have n10 : ¬ xop i = 10 := fun w => by rw [w] at hop; exact absurd hop (by decide)
      by_cases hf : xfo i = 0
      · have q : dc_Q nb nc rt (rl_cr rt xop be) (xop i) (xax i) (xay i) (xaz i) (nI b) := by
          refine Or.inl ⟨k, hk8, ek, fun w => ?_, fun w => ?_, fun w => ?_⟩
          · rcases w with w | w
            · rcases N.2.2.2.2.1 i (by omega) with z | ⟨_, _, _, _, k', k1, k2, k3, _⟩
              · exact absurd z (N.2.2.2.2.2.1 i (by omega) hini hrc w)
              · exact ⟨k', by omega, by rw [od w]; exact k3⟩
            · obtain ⟨k', a, e⟩ := orx w; exact ⟨k', by omega, e⟩
          · obtain ⟨k', a, e⟩ := ory w; exact ⟨k', by omega, e⟩
          · obtain ⟨k', a, e⟩ := orz w; exact ⟨k', by omega, e⟩
        obtain ⟨cc', pc, co, cx, cy, cz, cb, pd, ps, cd, yd, ys, r1, r2, r3, r4, r5, rX, rY⟩ := ih (i + 1) (by omega) (by omega) (by omega) (cc + 1) xpc (upd xco cc (xop i)) (upd xcx cc (xax i)) (upd xcy cc (xay i)) (upd xcz cc (xaz i)) (upd xcb cc (nI b)) xpd xps (dc_u cc (xop i) (xax i) (xay i) (xaz i) ycd) ypd yps (by omega) (dc_K_s K q)
        refine ⟨cc', pc, co, cx, cy, cz, cb, pd, ps, cd, yd, ys, by omega, by omega, r3, dc_E_t dc_E_s r4, r5, fun post h => ?_, fun post nJ h => ?_⟩
        · obtain ⟨n, hn'⟩ := rX post h
          refine ⟨n + 1, br_f nX ⟨hv40, zc_eq i (fun _ => ⟨hv40, hv40, hv40, hv40, ?_⟩) (fun z => absurd hf z)⟩⟩
          rw [zb_ra (a := xop) i, zb_ra (a := xax) i, zb_ra (a := xay) i, zb_ra (a := xaz) i]
          exact x_addCell (by omega) rfl (zn_1 hn')
        · obtain ⟨n, hn'⟩ := rY post nJ h
          refine ⟨n + 1, gY (fun z => absurd hf z) (fun _ z => absurd z n9) (fun _ _ => br_f n10 (y_addCell (by omega) rfl (zn_1 hn')))⟩
      · obtain ⟨cc', pc, co, cx, cy, cz, cb, pd, ps, cd, yd, ys, r1, r2, r3, r4, r5, rX, rY⟩ := ih (i + 1) (by omega) (by omega) (by omega) cc xpc xco xcx xcy xcz xcb xpd xps ycd ypd yps (by omega) K
        refine ⟨cc', pc, co, cx, cy, cz, cb, pd, ps, cd, yd, ys, r1, by omega, r3, r4, r5, fun post h => ?_, fun post nJ h => ?_⟩
        · obtain ⟨n, hn'⟩ := rX post h
          exact ⟨n + 1, br_f nX ⟨hv40, zc_eq i (fun z => absurd z hf) (fun _ => zn_1 hn')⟩⟩
        · obtain ⟨n, hn'⟩ := rY post nJ h
          exact ⟨n + 1, gY (fun _ => hn') (fun z => absurd z hf) (fun z => absurd z hf)⟩
end
end
section
/-! ===== all blocks, then all split edges ===== -/
theorem zk_monN {f : Nat → Bool} {a : Nat} : ∀ {b : Nat}, a ≤ b → zk_c f a ≤ zk_c f b
  | 0, h => by rw [show a = 0 by omega]; exact Nat.le_refl _
  | b + 1, h => by
    rcases Nat.lt_or_ge a (b + 1) with z | z
    · have := zk_monN (f := f) (a := a) (b := b) (by omega)
      simp only [zk_c]; omega
    · rw [show a = b + 1 by omega]; exact Nat.le_refl _
theorem zk_ltN {f : Nat → Bool} {a b : Nat} (h : a < b) (hf : f a = true) : zk_c f a < zk_c f b := by
  have := zk_monN (f := f) (a := a + 1) (b := b) h
  rw [zk_st hf] at this; omega
def lo_jb (op : Nat → Int32) (be : Nat → Nat) (k : Nat) : Bool := decide (op (be k - 1) = 9)
theorem lo_bd {rt op : Nat → Int32} {be : Nat → Nat} : ∀ k, 9 * zk_c (lo_jb op be) k + 10 * zk_c (rl_cr rt op be) (2 * k) ≤ 20 * k
  | 0 => by show 9 * 0 + 10 * 0 ≤ 20 * 0; omega
  | k + 1 => by
    have ih := lo_bd (rt := rt) (op := op) (be := be) k
    rw [show 2 * (k + 1) = 2 * k + 1 + 1 by omega]
    by_cases h : op (be k - 1) = 9
    · have c : ∀ e, e / 2 = k → rl_cr rt op be e = false := fun e he => rl_cr_b (by rw [he, h]; decide)
      rw [zk_sf (c (2 * k + 1) (by omega)), zk_sf (c (2 * k) (by omega)), zk_st (show lo_jb op be k = true from decide_eq_true h)]
      omega
    · rw [zk_sf (show lo_jb op be k = false from decide_eq_false h)]
      simp only [zk_c]
      split <;> split <;> omega
def lo_s (nb : Nat) (rt : Nat → Int32) (b cc : Nat) (xst yfi xcb : Nat → Int32) : Prop :=
  (∀ s, s < 30 → xst s = yfi s) ∧ yfi 30 = -1 ∧ yfi 31 = -1 ∧ (∀ b', b' < b → (gr_rc rt b' = true → ∃ t, t < cc ∧ xst b' = nI t ∧ xcb t = nI b') ∧ (gr_rc rt b' = false → xst b' = -1))
def lo_e (cc : Nat) (xco : Nat → Int32) : Prop := cc = 0 ∨ ∃ k, 9 ≤ k ∧ k ≤ 11 ∧ xco (cc - 1) = nI k
theorem lo_s_up {nb : Nat} {rt : Nat → Int32} {b cc cc' s0 : Nat} {blk v : Int32} {xst yfi xcb cb : Nat → Int32} (h : lo_s nb rt b cc xst yfi xcb) (hs : b ≤ s0) (h30 : s0 < 30) (E : dc_E blk cc cc' xcb cb) : lo_s nb rt b cc' (upd xst s0 v) (upd yfi s0 v) cb := by
  obtain ⟨h1, h2, h3, h4⟩ := h
  refine ⟨fun s hs' => ?_, by rw [pk_un (by omega)]; exact h2, by rw [pk_un (by omega)]; exact h3, fun b' hb' => ?_⟩
  · by_cases z : s = s0
    · rw [z, pk_us, pk_us]
    · rw [pk_un z, pk_un z]; exact h1 s hs'
  · rw [pk_un (by omega)]
    refine ⟨fun w => ?_, (h4 b' hb').2⟩
    obtain ⟨t, a, b, c⟩ := (h4 b' hb').1 w
    exact ⟨t, by have := E.1; omega, b, by rw [E.2.1 t a]; exact c⟩
section
variable {mb mi mv oc ni nb : Nat} {ph xrm xnc xcc xsc xpc ync ycl : Int32} {xop xsx xsy xsz xbo xbf xbe xin xee xdm xid xfm xgm xkm xlm xnb xnp xnv xph xln xpa xrs xax xay xaz xfo xsr xso xst xco xcx xcy xcz xcb xpd xps xss xtu xcu xou xot xrg ysr ymk yre ydm yid yfr ylv yis yas ycd yfi ypd yps yot yrg yrv : Nat → Int32} {nc : Nat} {rt : Nat → Int32} {bf be : Nat → Nat}
theorem lo_blk (S : rl_S mb mi mv oc ni nb bf be xop xsx xsy xsz xbo xbf xbe ysr) (A : rl_A mv ni nb be rt xrm xop xsx xsy xsz xee xdm xid xfm xlm yre ydm yid yfr ylv) (NN : rl_N mv ni nc rt xop xsx xsy xsz xnb xnp xnv xph xpa xrs xax xay xaz xfo yas)
    (hxn : xnc = nI nc) (hyn : ync = nI nc) (hso : ∀ e, e < 20 → xso e = if rl_cr rt xop be e = true then nI (nb + zk_c (rl_cr rt xop be) e) else -1) :
    ∀ d b, b + d = nb → ∀ (cc : Nat) (xpc : Int32) (xst xco xcx xcy xcz xcb xpd xps ycd yfi ypd yps : Nat → Int32), cc ≤ nu_st bf ni nb b + 9 * zk_c (lo_jb xop be) b → dc_K nb nc rt (rl_cr rt xop be) cc xco xcx xcy xcz xcb ycd → lo_s nb rt b cc xst yfi xcb → (∀ s, b ≤ s → s < 30 → xst s = -1) → lo_e cc xco →
    ∃ (cc' : Nat) (pc : Int32) (st co cx cy cz cb pd ps cd fi yd ys : Nat → Int32), cc' ≤ ni + 9 * zk_c (lo_jb xop be) nb ∧ dc_K nb nc rt (rl_cr rt xop be) cc' co cx cy cz cb cd ∧ lo_s nb rt nb cc' st fi cb ∧ lo_e cc' co ∧
      (∀ post : SX → Prop, (∃ n, wX_layOut_67 post n 0 (nI mb) (nI mi) (nI mv) (nI oc) ph (nI ni) (nI nb) xrm xnc (nI cc') xsc pc xop xsx xsy xsz xbo xbf xbe xin xee xdm xid xfm xgm xkm xlm xnb xnp xnv xph xln xpa xrs xax xay xaz xfo xsr xso st co cx cy cz cb pd ps xss xtu xcu xou xot xrg) → ∃ n, wX_layOut_28 post n (nI b) (nI mb) (nI mi) (nI mv) (nI oc) ph (nI ni) (nI nb) xrm xnc (nI cc) xsc xpc xop xsx xsy xsz xbo xbf xbe xin xee xdm xid xfm xgm xkm xlm xnb xnp xnv xph xln xpa xrs xax xay xaz xfo xsr xso xst xco xcx xcy xcz xcb xpd xps xss xtu xcu xou xot xrg) ∧
      (∀ (post : Int32 → SY → Prop), (∃ n, wY_destruct_253 post (nI nb) n 0 (nI mb) (nI mi) (nI mv) (nI oc) ph (nI ni) ync (nI cc') ysr xin ymk yre ydm yid yfr ylv yis xph xpa xrs yas xfo cd fi yd ys xss xtu xcu xou yot yrg yrv) → ∃ n, wY_destruct_43 post (nI nb) n (nI b) (nI mb) (nI mi) (nI mv) (nI oc) ph (nI ni) ync (nI cc) ysr xin ymk yre ydm yid yfr ylv yis xph xpa xrs yas xfo ycd yfi ypd yps xss xtu xcu xou yot yrg yrv) := by
  have S0 := S
  have A0 := A
  obtain ⟨S1, S2, S3, S4, S5, S6, B, SV, YS, hbo, hbf, hbe⟩ := S
  obtain ⟨C, hrt, V, hrm, hre, hee, _⟩ := A
  have hn := B.1
  have h10 := V.2.1
  intro d
  induction d with
  | zero =>
    intro b hb cc xpc xst xco xcx xcy xcz xcb xpd xps ycd yfi ypd yps h1 h2 h3 h4 h5
    have e : b = nb := by omega
    subst e
    have e2 : nu_st bf ni b b = ni := if_neg (by omega)
    rw [e2] at h1
    exact ⟨cc, xpc, xst, xco, xcx, xcy, xcz, xcb, xpd, xps, ycd, yfi, ypd, yps, h1, h2, h3, h5, fun post h => ⟨1, zc_ex h⟩, fun post h => ⟨1, zc_ex h⟩⟩
  | succ d ih =>
    intro b hb cc xpc xst xco xcx xcy xcz xcb xpd xps ycd yfi ypd yps h1 h2 h3 h4 h5
    have hbl : b < nb := by omega
    have hb1 := sc_be_le B b hbl
    have hb2 := (B.2.2.2.2.2 b hbl).1
    have est : nu_st bf ni nb b = bf b := if_pos hbl
    have est' := nu_st_s B hbl
    rw [est] at h1
    have hjb := zk_le (lo_jb xop be) b
    by_cases hr : gr_rc rt b = true
    · obtain ⟨M, hM, hMz⟩ : ∃ M, (xop (be b - 1) = 9 → 9 ≤ M) ∧ 9 * zk_c (lo_jb xop be) b + M = 9 * zk_c (lo_jb xop be) (b + 1) := by
        by_cases z : xop (be b - 1) = 9
        · exact ⟨9, fun _ => Nat.le_refl _, by rw [zk_st (show lo_jb xop be b = true from decide_eq_true z)]; omega⟩
        · exact ⟨0, fun q => absurd q z, by rw [zk_sf (show lo_jb xop be b = false from decide_eq_false z)]; omega⟩
      have hM9 : M ≤ 9 := by
        have : zk_c (lo_jb xop be) (b + 1) ≤ zk_c (lo_jb xop be) b + 1 := by simp only [zk_c]; split <;> omega
        omega
      obtain ⟨c1, pc1, co1, cx1, cy1, cz1, cb1, pd1, ps1, cd1, yd1, ys1, q1, q2, q3, q4, q5, qX, qY⟩ := lb_run (mb := mb) (mi := mi) (mv := mv) (oc := oc) (ph := ph) (ni := ni) (nb := nb) (xrm := xrm) (xnc := xnc) (xsc := xsc) (xop := xop) (xsx := xsx) (xsy := xsy) (xsz := xsz) (xbo := xbo) (xbf := xbf) (xbe := xbe) (xin := xin) (xee := xee) (xdm := xdm) (xid := xid) (xfm := xfm) (xgm := xgm) (xkm := xkm) (xlm := xlm) (xnb := xnb) (xnp := xnp) (xnv := xnv) (xph := xph) (xln := xln) (xpa := xpa) (xrs := xrs) (xax := xax) (xay := xay) (xaz := xaz) (xfo := xfo) (xsr := xsr) (xso := xso) (xst := upd xst b (nI cc)) (xss := xss) (xtu := xtu) (xcu := xcu) (xou := xou) (xot := xot) (xrg := xrg) (ync := ync) (ysr := ysr) (ymk := ymk) (yre := yre) (ydm := ydm) (yid := yid) (yfr := yfr) (ylv := ylv) (yis := yis) (yas := yas) (yfi := upd yfi b (nI cc)) (yot := yot) (yrg := yrg) (yrv := yrv) S0 A0 NN hxn hyn hso hr hM (be b - bf b) (bf b) (by omega) (Nat.le_refl _) (by omega) cc xpc xco xcx xcy xcz xcb xpd xps ycd ypd yps (by omega) h2
      have L1 := lo_s_up (v := nI cc) h3 (Nat.le_refl _) (by omega : b < 30) q4
      obtain ⟨cc', pc, st, co, cx, cy, cz, cb, pd, ps, cd, fi, yd, ys, r1, r2, r3, r4, rX, rY⟩ := ih (b + 1) (by omega) c1 pc1 (upd xst b (nI cc)) co1 cx1 cy1 cz1 cb1 pd1 ps1 cd1 (upd yfi b (nI cc)) yd1 ys1 (by rw [est']; omega) q3
        ⟨L1.1, L1.2.1, L1.2.2.1, fun b' hb' => by
          rcases Nat.lt_or_ge b' b with z | z
          · exact L1.2.2.2 b' z
          · have e : b' = b := by omega
            subst e
            exact ⟨fun _ => ⟨cc, q1, pk_us, q4.2.2 cc (Nat.le_refl _) q1⟩, fun w => by rw [hr] at w; exact absurd w (by decide)⟩⟩
        (fun s z1 z2 => by rw [pk_un (by omega)]; exact h4 s (by omega) z2) (Or.inr q5)
      refine ⟨cc', pc, st, co, cx, cy, cz, cb, pd, ps, cd, fi, yd, ys, r1, r2, r3, r4, fun post h => ?_, fun post h => ?_⟩
      · obtain ⟨n, hn'⟩ := rX post h
        refine ⟨n + 1, zc_go hbl (x_reachable (by omega) ?_)⟩
        rw [hrm b (by omega), hr]
        refine br_f (by decide) (zs_st b ?_)
        have e1 : xbe (nI b).toNatClampNeg - 1 = nI (be b - 1) := by rw [zb_rd b, hbe b hbl, zi_m1 (by omega)]
        refine ⟨pk_in b 10 (by omega), nm_r e1 (zs_rn b ?_)⟩
        rw [hbf b hbl]
        exact qX _ (zn_1 hn')
      · obtain ⟨n, hn'⟩ := rY post h
        refine ⟨n + 1, zc_go hbl (br_f (nI_ge (b := 10) (by omega) (by decide)) ⟨pk_in b 10 (by omega), zc_eq b (fun _ => zs_st b ?_) (fun z => absurd (by rw [hre b (by omega), hr]; rfl) z)⟩)⟩
        have k1 := y76_skip (post := post) (mb := mb) (mi := mi) (mv := mv) (oc := oc) (ph := ph) (ni := ni) (nb := nb) (xop := xop) (xsx := xsx) (xsy := xsy) (xsz := xsz) (xin := xin) (xph := xph) (xpa := xpa) (xrs := xrs) (xfo := xfo) (xss := xss) (xtu := xtu) (xcu := xcu) (xou := xou) (ync := ync) (ycl := nI c1) (ysr := ysr) (ymk := ymk) (yre := yre) (ydm := ydm) (yid := yid) (yfr := yfr) (ylv := ylv) (yis := yis) (yas := yas) (ycd := cd1) (yfi := upd yfi b (nI cc)) (ypd := yd1) (yps := ys1) (yot := yot) (yrg := yrg) (yrv := yrv) (b := b) (nJ := n) hn YS (by omega) (ni - be b) (be b) (by omega) (fun k z1 z2 e => by have := (sc_loc B k (by omega)).2.2; rw [e] at this; omega) ⟨1, by rw [show be b + (ni - be b) = ni by omega]; exact zc_ex (zn_1 hn')⟩
        have k2 := qY post n k1
        have k3 := y76_skip (post := post) (mb := mb) (mi := mi) (mv := mv) (oc := oc) (ph := ph) (ni := ni) (nb := nb) (xop := xop) (xsx := xsx) (xsy := xsy) (xsz := xsz) (xin := xin) (xph := xph) (xpa := xpa) (xrs := xrs) (xfo := xfo) (xss := xss) (xtu := xtu) (xcu := xcu) (xou := xou) (ync := ync) (ycl := nI cc) (ysr := ysr) (ymk := ymk) (yre := yre) (ydm := ydm) (yid := yid) (yfr := yfr) (ylv := ylv) (yis := yis) (yas := yas) (ycd := ycd) (yfi := upd yfi b (nI cc)) (ypd := ypd) (yps := yps) (yot := yot) (yrg := yrg) (yrv := yrv) (b := b) (nJ := n) hn YS (by omega) (bf b) 0 (by omega) (fun k z1 z2 e => by have := (sc_loc B k (by omega)).2.1; rw [e] at this; omega) (by rw [Nat.zero_add]; exact k2)
        exact k3
    · have hr' := zb_nt hr
      obtain ⟨cc', pc, st, co, cx, cy, cz, cb, pd, ps, cd, fi, yd, ys, r1, r2, r3, r4, rX, rY⟩ := ih (b + 1) (by omega) cc xpc xst xco xcx xcy xcz xcb xpd xps ycd yfi ypd yps (by rw [est']; have := zk_monN (f := lo_jb xop be) (a := b) (b := b + 1) (by omega); omega) h2
        ⟨h3.1, h3.2.1, h3.2.2.1, fun b' hb' => by
          rcases Nat.lt_or_ge b' b with z | z
          · exact h3.2.2.2 b' z
          · have e : b' = b := by omega
            subst e
            exact ⟨fun w => absurd w hr, fun _ => h4 b' (Nat.le_refl _) (by omega)⟩⟩
        (fun s z1 z2 => h4 s (by omega) z2) h5
      refine ⟨cc', pc, st, co, cx, cy, cz, cb, pd, ps, cd, fi, yd, ys, r1, r2, r3, r4, fun post h => ?_, fun post h => ?_⟩
      · obtain ⟨n, hn'⟩ := rX post h
        refine ⟨n + 1, zc_go hbl (x_reachable (by omega) ?_)⟩
        rw [hrm b (by omega), hr']
        exact br_t rfl (zn_1 hn')
      · obtain ⟨n, hn'⟩ := rY post h
        exact ⟨n + 1, zc_go hbl (br_f (nI_ge (b := 10) (by omega) (by decide)) ⟨pk_in b 10 (by omega), zc_eq b (fun z => by rw [hre b (by omega), hr'] at z; exact absurd z (by decide)) (fun _ => zn_1 hn')⟩)⟩
end
end
section
/-! ===== all split edges ===== -/
def lo_x (nb : Nat) (cr : Nat → Bool) (cB e cc : Nat) (xst xcb : Nat → Int32) : Prop :=
  cB ≤ cc ∧ (∀ c, c < cc → (∃ k, k < nb ∧ xcb c = nI k) → c < cB) ∧ (∀ e', e' < e → cr e' = true → ∃ t, cB ≤ t ∧ t < cc ∧ xst (nb + zk_c cr e') = nI t ∧ xcb t = nI (nb + zk_c cr e'))
section
variable {mb mi mv oc ni nb : Nat} {ph xrm xnc xcc xsc xpc ync ycl : Int32} {xop xsx xsy xsz xbo xbf xbe xin xee xdm xid xfm xgm xkm xlm xnb xnp xnv xph xln xpa xrs xax xay xaz xfo xsr xso xst xco xcx xcy xcz xcb xpd xps xss xtu xcu xou xot xrg ysr ymk yre ydm yid yfr ylv yis yas ycd yfi ypd yps yot yrg yrv : Nat → Int32} {nc : Nat} {rt : Nat → Int32} {bf be : Nat → Nat}
theorem lo_edge (S : rl_S mb mi mv oc ni nb bf be xop xsx xsy xsz xbo xbf xbe ysr) (A : rl_A mv ni nb be rt xrm xop xsx xsy xsz xee xdm xid xfm xlm yre ydm yid yfr ylv) (NN : rl_N mv ni nc rt xop xsx xsy xsz xnb xnp xnv xph xpa xrs xax xay xaz xfo yas)
    (hxn : xnc = nI nc) (hyn : ync = nI nc) (hso : ∀ e, e < 20 → xso e = if rl_cr rt xop be e = true then nI (nb + zk_c (rl_cr rt xop be) e) else -1) {cB : Nat} :
    ∀ d e, e + d = 20 → ∀ (cc : Nat) (xpc : Int32) (xst xco xcx xcy xcz xcb xpd xps ycd yfi ypd yps : Nat → Int32), cc ≤ ni + 9 * zk_c (lo_jb xop be) nb + 10 * zk_c (rl_cr rt xop be) e → dc_K nb nc rt (rl_cr rt xop be) cc xco xcx xcy xcz xcb ycd → lo_s nb rt nb cc xst yfi xcb → lo_e cc xco → lo_x nb (rl_cr rt xop be) cB e cc xst xcb →
    ∃ (cc' : Nat) (pc : Int32) (st co cx cy cz cb pd ps cd fi yd ys : Nat → Int32), cc' ≤ 240 ∧ dc_K nb nc rt (rl_cr rt xop be) cc' co cx cy cz cb cd ∧ lo_s nb rt nb cc' st fi cb ∧ lo_e cc' co ∧ lo_x nb (rl_cr rt xop be) cB 20 cc' st cb ∧
      (∀ post : SX → Prop, post ((nI mb), (nI mi), (nI mv), (nI oc), ph, (nI ni), (nI nb), xrm, xnc, nI cc', xsc, pc, xop, xsx, xsy, xsz, xbo, xbf, xbe, xin, xee, xdm, xid, xfm, xgm, xkm, xlm, xnb, xnp, xnv, xph, xln, xpa, xrs, xax, xay, xaz, xfo, xsr, xso, st, co, cx, cy, cz, cb, pd, ps, xss, xtu, xcu, xou, xot, xrg) → ∃ n, wX_layOut_67 post n (nI e) (nI mb) (nI mi) (nI mv) (nI oc) ph (nI ni) (nI nb) xrm xnc (nI cc) xsc xpc xop xsx xsy xsz xbo xbf xbe xin xee xdm xid xfm xgm xkm xlm xnb xnp xnv xph xln xpa xrs xax xay xaz xfo xsr xso xst xco xcx xcy xcz xcb xpd xps xss xtu xcu xou xot xrg) ∧
      (∀ (post : Int32 → SY → Prop), (∃ n, wY_destruct_331 post (nI mb) (nI mi) (nI mv) (nI oc) ph (nI ni) ync (nI cc') n 0 ysr xin ymk yre ydm yid yfr ylv yis xph xpa xrs yas xfo cd fi yd ys xss xtu xcu xou yot yrg yrv) → ∃ n, wY_destruct_253 post (nI nb) n (nI e) (nI mb) (nI mi) (nI mv) (nI oc) ph (nI ni) ync (nI cc) ysr xin ymk yre ydm yid yfr ylv yis xph xpa xrs yas xfo ycd yfi ypd yps xss xtu xcu xou yot yrg yrv) := by
  have S0 := S
  have A0 := A
  obtain ⟨S1, S2, S3, S4, S5, S6, B, SV, YS, hbo, hbf, hbe⟩ := S
  obtain ⟨C, hrt, V, hrm, hre, hee, _⟩ := A
  obtain ⟨N, hnc, O, hP, F⟩ := NN
  have hn := B.1
  have h10 := V.2.1
  have hbd : 9 * zk_c (lo_jb xop be) 10 + 10 * zk_c (rl_cr rt xop be) 20 ≤ 200 := lo_bd (rt := rt) (op := xop) (be := be) 10
  have hjb := zk_monN (f := lo_jb xop be) (a := nb) (b := 10) h10
  intro d
  induction d with
  | zero =>
    intro e he cc xpc xst xco xcx xcy xcz xcb xpd xps ycd yfi ypd yps h1 h2 h3 h4 h5
    have e20 : e = 20 := by omega
    subst e20
    have h1' : cc ≤ 240 := by omega
    exact ⟨cc, xpc, xst, xco, xcx, xcy, xcz, xcb, xpd, xps, ycd, yfi, ypd, yps, h1', h2, h3, h4, h5, fun post h => ⟨1, zc_ex (N := 20) h⟩, fun post h => ⟨1, zc_ex (N := 20) h⟩⟩
  | succ d ih =>
    intro e he cc xpc xst xco xcx xcy xcz xcb xpd xps ycd yfi ypd yps h1 h2 h3 h4 h5
    have he20 : e < 20 := by omega
    have hz := zk_le (rl_cr rt xop be) e
    by_cases hc : rl_cr rt xop be e = true
    · have hz2 := zk_monN (f := rl_cr rt xop be) (a := e + 1) (b := 20) (by omega)
      rw [zk_st hc] at hz2
      rcases gr_ee_or V he20 with z | ⟨_, _, t, tt1, tt2, tt3, _, tt5, _⟩
      · exact absurd (by rw [z]; decide) (rl_cr_ee hc)
      have esp : xso e = nI (nb + zk_c (rl_cr rt xop be) e) := by rw [hso e he20, if_pos hc]
      obtain ⟨s, es⟩ : ∃ s, s = nb + zk_c (rl_cr rt xop be) e := ⟨_, rfl⟩
      rw [← es] at esp
      obtain ⟨c1, pc1, co1, cx1, cy1, cz1, cb1, pd1, ps1, cd1, yd1, ys1, q1, q2, q3, qX, qY⟩ := mv_lay (mb := mb) (mi := mi) (mv := mv) (oc := oc) (ph := ph) (ni := ni) (nb := nb) (xrm := xrm) (xnc := xnc) (xsc := xsc) (xpc := xpc) (xop := xop) (xsx := xsx) (xsy := xsy) (xsz := xsz) (xbo := xbo) (xbf := xbf) (xbe := xbe) (xin := xin) (xee := xee) (xdm := xdm) (xid := xid) (xfm := xfm) (xgm := xgm) (xkm := xkm) (xlm := xlm) (xnb := xnb) (xnp := xnp) (xnv := xnv) (xph := xph) (xln := xln) (xpa := xpa) (xrs := xrs) (xax := xax) (xay := xay) (xaz := xaz) (xfo := xfo) (xsr := xsr) (xso := xso) (xst := upd xst s (nI cc)) (xco := xco) (xcx := xcx) (xcy := xcy) (xcz := xcz) (xcb := xcb) (xpd := xpd) (xps := xps) (xss := xss) (xtu := xtu) (xcu := xcu) (xou := xou) (xot := xot) (xrg := xrg) (ync := ync) (ysr := ysr) (ymk := ymk) (yre := yre) (ydm := ydm) (yid := yid) (yfr := yfr) (ylv := ylv) (yis := yis) (yas := yas) (ycd := ycd) (yfi := upd yfi s (nI cc)) (ypd := ypd) (yps := yps) (yot := yot) (yrg := yrg) (yrv := yrv) (bf := bf) (be := be) (rt := rt) (cr := rl_cr rt xop be) (blk := nI s) (e := e) (t := t) hnc hxn hyn S3.2 YS B C hrt V hre hee N hP he20 (by omega) tt3 (cc := cc) (by omega) h2
      have E := dc_E_t q3 (dc_E_s (blk := nI s) (cc := c1) (cb := cb1))
      have L1 := lo_s_up (v := nI cc) h3 (by omega : nb ≤ s) (by omega) E
      have hc1 := q3.1
      obtain ⟨cc', pc, st, co, cx, cy, cz, cb, pd, ps, cd, fi, yd, ys, r1, r2, r3, r4, r5, rX, rY⟩ := ih (e + 1) (by omega) (c1 + 1) pc1 (upd xst s (nI cc)) (upd co1 c1 9) (upd cx1 c1 (xee e)) (upd cy1 c1 0) (upd cz1 c1 0) (upd cb1 c1 (nI s)) pd1 ps1 (dc_u c1 9 (xee e) 0 0 cd1) (upd yfi s (nI cc)) yd1 ys1 (by rw [zk_st hc]; omega)
        (dc_K_s q2 (Or.inr (Or.inr (Or.inl ⟨rfl, t, tt5, by rw [hee e he20]; exact tt3⟩)))) L1 (Or.inr ⟨9, by omega, by omega, by rw [Nat.add_sub_cancel, pk_us]; rfl⟩)
        ⟨by have := h5.1; omega, fun c z1 ⟨k, k1, k2⟩ => by
          rcases Nat.lt_or_ge c cc with z | z
          · rw [E.2.1 c z] at k2; exact h5.2.1 c z ⟨k, k1, k2⟩
          · rw [E.2.2 c z z1] at k2
            have := zi_inj k2
            omega, fun e' z1 z2 => by
          rcases Nat.lt_or_ge e' e with z | z
          · obtain ⟨t', a1, a2, a3, a4⟩ := h5.2.2 e' z z2
            have := zk_ltN z z2
            exact ⟨t', a1, by omega, by rw [pk_un (by omega)]; exact a3, by rw [E.2.1 t' a2]; exact a4⟩
          · have e0 : e' = e := by omega
            subst e0
            rw [← es]
            exact ⟨cc, h5.1, by omega, pk_us, E.2.2 cc (Nat.le_refl _) (by omega)⟩⟩
      refine ⟨cc', pc, st, co, cx, cy, cz, cb, pd, ps, cd, fi, yd, ys, r1, r2, r3, r4, r5, fun post h => ?_, fun post h => ?_⟩
      · obtain ⟨n, hn'⟩ := rX post h
        refine ⟨n + 1, zc_go (N := 20) he20 (zs_rn e ?_)⟩
        rw [esp]
        refine br_f zi_nlt (zs_st s (qX _ ⟨pk_in e 20 he20, ?_⟩))
        rw [zb_ra (a := xee) e]
        exact x_addCell (by omega) rfl (zn_1 hn')
      · obtain ⟨n, hn'⟩ := rY post h
        refine ⟨n + 1, zc_go (N := 20) he20 (y_critical (op := xop) YS B C hrt V hre he20 ?_)⟩
        rw [hc]
        refine br_f (by decide) (y_criticalBelow (op := xop) YS B C hrt V hre (by omega) (nm_r (e' := nI s) (by rw [nI_add, es]) (br_f zi_nlt (br_f (nI_ge (b := 32) (by omega) (by decide)) (zs_st s (qY _ ?_))))))
        have hre' := hre
        have V' := V
        rw [hrt] at hre' V'
        refine y_edgeEnd (op := xop) YS B C V' hre' he20 ?_
        rw [← hrt, ← hee e he20]
        exact y_addCell (by omega) rfl (zn_1 hn')
    · have hc' := zb_nt hc
      obtain ⟨cc', pc, st, co, cx, cy, cz, cb, pd, ps, cd, fi, yd, ys, r1, r2, r3, r4, r5, rX, rY⟩ := ih (e + 1) (by omega) cc xpc xst xco xcx xcy xcz xcb xpd xps ycd yfi ypd yps (by rw [zk_sf hc']; exact h1) h2 h3 h4
        ⟨h5.1, h5.2.1, fun e' z1 z2 => h5.2.2 e' (by
          rcases Nat.lt_or_ge e' e with z | z
          · exact z
          · have e0 : e' = e := by omega
            subst e0; exact absurd z2 hc) z2⟩
      refine ⟨cc', pc, st, co, cx, cy, cz, cb, pd, ps, cd, fi, yd, ys, r1, r2, r3, r4, r5, fun post h => ?_, fun post h => ?_⟩
      · obtain ⟨n, hn'⟩ := rX post h
        refine ⟨n + 1, zc_go (N := 20) he20 (zs_rn e ?_)⟩
        rw [hso e he20, if_neg hc]
        exact br_t (by decide) (zn_1 hn')
      · obtain ⟨n, hn'⟩ := rY post h
        refine ⟨n + 1, zc_go (N := 20) he20 (y_critical (op := xop) YS B C hrt V hre he20 ?_)⟩
        rw [hc']
        exact br_t rfl (zn_1 hn')
end
end
section
/-! ===== split numbers, targets resolved, destruct ===== -/
def rv_x (o : Int32) (st : Nat → Int32) (x : Int32) : Int32 := if o = 9 then st x.toNatClampNeg else x
def rv_y (o : Int32) (st : Nat → Int32) (x : Int32) : Int32 := if o = 10 then st x.toNatClampNeg else x
theorem rv_xt {o x : Int32} {st : Nat → Int32} (h : o = 9) : rv_x o st x = st x.toNatClampNeg := if_pos h
theorem rv_xf {o x : Int32} {st : Nat → Int32} (h : ¬ o = 9) : rv_x o st x = x := if_neg h
theorem rv_yt {o x : Int32} {st : Nat → Int32} (h : o = 10) : rv_y o st x = st x.toNatClampNeg := if_pos h
theorem rv_yf {o x : Int32} {st : Nat → Int32} (h : ¬ o = 10) : rv_y o st x = x := if_neg h
theorem dc_t30 {nb : Nat} {rt : Nat → Int32} {cr : Nat → Bool} {x : Int32} (V : gr_V rt nb) (h : dc_t nb rt cr x) : ∃ a, a < 30 ∧ x = nI a := by
  have h10 := V.2.1
  rcases h with ⟨b, hb, e⟩ | ⟨e, he, _, e2⟩
  · have := gr_rc_lt V hb; exact ⟨b, by omega, e⟩
  · have := zk_le cr e; exact ⟨_, by omega, e2⟩
theorem dc_9 {nb nc : Nat} {rt : Nat → Int32} {cr : Nat → Bool} {o x y z b : Int32} (V : gr_V rt nb) (q : dc_Q nb nc rt cr o x y z b) (h : o = 9) : ∃ a, gr_rc rt a = true ∧ a < 30 ∧ x = nI a := by
  have h10 := V.2.1
  rcases q with ⟨k, hk, e, _⟩ | e | ⟨_, a, ha, e⟩ | ⟨e, _⟩
  · rw [h] at e; have := zi_inj (a := 9) e; omega
  · rw [h] at e; exact absurd e (by decide)
  · have := gr_rc_lt V ha; exact ⟨a, ha, by omega, e⟩
  · rw [h] at e; exact absurd e (by decide)
theorem dc_10 {nb nc : Nat} {rt : Nat → Int32} {cr : Nat → Bool} {o x y z b : Int32} (q : dc_Q nb nc rt cr o x y z b) (h : o = 10) : dc_t nb rt cr y ∧ dc_t nb rt cr z := by
  rcases q with ⟨k, hk, e, _⟩ | e | ⟨e, _⟩ | ⟨_, _, a, b, _⟩
  · rw [h] at e; have := zi_inj (a := 10) e; omega
  · rw [h] at e; exact absurd e (by decide)
  · rw [h] at e; exact absurd e (by decide)
  · exact ⟨a, b⟩
section
variable {mb mi mv oc ni nb : Nat} {ph xrm xnc xcc xsc xpc ync ycl : Int32} {xop xsx xsy xsz xbo xbf xbe xin xee xdm xid xfm xgm xkm xlm xnb xnp xnv xph xln xpa xrs xax xay xaz xfo xsr xso xst xco xcx xcy xcz xcb xpd xps xss xtu xcu xou xot xrg ysr ymk yre ydm yid yfr ylv yis yas ycd yfi ypd yps yot yrg yrv : Nat → Int32} {nc cc : Nat} {rt : Nat → Int32} {bf be : Nat → Nat} {cr : Nat → Bool}
theorem x_numberSplits {post : SX → Prop} (B : sc_BL xop ni nb bf be) (hbe : ∀ b, b < nb → xbe b = nI (be b)) (V : gr_V rt nb) (hee : ∀ e, e < 20 → xee e = gr_ee rt e)
    (h : ∀ so : Nat → Int32, (∀ e, e < 20 → so e = if rl_cr rt xop be e = true then nI (nb + zk_c (rl_cr rt xop be) e) else -1) → post ((nI mb), (nI mi), (nI mv), (nI oc), ph, (nI ni), (nI nb), xrm, xnc, xcc, nI (zk_c (rl_cr rt xop be) 20), xpc, xop, xsx, xsy, xsz, xbo, xbf, xbe, xin, xee, xdm, xid, xfm, xgm, xkm, xlm, xnb, xnp, xnv, xph, xln, xpa, xrs, xax, xay, xaz, xfo, xsr, so, xst, xco, xcx, xcy, xcz, xcb, xpd, xps, xss, xtu, xcu, xou, xot, xrg)) : wpX_numberSplits post ((nI mb), (nI mi), (nI mv), (nI oc), ph, (nI ni), (nI nb), xrm, xnc, xcc, xsc, xpc, xop, xsx, xsy, xsz, xbo, xbf, xbe, xin, xee, xdm, xid, xfm, xgm, xkm, xlm, xnb, xnp, xnv, xph, xln, xpa, xrs, xax, xay, xaz, xfo, xsr, xso, xst, xco, xcx, xcy, xcz, xcb, xpd, xps, xss, xtu, xcu, xou, xot, xrg) := by
  refine loop_0 (fun n e (s : Int32 × (Nat → Int32)) => wX_numberSplits_7 post (nI mb) (nI mi) (nI mv) (nI oc) ph (nI ni) (nI nb) xrm xnc xcc xpc n (nI e) s.1 xop xsx xsy xsz xbo xbf xbe xin xee xdm xid xfm xgm xkm xlm xnb xnp xnv xph xln xpa xrs xax xay xaz xfo xsr s.2 xst xco xcx xcy xcz xcb xpd xps xss xtu xcu xou xot xrg) (fun e s => s.1 = nI (zk_c (rl_cr rt xop be) e) ∧ ∀ e', e' < e → s.2 e' = if rl_cr rt xop be e' = true then nI (nb + zk_c (rl_cr rt xop be) e') else -1) 20 (0, xso) ⟨rfl, fun e' h => by omega⟩ ?_ ?_
  · intro n s hI
    obtain ⟨s1, s2⟩ := s
    obtain ⟨a, b⟩ := hI
    dsimp only at a b
    subst a
    exact zc_ex (h s2 b)
  · intro n e s he hI ih
    obtain ⟨s1, s2⟩ := s
    obtain ⟨a, b⟩ := hI
    dsimp only at a b
    subst a
    refine zc_go he (zs_st e (x_isCritical B hbe V hee he (zc_b (fun q => zn_1 (ih (nI (zk_c (rl_cr rt xop be) e), upd s2 e (-1)) ⟨by rw [zk_sf q], fun e' he' => ?_⟩)) (fun q => zs_st e (zn_1 (zn_1 (ih (nI (zk_c (rl_cr rt xop be) e + 1), upd (upd s2 e (-1)) e (nI nb + nI (zk_c (rl_cr rt xop be) e))) ⟨by rw [zk_st q], fun e' he' => ?_⟩))) he))) he)
    · show upd s2 e (-1) e' = _
      by_cases z : e' = e
      · rw [z, pk_us, if_neg (by rw [q]; decide)]
      · rw [pk_un z]; exact b e' (by omega)
    · show upd (upd s2 e (-1)) e (nI nb + nI (zk_c (rl_cr rt xop be) e)) e' = _
      by_cases z : e' = e
      · rw [z, pk_us, if_pos q, nI_add]
      · rw [pk_un z, pk_un z]; exact b e' (by omega)
theorem x_resolve {post : SX → Prop} (V : gr_V rt nb) (hcc : cc ≤ 240) (K : dc_K nb nc rt cr cc xco xcx xcy xcz xcb ycd)
    (h : ∀ cx cy cz : Nat → Int32, (∀ c, c < cc → cx c = rv_x (xco c) xst (xcx c) ∧ cy c = rv_y (xco c) xst (xcy c) ∧ cz c = rv_y (xco c) xst (xcz c)) → post ((nI mb), (nI mi), (nI mv), (nI oc), ph, (nI ni), (nI nb), xrm, xnc, nI cc, xsc, xpc, xop, xsx, xsy, xsz, xbo, xbf, xbe, xin, xee, xdm, xid, xfm, xgm, xkm, xlm, xnb, xnp, xnv, xph, xln, xpa, xrs, xax, xay, xaz, xfo, xsr, xso, xst, xco, cx, cy, cz, xcb, xpd, xps, xss, xtu, xcu, xou, xot, xrg)) : wpX_resolveTargets post ((nI mb), (nI mi), (nI mv), (nI oc), ph, (nI ni), (nI nb), xrm, xnc, nI cc, xsc, xpc, xop, xsx, xsy, xsz, xbo, xbf, xbe, xin, xee, xdm, xid, xfm, xgm, xkm, xlm, xnb, xnp, xnv, xph, xln, xpa, xrs, xax, xay, xaz, xfo, xsr, xso, xst, xco, xcx, xcy, xcz, xcb, xpd, xps, xss, xtu, xcu, xou, xot, xrg) := by
  refine loop_0 (fun n c (s : (Nat → Int32) × (Nat → Int32) × (Nat → Int32)) => wX_resolveTargets_2 post (nI mb) (nI mi) (nI mv) (nI oc) ph (nI ni) (nI nb) xrm xnc (nI cc) xsc xpc n (nI c) xop xsx xsy xsz xbo xbf xbe xin xee xdm xid xfm xgm xkm xlm xnb xnp xnv xph xln xpa xrs xax xay xaz xfo xsr xso xst xco s.1 s.2.1 s.2.2 xcb xpd xps xss xtu xcu xou xot xrg)
    (fun k s => (∀ c, c < k → s.1 c = rv_x (xco c) xst (xcx c) ∧ s.2.1 c = rv_y (xco c) xst (xcy c) ∧ s.2.2 c = rv_y (xco c) xst (xcz c)) ∧ ∀ c, k ≤ c → s.1 c = xcx c ∧ s.2.1 c = xcy c ∧ s.2.2 c = xcz c) cc (xcx, xcy, xcz) ⟨fun c h => by omega, fun c _ => ⟨rfl, rfl, rfl⟩⟩ ?_ ?_
  · intro n s hI
    exact zc_ex (h s.1 s.2.1 s.2.2 hI.1)
  · intro n k s hk hI ih
    obtain ⟨sx, sy, sz⟩ := s
    obtain ⟨I1, I2⟩ := hI
    dsimp only at I1 I2
    obtain ⟨e1, e2, e3⟩ := I2 k (Nat.le_refl _)
    have q := (K k hk).2
    have v1 : vp_in (nI k) 240 := pk_in k 240 (by omega)
    refine zc_go hk ⟨v1, zc_eq k (fun h9 => ⟨v1, ?_⟩) (fun h9 => ⟨v1, zc_eq k (fun h10 => ⟨v1, ?_⟩) (fun h10 => zn_1 (ih (sx, sy, sz) ⟨fun c hc => ?_, fun c hc => I2 c (by omega)⟩))⟩)⟩
    · obtain ⟨a, _, ha, ea⟩ := dc_9 V q h9
      have e4 : sx (nI k).toNatClampNeg = nI a := by rw [zb_rd k, e1]; exact ea
      dsimp only
      rw [e4]
      refine ⟨pk_in a 30 ha, zs_st k (zn_1 (ih (upd sx k (xst (nI a).toNatClampNeg), sy, sz) ⟨fun c hc => ?_, fun c hc => ?_⟩))⟩
      · show upd sx k (xst (nI a).toNatClampNeg) c = _ ∧ _
        by_cases z : c = k
        · subst z
          refine ⟨by rw [pk_us, rv_xt h9, ea], ?_, ?_⟩
          · rw [rv_yf (by rw [h9]; decide)]; exact e2
          · rw [rv_yf (by rw [h9]; decide)]; exact e3
        · rw [pk_un z]; exact I1 c (by omega)
      · show upd sx k (xst (nI a).toNatClampNeg) c = _ ∧ _
        rw [pk_un (by omega)]; exact I2 c (by omega)
    · obtain ⟨t1, t2⟩ := dc_10 q h10
      obtain ⟨a, ha, ea⟩ := dc_t30 V t1
      obtain ⟨b, hb, eb⟩ := dc_t30 V t2
      have e4 : sy (nI k).toNatClampNeg = nI a := by rw [zb_rd k, e2]; exact ea
      have e5 : sz (nI k).toNatClampNeg = nI b := by rw [zb_rd k, e3]; exact eb
      dsimp only
      rw [e4]
      refine ⟨pk_in a 30 ha, zs_st k ⟨v1, ?_⟩⟩
      rw [e5]
      refine ⟨pk_in b 30 hb, zs_st k (zn_1 (ih (sx, upd sy k (xst (nI a).toNatClampNeg), upd sz k (xst (nI b).toNatClampNeg)) ⟨fun c hc => ?_, fun c hc => ?_⟩))⟩
      · show sx c = _ ∧ upd sy k (xst (nI a).toNatClampNeg) c = _ ∧ upd sz k (xst (nI b).toNatClampNeg) c = _
        by_cases z : c = k
        · subst z
          refine ⟨?_, by rw [pk_us, rv_yt h10, ea], by rw [pk_us, rv_yt h10, eb]⟩
          rw [rv_xf h9]; exact e1
        · rw [pk_un z, pk_un z]; exact I1 c (by omega)
      · show sx c = _ ∧ upd sy k (xst (nI a).toNatClampNeg) c = _ ∧ upd sz k (xst (nI b).toNatClampNeg) c = _
        rw [pk_un (by omega), pk_un (by omega)]; exact I2 c (by omega)
    · show sx c = _ ∧ sy c = _ ∧ sz c = _
      by_cases z : c = k
      · subst z
        rw [rv_xf h9, rv_yf h10, rv_yf h10]; exact ⟨e1, e2, e3⟩
      · exact I1 c (by omega)
theorem y_firstCell {post : Int32 → Prop} {a : Nat} (ha : a < 32) (h : post (yfi a)) : wpY_firstCell post ((nI mb), (nI mi), (nI mv), (nI oc), ph, (nI ni), ync, ycl, ysr, xin, ymk, yre, ydm, yid, yfr, ylv, yis, xph, xpa, xrs, yas, xfo, ycd, yfi, ypd, yps, xss, xtu, xcu, xou, yot, yrg, yrv) (nI a) :=
  br_f zi_nlt (br_t (nI_lt (b := 32) ha (by decide)) ⟨pk_in a 32 ha, by rw [zb_rd a]; exact h⟩)
theorem y_resolve {post : Int32 → SY → Prop} (V : gr_V rt nb) (hcc : cc ≤ 240) (K : dc_K nb nc rt cr cc xco xcx xcy xcz xcb ycd) (hst : ∀ s, s < 30 → xst s = yfi s)
    (h : ∀ cd : Nat → Int32, (∀ c, c < cc → cd (c * 4) = xco c ∧ cd (c * 4 + 1) = rv_x (xco c) xst (xcx c) ∧ cd (c * 4 + 2) = rv_y (xco c) xst (xcy c) ∧ cd (c * 4 + 3) = rv_y (xco c) xst (xcz c)) → wY_destruct_450 post (nI mb) (nI mi) (nI mv) (nI oc) ph (nI ni) ync (nI cc) ysr xin ymk yre ydm yid yfr ylv yis xph xpa xrs yas xfo cd yfi ypd yps xss xtu xcu xou yot yrg yrv) : ∃ n, wY_destruct_331 post (nI mb) (nI mi) (nI mv) (nI oc) ph (nI ni) ync (nI cc) n 0 ysr xin ymk yre ydm yid yfr ylv yis xph xpa xrs yas xfo ycd yfi ypd yps xss xtu xcu xou yot yrg yrv := by
  refine loop_0 (fun n c (s : Nat → Int32) => wY_destruct_331 post (nI mb) (nI mi) (nI mv) (nI oc) ph (nI ni) ync (nI cc) n (nI c) ysr xin ymk yre ydm yid yfr ylv yis xph xpa xrs yas xfo s yfi ypd yps xss xtu xcu xou yot yrg yrv)
    (fun k s => (∀ c, c < k → s (c * 4) = xco c ∧ s (c * 4 + 1) = rv_x (xco c) xst (xcx c) ∧ s (c * 4 + 2) = rv_y (xco c) xst (xcy c) ∧ s (c * 4 + 3) = rv_y (xco c) xst (xcz c)) ∧ ∀ c, k ≤ c → c < cc → s (c * 4) = xco c ∧ s (c * 4 + 1) = xcx c ∧ s (c * 4 + 2) = xcy c ∧ s (c * 4 + 3) = xcz c) cc ycd ⟨fun c h => by omega, fun c _ hc => (K c hc).1⟩ ?_ ?_
  · intro n s hI
    exact zc_ex (h s hI.1)
  · intro n k s hk hI ih
    obtain ⟨I1, I2⟩ := hI
    obtain ⟨e0, e1, e2, e3⟩ := I2 k (Nat.le_refl _) hk
    have q := (K k hk).2
    have v0 : vp_in (nI k * 4) 2048 := pk_in (k * 4) 2048 (by omega) (zi_4 k)
    refine zc_go hk (br_f (nI_ge (b := 512) (by omega) (by decide)) ⟨v0, zc_eq (k * 4) (fun h9 => ⟨pk_in (k * 4 + 1) 2048 (by omega) (zi_4a k), ?_⟩) (fun h9 => ⟨v0, zc_eq (k * 4) (fun h10 => ⟨pk_in (k * 4 + 2) 2048 (by omega) (zi_4b k), ?_⟩) (fun h10 => zn_1 (ih s ⟨fun c hc => ?_, fun c hc hc' => I2 c (by omega) hc'⟩)) (zi_4 k)⟩) (zi_4 k)⟩)
    · rw [e0] at h9
      obtain ⟨a, _, ha, ea⟩ := dc_9 V q h9
      have e4 : s (nI k * 4 + 1).toNatClampNeg = nI a := by rw [zb_rd (k * 4 + 1) (zi_4a k), e1]; exact ea
      rw [e4]
      refine y_firstCell (by omega) (zs_st (k * 4 + 1) ⟨v0, zc_eq (k * 4) (fun h10 => ?_) (fun h10 => zn_1 (ih _ ⟨fun c hc => ?_, fun c hc hc' => ?_⟩)) (zi_4 k)⟩ (by omega) (zi_4a k))
      · rw [pk_un (by omega), e0, h9] at h10; exact absurd h10 (by decide)
      · by_cases z : c = k
        · subst z
          rw [pk_un (by omega), pk_us, pk_un (by omega), pk_un (by omega), rv_xt h9, rv_yf (by rw [h9]; decide), rv_yf (by rw [h9]; decide), ea, zb_rd a, hst a ha]
          exact ⟨e0, rfl, e2, e3⟩
        · rw [pk_un (by omega), pk_un (by omega), pk_un (by omega), pk_un (by omega)]; exact I1 c (by omega)
      · rw [pk_un (by omega), pk_un (by omega), pk_un (by omega), pk_un (by omega)]; exact I2 c (by omega) hc'
    · rw [e0] at h10
      obtain ⟨t1, t2⟩ := dc_10 q h10
      obtain ⟨a, ha, ea⟩ := dc_t30 V t1
      obtain ⟨b, hb, eb⟩ := dc_t30 V t2
      have e4 : s (nI k * 4 + 2).toNatClampNeg = nI a := by rw [zb_rd (k * 4 + 2) (zi_4b k), e2]; exact ea
      rw [e4]
      refine y_firstCell (by omega) (zs_st (k * 4 + 2) ⟨pk_in (k * 4 + 3) 2048 (by omega) (zi_4c k), ?_⟩ (by omega) (zi_4b k))
      have e5 : upd s (k * 4 + 2) (yfi a) (nI k * 4 + 3).toNatClampNeg = nI b := by rw [zb_rd (k * 4 + 3) (zi_4c k), pk_un (by omega), e3]; exact eb
      rw [e5]
      refine y_firstCell (by omega) (zs_st (k * 4 + 3) (zn_1 (ih _ ⟨fun c hc => ?_, fun c hc hc' => ?_⟩)) (by omega) (zi_4c k))
      · by_cases z : c = k
        · subst z
          rw [rv_xf (by rw [h10]; decide), rv_yt h10, rv_yt h10, ea, eb, zb_rd a, zb_rd b, hst a ha, hst b hb]
          refine ⟨?_, ?_, ?_, pk_us⟩
          · rw [pk_un (by omega), pk_un (by omega)]; exact e0
          · rw [pk_un (by omega), pk_un (by omega)]; exact e1
          · rw [pk_un (by omega), pk_us]
        · rw [pk_un (by omega), pk_un (by omega), pk_un (by omega), pk_un (by omega), pk_un (by omega), pk_un (by omega), pk_un (by omega), pk_un (by omega)]; exact I1 c (by omega)
      · rw [pk_un (by omega), pk_un (by omega), pk_un (by omega), pk_un (by omega), pk_un (by omega), pk_un (by omega), pk_un (by omega), pk_un (by omega)]; exact I2 c (by omega) hc'
    · rw [e0] at h9 h10
      by_cases z : c = k
      · subst z
        rw [rv_xf h9, rv_yf h10, rv_yf h10]; exact ⟨e0, e1, e2, e3⟩
      · exact I1 c (by omega)
end
end
section
/-! ===== destruct ===== -/
theorem rl_C_of {nb nc cc cB : Nat} {be : Nat → Nat} {rt xop so st fi co cx cy cz cx' cy' cz' cb cd cd' : Nat → Int32} (V : gr_V rt nb) (hcc : cc ≤ 240) (hso : ∀ e, e < 20 → so e = if rl_cr rt xop be e = true then nI (nb + zk_c (rl_cr rt xop be) e) else -1)
    (K : dc_K nb nc rt (rl_cr rt xop be) cc co cx cy cz cb cd) (Ls : lo_s nb rt nb cc st fi cb) (Le : lo_e cc co) (Lx : lo_x nb (rl_cr rt xop be) cB 20 cc st cb)
    (hX : ∀ c, c < cc → cx' c = rv_x (co c) st (cx c) ∧ cy' c = rv_y (co c) st (cy c) ∧ cz' c = rv_y (co c) st (cz c))
    (hY : ∀ c, c < cc → cd' (c * 4) = co c ∧ cd' (c * 4 + 1) = rv_x (co c) st (cx c) ∧ cd' (c * 4 + 2) = rv_y (co c) st (cy c) ∧ cd' (c * 4 + 3) = rv_y (co c) st (cz c)) :
    rl_C nb nc cc be rt (nI cc) (nI (zk_c (rl_cr rt xop be) 20)) (nI cc) xop so st co cx' cy' cz' cb cd' fi := by
  have h10 := V.2.1
  obtain ⟨l1, l2, l3, l4⟩ := Ls
  have hT : ∀ c x, c < cB → dc_t nb rt (rl_cr rt xop be) x → rl_T nb cc rt st cb c (st x.toNatClampNeg) := by
    intro c x hc h
    rcases h with ⟨b, hb, e⟩ | ⟨e, he, hcr, e2⟩
    · have hbl := gr_rc_lt V hb
      obtain ⟨t, t1, t2, t3⟩ := (l4 b hbl).1 hb
      rw [e, zb_rd b]
      exact ⟨t, t1, t2, Or.inl ⟨b, hb, t3, t2⟩⟩
    · have := zk_le (rl_cr rt xop be) e
      obtain ⟨t, t0, t1, t2, t3⟩ := Lx.2.2 e he hcr
      rw [e2, zb_rd (nb + zk_c (rl_cr rt xop be) e)]
      exact ⟨t, t1, t2, Or.inr ⟨_, by omega, by omega, t3, by omega⟩⟩
  refine ⟨hcc, rfl, rfl, rfl, hso, l1, l2, l3, l4, fun c hc => ?_, fun c hc => ?_⟩
  · obtain ⟨a1, a2, a3⟩ := hX c hc
    rw [a1, a2, a3]; exact hY c hc
  · obtain ⟨a1, a2, a3⟩ := hX c hc
    have q := (K c hc).2
    have q0 := q
    rcases q with ⟨k, hk, ek, n1, n2, n3⟩ | e | ⟨e, b, hb, eb⟩ | ⟨e, n1, n2, n3, k, hk, ek⟩
    · have n9 : ¬ co c = 9 := fun z => by rw [ek] at z; have := zi_inj (b := 9) z; omega
      have n10 : ¬ co c = 10 := fun z => by rw [ek] at z; have := zi_inj (b := 10) z; omega
      rw [rv_xf n9] at a1
      rw [rv_yf n10] at a2 a3
      refine Or.inl ⟨k, hk, ek, ?_, by rw [a1]; exact n1, by rw [a2]; exact n2, by rw [a3]; exact n3⟩
      rcases Le with z | ⟨k', k1, k2, k3⟩
      · omega
      · rcases Nat.lt_or_ge (c + 1) cc with y | y
        · exact y
        · rw [show cc - 1 = c by omega, ek] at k3
          have := zi_inj k3
          omega
    · exact Or.inr (Or.inl e)
    · refine Or.inr (Or.inr (Or.inl ⟨e, ?_⟩))
      rw [a1, rv_xt e, eb, zb_rd b (h := by have := gr_rc_lt V hb; omega)]
      have hbl := gr_rc_lt V hb
      obtain ⟨t, t1, t2, t3⟩ := (l4 b hbl).1 hb
      exact ⟨t, t1, t2, Or.inl ⟨b, hb, t3, t2⟩⟩
    · have hB := Lx.2.1 c hc ⟨k, hk, ek⟩
      refine Or.inr (Or.inr (Or.inr ⟨e, ?_, ?_, ?_⟩))
      · rw [a1, rv_xf (by rw [e]; decide)]; exact n1
      · rw [a2, rv_yt e]; exact hT c _ hB n2
      · rw [a3, rv_yt e]; exact hT c _ hB n3
section
variable {mb mi mv oc ni nb : Nat} {ph xrm xnc xcc xsc xpc : Int32} {xop xsx xsy xsz xbo xbf xbe xin xee xdm xid xfm xgm xkm xlm xnb xnp xnv xph xln xpa xrs xax xay xaz xfo xsr xso xst xco xcx xcy xcz xcb xpd xps xss xtu xcu xou xot xrg : Nat → Int32}
theorem x_layOut {post : SX → Prop} (h : ∃ n, wX_layOut_28 post n 0 (nI mb) (nI mi) (nI mv) (nI oc) ph (nI ni) (nI nb) xrm xnc 0 xsc xpc xop xsx xsy xsz xbo xbf xbe xin xee xdm xid xfm xgm xkm xlm xnb xnp xnv xph xln xpa xrs xax xay xaz xfo xsr xso (zb_fl 30 (-1) xst) xco xcx xcy xcz xcb xpd xps xss xtu xcu xou xot xrg) : wpX_layOut post ((nI mb), (nI mi), (nI mv), (nI oc), ph, (nI ni), (nI nb), xrm, xnc, xcc, xsc, xpc, xop, xsx, xsy, xsz, xbo, xbf, xbe, xin, xee, xdm, xid, xfm, xgm, xkm, xlm, xnb, xnp, xnv, xph, xln, xpa, xrs, xax, xay, xaz, xfo, xsr, xso, xst, xco, xcx, xcy, xcz, xcb, xpd, xps, xss, xtu, xcu, xou, xot, xrg) := by
  refine loop_0 (fun n j (s : Nat → Int32) => wX_layOut_7 post (nI mb) (nI mi) (nI mv) (nI oc) ph (nI ni) (nI nb) xrm xnc 0 xsc xpc n (nI j) xop xsx xsy xsz xbo xbf xbe xin xee xdm xid xfm xgm xkm xlm xnb xnp xnv xph xln xpa xrs xax xay xaz xfo xsr xso s xco xcx xcy xcz xcb xpd xps xss xtu xcu xou xot xrg) (fun j s => s = zb_fl j (-1) xst) 30 xst zb_fl_0.symm ?_ ?_
  · intro n s hI
    rw [hI]; exact zc_ex h
  · intro n j s hj hI ih
    refine zc_go hj (zs_st j (zn_1 (ih _ ?_)) hj)
    rw [hI]; exact zb_fl_s
end
section
variable {mb mi mv oc ni : Nat} {ph ync ycl : Int32} {ysr yin ymk yre ydm yid yfr ylv yis yph yar yrs yas yfo ycd yfi ypd yps yss ytu ybl you yot yrg yrv : Nat → Int32}
theorem y_fill {post : Int32 → SY → Prop} {x1 : Int32} (h : ∃ n, wY_destruct_43 post x1 n 0 (nI mb) (nI mi) (nI mv) (nI oc) ph (nI ni) ync 0 ysr yin ymk yre ydm yid yfr ylv yis yph yar yrs yas yfo ycd (zb_fl 32 (-1) yfi) ypd yps yss ytu ybl you yot yrg yrv) : ∃ n, wY_destruct_22 post x1 (nI mb) (nI mi) (nI mv) (nI oc) ph (nI ni) ync 0 n 0 ysr yin ymk yre ydm yid yfr ylv yis yph yar yrs yas yfo ycd yfi ypd yps yss ytu ybl you yot yrg yrv := by
  refine loop_0 (fun n j (s : Nat → Int32) => wY_destruct_22 post x1 (nI mb) (nI mi) (nI mv) (nI oc) ph (nI ni) ync 0 n (nI j) ysr yin ymk yre ydm yid yfr ylv yis yph yar yrs yas yfo ycd s ypd yps yss ytu ybl you yot yrg yrv) (fun j s => s = zb_fl j (-1) yfi) 32 yfi zb_fl_0.symm ?_ ?_
  · intro n s hI
    rw [hI]; exact zc_ex h
  · intro n j s hj hI ih
    refine zc_go hj (zs_st j (zn_1 (ih _ ?_)) hj)
    rw [hI]; exact zb_fl_s
end
theorem i_vc_destruct {k : Nat} {u : SX} {v : SY} (I : i_Rel k u v) (hk : k + 5 ≤ 2564) : wpX_destruct (fun r u' => wpY_destruct (fun r' v' => r' = r ∧ i_Rel (k + 5) u' v') v) u := by
  refine zz_el (Q := fun u v => wpX_destruct (fun r u' => wpY_destruct (fun r' v' => r' = r ∧ i_Rel (k + 5) u' v') v) u) ?_ I
  intro mb mi mv oc ni nb ph xrm xnc xcc xsc xpc ync ycl xop xsx xsy xsz xbo xbf xbe xin xee xdm xid xfm xgm xkm xlm xnb xnp xnv xph xln xpa xrs xax xay xaz xfo xsr xso xst xco xcx xcy xcz xcb xpd xps xss xtu xcu xou xot xrg ysr ymk yre ydm yid yfr ylv yis yas ycd yfi ypd yps yot yrg yrv R0
  have R1 := R0
  obtain ⟨nc, cc, bf, be, rt, S, H, M⟩ := R0
  by_cases h0 : ph = 1
  rotate_left
  · exact br_f h0 (br_f h0 ⟨rfl, zz_in R1⟩)
  have S' := S
  obtain ⟨S1, S2, S3, S4, S5, S6, B, SV, YS, hbo, hbf, hbe⟩ := S
  rcases H with ⟨w, _⟩ | ⟨H1, e1, e2, A, N⟩
  · rw [h0] at w; exact absurd w (by decide)
  have A' := A
  obtain ⟨C, hrt, V, hrm, hre, hee, _⟩ := A
  refine br_t h0 (x_numberSplits B hbe V hee fun so hso => ?_)
  obtain ⟨c1, pc1, st1, co1, cx1, cy1, cz1, cb1, pd1, ps1, cd1, fi1, yd1, ys1, p1, p2, p3, p4, pX, pY⟩ := lo_blk (mb := mb) (mi := mi) (mv := mv) (oc := oc) (ph := ph) (ni := ni) (nb := nb) (xrm := xrm) (xnc := xnc) (xsc := nI (zk_c (rl_cr rt xop be) 20)) (xop := xop) (xsx := xsx) (xsy := xsy) (xsz := xsz) (xbo := xbo) (xbf := xbf) (xbe := xbe) (xin := xin) (xee := xee) (xdm := xdm) (xid := xid) (xfm := xfm) (xgm := xgm) (xkm := xkm) (xlm := xlm) (xnb := xnb) (xnp := xnp) (xnv := xnv) (xph := xph) (xln := xln) (xpa := xpa) (xrs := xrs) (xax := xax) (xay := xay) (xaz := xaz) (xfo := xfo) (xsr := xsr) (xso := so) (xss := xss) (xtu := xtu) (xcu := xcu) (xou := xou) (xot := xot) (xrg := xrg) (ync := ync) (ysr := ysr) (ymk := ymk) (yre := yre) (ydm := ydm) (yid := yid) (yfr := yfr) (ylv := ylv) (yis := yis) (yas := yas) (yot := yot) (yrg := yrg) (yrv := yrv) S' A' N e1 e2 hso nb 0 (by omega) 0 xpc (zb_fl 30 (-1) xst) xco xcx xcy xcz xcb xpd xps ycd (zb_fl 32 (-1) yfi) ypd yps (Nat.zero_le _) (fun c h => absurd h (Nat.not_lt_zero _))
    ⟨fun s hs => by rw [zb_fl_t hs, zb_fl_t (by omega)], zb_fl_t (by omega), zb_fl_t (by omega), fun b' h => absurd h (Nat.not_lt_zero _)⟩ (fun s _ hs => zb_fl_t hs) (Or.inl rfl)
  obtain ⟨c2, pc2, st2, co2, cx2, cy2, cz2, cb2, pd2, ps2, cd2, fi2, yd2, ys2, q1, q2, q3, q4, q5, qX, qY⟩ := lo_edge (mb := mb) (mi := mi) (mv := mv) (oc := oc) (ph := ph) (ni := ni) (nb := nb) (xrm := xrm) (xnc := xnc) (xsc := nI (zk_c (rl_cr rt xop be) 20)) (xop := xop) (xsx := xsx) (xsy := xsy) (xsz := xsz) (xbo := xbo) (xbf := xbf) (xbe := xbe) (xin := xin) (xee := xee) (xdm := xdm) (xid := xid) (xfm := xfm) (xgm := xgm) (xkm := xkm) (xlm := xlm) (xnb := xnb) (xnp := xnp) (xnv := xnv) (xph := xph) (xln := xln) (xpa := xpa) (xrs := xrs) (xax := xax) (xay := xay) (xaz := xaz) (xfo := xfo) (xsr := xsr) (xso := so) (xss := xss) (xtu := xtu) (xcu := xcu) (xou := xou) (xot := xot) (xrg := xrg) (ync := ync) (ysr := ysr) (ymk := ymk) (yre := yre) (ydm := ydm) (yid := yid) (yfr := yfr) (ylv := ylv) (yis := yis) (yas := yas) (yot := yot) (yrg := yrg) (yrv := yrv) S' A' N e1 e2 hso (cB := c1) 20 0 (by omega) c1 pc1 st1 co1 cx1 cy1 cz1 cb1 pd1 ps1 cd1 fi1 yd1 ys1 (Nat.le_trans p1 (Nat.le_add_right _ _)) p2 p3 p4
    ⟨Nat.le_refl _, fun c h _ => h, fun e' h => absurd h (Nat.not_lt_zero _)⟩
  refine x_layOut (pX _ (qX _ (x_resolve V q1 q2 fun cx cy cz hX => x_idleAll fun rg hrg => ?_)))
  refine br_t h0 (y_blocks YS B (y_fill (pY _ (qY _ (y_resolve V q1 q2 q3.1 fun cd hY => y_idleAll fun ot rg' hrg' => ?_)))))
  exact ⟨rfl, zz_in ⟨nc, c2, bf, be, rt, S', Or.inr ⟨Or.inr ⟨rfl, rl_C_of V q1 hso q2 q3 q4 q5 hX hY⟩, e1, e2, A', N⟩, rl_M_idle hrg hrg'⟩⟩
end
