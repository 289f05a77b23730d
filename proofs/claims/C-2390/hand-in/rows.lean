section
/-! pure rows to paste: stores, nI and lN arithmetic, masks, shifts, narrowing, branches by naturals (pk_le, pk_lt, pk_eq), loops (lp1 .. lp16: the measure of the state; rp1 ..: recursion), negatives. Take what you need -/
theorem pk_us {f : Nat → Int32} {k : Nat} {x : Int32} : upd f k x k = x := if_pos rfl
theorem pk_un {f : Nat → Int32} {k j : Nat} {x : Int32} (h : j ≠ k) : upd f k x j = f j := if_neg h
theorem pk_uLs {f : Nat → Int64} {k : Nat} {x : Int64} : vp_updL f k x k = x := if_pos rfl
theorem pk_uLn {f : Nat → Int64} {k j : Nat} {x : Int64} (h : j ≠ k) : vp_updL f k x j = f j := if_neg h
theorem pk_sub {a b : Nat} (h : b ≤ a) : nI a - nI b = nI (a - b) := by
  obtain ⟨c, rfl⟩ : ∃ c, a = c + b := ⟨a - b, by omega⟩
  rw [← nI_add, Int32.add_sub_cancel, Nat.add_sub_cancel]
theorem pk_m1 (n : Nat) : nI (n + 1) + (-1) = nI n := by
  rw [← nI_1, Int32.add_assoc, show (1 : Int32) + (-1) = 0 from rfl, Int32.add_zero]
theorem pk_mul (a b : Nat) : nI a * nI b = nI (a * b) := (Int32.ofNat_mul a b).symm
theorem pk_div {a d : Nat} (ha : a < 2 ^ 31) (h0 : 0 < d) (hd : d < 2 ^ 31) : nI a / nI d = nI (a / d) := by
  apply Int32.toInt_inj.mp
  rw [lg_idiv_nonneg (by rw [nI_toInt ha]; omega) (by rw [nI_toInt hd]; omega), nI_toInt ha, nI_toInt hd, nI_toInt (Nat.lt_of_le_of_lt (Nat.div_le_self a d) ha)]
  first | rfl | exact (Int.natCast_ediv _ _).symm
theorem pk_rem {a d : Nat} (ha : a < 2 ^ 31) (h0 : 0 < d) (hd : d < 2 ^ 31) : nI a - nI a / nI d * nI d = nI (a % d) := by
  rw [pk_div ha h0 hd, pk_mul, pk_sub (Nat.div_mul_le_self a d)]
  exact congrArg nI (by have := Nat.div_add_mod' a d; omega)
theorem pk_sub_toInt {a b : Nat} (ha : a < 2 ^ 30) (hb : b < 2 ^ 30) : (nI a - nI b).toInt = (a : Int) - b := by
  rw [Int32.toInt_sub, nI_toInt (by omega), nI_toInt (by omega)]
  exact Int.bmod_eq_of_le (by omega) (by omega)
theorem pk_sneg {a b : Nat} (hb : b < 2 ^ 30) (h : a < b) : nI a - nI b < 0 := by
  rw [Int32.lt_iff_toInt_lt, pk_sub_toInt (by omega) hb, show (0 : Int32).toInt = 0 from by decide]
  omega
theorem pk_ix (x : Int32) {n : Nat} (hn : n < 2 ^ 31) : x < 0 ∨ nI n ≤ x ∨ ∃ j : Nat, j < n ∧ x = nI j := by
  by_cases h : x < 0
  · exact Or.inl h
  · obtain ⟨j, hj, rfl⟩ := nI_of h
    by_cases h2 : j < n
    · exact Or.inr (Or.inr ⟨j, h2, rfl⟩)
    · exact Or.inr (Or.inl (nI_le (by omega) hj))
theorem pk_le {x y : Int32} {A B : Prop} (a b : Nat) (f : a ≤ b → A) (g : b < a → B) (hx : x = nI a := by rfl) (hy : y = nI b := by rfl) (ha : a < 2 ^ 31 := by omega) (hb : b < 2 ^ 31 := by omega) : (x ≤ y → A) ∧ (¬ x ≤ y → B) := by
  subst hx hy
  rw [nI_leI ha hb]
  exact ⟨f, fun z => g (by omega)⟩
theorem pk_lt {x y : Int32} {A B : Prop} (a b : Nat) (f : a < b → A) (g : b ≤ a → B) (hx : x = nI a := by rfl) (hy : y = nI b := by rfl) (ha : a < 2 ^ 31 := by omega) (hb : b < 2 ^ 31 := by omega) : (x < y → A) ∧ (¬ x < y → B) := by
  subst hx hy
  rw [nI_ltI ha hb]
  exact ⟨f, fun z => g (by omega)⟩
theorem pk_eq {x y : Int32} {A B : Prop} (a b : Nat) (f : a = b → A) (g : a ≠ b → B) (hx : x = nI a := by rfl) (hy : y = nI b := by rfl) (ha : a < 2 ^ 31 := by omega) (hb : b < 2 ^ 31 := by omega) : (x = y → A) ∧ (¬ x = y → B) := by
  subst hx hy
  rw [nI_eq ha hb]
  exact ⟨f, g⟩
theorem pk_in {x : Int32} (n N : Nat) (h : n < N) (hx : x = nI n := by rfl) (hN : N < 2 ^ 31 := by omega) : vp_in x N := by
  subst hx
  exact vp_in_nI h hN
theorem pk_cl {x : Int32} (n : Nat) (hx : x = nI n := by rfl) (h : n < 2 ^ 31 := by omega) : x.toNatClampNeg = n := by
  subst hx
  exact nI_clamp h
theorem pk_tn {n : Nat} (h : n < 2 ^ 32) : (nI n).toBitVec.toNat = n := Nat.mod_eq_of_lt h
theorem pk_and (x : Int32) {m : Int32} (k : Nat) (hm : m.toBitVec.toNat = 2 ^ k - 1) : x &&& m = nI (x.toBitVec.toNat % 2 ^ k) := by
  apply Int32.toBitVec_inj.mp
  apply BitVec.eq_of_toNat_eq
  rw [Int32.toBitVec_and, BitVec.toNat_and, hm, Nat.and_two_pow_sub_one_eq_mod]
  show _ = (BitVec.ofNat 32 _).toNat
  rw [BitVec.toNat_ofNat]
  exact (Nat.mod_eq_of_lt (Nat.lt_of_le_of_lt (Nat.mod_le _ _) x.toBitVec.isLt)).symm
theorem pk_andN {n : Nat} (h : n < 2 ^ 32) {m : Int32} (k : Nat) (hm : m.toBitVec.toNat = 2 ^ k - 1) : nI n &&& m = nI (n % 2 ^ k) := by
  rw [pk_and _ k hm, pk_tn h]
theorem pk_andE (x : Int32) {m : Int32} (k : Nat) (hm : m.toBitVec.toNat = 2 ^ k - 1) : ∃ j : Nat, j < 2 ^ k ∧ x &&& m = nI j := ⟨_, Nat.mod_lt _ (Nat.two_pow_pos k), pk_and x k hm⟩
theorem pk_andIn (x : Int32) {m : Int32} (k : Nat) (hm : m.toBitVec.toNat = 2 ^ k - 1) (hk : k ≤ 30) : vp_in (x &&& m) (2 ^ k) := by
  obtain ⟨j, hj, e⟩ := pk_andE x k hm
  rw [e]
  exact vp_in_nI hj (Nat.lt_of_le_of_lt (Nat.pow_le_pow_right (by decide) hk) (by decide))
theorem pk_shl (a s : Int32) (k : Nat) (hs : (s.toBitVec.smod 32).toNat = k) : (a <<< s).toBitVec.toNat = a.toBitVec.toNat * 2 ^ k % 2 ^ 32 := by
  show (a.toBitVec <<< (s.toBitVec.smod 32).toNat).toNat = _
  rw [hs, BitVec.toNat_shiftLeft, Nat.shiftLeft_eq]
theorem pk_shlN {n : Nat} (s : Int32) (k : Nat) (hs : (s.toBitVec.smod 32).toNat = k) (h : n * 2 ^ k < 2 ^ 32) : nI n <<< s = nI (n * 2 ^ k) := by
  apply Int32.toBitVec_inj.mp
  apply BitVec.eq_of_toNat_eq
  have hn : n < 2 ^ 32 := Nat.lt_of_le_of_lt (Nat.le_mul_of_pos_right n (Nat.two_pow_pos k)) h
  rw [pk_shl _ _ k hs, pk_tn hn, pk_tn h, Nat.mod_eq_of_lt h]
theorem pk_shr (a s : Int32) (k : Nat) (hs : (s.toBitVec.smod 32).toNat = k) : (a >>> s).toInt = a.toInt >>> k := by
  show (a.toBitVec.sshiftRight (s.toBitVec.smod 32).toNat).toInt = _
  rw [hs, BitVec.toInt_sshiftRight]
  rfl
theorem pk_shrN {n : Nat} (h : n < 2 ^ 31) (s : Int32) (k : Nat) (hs : (s.toBitVec.smod 32).toNat = k) : nI n >>> s = nI (n / 2 ^ k) := by
  apply Int32.toInt_inj.mp
  have h2 : n / 2 ^ k ≤ n := Nat.div_le_self _ _
  rw [pk_shr _ _ k hs, nI_toInt h, nI_toInt (by omega), Int.shiftRight_eq_div_pow]
  rfl
theorem pk_ushr (x s : Int32) (k : Nat) (hs : ((s.toUInt32 &&& Int32.toUInt32 31).toBitVec % 32).toNat = k) : (x.toUInt32 >>> (s.toUInt32 &&& Int32.toUInt32 31)).toInt32.toBitVec.toNat = x.toBitVec.toNat / 2 ^ k := by
  have e : (x.toUInt32 >>> (s.toUInt32 &&& Int32.toUInt32 31)).toInt32.toBitVec = x.toBitVec >>> k := by
    rw [← hs]
    exact UInt32.toBitVec_shiftRight _ _
  rw [e, BitVec.toNat_ushiftRight, Nat.shiftRight_eq_div_pow]
theorem pk_ushrN {n : Nat} (hn : n < 2 ^ 32) (s : Int32) (k : Nat) (hs : ((s.toUInt32 &&& Int32.toUInt32 31).toBitVec % 32).toNat = k) : ((nI n).toUInt32 >>> (s.toUInt32 &&& Int32.toUInt32 31)).toInt32 = nI (n / 2 ^ k) := by
  apply Int32.toBitVec_inj.mp
  apply BitVec.eq_of_toNat_eq
  rw [pk_ushr _ s k hs, pk_tn hn, pk_tn (Nat.lt_of_le_of_lt (Nat.div_le_self _ _) hn)]
theorem pk_nb (z : Int32) : narrow .byte (.int z.toInt8.toInt32) = .int z.toInt8.toInt32 := congrArg Value.int (by simp)
theorem pk_ns (z : Int32) : narrow .short (.int z.toInt16.toInt32) = .int z.toInt16.toInt32 := congrArg Value.int (by simp)
theorem pk_fb (r : Int32) : fits .byte (.int r.toInt8.toInt32) = true := by
  have ⟨a, b⟩ := lg_i2b_range r
  have h1 : (-128 : Int32).toInt = -128 := by decide
  have h2 : (127 : Int32).toInt = 127 := by decide
  simp only [fits, Bool.and_eq_true, decide_eq_true_eq, Int32.le_iff_toInt_le, h1, h2]
  omega
theorem pk_fs (r : Int32) : fits .short (.int r.toInt16.toInt32) = true := by
  have ⟨a, b⟩ := lg_i2s_range r
  have h1 : (-32768 : Int32).toInt = -32768 := by decide
  have h2 : (32767 : Int32).toInt = 32767 := by decide
  simp only [fits, Bool.and_eq_true, decide_eq_true_eq, Int32.le_iff_toInt_le, h1, h2]
  omega
theorem pk_charN {q : Nat} (hq : q < 65536) : narrow .char (.int (nI q)) = .int (nI q) ∧ fits .char (.int (nI q)) = true := by
  constructor
  · have e : (nI q).toUInt32.toUInt16.toUInt32.toInt32 = nI q := by
      apply Int32.toBitVec_inj.mp
      apply BitVec.eq_of_toNat_eq
      show (nI q).toUInt32.toUInt16.toUInt32.toNat = q % 2 ^ 32
      rw [UInt16.toNat_toUInt32, UInt32.toNat_toUInt16, show (nI q).toUInt32.toNat = q % 2 ^ 32 from rfl]
      omega
    exact congrArg Value.int e
  · have a : (0 : Int32) ≤ nI q := nI_pos' (by omega)
    have b : nI q ≤ 65535 := nI_le (b := 65535) (by omega) (by decide)
    show (decide ((0 : Int32) ≤ nI q) && decide (nI q ≤ 65535)) = true
    rw [decide_eq_true a, decide_eq_true b]
    rfl
theorem pk_char (x : Int32) : (x.toUInt32 % 65536).toInt32 = nI (x.toBitVec.toNat % 65536) := by
  apply Int32.toBitVec_inj.mp
  apply BitVec.eq_of_toNat_eq
  rw [pk_tn (by omega)]
  show (x.toUInt32 % 65536).toNat = _
  rw [UInt32.toNat_mod]
  rfl
theorem pk_nc (x : Int32) : narrow .char (.int (x.toUInt32 % 65536).toInt32) = .int (x.toUInt32 % 65536).toInt32 := by
  rw [pk_char]
  exact (pk_charN (Nat.mod_lt _ (by decide))).1
theorem pk_fc (x : Int32) : fits .char (.int (x.toUInt32 % 65536).toInt32) = true := by
  rw [pk_char]
  exact (pk_charN (Nat.mod_lt _ (by decide))).2
theorem pk_vb (z : Int32) : vp_nar .byte z.toInt8.toInt32 = z.toInt8.toInt32 := by rw [vp_nar_byte]; simp
theorem pk_vs (z : Int32) : vp_nar .short z.toInt16.toInt32 = z.toInt16.toInt32 := by rw [vp_nar_short]; simp
theorem pk_vc (z : Int32) : vp_nar .char (z.toUInt32 % 65536).toInt32 = (z.toUInt32 % 65536).toInt32 := Value.int.inj (pk_nc z)
theorem pk_lT {n : Nat} (h : n < 2 ^ 63) : (lN n).toInt = (n : Int) := lg_ofNat_toInt h
theorem pk_lLT {a b : Nat} (ha : a < 2 ^ 63) (hb : b < 2 ^ 63) : lN a < lN b ↔ a < b := by
  rw [Int64.lt_iff_toInt_lt, pk_lT ha, pk_lT hb]; omega
theorem pk_lLE {a b : Nat} (ha : a < 2 ^ 63) (hb : b < 2 ^ 63) : lN a ≤ lN b ↔ a ≤ b := by
  rw [Int64.le_iff_toInt_le, pk_lT ha, pk_lT hb]; omega
theorem pk_lEQ {a b : Nat} (ha : a < 2 ^ 63) (hb : b < 2 ^ 63) : lN a = lN b ↔ a = b := by
  rw [← Int64.toInt_inj, pk_lT ha, pk_lT hb]; omega
theorem pk_lOf {x : Int64} (h : ¬ x < 0) : ∃ k : Nat, k < 2 ^ 63 ∧ x = lN k := by
  rw [Int64.lt_iff_toInt_lt] at h
  have h0 : (0 : Int64).toInt = 0 := by decide
  have hx := Int64.toInt_lt x
  refine ⟨x.toInt.toNat, by omega, Int64.toInt_inj.mp ?_⟩
  rw [pk_lT (by omega)]
  omega
theorem pk_lDiv {a b : Nat} (ha : a < 2 ^ 63) (h0 : 0 < b) (hb : b < 2 ^ 63) : lN a / lN b = lN (a / b) := by
  apply Int64.toInt_inj.mp
  rw [lg_ldiv_nonneg (by rw [pk_lT ha]; omega) (by rw [pk_lT hb]; omega), pk_lT ha, pk_lT hb, pk_lT (Nat.lt_of_le_of_lt (Nat.div_le_self a b) ha)]
  rfl
theorem pk_lRem {a b : Nat} (ha : a < 2 ^ 63) (h0 : 0 < b) (hb : b < 2 ^ 63) : lN a - lN a / lN b * lN b = lN (a % b) := by
  rw [pk_lDiv ha h0 hb, lN_mul, lN_sub (Nat.div_mul_le_self a b)]
  exact congrArg lN (by have := Nat.div_add_mod' a b; omega)
theorem pk_loop {σ : Type} (W : Nat → Nat → σ → Prop) (I : Nat → σ → Prop) (e i0 : Nat) (s : σ) (hi : i0 ≤ e) (h0 : I i0 s) (hx : ∀ n s, I e s → W (n + 1) e s)
    (hs : ∀ n i s, i < e → I i s → (∀ s', I (i + 1) s' → W n (i + 1) s') → W (n + 1) i s) : ∃ n, W n i0 s :=
  ⟨e + 1, loop_i W I e hx hs (e + 1) i0 s hi (by omega) h0⟩
theorem pk_loopD {σ : Type} (W : Nat → Nat → σ → Prop) (I : Nat → σ → Prop) (hx : ∀ n s, I 0 s → W (n + 1) 0 s)
    (hs : ∀ n i s, I (i + 1) s → (∀ s', I i s' → W n i s') → W (n + 1) (i + 1) s) : ∀ (e : Nat) (s : σ), I e s → W (e + 1) e s := by
  intro e
  induction e with
  | zero => exact fun s h => hx 0 s h
  | succ e ih => exact fun s h => hs (e + 1) e s h (fun s' h' => ih s' h')
theorem lp1 {A1 : Type} (W : Nat → A1 → Prop) (I : A1 → Prop) (μ : A1 → Nat) (hs : ∀ (n : Nat) (a1 : A1), I a1 → (∀ (b1 : A1), I b1 → μ b1 < μ a1 → W n b1) → W (n + 1) a1) (a1 : A1) (h : I a1) : ∃ n, W n a1 :=
  loop_m (σ := A1) (fun n s => W n s) (fun s => I s) (fun s => μ s) (fun n s hI hk => hs n s hI (fun b1 h9 hm => hk b1 h9 hm)) a1 h
theorem lp2 {A1 A2 : Type} (W : Nat → A1 → A2 → Prop) (I : A1 → A2 → Prop) (μ : A1 → A2 → Nat) (hs : ∀ (n : Nat) (a1 : A1) (a2 : A2), I a1 a2 → (∀ (b1 : A1) (b2 : A2), I b1 b2 → μ b1 b2 < μ a1 a2 → W n b1 b2) → W (n + 1) a1 a2) (a1 : A1) (a2 : A2) (h : I a1 a2) : ∃ n, W n a1 a2 :=
  loop_m (σ := A1 × A2) (fun n s => W n s.1 s.2) (fun s => I s.1 s.2) (fun s => μ s.1 s.2) (fun n s hI hk => hs n s.1 s.2 hI (fun b1 b2 h9 hm => hk (b1, b2) h9 hm)) (a1, a2) h
theorem lp3 {A1 A2 A3 : Type} (W : Nat → A1 → A2 → A3 → Prop) (I : A1 → A2 → A3 → Prop) (μ : A1 → A2 → A3 → Nat) (hs : ∀ (n : Nat) (a1 : A1) (a2 : A2) (a3 : A3), I a1 a2 a3 → (∀ (b1 : A1) (b2 : A2) (b3 : A3), I b1 b2 b3 → μ b1 b2 b3 < μ a1 a2 a3 → W n b1 b2 b3) → W (n + 1) a1 a2 a3) (a1 : A1) (a2 : A2) (a3 : A3) (h : I a1 a2 a3) : ∃ n, W n a1 a2 a3 :=
  loop_m (σ := A1 × A2 × A3) (fun n s => W n s.1 s.2.1 s.2.2) (fun s => I s.1 s.2.1 s.2.2) (fun s => μ s.1 s.2.1 s.2.2) (fun n s hI hk => hs n s.1 s.2.1 s.2.2 hI (fun b1 b2 b3 h9 hm => hk (b1, b2, b3) h9 hm)) (a1, a2, a3) h
theorem lp4 {A1 A2 A3 A4 : Type} (W : Nat → A1 → A2 → A3 → A4 → Prop) (I : A1 → A2 → A3 → A4 → Prop) (μ : A1 → A2 → A3 → A4 → Nat) (hs : ∀ (n : Nat) (a1 : A1) (a2 : A2) (a3 : A3) (a4 : A4), I a1 a2 a3 a4 → (∀ (b1 : A1) (b2 : A2) (b3 : A3) (b4 : A4), I b1 b2 b3 b4 → μ b1 b2 b3 b4 < μ a1 a2 a3 a4 → W n b1 b2 b3 b4) → W (n + 1) a1 a2 a3 a4) (a1 : A1) (a2 : A2) (a3 : A3) (a4 : A4) (h : I a1 a2 a3 a4) : ∃ n, W n a1 a2 a3 a4 :=
  loop_m (σ := A1 × A2 × A3 × A4) (fun n s => W n s.1 s.2.1 s.2.2.1 s.2.2.2) (fun s => I s.1 s.2.1 s.2.2.1 s.2.2.2) (fun s => μ s.1 s.2.1 s.2.2.1 s.2.2.2) (fun n s hI hk => hs n s.1 s.2.1 s.2.2.1 s.2.2.2 hI (fun b1 b2 b3 b4 h9 hm => hk (b1, b2, b3, b4) h9 hm)) (a1, a2, a3, a4) h
theorem lp5 {A1 A2 A3 A4 A5 : Type} (W : Nat → A1 → A2 → A3 → A4 → A5 → Prop) (I : A1 → A2 → A3 → A4 → A5 → Prop) (μ : A1 → A2 → A3 → A4 → A5 → Nat) (hs : ∀ (n : Nat) (a1 : A1) (a2 : A2) (a3 : A3) (a4 : A4) (a5 : A5), I a1 a2 a3 a4 a5 → (∀ (b1 : A1) (b2 : A2) (b3 : A3) (b4 : A4) (b5 : A5), I b1 b2 b3 b4 b5 → μ b1 b2 b3 b4 b5 < μ a1 a2 a3 a4 a5 → W n b1 b2 b3 b4 b5) → W (n + 1) a1 a2 a3 a4 a5) (a1 : A1) (a2 : A2) (a3 : A3) (a4 : A4) (a5 : A5) (h : I a1 a2 a3 a4 a5) : ∃ n, W n a1 a2 a3 a4 a5 :=
  loop_m (σ := A1 × A2 × A3 × A4 × A5) (fun n s => W n s.1 s.2.1 s.2.2.1 s.2.2.2.1 s.2.2.2.2) (fun s => I s.1 s.2.1 s.2.2.1 s.2.2.2.1 s.2.2.2.2) (fun s => μ s.1 s.2.1 s.2.2.1 s.2.2.2.1 s.2.2.2.2) (fun n s hI hk => hs n s.1 s.2.1 s.2.2.1 s.2.2.2.1 s.2.2.2.2 hI (fun b1 b2 b3 b4 b5 h9 hm => hk (b1, b2, b3, b4, b5) h9 hm)) (a1, a2, a3, a4, a5) h
theorem lp6 {A1 A2 A3 A4 A5 A6 : Type} (W : Nat → A1 → A2 → A3 → A4 → A5 → A6 → Prop) (I : A1 → A2 → A3 → A4 → A5 → A6 → Prop) (μ : A1 → A2 → A3 → A4 → A5 → A6 → Nat) (hs : ∀ (n : Nat) (a1 : A1) (a2 : A2) (a3 : A3) (a4 : A4) (a5 : A5) (a6 : A6), I a1 a2 a3 a4 a5 a6 → (∀ (b1 : A1) (b2 : A2) (b3 : A3) (b4 : A4) (b5 : A5) (b6 : A6), I b1 b2 b3 b4 b5 b6 → μ b1 b2 b3 b4 b5 b6 < μ a1 a2 a3 a4 a5 a6 → W n b1 b2 b3 b4 b5 b6) → W (n + 1) a1 a2 a3 a4 a5 a6) (a1 : A1) (a2 : A2) (a3 : A3) (a4 : A4) (a5 : A5) (a6 : A6) (h : I a1 a2 a3 a4 a5 a6) : ∃ n, W n a1 a2 a3 a4 a5 a6 :=
  loop_m (σ := A1 × A2 × A3 × A4 × A5 × A6) (fun n s => W n s.1 s.2.1 s.2.2.1 s.2.2.2.1 s.2.2.2.2.1 s.2.2.2.2.2) (fun s => I s.1 s.2.1 s.2.2.1 s.2.2.2.1 s.2.2.2.2.1 s.2.2.2.2.2) (fun s => μ s.1 s.2.1 s.2.2.1 s.2.2.2.1 s.2.2.2.2.1 s.2.2.2.2.2) (fun n s hI hk => hs n s.1 s.2.1 s.2.2.1 s.2.2.2.1 s.2.2.2.2.1 s.2.2.2.2.2 hI (fun b1 b2 b3 b4 b5 b6 h9 hm => hk (b1, b2, b3, b4, b5, b6) h9 hm)) (a1, a2, a3, a4, a5, a6) h
theorem lp7 {A1 A2 A3 A4 A5 A6 A7 : Type} (W : Nat → A1 → A2 → A3 → A4 → A5 → A6 → A7 → Prop) (I : A1 → A2 → A3 → A4 → A5 → A6 → A7 → Prop) (μ : A1 → A2 → A3 → A4 → A5 → A6 → A7 → Nat) (hs : ∀ (n : Nat) (a1 : A1) (a2 : A2) (a3 : A3) (a4 : A4) (a5 : A5) (a6 : A6) (a7 : A7), I a1 a2 a3 a4 a5 a6 a7 → (∀ (b1 : A1) (b2 : A2) (b3 : A3) (b4 : A4) (b5 : A5) (b6 : A6) (b7 : A7), I b1 b2 b3 b4 b5 b6 b7 → μ b1 b2 b3 b4 b5 b6 b7 < μ a1 a2 a3 a4 a5 a6 a7 → W n b1 b2 b3 b4 b5 b6 b7) → W (n + 1) a1 a2 a3 a4 a5 a6 a7) (a1 : A1) (a2 : A2) (a3 : A3) (a4 : A4) (a5 : A5) (a6 : A6) (a7 : A7) (h : I a1 a2 a3 a4 a5 a6 a7) : ∃ n, W n a1 a2 a3 a4 a5 a6 a7 :=
  loop_m (σ := A1 × A2 × A3 × A4 × A5 × A6 × A7) (fun n s => W n s.1 s.2.1 s.2.2.1 s.2.2.2.1 s.2.2.2.2.1 s.2.2.2.2.2.1 s.2.2.2.2.2.2) (fun s => I s.1 s.2.1 s.2.2.1 s.2.2.2.1 s.2.2.2.2.1 s.2.2.2.2.2.1 s.2.2.2.2.2.2) (fun s => μ s.1 s.2.1 s.2.2.1 s.2.2.2.1 s.2.2.2.2.1 s.2.2.2.2.2.1 s.2.2.2.2.2.2) (fun n s hI hk => hs n s.1 s.2.1 s.2.2.1 s.2.2.2.1 s.2.2.2.2.1 s.2.2.2.2.2.1 s.2.2.2.2.2.2 hI (fun b1 b2 b3 b4 b5 b6 b7 h9 hm => hk (b1, b2, b3, b4, b5, b6, b7) h9 hm)) (a1, a2, a3, a4, a5, a6, a7) h
theorem lp8 {A1 A2 A3 A4 A5 A6 A7 A8 : Type} (W : Nat → A1 → A2 → A3 → A4 → A5 → A6 → A7 → A8 → Prop) (I : A1 → A2 → A3 → A4 → A5 → A6 → A7 → A8 → Prop) (μ : A1 → A2 → A3 → A4 → A5 → A6 → A7 → A8 → Nat) (hs : ∀ (n : Nat) (a1 : A1) (a2 : A2) (a3 : A3) (a4 : A4) (a5 : A5) (a6 : A6) (a7 : A7) (a8 : A8), I a1 a2 a3 a4 a5 a6 a7 a8 → (∀ (b1 : A1) (b2 : A2) (b3 : A3) (b4 : A4) (b5 : A5) (b6 : A6) (b7 : A7) (b8 : A8), I b1 b2 b3 b4 b5 b6 b7 b8 → μ b1 b2 b3 b4 b5 b6 b7 b8 < μ a1 a2 a3 a4 a5 a6 a7 a8 → W n b1 b2 b3 b4 b5 b6 b7 b8) → W (n + 1) a1 a2 a3 a4 a5 a6 a7 a8) (a1 : A1) (a2 : A2) (a3 : A3) (a4 : A4) (a5 : A5) (a6 : A6) (a7 : A7) (a8 : A8) (h : I a1 a2 a3 a4 a5 a6 a7 a8) : ∃ n, W n a1 a2 a3 a4 a5 a6 a7 a8 :=
  loop_m (σ := A1 × A2 × A3 × A4 × A5 × A6 × A7 × A8) (fun n s => W n s.1 s.2.1 s.2.2.1 s.2.2.2.1 s.2.2.2.2.1 s.2.2.2.2.2.1 s.2.2.2.2.2.2.1 s.2.2.2.2.2.2.2) (fun s => I s.1 s.2.1 s.2.2.1 s.2.2.2.1 s.2.2.2.2.1 s.2.2.2.2.2.1 s.2.2.2.2.2.2.1 s.2.2.2.2.2.2.2) (fun s => μ s.1 s.2.1 s.2.2.1 s.2.2.2.1 s.2.2.2.2.1 s.2.2.2.2.2.1 s.2.2.2.2.2.2.1 s.2.2.2.2.2.2.2) (fun n s hI hk => hs n s.1 s.2.1 s.2.2.1 s.2.2.2.1 s.2.2.2.2.1 s.2.2.2.2.2.1 s.2.2.2.2.2.2.1 s.2.2.2.2.2.2.2 hI (fun b1 b2 b3 b4 b5 b6 b7 b8 h9 hm => hk (b1, b2, b3, b4, b5, b6, b7, b8) h9 hm)) (a1, a2, a3, a4, a5, a6, a7, a8) h
theorem lp9 {A1 A2 A3 A4 A5 A6 A7 A8 A9 : Type} (W : Nat → A1 → A2 → A3 → A4 → A5 → A6 → A7 → A8 → A9 → Prop) (I : A1 → A2 → A3 → A4 → A5 → A6 → A7 → A8 → A9 → Prop) (μ : A1 → A2 → A3 → A4 → A5 → A6 → A7 → A8 → A9 → Nat) (hs : ∀ (n : Nat) (a1 : A1) (a2 : A2) (a3 : A3) (a4 : A4) (a5 : A5) (a6 : A6) (a7 : A7) (a8 : A8) (a9 : A9), I a1 a2 a3 a4 a5 a6 a7 a8 a9 → (∀ (b1 : A1) (b2 : A2) (b3 : A3) (b4 : A4) (b5 : A5) (b6 : A6) (b7 : A7) (b8 : A8) (b9 : A9), I b1 b2 b3 b4 b5 b6 b7 b8 b9 → μ b1 b2 b3 b4 b5 b6 b7 b8 b9 < μ a1 a2 a3 a4 a5 a6 a7 a8 a9 → W n b1 b2 b3 b4 b5 b6 b7 b8 b9) → W (n + 1) a1 a2 a3 a4 a5 a6 a7 a8 a9) (a1 : A1) (a2 : A2) (a3 : A3) (a4 : A4) (a5 : A5) (a6 : A6) (a7 : A7) (a8 : A8) (a9 : A9) (h : I a1 a2 a3 a4 a5 a6 a7 a8 a9) : ∃ n, W n a1 a2 a3 a4 a5 a6 a7 a8 a9 :=
  loop_m (σ := A1 × A2 × A3 × A4 × A5 × A6 × A7 × A8 × A9) (fun n s => W n s.1 s.2.1 s.2.2.1 s.2.2.2.1 s.2.2.2.2.1 s.2.2.2.2.2.1 s.2.2.2.2.2.2.1 s.2.2.2.2.2.2.2.1 s.2.2.2.2.2.2.2.2) (fun s => I s.1 s.2.1 s.2.2.1 s.2.2.2.1 s.2.2.2.2.1 s.2.2.2.2.2.1 s.2.2.2.2.2.2.1 s.2.2.2.2.2.2.2.1 s.2.2.2.2.2.2.2.2) (fun s => μ s.1 s.2.1 s.2.2.1 s.2.2.2.1 s.2.2.2.2.1 s.2.2.2.2.2.1 s.2.2.2.2.2.2.1 s.2.2.2.2.2.2.2.1 s.2.2.2.2.2.2.2.2) (fun n s hI hk => hs n s.1 s.2.1 s.2.2.1 s.2.2.2.1 s.2.2.2.2.1 s.2.2.2.2.2.1 s.2.2.2.2.2.2.1 s.2.2.2.2.2.2.2.1 s.2.2.2.2.2.2.2.2 hI (fun b1 b2 b3 b4 b5 b6 b7 b8 b9 h9 hm => hk (b1, b2, b3, b4, b5, b6, b7, b8, b9) h9 hm)) (a1, a2, a3, a4, a5, a6, a7, a8, a9) h
theorem lp10 {A1 A2 A3 A4 A5 A6 A7 A8 A9 A10 : Type} (W : Nat → A1 → A2 → A3 → A4 → A5 → A6 → A7 → A8 → A9 → A10 → Prop) (I : A1 → A2 → A3 → A4 → A5 → A6 → A7 → A8 → A9 → A10 → Prop) (μ : A1 → A2 → A3 → A4 → A5 → A6 → A7 → A8 → A9 → A10 → Nat) (hs : ∀ (n : Nat) (a1 : A1) (a2 : A2) (a3 : A3) (a4 : A4) (a5 : A5) (a6 : A6) (a7 : A7) (a8 : A8) (a9 : A9) (a10 : A10), I a1 a2 a3 a4 a5 a6 a7 a8 a9 a10 → (∀ (b1 : A1) (b2 : A2) (b3 : A3) (b4 : A4) (b5 : A5) (b6 : A6) (b7 : A7) (b8 : A8) (b9 : A9) (b10 : A10), I b1 b2 b3 b4 b5 b6 b7 b8 b9 b10 → μ b1 b2 b3 b4 b5 b6 b7 b8 b9 b10 < μ a1 a2 a3 a4 a5 a6 a7 a8 a9 a10 → W n b1 b2 b3 b4 b5 b6 b7 b8 b9 b10) → W (n + 1) a1 a2 a3 a4 a5 a6 a7 a8 a9 a10) (a1 : A1) (a2 : A2) (a3 : A3) (a4 : A4) (a5 : A5) (a6 : A6) (a7 : A7) (a8 : A8) (a9 : A9) (a10 : A10) (h : I a1 a2 a3 a4 a5 a6 a7 a8 a9 a10) : ∃ n, W n a1 a2 a3 a4 a5 a6 a7 a8 a9 a10 :=
  loop_m (σ := A1 × A2 × A3 × A4 × A5 × A6 × A7 × A8 × A9 × A10) (fun n s => W n s.1 s.2.1 s.2.2.1 s.2.2.2.1 s.2.2.2.2.1 s.2.2.2.2.2.1 s.2.2.2.2.2.2.1 s.2.2.2.2.2.2.2.1 s.2.2.2.2.2.2.2.2.1 s.2.2.2.2.2.2.2.2.2) (fun s => I s.1 s.2.1 s.2.2.1 s.2.2.2.1 s.2.2.2.2.1 s.2.2.2.2.2.1 s.2.2.2.2.2.2.1 s.2.2.2.2.2.2.2.1 s.2.2.2.2.2.2.2.2.1 s.2.2.2.2.2.2.2.2.2) (fun s => μ s.1 s.2.1 s.2.2.1 s.2.2.2.1 s.2.2.2.2.1 s.2.2.2.2.2.1 s.2.2.2.2.2.2.1 s.2.2.2.2.2.2.2.1 s.2.2.2.2.2.2.2.2.1 s.2.2.2.2.2.2.2.2.2) (fun n s hI hk => hs n s.1 s.2.1 s.2.2.1 s.2.2.2.1 s.2.2.2.2.1 s.2.2.2.2.2.1 s.2.2.2.2.2.2.1 s.2.2.2.2.2.2.2.1 s.2.2.2.2.2.2.2.2.1 s.2.2.2.2.2.2.2.2.2 hI (fun b1 b2 b3 b4 b5 b6 b7 b8 b9 b10 h9 hm => hk (b1, b2, b3, b4, b5, b6, b7, b8, b9, b10) h9 hm)) (a1, a2, a3, a4, a5, a6, a7, a8, a9, a10) h
theorem lp11 {A1 A2 A3 A4 A5 A6 A7 A8 A9 A10 A11 : Type} (W : Nat → A1 → A2 → A3 → A4 → A5 → A6 → A7 → A8 → A9 → A10 → A11 → Prop) (I : A1 → A2 → A3 → A4 → A5 → A6 → A7 → A8 → A9 → A10 → A11 → Prop) (μ : A1 → A2 → A3 → A4 → A5 → A6 → A7 → A8 → A9 → A10 → A11 → Nat) (hs : ∀ (n : Nat) (a1 : A1) (a2 : A2) (a3 : A3) (a4 : A4) (a5 : A5) (a6 : A6) (a7 : A7) (a8 : A8) (a9 : A9) (a10 : A10) (a11 : A11), I a1 a2 a3 a4 a5 a6 a7 a8 a9 a10 a11 → (∀ (b1 : A1) (b2 : A2) (b3 : A3) (b4 : A4) (b5 : A5) (b6 : A6) (b7 : A7) (b8 : A8) (b9 : A9) (b10 : A10) (b11 : A11), I b1 b2 b3 b4 b5 b6 b7 b8 b9 b10 b11 → μ b1 b2 b3 b4 b5 b6 b7 b8 b9 b10 b11 < μ a1 a2 a3 a4 a5 a6 a7 a8 a9 a10 a11 → W n b1 b2 b3 b4 b5 b6 b7 b8 b9 b10 b11) → W (n + 1) a1 a2 a3 a4 a5 a6 a7 a8 a9 a10 a11) (a1 : A1) (a2 : A2) (a3 : A3) (a4 : A4) (a5 : A5) (a6 : A6) (a7 : A7) (a8 : A8) (a9 : A9) (a10 : A10) (a11 : A11) (h : I a1 a2 a3 a4 a5 a6 a7 a8 a9 a10 a11) : ∃ n, W n a1 a2 a3 a4 a5 a6 a7 a8 a9 a10 a11 :=
  loop_m (σ := A1 × A2 × A3 × A4 × A5 × A6 × A7 × A8 × A9 × A10 × A11) (fun n s => W n s.1 s.2.1 s.2.2.1 s.2.2.2.1 s.2.2.2.2.1 s.2.2.2.2.2.1 s.2.2.2.2.2.2.1 s.2.2.2.2.2.2.2.1 s.2.2.2.2.2.2.2.2.1 s.2.2.2.2.2.2.2.2.2.1 s.2.2.2.2.2.2.2.2.2.2) (fun s => I s.1 s.2.1 s.2.2.1 s.2.2.2.1 s.2.2.2.2.1 s.2.2.2.2.2.1 s.2.2.2.2.2.2.1 s.2.2.2.2.2.2.2.1 s.2.2.2.2.2.2.2.2.1 s.2.2.2.2.2.2.2.2.2.1 s.2.2.2.2.2.2.2.2.2.2) (fun s => μ s.1 s.2.1 s.2.2.1 s.2.2.2.1 s.2.2.2.2.1 s.2.2.2.2.2.1 s.2.2.2.2.2.2.1 s.2.2.2.2.2.2.2.1 s.2.2.2.2.2.2.2.2.1 s.2.2.2.2.2.2.2.2.2.1 s.2.2.2.2.2.2.2.2.2.2) (fun n s hI hk => hs n s.1 s.2.1 s.2.2.1 s.2.2.2.1 s.2.2.2.2.1 s.2.2.2.2.2.1 s.2.2.2.2.2.2.1 s.2.2.2.2.2.2.2.1 s.2.2.2.2.2.2.2.2.1 s.2.2.2.2.2.2.2.2.2.1 s.2.2.2.2.2.2.2.2.2.2 hI (fun b1 b2 b3 b4 b5 b6 b7 b8 b9 b10 b11 h9 hm => hk (b1, b2, b3, b4, b5, b6, b7, b8, b9, b10, b11) h9 hm)) (a1, a2, a3, a4, a5, a6, a7, a8, a9, a10, a11) h
theorem lp12 {A1 A2 A3 A4 A5 A6 A7 A8 A9 A10 A11 A12 : Type} (W : Nat → A1 → A2 → A3 → A4 → A5 → A6 → A7 → A8 → A9 → A10 → A11 → A12 → Prop) (I : A1 → A2 → A3 → A4 → A5 → A6 → A7 → A8 → A9 → A10 → A11 → A12 → Prop) (μ : A1 → A2 → A3 → A4 → A5 → A6 → A7 → A8 → A9 → A10 → A11 → A12 → Nat) (hs : ∀ (n : Nat) (a1 : A1) (a2 : A2) (a3 : A3) (a4 : A4) (a5 : A5) (a6 : A6) (a7 : A7) (a8 : A8) (a9 : A9) (a10 : A10) (a11 : A11) (a12 : A12), I a1 a2 a3 a4 a5 a6 a7 a8 a9 a10 a11 a12 → (∀ (b1 : A1) (b2 : A2) (b3 : A3) (b4 : A4) (b5 : A5) (b6 : A6) (b7 : A7) (b8 : A8) (b9 : A9) (b10 : A10) (b11 : A11) (b12 : A12), I b1 b2 b3 b4 b5 b6 b7 b8 b9 b10 b11 b12 → μ b1 b2 b3 b4 b5 b6 b7 b8 b9 b10 b11 b12 < μ a1 a2 a3 a4 a5 a6 a7 a8 a9 a10 a11 a12 → W n b1 b2 b3 b4 b5 b6 b7 b8 b9 b10 b11 b12) → W (n + 1) a1 a2 a3 a4 a5 a6 a7 a8 a9 a10 a11 a12) (a1 : A1) (a2 : A2) (a3 : A3) (a4 : A4) (a5 : A5) (a6 : A6) (a7 : A7) (a8 : A8) (a9 : A9) (a10 : A10) (a11 : A11) (a12 : A12) (h : I a1 a2 a3 a4 a5 a6 a7 a8 a9 a10 a11 a12) : ∃ n, W n a1 a2 a3 a4 a5 a6 a7 a8 a9 a10 a11 a12 :=
  loop_m (σ := A1 × A2 × A3 × A4 × A5 × A6 × A7 × A8 × A9 × A10 × A11 × A12) (fun n s => W n s.1 s.2.1 s.2.2.1 s.2.2.2.1 s.2.2.2.2.1 s.2.2.2.2.2.1 s.2.2.2.2.2.2.1 s.2.2.2.2.2.2.2.1 s.2.2.2.2.2.2.2.2.1 s.2.2.2.2.2.2.2.2.2.1 s.2.2.2.2.2.2.2.2.2.2.1 s.2.2.2.2.2.2.2.2.2.2.2) (fun s => I s.1 s.2.1 s.2.2.1 s.2.2.2.1 s.2.2.2.2.1 s.2.2.2.2.2.1 s.2.2.2.2.2.2.1 s.2.2.2.2.2.2.2.1 s.2.2.2.2.2.2.2.2.1 s.2.2.2.2.2.2.2.2.2.1 s.2.2.2.2.2.2.2.2.2.2.1 s.2.2.2.2.2.2.2.2.2.2.2) (fun s => μ s.1 s.2.1 s.2.2.1 s.2.2.2.1 s.2.2.2.2.1 s.2.2.2.2.2.1 s.2.2.2.2.2.2.1 s.2.2.2.2.2.2.2.1 s.2.2.2.2.2.2.2.2.1 s.2.2.2.2.2.2.2.2.2.1 s.2.2.2.2.2.2.2.2.2.2.1 s.2.2.2.2.2.2.2.2.2.2.2) (fun n s hI hk => hs n s.1 s.2.1 s.2.2.1 s.2.2.2.1 s.2.2.2.2.1 s.2.2.2.2.2.1 s.2.2.2.2.2.2.1 s.2.2.2.2.2.2.2.1 s.2.2.2.2.2.2.2.2.1 s.2.2.2.2.2.2.2.2.2.1 s.2.2.2.2.2.2.2.2.2.2.1 s.2.2.2.2.2.2.2.2.2.2.2 hI (fun b1 b2 b3 b4 b5 b6 b7 b8 b9 b10 b11 b12 h9 hm => hk (b1, b2, b3, b4, b5, b6, b7, b8, b9, b10, b11, b12) h9 hm)) (a1, a2, a3, a4, a5, a6, a7, a8, a9, a10, a11, a12) h
theorem lp13 {A1 A2 A3 A4 A5 A6 A7 A8 A9 A10 A11 A12 A13 : Type} (W : Nat → A1 → A2 → A3 → A4 → A5 → A6 → A7 → A8 → A9 → A10 → A11 → A12 → A13 → Prop) (I : A1 → A2 → A3 → A4 → A5 → A6 → A7 → A8 → A9 → A10 → A11 → A12 → A13 → Prop) (μ : A1 → A2 → A3 → A4 → A5 → A6 → A7 → A8 → A9 → A10 → A11 → A12 → A13 → Nat) (hs : ∀ (n : Nat) (a1 : A1) (a2 : A2) (a3 : A3) (a4 : A4) (a5 : A5) (a6 : A6) (a7 : A7) (a8 : A8) (a9 : A9) (a10 : A10) (a11 : A11) (a12 : A12) (a13 : A13), I a1 a2 a3 a4 a5 a6 a7 a8 a9 a10 a11 a12 a13 → (∀ (b1 : A1) (b2 : A2) (b3 : A3) (b4 : A4) (b5 : A5) (b6 : A6) (b7 : A7) (b8 : A8) (b9 : A9) (b10 : A10) (b11 : A11) (b12 : A12) (b13 : A13), I b1 b2 b3 b4 b5 b6 b7 b8 b9 b10 b11 b12 b13 → μ b1 b2 b3 b4 b5 b6 b7 b8 b9 b10 b11 b12 b13 < μ a1 a2 a3 a4 a5 a6 a7 a8 a9 a10 a11 a12 a13 → W n b1 b2 b3 b4 b5 b6 b7 b8 b9 b10 b11 b12 b13) → W (n + 1) a1 a2 a3 a4 a5 a6 a7 a8 a9 a10 a11 a12 a13) (a1 : A1) (a2 : A2) (a3 : A3) (a4 : A4) (a5 : A5) (a6 : A6) (a7 : A7) (a8 : A8) (a9 : A9) (a10 : A10) (a11 : A11) (a12 : A12) (a13 : A13) (h : I a1 a2 a3 a4 a5 a6 a7 a8 a9 a10 a11 a12 a13) : ∃ n, W n a1 a2 a3 a4 a5 a6 a7 a8 a9 a10 a11 a12 a13 :=
  loop_m (σ := A1 × A2 × A3 × A4 × A5 × A6 × A7 × A8 × A9 × A10 × A11 × A12 × A13) (fun n s => W n s.1 s.2.1 s.2.2.1 s.2.2.2.1 s.2.2.2.2.1 s.2.2.2.2.2.1 s.2.2.2.2.2.2.1 s.2.2.2.2.2.2.2.1 s.2.2.2.2.2.2.2.2.1 s.2.2.2.2.2.2.2.2.2.1 s.2.2.2.2.2.2.2.2.2.2.1 s.2.2.2.2.2.2.2.2.2.2.2.1 s.2.2.2.2.2.2.2.2.2.2.2.2) (fun s => I s.1 s.2.1 s.2.2.1 s.2.2.2.1 s.2.2.2.2.1 s.2.2.2.2.2.1 s.2.2.2.2.2.2.1 s.2.2.2.2.2.2.2.1 s.2.2.2.2.2.2.2.2.1 s.2.2.2.2.2.2.2.2.2.1 s.2.2.2.2.2.2.2.2.2.2.1 s.2.2.2.2.2.2.2.2.2.2.2.1 s.2.2.2.2.2.2.2.2.2.2.2.2) (fun s => μ s.1 s.2.1 s.2.2.1 s.2.2.2.1 s.2.2.2.2.1 s.2.2.2.2.2.1 s.2.2.2.2.2.2.1 s.2.2.2.2.2.2.2.1 s.2.2.2.2.2.2.2.2.1 s.2.2.2.2.2.2.2.2.2.1 s.2.2.2.2.2.2.2.2.2.2.1 s.2.2.2.2.2.2.2.2.2.2.2.1 s.2.2.2.2.2.2.2.2.2.2.2.2) (fun n s hI hk => hs n s.1 s.2.1 s.2.2.1 s.2.2.2.1 s.2.2.2.2.1 s.2.2.2.2.2.1 s.2.2.2.2.2.2.1 s.2.2.2.2.2.2.2.1 s.2.2.2.2.2.2.2.2.1 s.2.2.2.2.2.2.2.2.2.1 s.2.2.2.2.2.2.2.2.2.2.1 s.2.2.2.2.2.2.2.2.2.2.2.1 s.2.2.2.2.2.2.2.2.2.2.2.2 hI (fun b1 b2 b3 b4 b5 b6 b7 b8 b9 b10 b11 b12 b13 h9 hm => hk (b1, b2, b3, b4, b5, b6, b7, b8, b9, b10, b11, b12, b13) h9 hm)) (a1, a2, a3, a4, a5, a6, a7, a8, a9, a10, a11, a12, a13) h
theorem lp14 {A1 A2 A3 A4 A5 A6 A7 A8 A9 A10 A11 A12 A13 A14 : Type} (W : Nat → A1 → A2 → A3 → A4 → A5 → A6 → A7 → A8 → A9 → A10 → A11 → A12 → A13 → A14 → Prop) (I : A1 → A2 → A3 → A4 → A5 → A6 → A7 → A8 → A9 → A10 → A11 → A12 → A13 → A14 → Prop) (μ : A1 → A2 → A3 → A4 → A5 → A6 → A7 → A8 → A9 → A10 → A11 → A12 → A13 → A14 → Nat) (hs : ∀ (n : Nat) (a1 : A1) (a2 : A2) (a3 : A3) (a4 : A4) (a5 : A5) (a6 : A6) (a7 : A7) (a8 : A8) (a9 : A9) (a10 : A10) (a11 : A11) (a12 : A12) (a13 : A13) (a14 : A14), I a1 a2 a3 a4 a5 a6 a7 a8 a9 a10 a11 a12 a13 a14 → (∀ (b1 : A1) (b2 : A2) (b3 : A3) (b4 : A4) (b5 : A5) (b6 : A6) (b7 : A7) (b8 : A8) (b9 : A9) (b10 : A10) (b11 : A11) (b12 : A12) (b13 : A13) (b14 : A14), I b1 b2 b3 b4 b5 b6 b7 b8 b9 b10 b11 b12 b13 b14 → μ b1 b2 b3 b4 b5 b6 b7 b8 b9 b10 b11 b12 b13 b14 < μ a1 a2 a3 a4 a5 a6 a7 a8 a9 a10 a11 a12 a13 a14 → W n b1 b2 b3 b4 b5 b6 b7 b8 b9 b10 b11 b12 b13 b14) → W (n + 1) a1 a2 a3 a4 a5 a6 a7 a8 a9 a10 a11 a12 a13 a14) (a1 : A1) (a2 : A2) (a3 : A3) (a4 : A4) (a5 : A5) (a6 : A6) (a7 : A7) (a8 : A8) (a9 : A9) (a10 : A10) (a11 : A11) (a12 : A12) (a13 : A13) (a14 : A14) (h : I a1 a2 a3 a4 a5 a6 a7 a8 a9 a10 a11 a12 a13 a14) : ∃ n, W n a1 a2 a3 a4 a5 a6 a7 a8 a9 a10 a11 a12 a13 a14 :=
  loop_m (σ := A1 × A2 × A3 × A4 × A5 × A6 × A7 × A8 × A9 × A10 × A11 × A12 × A13 × A14) (fun n s => W n s.1 s.2.1 s.2.2.1 s.2.2.2.1 s.2.2.2.2.1 s.2.2.2.2.2.1 s.2.2.2.2.2.2.1 s.2.2.2.2.2.2.2.1 s.2.2.2.2.2.2.2.2.1 s.2.2.2.2.2.2.2.2.2.1 s.2.2.2.2.2.2.2.2.2.2.1 s.2.2.2.2.2.2.2.2.2.2.2.1 s.2.2.2.2.2.2.2.2.2.2.2.2.1 s.2.2.2.2.2.2.2.2.2.2.2.2.2) (fun s => I s.1 s.2.1 s.2.2.1 s.2.2.2.1 s.2.2.2.2.1 s.2.2.2.2.2.1 s.2.2.2.2.2.2.1 s.2.2.2.2.2.2.2.1 s.2.2.2.2.2.2.2.2.1 s.2.2.2.2.2.2.2.2.2.1 s.2.2.2.2.2.2.2.2.2.2.1 s.2.2.2.2.2.2.2.2.2.2.2.1 s.2.2.2.2.2.2.2.2.2.2.2.2.1 s.2.2.2.2.2.2.2.2.2.2.2.2.2) (fun s => μ s.1 s.2.1 s.2.2.1 s.2.2.2.1 s.2.2.2.2.1 s.2.2.2.2.2.1 s.2.2.2.2.2.2.1 s.2.2.2.2.2.2.2.1 s.2.2.2.2.2.2.2.2.1 s.2.2.2.2.2.2.2.2.2.1 s.2.2.2.2.2.2.2.2.2.2.1 s.2.2.2.2.2.2.2.2.2.2.2.1 s.2.2.2.2.2.2.2.2.2.2.2.2.1 s.2.2.2.2.2.2.2.2.2.2.2.2.2) (fun n s hI hk => hs n s.1 s.2.1 s.2.2.1 s.2.2.2.1 s.2.2.2.2.1 s.2.2.2.2.2.1 s.2.2.2.2.2.2.1 s.2.2.2.2.2.2.2.1 s.2.2.2.2.2.2.2.2.1 s.2.2.2.2.2.2.2.2.2.1 s.2.2.2.2.2.2.2.2.2.2.1 s.2.2.2.2.2.2.2.2.2.2.2.1 s.2.2.2.2.2.2.2.2.2.2.2.2.1 s.2.2.2.2.2.2.2.2.2.2.2.2.2 hI (fun b1 b2 b3 b4 b5 b6 b7 b8 b9 b10 b11 b12 b13 b14 h9 hm => hk (b1, b2, b3, b4, b5, b6, b7, b8, b9, b10, b11, b12, b13, b14) h9 hm)) (a1, a2, a3, a4, a5, a6, a7, a8, a9, a10, a11, a12, a13, a14) h
theorem lp15 {A1 A2 A3 A4 A5 A6 A7 A8 A9 A10 A11 A12 A13 A14 A15 : Type} (W : Nat → A1 → A2 → A3 → A4 → A5 → A6 → A7 → A8 → A9 → A10 → A11 → A12 → A13 → A14 → A15 → Prop) (I : A1 → A2 → A3 → A4 → A5 → A6 → A7 → A8 → A9 → A10 → A11 → A12 → A13 → A14 → A15 → Prop) (μ : A1 → A2 → A3 → A4 → A5 → A6 → A7 → A8 → A9 → A10 → A11 → A12 → A13 → A14 → A15 → Nat) (hs : ∀ (n : Nat) (a1 : A1) (a2 : A2) (a3 : A3) (a4 : A4) (a5 : A5) (a6 : A6) (a7 : A7) (a8 : A8) (a9 : A9) (a10 : A10) (a11 : A11) (a12 : A12) (a13 : A13) (a14 : A14) (a15 : A15), I a1 a2 a3 a4 a5 a6 a7 a8 a9 a10 a11 a12 a13 a14 a15 → (∀ (b1 : A1) (b2 : A2) (b3 : A3) (b4 : A4) (b5 : A5) (b6 : A6) (b7 : A7) (b8 : A8) (b9 : A9) (b10 : A10) (b11 : A11) (b12 : A12) (b13 : A13) (b14 : A14) (b15 : A15), I b1 b2 b3 b4 b5 b6 b7 b8 b9 b10 b11 b12 b13 b14 b15 → μ b1 b2 b3 b4 b5 b6 b7 b8 b9 b10 b11 b12 b13 b14 b15 < μ a1 a2 a3 a4 a5 a6 a7 a8 a9 a10 a11 a12 a13 a14 a15 → W n b1 b2 b3 b4 b5 b6 b7 b8 b9 b10 b11 b12 b13 b14 b15) → W (n + 1) a1 a2 a3 a4 a5 a6 a7 a8 a9 a10 a11 a12 a13 a14 a15) (a1 : A1) (a2 : A2) (a3 : A3) (a4 : A4) (a5 : A5) (a6 : A6) (a7 : A7) (a8 : A8) (a9 : A9) (a10 : A10) (a11 : A11) (a12 : A12) (a13 : A13) (a14 : A14) (a15 : A15) (h : I a1 a2 a3 a4 a5 a6 a7 a8 a9 a10 a11 a12 a13 a14 a15) : ∃ n, W n a1 a2 a3 a4 a5 a6 a7 a8 a9 a10 a11 a12 a13 a14 a15 :=
  loop_m (σ := A1 × A2 × A3 × A4 × A5 × A6 × A7 × A8 × A9 × A10 × A11 × A12 × A13 × A14 × A15) (fun n s => W n s.1 s.2.1 s.2.2.1 s.2.2.2.1 s.2.2.2.2.1 s.2.2.2.2.2.1 s.2.2.2.2.2.2.1 s.2.2.2.2.2.2.2.1 s.2.2.2.2.2.2.2.2.1 s.2.2.2.2.2.2.2.2.2.1 s.2.2.2.2.2.2.2.2.2.2.1 s.2.2.2.2.2.2.2.2.2.2.2.1 s.2.2.2.2.2.2.2.2.2.2.2.2.1 s.2.2.2.2.2.2.2.2.2.2.2.2.2.1 s.2.2.2.2.2.2.2.2.2.2.2.2.2.2) (fun s => I s.1 s.2.1 s.2.2.1 s.2.2.2.1 s.2.2.2.2.1 s.2.2.2.2.2.1 s.2.2.2.2.2.2.1 s.2.2.2.2.2.2.2.1 s.2.2.2.2.2.2.2.2.1 s.2.2.2.2.2.2.2.2.2.1 s.2.2.2.2.2.2.2.2.2.2.1 s.2.2.2.2.2.2.2.2.2.2.2.1 s.2.2.2.2.2.2.2.2.2.2.2.2.1 s.2.2.2.2.2.2.2.2.2.2.2.2.2.1 s.2.2.2.2.2.2.2.2.2.2.2.2.2.2) (fun s => μ s.1 s.2.1 s.2.2.1 s.2.2.2.1 s.2.2.2.2.1 s.2.2.2.2.2.1 s.2.2.2.2.2.2.1 s.2.2.2.2.2.2.2.1 s.2.2.2.2.2.2.2.2.1 s.2.2.2.2.2.2.2.2.2.1 s.2.2.2.2.2.2.2.2.2.2.1 s.2.2.2.2.2.2.2.2.2.2.2.1 s.2.2.2.2.2.2.2.2.2.2.2.2.1 s.2.2.2.2.2.2.2.2.2.2.2.2.2.1 s.2.2.2.2.2.2.2.2.2.2.2.2.2.2) (fun n s hI hk => hs n s.1 s.2.1 s.2.2.1 s.2.2.2.1 s.2.2.2.2.1 s.2.2.2.2.2.1 s.2.2.2.2.2.2.1 s.2.2.2.2.2.2.2.1 s.2.2.2.2.2.2.2.2.1 s.2.2.2.2.2.2.2.2.2.1 s.2.2.2.2.2.2.2.2.2.2.1 s.2.2.2.2.2.2.2.2.2.2.2.1 s.2.2.2.2.2.2.2.2.2.2.2.2.1 s.2.2.2.2.2.2.2.2.2.2.2.2.2.1 s.2.2.2.2.2.2.2.2.2.2.2.2.2.2 hI (fun b1 b2 b3 b4 b5 b6 b7 b8 b9 b10 b11 b12 b13 b14 b15 h9 hm => hk (b1, b2, b3, b4, b5, b6, b7, b8, b9, b10, b11, b12, b13, b14, b15) h9 hm)) (a1, a2, a3, a4, a5, a6, a7, a8, a9, a10, a11, a12, a13, a14, a15) h
theorem lp16 {A1 A2 A3 A4 A5 A6 A7 A8 A9 A10 A11 A12 A13 A14 A15 A16 : Type} (W : Nat → A1 → A2 → A3 → A4 → A5 → A6 → A7 → A8 → A9 → A10 → A11 → A12 → A13 → A14 → A15 → A16 → Prop) (I : A1 → A2 → A3 → A4 → A5 → A6 → A7 → A8 → A9 → A10 → A11 → A12 → A13 → A14 → A15 → A16 → Prop) (μ : A1 → A2 → A3 → A4 → A5 → A6 → A7 → A8 → A9 → A10 → A11 → A12 → A13 → A14 → A15 → A16 → Nat) (hs : ∀ (n : Nat) (a1 : A1) (a2 : A2) (a3 : A3) (a4 : A4) (a5 : A5) (a6 : A6) (a7 : A7) (a8 : A8) (a9 : A9) (a10 : A10) (a11 : A11) (a12 : A12) (a13 : A13) (a14 : A14) (a15 : A15) (a16 : A16), I a1 a2 a3 a4 a5 a6 a7 a8 a9 a10 a11 a12 a13 a14 a15 a16 → (∀ (b1 : A1) (b2 : A2) (b3 : A3) (b4 : A4) (b5 : A5) (b6 : A6) (b7 : A7) (b8 : A8) (b9 : A9) (b10 : A10) (b11 : A11) (b12 : A12) (b13 : A13) (b14 : A14) (b15 : A15) (b16 : A16), I b1 b2 b3 b4 b5 b6 b7 b8 b9 b10 b11 b12 b13 b14 b15 b16 → μ b1 b2 b3 b4 b5 b6 b7 b8 b9 b10 b11 b12 b13 b14 b15 b16 < μ a1 a2 a3 a4 a5 a6 a7 a8 a9 a10 a11 a12 a13 a14 a15 a16 → W n b1 b2 b3 b4 b5 b6 b7 b8 b9 b10 b11 b12 b13 b14 b15 b16) → W (n + 1) a1 a2 a3 a4 a5 a6 a7 a8 a9 a10 a11 a12 a13 a14 a15 a16) (a1 : A1) (a2 : A2) (a3 : A3) (a4 : A4) (a5 : A5) (a6 : A6) (a7 : A7) (a8 : A8) (a9 : A9) (a10 : A10) (a11 : A11) (a12 : A12) (a13 : A13) (a14 : A14) (a15 : A15) (a16 : A16) (h : I a1 a2 a3 a4 a5 a6 a7 a8 a9 a10 a11 a12 a13 a14 a15 a16) : ∃ n, W n a1 a2 a3 a4 a5 a6 a7 a8 a9 a10 a11 a12 a13 a14 a15 a16 :=
  loop_m (σ := A1 × A2 × A3 × A4 × A5 × A6 × A7 × A8 × A9 × A10 × A11 × A12 × A13 × A14 × A15 × A16) (fun n s => W n s.1 s.2.1 s.2.2.1 s.2.2.2.1 s.2.2.2.2.1 s.2.2.2.2.2.1 s.2.2.2.2.2.2.1 s.2.2.2.2.2.2.2.1 s.2.2.2.2.2.2.2.2.1 s.2.2.2.2.2.2.2.2.2.1 s.2.2.2.2.2.2.2.2.2.2.1 s.2.2.2.2.2.2.2.2.2.2.2.1 s.2.2.2.2.2.2.2.2.2.2.2.2.1 s.2.2.2.2.2.2.2.2.2.2.2.2.2.1 s.2.2.2.2.2.2.2.2.2.2.2.2.2.2.1 s.2.2.2.2.2.2.2.2.2.2.2.2.2.2.2) (fun s => I s.1 s.2.1 s.2.2.1 s.2.2.2.1 s.2.2.2.2.1 s.2.2.2.2.2.1 s.2.2.2.2.2.2.1 s.2.2.2.2.2.2.2.1 s.2.2.2.2.2.2.2.2.1 s.2.2.2.2.2.2.2.2.2.1 s.2.2.2.2.2.2.2.2.2.2.1 s.2.2.2.2.2.2.2.2.2.2.2.1 s.2.2.2.2.2.2.2.2.2.2.2.2.1 s.2.2.2.2.2.2.2.2.2.2.2.2.2.1 s.2.2.2.2.2.2.2.2.2.2.2.2.2.2.1 s.2.2.2.2.2.2.2.2.2.2.2.2.2.2.2) (fun s => μ s.1 s.2.1 s.2.2.1 s.2.2.2.1 s.2.2.2.2.1 s.2.2.2.2.2.1 s.2.2.2.2.2.2.1 s.2.2.2.2.2.2.2.1 s.2.2.2.2.2.2.2.2.1 s.2.2.2.2.2.2.2.2.2.1 s.2.2.2.2.2.2.2.2.2.2.1 s.2.2.2.2.2.2.2.2.2.2.2.1 s.2.2.2.2.2.2.2.2.2.2.2.2.1 s.2.2.2.2.2.2.2.2.2.2.2.2.2.1 s.2.2.2.2.2.2.2.2.2.2.2.2.2.2.1 s.2.2.2.2.2.2.2.2.2.2.2.2.2.2.2) (fun n s hI hk => hs n s.1 s.2.1 s.2.2.1 s.2.2.2.1 s.2.2.2.2.1 s.2.2.2.2.2.1 s.2.2.2.2.2.2.1 s.2.2.2.2.2.2.2.1 s.2.2.2.2.2.2.2.2.1 s.2.2.2.2.2.2.2.2.2.1 s.2.2.2.2.2.2.2.2.2.2.1 s.2.2.2.2.2.2.2.2.2.2.2.1 s.2.2.2.2.2.2.2.2.2.2.2.2.1 s.2.2.2.2.2.2.2.2.2.2.2.2.2.1 s.2.2.2.2.2.2.2.2.2.2.2.2.2.2.1 s.2.2.2.2.2.2.2.2.2.2.2.2.2.2.2 hI (fun b1 b2 b3 b4 b5 b6 b7 b8 b9 b10 b11 b12 b13 b14 b15 b16 h9 hm => hk (b1, b2, b3, b4, b5, b6, b7, b8, b9, b10, b11, b12, b13, b14, b15, b16) h9 hm)) (a1, a2, a3, a4, a5, a6, a7, a8, a9, a10, a11, a12, a13, a14, a15, a16) h
theorem pk_least (P : Nat → Prop) (h : ∃ k, P k) : ∃ k, P k ∧ ∀ j, j < k → ¬ P j := by
  obtain ⟨k, hk⟩ := h
  induction k using Nat.strongRecOn with
  | ind k ih =>
    by_cases e : ∃ j, j < k ∧ P j
    · obtain ⟨j, hj, pj⟩ := e
      exact ih j hj pj
    · exact ⟨k, hk, fun j hj pj => e ⟨j, hj, pj⟩⟩
theorem rp1 {ρ A1 : Type} (W : Nat → (ρ → Prop) → A1 → Prop) (ok : A1 → Prop) (μ : A1 → Nat) (val : A1 → ρ)
    (hs : ∀ (d : Nat) (post : ρ → Prop) (a1 : A1), ok a1 → post (val a1) → (∀ (post' : ρ → Prop) (b1 : A1), ok b1 → μ b1 < μ a1 → post' (val b1) → W d post' b1) → W (d + 1) post a1) :
    ∀ (d : Nat) (post : ρ → Prop) (a1 : A1), ok a1 → μ a1 < d → post (val a1) → W d post a1 := by
  intro d
  induction d with
  | zero => intro post a1 _ h; omega
  | succ d ih =>
    intro post a1 ho hm hp
    exact hs d post a1 ho hp (fun post' b1 ho' hm' hp' => ih post' b1 ho' (by omega) hp')
theorem rp2 {ρ A1 A2 : Type} (W : Nat → (ρ → Prop) → A1 → A2 → Prop) (ok : A1 → A2 → Prop) (μ : A1 → A2 → Nat) (val : A1 → A2 → ρ)
    (hs : ∀ (d : Nat) (post : ρ → Prop) (a1 : A1) (a2 : A2), ok a1 a2 → post (val a1 a2) → (∀ (post' : ρ → Prop) (b1 : A1) (b2 : A2), ok b1 b2 → μ b1 b2 < μ a1 a2 → post' (val b1 b2) → W d post' b1 b2) → W (d + 1) post a1 a2) :
    ∀ (d : Nat) (post : ρ → Prop) (a1 : A1) (a2 : A2), ok a1 a2 → μ a1 a2 < d → post (val a1 a2) → W d post a1 a2 := by
  intro d
  induction d with
  | zero => intro post a1 a2 _ h; omega
  | succ d ih =>
    intro post a1 a2 ho hm hp
    exact hs d post a1 a2 ho hp (fun post' b1 b2 ho' hm' hp' => ih post' b1 b2 ho' (by omega) hp')
theorem rp3 {ρ A1 A2 A3 : Type} (W : Nat → (ρ → Prop) → A1 → A2 → A3 → Prop) (ok : A1 → A2 → A3 → Prop) (μ : A1 → A2 → A3 → Nat) (val : A1 → A2 → A3 → ρ)
    (hs : ∀ (d : Nat) (post : ρ → Prop) (a1 : A1) (a2 : A2) (a3 : A3), ok a1 a2 a3 → post (val a1 a2 a3) → (∀ (post' : ρ → Prop) (b1 : A1) (b2 : A2) (b3 : A3), ok b1 b2 b3 → μ b1 b2 b3 < μ a1 a2 a3 → post' (val b1 b2 b3) → W d post' b1 b2 b3) → W (d + 1) post a1 a2 a3) :
    ∀ (d : Nat) (post : ρ → Prop) (a1 : A1) (a2 : A2) (a3 : A3), ok a1 a2 a3 → μ a1 a2 a3 < d → post (val a1 a2 a3) → W d post a1 a2 a3 := by
  intro d
  induction d with
  | zero => intro post a1 a2 a3 _ h; omega
  | succ d ih =>
    intro post a1 a2 a3 ho hm hp
    exact hs d post a1 a2 a3 ho hp (fun post' b1 b2 b3 ho' hm' hp' => ih post' b1 b2 b3 ho' (by omega) hp')
theorem rp4 {ρ A1 A2 A3 A4 : Type} (W : Nat → (ρ → Prop) → A1 → A2 → A3 → A4 → Prop) (ok : A1 → A2 → A3 → A4 → Prop) (μ : A1 → A2 → A3 → A4 → Nat) (val : A1 → A2 → A3 → A4 → ρ)
    (hs : ∀ (d : Nat) (post : ρ → Prop) (a1 : A1) (a2 : A2) (a3 : A3) (a4 : A4), ok a1 a2 a3 a4 → post (val a1 a2 a3 a4) → (∀ (post' : ρ → Prop) (b1 : A1) (b2 : A2) (b3 : A3) (b4 : A4), ok b1 b2 b3 b4 → μ b1 b2 b3 b4 < μ a1 a2 a3 a4 → post' (val b1 b2 b3 b4) → W d post' b1 b2 b3 b4) → W (d + 1) post a1 a2 a3 a4) :
    ∀ (d : Nat) (post : ρ → Prop) (a1 : A1) (a2 : A2) (a3 : A3) (a4 : A4), ok a1 a2 a3 a4 → μ a1 a2 a3 a4 < d → post (val a1 a2 a3 a4) → W d post a1 a2 a3 a4 := by
  intro d
  induction d with
  | zero => intro post a1 a2 a3 a4 _ h; omega
  | succ d ih =>
    intro post a1 a2 a3 a4 ho hm hp
    exact hs d post a1 a2 a3 a4 ho hp (fun post' b1 b2 b3 b4 ho' hm' hp' => ih post' b1 b2 b3 b4 ho' (by omega) hp')
theorem rp5 {ρ A1 A2 A3 A4 A5 : Type} (W : Nat → (ρ → Prop) → A1 → A2 → A3 → A4 → A5 → Prop) (ok : A1 → A2 → A3 → A4 → A5 → Prop) (μ : A1 → A2 → A3 → A4 → A5 → Nat) (val : A1 → A2 → A3 → A4 → A5 → ρ)
    (hs : ∀ (d : Nat) (post : ρ → Prop) (a1 : A1) (a2 : A2) (a3 : A3) (a4 : A4) (a5 : A5), ok a1 a2 a3 a4 a5 → post (val a1 a2 a3 a4 a5) → (∀ (post' : ρ → Prop) (b1 : A1) (b2 : A2) (b3 : A3) (b4 : A4) (b5 : A5), ok b1 b2 b3 b4 b5 → μ b1 b2 b3 b4 b5 < μ a1 a2 a3 a4 a5 → post' (val b1 b2 b3 b4 b5) → W d post' b1 b2 b3 b4 b5) → W (d + 1) post a1 a2 a3 a4 a5) :
    ∀ (d : Nat) (post : ρ → Prop) (a1 : A1) (a2 : A2) (a3 : A3) (a4 : A4) (a5 : A5), ok a1 a2 a3 a4 a5 → μ a1 a2 a3 a4 a5 < d → post (val a1 a2 a3 a4 a5) → W d post a1 a2 a3 a4 a5 := by
  intro d
  induction d with
  | zero => intro post a1 a2 a3 a4 a5 _ h; omega
  | succ d ih =>
    intro post a1 a2 a3 a4 a5 ho hm hp
    exact hs d post a1 a2 a3 a4 a5 ho hp (fun post' b1 b2 b3 b4 b5 ho' hm' hp' => ih post' b1 b2 b3 b4 b5 ho' (by omega) hp')
theorem rp6 {ρ A1 A2 A3 A4 A5 A6 : Type} (W : Nat → (ρ → Prop) → A1 → A2 → A3 → A4 → A5 → A6 → Prop) (ok : A1 → A2 → A3 → A4 → A5 → A6 → Prop) (μ : A1 → A2 → A3 → A4 → A5 → A6 → Nat) (val : A1 → A2 → A3 → A4 → A5 → A6 → ρ)
    (hs : ∀ (d : Nat) (post : ρ → Prop) (a1 : A1) (a2 : A2) (a3 : A3) (a4 : A4) (a5 : A5) (a6 : A6), ok a1 a2 a3 a4 a5 a6 → post (val a1 a2 a3 a4 a5 a6) → (∀ (post' : ρ → Prop) (b1 : A1) (b2 : A2) (b3 : A3) (b4 : A4) (b5 : A5) (b6 : A6), ok b1 b2 b3 b4 b5 b6 → μ b1 b2 b3 b4 b5 b6 < μ a1 a2 a3 a4 a5 a6 → post' (val b1 b2 b3 b4 b5 b6) → W d post' b1 b2 b3 b4 b5 b6) → W (d + 1) post a1 a2 a3 a4 a5 a6) :
    ∀ (d : Nat) (post : ρ → Prop) (a1 : A1) (a2 : A2) (a3 : A3) (a4 : A4) (a5 : A5) (a6 : A6), ok a1 a2 a3 a4 a5 a6 → μ a1 a2 a3 a4 a5 a6 < d → post (val a1 a2 a3 a4 a5 a6) → W d post a1 a2 a3 a4 a5 a6 := by
  intro d
  induction d with
  | zero => intro post a1 a2 a3 a4 a5 a6 _ h; omega
  | succ d ih =>
    intro post a1 a2 a3 a4 a5 a6 ho hm hp
    exact hs d post a1 a2 a3 a4 a5 a6 ho hp (fun post' b1 b2 b3 b4 b5 b6 ho' hm' hp' => ih post' b1 b2 b3 b4 b5 b6 ho' (by omega) hp')
theorem rec_p {σ ρ : Type} (W : Nat → (ρ → Prop) → σ → Prop) (ok : σ → Prop) (μ : σ → Nat) (val : σ → ρ)
    (hs : ∀ d s post, ok s → post (val s) → (∀ s' post', ok s' → μ s' < μ s → post' (val s') → W d post' s') → W (d + 1) post s) :
    ∀ d s post, ok s → μ s < d → post (val s) → W d post s := by
  intro d
  induction d with
  | zero => intro s post _ h; omega
  | succ d ih =>
    intro s post ho hm hp
    exact hs d s post ho hp (fun s' post' ho' hm' hp' => ih s' post' ho' (by omega) hp')
theorem rec_q {σ ρ : Type} (W : Nat → (ρ → Prop) → σ → Prop) (ok : σ → Prop) (μ : σ → Nat) (Q : σ → ρ → Prop)
    (hs : ∀ d s post, ok s → (∀ r, Q s r → post r) → (∀ s' post', ok s' → μ s' < μ s → (∀ r, Q s' r → post' r) → W d post' s') → W (d + 1) post s) :
    ∀ d s post, ok s → μ s < d → (∀ r, Q s r → post r) → W d post s := by
  intro d
  induction d with
  | zero => intro s post _ h; omega
  | succ d ih =>
    intro s post ho hm hp
    exact hs d s post ho hp (fun s' post' ho' hm' hp' => ih s' post' ho' (by omega) hp')
def bx_sum (f : Nat → Int32) : Nat → Int32
  | 0 => 0
  | n + 1 => bx_sum f n + f n
theorem ek_u {A : Prop} {B : Nat → Prop} {k N : Nat} (hk : k < N) (h : B k) : (some k = none → A) ∧ (∀ y : Nat, some k = some y → (y < N ∧ B y)) :=
  ⟨fun z => absurd z (Option.some_ne_none k), fun _ e => (by cases e; exact ⟨hk, h⟩)⟩
theorem ek_nu {A : Prop} {B : Nat → Prop} (h : A) : ((none : Option Nat) = none → A) ∧ (∀ y : Nat, (none : Option Nat) = some y → B y) :=
  ⟨fun _ => h, fun _ e => (by cases e)⟩
theorem ek_if {c d A B : Prop} (e : c ↔ d) (f : d → A) (g : ¬ d → B) : (c → A) ∧ (¬ c → B) :=
  ⟨fun z => f (e.mp z), fun z => g (fun y => z (e.mpr y))⟩
theorem ek_v {α : Sort _} {P : α → Prop} {a b : α} (e : a = b) (h : P b) : P a := e ▸ h
theorem co_some {x : Option Nat} {A : Prop} {B : Nat → Prop} (i : Nat) (h : B i) (hx : x = some i := by rfl) : (x = none → A) ∧ (∀ y : Nat, x = some y → B y) := by
  subst hx
  exact ⟨fun e => (nomatch e), fun y e => Option.some.inj e ▸ h⟩
theorem co_none {x : Option Nat} {A : Prop} {B : Nat → Prop} (h : A) (hx : x = none := by rfl) : (x = none → A) ∧ (∀ y : Nat, x = some y → B y) := by
  subst hx
  exact ⟨fun _ => h, fun y e => (nomatch e)⟩
theorem co_any {x : Option Nat} {A : Prop} {B : Nat → Prop} (hn : x = none → A) (hs : ∀ i : Nat, x = some i → B i) : (x = none → A) ∧ (∀ y : Nat, x = some y → B y) := ⟨hn, hs⟩
theorem co_2 {P : Nat → Prop} (h0 : P 0) (h1 : P 1) {i : Nat} (hi : i < 2) : P i :=
  match i, hi with
  | 0, _ => h0
  | 1, _ => h1
theorem co_3 {P : Nat → Prop} (h0 : P 0) (h1 : P 1) (h2 : P 2) {i : Nat} (hi : i < 3) : P i :=
  match i, hi with
  | 0, _ => h0
  | 1, _ => h1
  | 2, _ => h2
theorem co_4 {P : Nat → Prop} (h0 : P 0) (h1 : P 1) (h2 : P 2) (h3 : P 3) {i : Nat} (hi : i < 4) : P i :=
  match i, hi with
  | 0, _ => h0
  | 1, _ => h1
  | 2, _ => h2
  | 3, _ => h3
theorem co_dec {N : Nat} {P : Nat → Prop} [DecidablePred P] (h : (List.range N).all (fun i => decide (P i)) = true) {i : Nat} (hi : i < N) : P i := by
  have := List.all_eq_true.mp h i (List.mem_range.mpr hi)
  exact of_decide_eq_true this
theorem co_tab {α : Type} {l : List α} {d : α} {P : α → Prop} (h : ∀ a, a ∈ l → P a) {i : Nat} (hi : i < l.length) : P (l.getD i d) := by
  rw [List.getD_eq_getElem?_getD, List.getElem?_eq_getElem hi]
  exact h _ (List.getElem_mem hi)
theorem pk_mu {x : Int32} {L : Nat} (h0 : ¬ x < 0) (h : ¬ nI L ≤ x) (hL : L < 2 ^ 31) : ∃ j : Nat, j < L ∧ x = nI j ∧ x + 1 = nI (j + 1) ∧ x.toNatClampNeg = j ∧ L - (x + 1).toNatClampNeg < L - x.toNatClampNeg := by
  obtain ⟨j, hj, rfl⟩ := nI_of h0
  have hl : j < L := Nat.not_le.mp fun q => h (nI_le q hj)
  refine ⟨j, hl, rfl, nI_1 j, nI_clamp hj, ?_⟩
  rw [nI_1, nI_clamp (by omega), nI_clamp hj]
  omega
theorem op_s {α : Type} {r : Option α} {A : Prop} {B : α → Prop} {y : α} (h : r = some y) (b : B y) : (r = none → A) ∧ ∀ z, r = some z → B z :=
  ⟨fun e => (by rw [h] at e; cases e), fun z e => (by rw [h] at e; cases e; exact b)⟩
def l_holds {α : Type} (a : Nat → Option Nat) (LP : List Nat) (p : Nat → α) (c : Nat) (b : Nat → α) : Prop :=
  ∀ j, j < c → ∃ y, a j = some y ∧ y ∈ LP ∧ p y = b j
theorem l_holds_0 {α : Type} {a : Nat → Option Nat} {LP : List Nat} {p b : Nat → α} : l_holds a LP p 0 b := fun j h => absurd h (Nat.not_lt_zero j)
theorem l_in_new (LP : List Nat) (q : Nat) : q ∈ LP ++ [q] := List.mem_append.mpr (Or.inr (List.mem_singleton.mpr rfl))
def l_sum (b : Nat → Int32) : Nat → Int32
  | 0 => 0
  | k + 1 => l_sum b k + b k
theorem sb_shr0 (x : Int32) : x >>> ((0 : Int32) &&& 31) = x := by
  rw [show ((0 : Int32) &&& 31) = 0 by decide]
  simp
theorem sb_shl0 (x : Int32) : x <<< ((0 : Int32) &&& 31) = x := by
  rw [show ((0 : Int32) &&& 31) = 0 by decide]
  simp
theorem sb_cl0 : (0 : Int32).toNatClampNeg = 0 := by decide
theorem sb_m1 {p : Nat} (h : 0 < p) : nI p + (-1) = nI (p - 1) := by
  obtain ⟨q, rfl⟩ : ∃ q, p = q + 1 := ⟨p - 1, by omega⟩
  exact pk_m1 q
def sb_b (c : Nat) : Int32 := (nI c).toInt8.toInt32
theorem sb_byte : ∀ c, c < 256 → sb_b c &&& 255 = nI c ∧ ((nI c).toUInt32 % 65536).toInt32 = nI c ∧ nI c ≤ 255 := by decide +kernel
def sb_Fit (a : Nat → Int32) : Prop := ∀ j, fits .byte (.int (a j)) = true
def sb_Lat (t : Nat → Nat) (n : Nat) (a : Nat → Int32) : Prop := ∀ j, j < n → t j < 256 ∧ a j = sb_b (t j)
theorem sb_fitB (c : Nat) : fits .byte (.int (sb_b c)) = true := pk_fb _
theorem sb_fit0 : sb_Fit (fun _ => 0) := fun _ => by
  show fits .byte (.int 0) = true
  decide
theorem sb_fitU {a : Nat → Int32} {k : Nat} {x : Int32} (h : sb_Fit a) (hx : fits .byte (.int x) = true) : sb_Fit (upd a k x) := by
  intro j
  by_cases e : j = k
  · subst e
    rw [pk_us]
    exact hx
  · rw [pk_un e]
    exact h j
def sb_cat (t : Nat → Nat) (n : Nat) (s : Nat → Nat) : Nat → Nat := fun j => if j < n then t j else s (j - n)
theorem sb_cat_lo {t s : Nat → Nat} {n j : Nat} (h : j < n) : sb_cat t n s j = t j := if_pos h
theorem sb_cat_hi {t s : Nat → Nat} {n j : Nat} : sb_cat t n s (n + j) = s j := by
  show (if n + j < n then t (n + j) else s (n + j - n)) = s j
  rw [if_neg (by omega), Nat.add_sub_cancel_left]
theorem sb_latPut {t s : Nat → Nat} {n w : Nat} {a a' : Nat → Int32} (h : sb_Lat t n a) (hk : ∀ j, j < n → a' j = a j) (hs : ∀ i, i < w → s i < 256 ∧ a' (n + i) = sb_b (s i)) : sb_Lat (sb_cat t n s) (n + w) a' := by
  intro j hj
  by_cases e : j < n
  · rw [sb_cat_lo e, hk j e]
    exact h j e
  · obtain ⟨i, rfl⟩ : ∃ i, j = n + i := ⟨j - n, by omega⟩
    rw [sb_cat_hi]
    exact hs i (by omega)
theorem sb_latKeep {t : Nat → Nat} {n : Nat} {a a' : Nat → Int32} (h : sb_Lat t n a) (hk : ∀ j, j < n → a' j = a j) : sb_Lat t n a' := fun j hj => by
  rw [hk j hj]
  exact h j hj
def sb_cap (q m : Nat) : Nat := if q ≤ m then m else if 2 * m + 2 < q then q else 2 * m + 2
def sb_Room (q m mc ms : Nat) : Prop := q ≤ m ∨ (1 ≤ mc ∧ sb_cap q m ≤ ms ∧ sb_cap q m ≤ 65536)
theorem sb_cap_ge (q m : Nat) : q ≤ sb_cap q m := by
  unfold sb_cap
  split
  · omega
  · split <;> omega
theorem sb_cap_gem (q m : Nat) : m ≤ sb_cap q m := by
  unfold sb_cap
  split
  · omega
  · split <;> omega
theorem sb_cap_le {q m mc ms : Nat} (hm : m ≤ 65536) (hr : sb_Room q m mc ms) : sb_cap q m ≤ 65536 := by
  rcases hr with h | h
  · rw [sb_cap, if_pos h]
    exact hm
  · exact h.2.2
theorem sb_at {P : Int32 → Prop} {x y : Int32} (e : x = y) (h : P y) : P x := e ▸ h
def sb_dg (w : Nat) : Nat := if w < 10 then 1 else if w < 100 then 2 else if w < 1000 then 3 else if w < 10000 then 4 else if w < 100000 then 5 else if w < 1000000 then 6 else if w < 10000000 then 7 else if w < 100000000 then 8 else if w < 1000000000 then 9 else 10
def sb_dec (v : Nat) : Nat → Nat := fun i => 48 + v / 10 ^ (sb_dg v - 1 - i) % 10
theorem sb_dg_in (w : Nat) : 1 ≤ sb_dg w ∧ sb_dg w ≤ 10 := by
  unfold sb_dg
  constructor <;> (repeat' split) <;> omega
theorem sb_dg100 {w : Nat} (h : 100 ≤ w) (hw : w < 2 ^ 31) : sb_dg w = sb_dg (w / 100) + 2 := by
  rw [sb_dg, sb_dg, if_neg (show ¬ w < 10 by omega), if_neg (show ¬ w < 100 by omega)]
  by_cases h3 : w < 1000
  · rw [if_pos h3, if_pos (show w / 100 < 10 by omega)]
  rw [if_neg h3, if_neg (show ¬ w / 100 < 10 by omega)]
  by_cases h4 : w < 10000
  · rw [if_pos h4, if_pos (show w / 100 < 100 by omega)]
  rw [if_neg h4, if_neg (show ¬ w / 100 < 100 by omega)]
  by_cases h5 : w < 100000
  · rw [if_pos h5, if_pos (show w / 100 < 1000 by omega)]
  rw [if_neg h5, if_neg (show ¬ w / 100 < 1000 by omega)]
  by_cases h6 : w < 1000000
  · rw [if_pos h6, if_pos (show w / 100 < 10000 by omega)]
  rw [if_neg h6, if_neg (show ¬ w / 100 < 10000 by omega)]
  by_cases h7 : w < 10000000
  · rw [if_pos h7, if_pos (show w / 100 < 100000 by omega)]
  rw [if_neg h7, if_neg (show ¬ w / 100 < 100000 by omega)]
  by_cases h8 : w < 100000000
  · rw [if_pos h8, if_pos (show w / 100 < 1000000 by omega)]
  rw [if_neg h8, if_neg (show ¬ w / 100 < 1000000 by omega)]
  by_cases h9 : w < 1000000000
  · rw [if_pos h9, if_pos (show w / 100 < 10000000 by omega)]
  rw [if_neg h9, if_neg (show ¬ w / 100 < 10000000 by omega)]
  rw [if_pos (show w / 100 < 100000000 by omega)]
theorem sb_negT {w : Nat} (h : w < 2 ^ 31) : (-nI w).toInt = -(w : Int) := by
  rw [Int32.toInt_neg, nI_toInt h]
  exact Int.bmod_eq_of_le (by omega) (by omega)
theorem sb_nle {a b : Nat} (ha : a < 2 ^ 31) (hb : b < 2 ^ 31) : -nI a ≤ -nI b ↔ b ≤ a := by
  rw [Int32.le_iff_toInt_le, sb_negT ha, sb_negT hb]
  omega
theorem sb_nlt {a b : Nat} (ha : a < 2 ^ 31) (hb : b < 2 ^ 31) : -nI a < -nI b ↔ b < a := by
  rw [Int32.lt_iff_toInt_lt, sb_negT ha, sb_negT hb]
  omega
theorem sb_cmp {A B : Prop} {x : Int32} (v c : Nat) (f : c ≤ v → A) (g : v < c → B) (hv : v < 2 ^ 31) (hx : x = -nI c := by rfl) (hc : c < 2 ^ 31 := by omega) : (-nI v ≤ x → A) ∧ (¬ -nI v ≤ x → B) := by
  subst hx
  rw [sb_nle hv hc]
  exact ⟨f, fun z => g (by omega)⟩
theorem sb_ndiv {w : Nat} (hw : w < 2 ^ 31) : (-nI w) / 100 = -nI (w / 100) := by
  apply Int32.toInt_inj.mp
  have h100 : (100 : Int32).toInt = 100 := by decide
  rw [Int32.toInt_div, sb_negT hw, h100, sb_negT (by omega), Int.neg_tdiv, Int.tdiv_eq_ediv_of_nonneg (by omega), Int.bmod_eq_of_le (by omega) (by omega)]
  omega
theorem sb_nrem {w : Nat} (hw : w < 2 ^ 31) : (-nI (w / 100)) * 100 - (-nI w) = nI (w % 100) := by
  have h := pk_rem (a := w) (d := 100) hw (by decide) (by decide)
  rw [pk_div hw (by decide) (by decide)] at h
  rw [← h]
  show (-nI (w / 100)) * nI 100 - (-nI w) = nI w - nI (w / 100) * nI 100
  rw [Int32.neg_mul, Int32.sub_neg, Int32.add_comm, ← Int32.sub_eq_add_neg]
end
section
/-! ===== Int64 as a set of bits: test, set, clear ===== -/
theorem ts_nf {x : Bool} (h : ¬ x = false) : x = true := by cases x <;> first | rfl | exact absurd rfl h
theorem ts_nt {x : Bool} (h : ¬ x = true) : x = false := by cases x <;> first | rfl | exact absurd rfl h
theorem ts_bit {w : Int64} {s : UInt64} {j : Nat} (hj : j < 64) (hs : s.toNat = j) : ((w.toUInt64 >>> s).toInt64 &&& 1) = 0 ↔ w.toBitVec.getLsbD j = false := by
  have e : (w.toUInt64 >>> s).toInt64.toBitVec = w.toBitVec >>> j := by
    apply BitVec.eq_of_toNat_eq
    show (w.toUInt64 >>> s).toNat = _
    rw [UInt64.toNat_shiftRight, hs, Nat.mod_eq_of_lt hj, BitVec.toNat_ushiftRight]
    rfl
  rw [← Int64.toBitVec_inj, Int64.toBitVec_and, e]
  show w.toBitVec >>> j &&& 1#64 = 0#64 ↔ _
  constructor
  · intro h
    have t := congrArg (fun x => x.getLsbD 0) h
    simpa using t
  · intro h
    apply BitVec.eq_of_getLsbD_eq
    intro i hi
    cases i with
    | zero => simp [h]
    | succ i => simp
theorem ts_or {w m : Int64} {j : Nat} (hj : j < 64) (hm : m.toBitVec = BitVec.twoPow 64 j) : (w ||| m) = w ↔ w.toBitVec.getLsbD j = true := by
  rw [← Int64.toBitVec_inj, Int64.toBitVec_or, hm]
  constructor
  · intro h
    have t := congrArg (fun x => x.getLsbD j) h
    simp only [BitVec.getLsbD_or, BitVec.getLsbD_twoPow] at t
    simpa [hj] using t.symm
  · intro h
    apply BitVec.eq_of_getLsbD_eq
    intro i hi
    rw [BitVec.getLsbD_or, BitVec.getLsbD_twoPow]
    by_cases e : j = i
    · subst e; rw [h, Bool.true_or]
    · simp [e]
theorem ts_and {w m : Int64} {j : Nat} (hj : j < 64) (hm : m.toBitVec = BitVec.twoPow 64 j) : (w &&& (m ^^^ (-1))) = w ↔ w.toBitVec.getLsbD j = false := by
  have ha : (-1 : Int64).toBitVec = BitVec.allOnes 64 := by decide
  rw [← Int64.toBitVec_inj, Int64.toBitVec_and, Int64.toBitVec_xor, hm, ha]
  constructor
  · intro h
    have t := congrArg (fun x => x.getLsbD j) h
    simp only [BitVec.getLsbD_and, BitVec.getLsbD_xor, BitVec.getLsbD_twoPow, BitVec.getLsbD_allOnes] at t
    simpa [hj] using t.symm
  · intro h
    apply BitVec.eq_of_getLsbD_eq
    intro i hi
    rw [BitVec.getLsbD_and, BitVec.getLsbD_xor, BitVec.getLsbD_twoPow, BitVec.getLsbD_allOnes]
    by_cases e : j = i
    · subst e; rw [h, Bool.false_and]
    · simp [e, hi]
/-! ===== lN n to 2^64: shifts, and, or, masks, one bit ===== -/
theorem wb_tb (n : Nat) : (lN n).toBitVec = BitVec.ofNat 64 n := rfl
theorem wb_inj {a b : Int64} (h : a.toBitVec = b.toBitVec) : a = b := Int64.toBitVec_inj.mp h
theorem wb_tn {n : Nat} (h : n < 2 ^ 64) : (lN n).toBitVec.toNat = n := by rw [wb_tb, BitVec.toNat_ofNat, Nat.mod_eq_of_lt h]
theorem wb_of (x : Int64) : ∃ n, n < 2 ^ 64 ∧ x = lN n := ⟨x.toBitVec.toNat, x.toBitVec.isLt, wb_inj (by rw [wb_tb]; simp)⟩
theorem wb_of32 (x : Int32) : ∃ n, n < 2 ^ 32 ∧ x = nI n := ⟨x.toBitVec.toNat, x.toBitVec.isLt, Int32.toBitVec_inj.mp (by show _ = BitVec.ofNat 32 _; simp)⟩
theorem wb_c : ∀ k, k < 64 → ((nI k).toInt64 &&& 63) = lN k := by decide +kernel
theorem wb_cu : ∀ k, k < 64 → ((nI k).toInt64.toUInt64 &&& Int64.toUInt64 63) = UInt64.ofNat k := by decide +kernel
theorem wb_sm : ∀ k, k < 64 → (BitVec.ofNat 64 k).smod 64 = BitVec.ofNat 64 k := by decide +kernel
theorem wb_pw {a b : Nat} (h : a ≤ b) : 2 ^ b = 2 ^ a * 2 ^ (b - a) := by rw [← Nat.pow_add]; congr 1; omega
theorem wb_lt2 {a b : Nat} (h : a < b) : 2 ^ a < 2 ^ b := Nat.pow_lt_pow_right (by decide) h
theorem wb_mod (n : Nat) : lN n = lN (n % 2 ^ 64) := wb_inj (by rw [wb_tb, wb_tb]; apply BitVec.eq_of_toNat_eq; rw [BitVec.toNat_ofNat, BitVec.toNat_ofNat, Nat.mod_mod])
theorem wb_shr {n k : Nat} (hn : n < 2 ^ 64) (hk : k < 64) : ((lN n).toUInt64 >>> ((nI k).toInt64.toUInt64 &&& Int64.toUInt64 63)).toInt64 = lN (n / 2 ^ k) := by
  rw [wb_cu k hk]
  apply wb_inj
  apply BitVec.eq_of_toNat_eq
  show ((lN n).toUInt64 >>> UInt64.ofNat k).toNat = (BitVec.ofNat 64 _).toNat
  have h1 : (UInt64.ofNat k).toNat = k := by
    show (BitVec.ofNat 64 k).toNat = k
    rw [BitVec.toNat_ofNat, Nat.mod_eq_of_lt (by omega)]
  have h2 : (lN n).toUInt64.toNat = n := wb_tn hn
  rw [UInt64.toNat_shiftRight, h1, h2, Nat.mod_eq_of_lt hk, Nat.shiftRight_eq_div_pow, BitVec.toNat_ofNat, Nat.mod_eq_of_lt (Nat.lt_of_le_of_lt (Nat.div_le_self _ _) hn)]
theorem wb_shl (n : Nat) {k : Nat} (hk : k < 64) : lN n <<< ((nI k).toInt64 &&& 63) = lN (n * 2 ^ k) := by
  rw [wb_c k hk]
  apply wb_inj
  rw [Int64.toBitVec_shiftLeft, wb_tb, wb_tb, wb_tb, wb_sm k hk]
  apply BitVec.eq_of_toNat_eq
  rw [BitVec.shiftLeft_eq', BitVec.toNat_shiftLeft, BitVec.toNat_ofNat, BitVec.toNat_ofNat, BitVec.toNat_ofNat, Nat.mod_eq_of_lt (show k < 2 ^ 64 by omega), Nat.shiftLeft_eq, Nat.mul_mod, Nat.mod_mod, ← Nat.mul_mod]
theorem wb_and {a b : Nat} (ha : a < 2 ^ 64) (hb : b < 2 ^ 64) : lN a &&& lN b = lN (a &&& b) := by
  apply wb_inj
  rw [Int64.toBitVec_and, wb_tb, wb_tb, wb_tb]
  apply BitVec.eq_of_toNat_eq
  rw [BitVec.toNat_and, BitVec.toNat_ofNat, BitVec.toNat_ofNat, BitVec.toNat_ofNat, Nat.mod_eq_of_lt ha, Nat.mod_eq_of_lt hb, Nat.mod_eq_of_lt (Nat.and_lt_two_pow _ hb)]
theorem wb_or {a b : Nat} (ha : a < 2 ^ 64) (hb : b < 2 ^ 64) : lN a ||| lN b = lN (a ||| b) := by
  apply wb_inj
  rw [Int64.toBitVec_or, wb_tb, wb_tb, wb_tb]
  apply BitVec.eq_of_toNat_eq
  rw [BitVec.toNat_or, BitVec.toNat_ofNat, BitVec.toNat_ofNat, BitVec.toNat_ofNat, Nat.mod_eq_of_lt ha, Nat.mod_eq_of_lt hb, Nat.mod_eq_of_lt (Nat.or_lt_two_pow ha hb)]
theorem wb_mask {n k : Nat} (hn : n < 2 ^ 64) (hk : k < 64) : lN n &&& lN (2 ^ k - 1) = lN (n % 2 ^ k) := by
  rw [wb_and hn (by have := wb_lt2 hk; omega), Nat.and_two_pow_sub_one_eq_mod]
theorem wb_a1 {n : Nat} (hn : n < 2 ^ 64) : lN n &&& 1 = lN (n % 2) := wb_mask (k := 1) hn (by decide)
theorem wb_bit {n k : Nat} (hn : n < 2 ^ 64) (hk : k < 64) : ((lN n).toUInt64 >>> ((nI k).toInt64.toUInt64 &&& Int64.toUInt64 63)).toInt64 &&& 1 = lN (n / 2 ^ k % 2) := by
  rw [wb_shr hn hk, wb_a1 (Nat.lt_of_le_of_lt (Nat.div_le_self _ _) hn)]
end
section
/-! pure: classes of nodes, the least closed equality -/
section PTA
def pt_WN (n : Nat) (s l r : Nat → Nat) : Prop := n ≤ 20 ∧ ∀ i, i < n → (s i = 0 ∨ s i = 20 ∨ s i = 21) ∧ l i < 20 ∧ r i < 20 ∧ (s i ≠ 0 → l i < n) ∧ (s i = 21 → r i < n)
def pt_WD (n : Nat) (d : Nat → Nat) : Prop := ∀ i, i < n → d i ≤ i ∧ d (d i) = d i
def pt_cg (s l r d : Nat → Nat) (i j : Nat) : Prop := s i = s j ∧ s i ≠ 0 ∧ d (l i) = d (l j) ∧ (s i = 20 ∨ d (r i) = d (r j))
def pt_CL (n : Nat) (s l r d : Nat → Nat) : Prop := ∀ i j, i < n → j < n → pt_cg s l r d i j → d i = d j
def pt_EC (n : Nat) (s l r : Nat → Nat) (E : Nat → Nat → Prop) : Prop := (∀ i, E i i) ∧ (∀ i j, E i j → E j i) ∧ (∀ i j k, E i j → E j k → E i k) ∧ (∀ i j, i < n → j < n → s i = s j → s i ≠ 0 → E (l i) (l j) → (s i = 20 ∨ E (r i) (r j)) → E i j)
def pt_In (n : Nat) (d : Nat → Nat) (E : Nat → Nat → Prop) : Prop := ∀ i j, i < n → j < n → d i = d j → E i j
/-- all but closed -/
def pt_LP (n : Nat) (s l r d0 : Nat → Nat) (a b : Nat) (d : Nat → Nat) : Prop := pt_WD n d ∧ pt_In n d0 (fun i j => d i = d j) ∧ d a = d b ∧ ∀ E, pt_EC n s l r E → pt_In n d0 E → E a b → pt_In n d E
def pt_LE (n : Nat) (s l r d0 : Nat → Nat) (a b : Nat) (d : Nat → Nat) : Prop := pt_LP n s l r d0 a b d ∧ pt_CL n s l r d
theorem pt_EC_d {n : Nat} {s l r d : Nat → Nat} (h : pt_CL n s l r d) : pt_EC n s l r (fun i j => d i = d j) :=
  ⟨fun _ => rfl, fun _ _ e => e.symm, fun _ _ _ e f => e.trans f, fun i j hi hj h1 h2 h3 h4 => h i j hi hj ⟨h1, h2, h3, h4⟩⟩
theorem pt_ker {n : Nat} {d e : Nat → Nat} (hd : pt_WD n d) (he : pt_WD n e) (h1 : pt_In n d (fun i j => e i = e j)) (h2 : pt_In n e (fun i j => d i = d j)) (i : Nat) (hi : i < n) : d i = e i := by
  obtain ⟨a1, a2⟩ := hd i hi
  obtain ⟨b1, b2⟩ := he i hi
  have k1 : e (d i) = e i := h1 (d i) i (by omega) hi a2
  have k2 : d (e i) = d i := h2 (e i) i (by omega) hi b2
  have := (he (d i) (by omega)).1
  have := (hd (e i) (by omega)).1
  omega
theorem pt_LE_u {n : Nat} {s l r d0 : Nat → Nat} {a b : Nat} {d e : Nat → Nat} (hd : pt_LE n s l r d0 a b d) (he : pt_LE n s l r d0 a b e) (i : Nat) (hi : i < n) : d i = e i :=
  pt_ker hd.1.1 he.1.1 (hd.1.2.2.2 _ (pt_EC_d he.2) he.1.2.1 he.1.2.2.1) (he.1.2.2.2 _ (pt_EC_d hd.2) hd.1.2.1 hd.1.2.2.1) i hi
theorem pt_cg_sym {s l r d : Nat → Nat} {i j : Nat} (h : pt_cg s l r d i j) : pt_cg s l r d j i :=
  ⟨h.1.symm, h.1 ▸ h.2.1, h.2.2.1.symm, h.2.2.2.elim (fun e => Or.inl (h.1 ▸ e)) (fun e => Or.inr e.symm)⟩
theorem pt_cg_trans {s l r d : Nat → Nat} {i j k : Nat} (h : pt_cg s l r d i j) (g : pt_cg s l r d j k) : pt_cg s l r d i k :=
  ⟨h.1.trans g.1, h.2.1, h.2.2.1.trans g.2.2.1, h.2.2.2.elim (fun e => Or.inl e) (fun e => g.2.2.2.elim (fun f => Or.inl (h.1.trans f)) (fun f => Or.inr (e.trans f)))⟩
theorem pt_cg_E {n : Nat} {s l r d : Nat → Nat} {E : Nat → Nat → Prop} {i j : Nat} (W : pt_WN n s l r) (hE : pt_EC n s l r E) (hI : pt_In n d E) (hi : i < n) (hj : j < n) (h : pt_cg s l r d i j) : E i j := by
  obtain ⟨h1, h2, h3, h4⟩ := h
  obtain ⟨w1, w2, w3, w4, w5⟩ := W.2 i hi
  obtain ⟨v1, v2, v3, v4, v5⟩ := W.2 j hj
  refine hE.2.2.2 i j hi hj h1 h2 (hI _ _ (w4 h2) (v4 (by omega)) h3) ?_
  by_cases e : s i = 20
  · exact Or.inl e
  · refine Or.inr (hI _ _ (w5 (by omega)) (v5 (by omega)) ?_)
    rcases h4 with h4 | h4
    · exact absurd h4 e
    · exact h4
/-! two classes joined -/
def pt_jn (n : Nat) (d : Nat → Nat) (p q : Nat) : Nat → Nat := fun i => if i < n ∧ d i = q then p else d i
def pt_lo (d : Nat → Nat) (i j : Nat) : Nat := if d j ≤ d i then d j else d i
def pt_hi (d : Nat → Nat) (i j : Nat) : Nat := if d j ≤ d i then d i else d j
def pt_jo (n : Nat) (d : Nat → Nat) (i j : Nat) : Nat → Nat := pt_jn n d (pt_lo d i j) (pt_hi d i j)
theorem pt_jn_s {n : Nat} {d : Nat → Nat} {p : Nat} : pt_jn n d p p = d := by
  funext i
  unfold pt_jn
  split
  · next h => exact h.2.symm
  · rfl
theorem pt_jn_WD {n p q : Nat} {d : Nat → Nat} (h : pt_WD n d) (hpq : p < q) (hp : d p = p) (hq : q < n) : pt_WD n (pt_jn n d p q) := by
  intro i hi
  obtain ⟨a1, a2⟩ := h i hi
  have hpp : pt_jn n d p q p = p := by
    unfold pt_jn
    rw [if_neg (by omega)]
    exact hp
  by_cases e : d i = q
  · have k : pt_jn n d p q i = p := by
      unfold pt_jn
      rw [if_pos ⟨hi, e⟩]
    rw [k]
    exact ⟨by omega, hpp⟩
  · have k : pt_jn n d p q i = d i := by
      unfold pt_jn
      rw [if_neg (fun z => e z.2)]
    have k2 : pt_jn n d p q (d i) = d (d i) := by
      unfold pt_jn
      rw [if_neg (fun z => e (a2.symm.trans z.2))]
    rw [k, k2]
    exact ⟨a1, a2⟩
theorem pt_jn_In {n p q : Nat} {d : Nat → Nat} : pt_In n d (fun i j => pt_jn n d p q i = pt_jn n d p q j) := by
  intro i j hi hj e
  show pt_jn n d p q i = pt_jn n d p q j
  unfold pt_jn
  simp only [hi, hj, e, true_and]
theorem pt_jn_E {n p q : Nat} {d : Nat → Nat} {E : Nat → Nat → Prop} (h : pt_WD n d) (e2 : ∀ i j, E i j → E j i) (e3 : ∀ i j k, E i j → E j k → E i k) (hI : pt_In n d E) (hE : E p q) : pt_In n (pt_jn n d p q) E := by
  have key : ∀ i, i < n → E i (pt_jn n d p q i) := by
    intro i hi
    obtain ⟨a1, a2⟩ := h i hi
    have k := hI i (d i) hi (by omega) a2.symm
    unfold pt_jn
    by_cases e : d i = q
    · rw [if_pos ⟨hi, e⟩]
      rw [e] at k
      exact e3 _ _ _ k (e2 _ _ hE)
    · rw [if_neg (fun z => e z.2)]
      exact k
  intro i j hi hj e
  refine e3 _ _ _ (key i hi) ?_
  rw [e]
  exact e2 _ _ (key j hj)
theorem pt_jo_f {n i j : Nat} {d : Nat → Nat} (h : pt_WD n d) (hi : i < n) (hj : j < n) (ne : d i ≠ d j) : pt_lo d i j < pt_hi d i j ∧ d (pt_lo d i j) = pt_lo d i j ∧ d (pt_hi d i j) = pt_hi d i j ∧ pt_hi d i j < n ∧ ∀ E : Nat → Nat → Prop, (∀ i j, E i j → E j i) → (∀ i j k, E i j → E j k → E i k) → pt_In n d E → E i j → E (pt_lo d i j) (pt_hi d i j) := by
  obtain ⟨a1, a2⟩ := h i hi
  obtain ⟨b1, b2⟩ := h j hj
  unfold pt_lo pt_hi
  by_cases c : d j ≤ d i
  · rw [if_pos c, if_pos c]
    refine ⟨by omega, b2, a2, by omega, ?_⟩
    intro E e2 e3 hI hE
    exact e3 _ _ _ (hI (d j) j (by omega) hj b2) (e3 _ _ _ (e2 _ _ hE) (hI i (d i) hi (by omega) a2.symm))
  · rw [if_neg c, if_neg c]
    refine ⟨by omega, a2, b2, by omega, ?_⟩
    intro E e2 e3 hI hE
    exact e3 _ _ _ (hI (d i) i (by omega) hi a2) (e3 _ _ _ hE (hI j (d j) hj (by omega) b2.symm))
theorem pt_jo_eq {n i j : Nat} {d : Nat → Nat} (h : pt_WD n d) (hi : i < n) (hj : j < n) : pt_jo n d i j i = pt_jo n d i j j := by
  unfold pt_jo pt_jn pt_lo pt_hi
  simp only [hi, hj, true_and]
  by_cases c : d j ≤ d i
  · simp only [if_pos c]
    by_cases e : d j = d i
    · simp only [e]
    · simp [e]
  · simp only [if_neg c]
    by_cases e : d i = d j
    · simp only [e]
    · simp [e]
theorem pt_LP0 {n i j : Nat} {s l r d0 : Nat → Nat} (h : pt_WD n d0) (hi : i < n) (hj : j < n) : pt_LP n s l r d0 i j (pt_jo n d0 i j) := by
  by_cases ne : d0 i = d0 j
  · have e : pt_jo n d0 i j = d0 := by
      unfold pt_jo
      have : pt_lo d0 i j = pt_hi d0 i j := by
        unfold pt_lo pt_hi
        simp only [ne]
      rw [this, pt_jn_s]
    rw [e]
    exact ⟨h, fun _ _ _ _ z => z, ne, fun E _ hI _ => hI⟩
  · obtain ⟨f1, f2, f3, f4, f5⟩ := pt_jo_f h hi hj ne
    refine ⟨pt_jn_WD h f1 f2 f4, pt_jn_In, pt_jo_eq h hi hj, ?_⟩
    intro E hE hI hab
    exact pt_jn_E h hE.2.1 hE.2.2.1 hI (f5 E hE.2.1 hE.2.2.1 hI hab)
theorem pt_LPs {n a b i j : Nat} {s l r d0 d : Nat → Nat} (W : pt_WN n s l r) (ha : a < n) (hb : b < n) (h : pt_LP n s l r d0 a b d) (hi : i < n) (hj : j < n) (c : pt_cg s l r d i j) : pt_LP n s l r d0 a b (pt_jo n d i j) := by
  obtain ⟨p1, p2, p3, p4⟩ := h
  obtain ⟨q1, q2, q3, q4⟩ := pt_LP0 (s := s) (l := l) (r := r) p1 hi hj
  refine ⟨q1, fun x y hx hy e => q2 x y hx hy (p2 x y hx hy e), q2 a b ha hb p3, ?_⟩
  intro E hE hI hab
  have hI' := p4 E hE hI hab
  exact q4 E hE hI' (pt_cg_E W hE hI' hi hj c)
/-! counting -/
def pt_cn (p : Nat → Bool) : Nat → Nat
  | 0 => 0
  | k + 1 => pt_cn p k + (if p k = true then 1 else 0)
theorem pt_cn_t {p : Nat → Bool} {k : Nat} (h : p k = true) : pt_cn p (k + 1) = pt_cn p k + 1 := by
  show pt_cn p k + (if p k = true then 1 else 0) = _
  rw [if_pos h]
theorem pt_cn_f {p : Nat → Bool} {k : Nat} (h : p k = false) : pt_cn p (k + 1) = pt_cn p k := by
  show pt_cn p k + (if p k = true then 1 else 0) = _
  rw [h]
  rfl
theorem pt_cn_le (p : Nat → Bool) (k : Nat) : pt_cn p k ≤ k := by
  induction k with
  | zero => exact Nat.le_refl _
  | succ k ih =>
    cases h : p k
    · rw [pt_cn_f h]; omega
    · rw [pt_cn_t h]; omega
theorem pt_cn_up (p : Nat → Bool) (k j : Nat) (h : k ≤ j) : pt_cn p k ≤ pt_cn p j := by
  induction h with
  | refl => exact Nat.le_refl _
  | step h ih =>
    rename_i m
    cases h : p m
    · rw [pt_cn_f h]; omega
    · rw [pt_cn_t h]; omega
theorem pt_cn_mono {p q : Nat → Bool} (k : Nat) (h : ∀ i, i < k → p i = true → q i = true) : pt_cn p k ≤ pt_cn q k := by
  induction k with
  | zero => exact Nat.le_refl _
  | succ k ih =>
    have ih := ih (fun i hi => h i (by omega))
    cases hp : p k
    · rw [pt_cn_f hp]
      exact Nat.le_trans ih (pt_cn_up q _ _ (by omega))
    · rw [pt_cn_t hp, pt_cn_t (h k (by omega) hp)]
      omega
theorem pt_cn_congr {p q : Nat → Bool} (k : Nat) (h : ∀ i, i < k → p i = q i) : pt_cn p k = pt_cn q k := by
  induction k with
  | zero => rfl
  | succ k ih =>
    have ih := ih (fun i hi => h i (by omega))
    cases hp : p k
    · rw [pt_cn_f hp, pt_cn_f (by rw [← h k (by omega)]; exact hp), ih]
    · rw [pt_cn_t hp, pt_cn_t (by rw [← h k (by omega)]; exact hp), ih]
theorem pt_cn_lt {p q : Nat → Bool} (k j : Nat) (h : ∀ i, i < k → p i = true → q i = true) (hj : j < k) (hp : p j = false) (hq : q j = true) : pt_cn p k < pt_cn q k := by
  induction k with
  | zero => omega
  | succ k ih =>
    by_cases e : j = k
    · subst e
      rw [pt_cn_f hp, pt_cn_t hq]
      have := pt_cn_mono j (fun i hi => h i (by omega))
      omega
    · have ih := ih (fun i hi => h i (by omega)) (by omega)
      cases hp : p k
      · rw [pt_cn_f hp]
        exact Nat.lt_of_lt_of_le ih (pt_cn_up q _ _ (by omega))
      · rw [pt_cn_t hp, pt_cn_t (h k (by omega) hp)]
        omega
theorem pt_cn_pos {p : Nat → Bool} {k j : Nat} (hj : j < k) (hp : p j = true) : 0 < pt_cn p k := by
  have h1 := pt_cn_up p (j + 1) k hj
  rw [pt_cn_t hp] at h1
  omega
def pt_ldr (d : Nat → Nat) : Nat → Bool := fun i => decide (d i = i)
theorem pt_ldr_t {d : Nat → Nat} {i : Nat} (h : d i = i) : pt_ldr d i = true := decide_eq_true h
theorem pt_ldr_f {d : Nat → Nat} {i : Nat} (h : ¬ d i = i) : pt_ldr d i = false := decide_eq_false h
theorem pt_jo_lt {n i j : Nat} {d : Nat → Nat} (h : pt_WD n d) (hi : i < n) (hj : j < n) (ne : d i ≠ d j) : pt_cn (pt_ldr (pt_jo n d i j)) n < pt_cn (pt_ldr d) n := by
  obtain ⟨f1, f2, f3, f4, f5⟩ := pt_jo_f h hi hj ne
  unfold pt_jo
  generalize pt_lo d i j = p at f1 f2
  generalize pt_hi d i j = q at f1 f3 f4
  refine pt_cn_lt n q ?_ f4 (pt_ldr_f ?_) (pt_ldr_t f3)
  · intro k hk e
    have e : pt_jn n d p q k = k := of_decide_eq_true e
    refine pt_ldr_t ?_
    unfold pt_jn at e
    split at e
    · next h => rw [← e] at h; rw [f2] at h; omega
    · exact e
  · unfold pt_jn
    rw [if_pos ⟨f4, f3⟩]
    omega
/-! a new node -/
def pt_u (f : Nat → Nat) (k x : Nat) : Nat → Nat := fun i => if i = k then x else f i
theorem pt_us {f : Nat → Nat} {k x : Nat} : pt_u f k x k = x := if_pos rfl
theorem pt_un {f : Nat → Nat} {k x i : Nat} (h : i ≠ k) : pt_u f k x i = f i := if_neg h
theorem pt_WNu {n t a b : Nat} {s l r : Nat → Nat} (W : pt_WN n s l r) (hn : n < 20) (ht : t = 0 ∨ t = 20 ∨ t = 21) (ha : a < 20) (hb : b < 20) (ha2 : t ≠ 0 → a < n) (hb2 : t = 21 → b < n) : pt_WN (n + 1) (pt_u s n t) (pt_u l n a) (pt_u r n b) := by
  refine ⟨by omega, ?_⟩
  intro i hi
  by_cases e : i = n
  · subst e
    rw [pt_us, pt_us, pt_us]
    exact ⟨ht, ha, hb, fun h => Nat.lt_succ_of_lt (ha2 h), fun h => Nat.lt_succ_of_lt (hb2 h)⟩
  · rw [pt_un e, pt_un e, pt_un e]
    obtain ⟨w1, w2, w3, w4, w5⟩ := W.2 i (by omega)
    exact ⟨w1, w2, w3, fun h => Nat.lt_succ_of_lt (w4 h), fun h => Nat.lt_succ_of_lt (w5 h)⟩
theorem pt_WDu {n : Nat} {d : Nat → Nat} (D : pt_WD n d) : pt_WD (n + 1) (pt_u d n n) := by
  intro i hi
  by_cases e : i = n
  · subst e
    rw [pt_us, pt_us]
    exact ⟨Nat.le_refl _, rfl⟩
  · have := D i (by omega)
    rw [pt_un e, pt_un (by omega)]
    exact this
theorem pt_cgu {n t a b v w : Nat} {s l r d : Nat → Nat} (W : pt_WN n s l r) (ha2 : t ≠ 0 → a < n) (hb2 : t = 21 → b < n) (ht : t = 0 ∨ t = 20 ∨ t = 21) {i j : Nat} (hi : i < n + 1) (hj : j < n + 1) (h : pt_cg (pt_u s n t) (pt_u l n a) (pt_u r n b) (pt_u d n v) i j) : pt_cg (pt_u s n t) (pt_u l n a) (pt_u r n b) (pt_u d n w) i j := by
  have A : ∀ i, i < n + 1 → pt_u s n t i ≠ 0 → pt_u l n a i < n := by
    intro i hi
    by_cases e : i = n
    · subst e
      rw [pt_us, pt_us]
      exact ha2
    · rw [pt_un e, pt_un e]
      exact (W.2 i (by omega)).2.2.2.1
  have B : ∀ i, i < n + 1 → pt_u s n t i = 21 → pt_u r n b i < n := by
    intro i hi
    by_cases e : i = n
    · subst e
      rw [pt_us, pt_us]
      exact hb2
    · rw [pt_un e, pt_un e]
      exact (W.2 i (by omega)).2.2.2.2
  have T : pt_u s n t i = 0 ∨ pt_u s n t i = 20 ∨ pt_u s n t i = 21 := by
    by_cases e : i = n
    · subst e
      rw [pt_us]
      exact ht
    · rw [pt_un e]
      exact (W.2 i (by omega)).1
  obtain ⟨h1, h2, h3, h4⟩ := h
  have a1 := A i hi h2
  have a2 := A j hj (by rw [← h1]; exact h2)
  rw [pt_un (f := d) (by omega), pt_un (f := d) (by omega)] at h3
  refine ⟨h1, h2, ?_, ?_⟩
  · rw [pt_un (f := d) (by omega), pt_un (f := d) (by omega)]
    exact h3
  · rcases h4 with h4 | h4
    · exact Or.inl h4
    · by_cases e : pt_u s n t i = 20
      · exact Or.inl e
      · have b1 := B i hi (by omega)
        have b2 := B j hj (by omega)
        rw [pt_un (f := d) (by omega), pt_un (f := d) (by omega)] at h4
        refine Or.inr ?_
        rw [pt_un (f := d) (by omega), pt_un (f := d) (by omega)]
        exact h4
theorem pt_cgo {n t a b v : Nat} {s l r d : Nat → Nat} (W : pt_WN n s l r) {i j : Nat} (hi : i < n) (hj : j < n) (h : pt_cg (pt_u s n t) (pt_u l n a) (pt_u r n b) (pt_u d n v) i j) : pt_cg s l r d i j := by
  obtain ⟨h1, h2, h3, h4⟩ := h
  rw [pt_un (f := s) (by omega), pt_un (f := s) (by omega)] at h1
  rw [pt_un (f := s) (by omega)] at h2 h4
  rw [pt_un (f := l) (by omega), pt_un (f := l) (by omega)] at h3
  rw [pt_un (f := r) (by omega), pt_un (f := r) (by omega)] at h4
  obtain ⟨w1, w2, w3, w4, w5⟩ := W.2 i hi
  obtain ⟨v1, v2, v3, v4, v5⟩ := W.2 j hj
  have a1 := w4 h2
  have a2 := v4 (by omega)
  rw [pt_un (f := d) (by omega), pt_un (f := d) (by omega)] at h3
  refine ⟨h1, h2, h3, ?_⟩
  rcases h4 with h4 | h4
  · exact Or.inl h4
  · by_cases e : s i = 20
    · exact Or.inl e
    · have b1 := w5 (by omega)
      have b2 := v5 (by omega)
      rw [pt_un (f := d) (by omega), pt_un (f := d) (by omega)] at h4
      exact Or.inr h4
theorem pt_new {n t a b v : Nat} {s l r d : Nat → Nat} (W : pt_WN n s l r) (D : pt_WD n d) (C : pt_CL n s l r d) (hn : n < 20) (ht : t = 0 ∨ t = 20 ∨ t = 21) (ha : a < 20) (hb : b < 20) (ha2 : t ≠ 0 → a < n) (hb2 : t = 21 → b < n)
    (hv : (∃ m, m < n ∧ pt_cg (pt_u s n t) (pt_u l n a) (pt_u r n b) (pt_u d n n) m n ∧ v = d m) ∨ (v = n ∧ ∀ m, m < n → ¬ pt_cg (pt_u s n t) (pt_u l n a) (pt_u r n b) (pt_u d n n) m n)) :
    pt_LE (n + 1) (pt_u s n t) (pt_u l n a) (pt_u r n b) (pt_u d n n) 0 0 (pt_u d n v) := by
  have W' := pt_WNu W hn ht ha hb ha2 hb2
  have I0 : pt_In (n + 1) (pt_u d n n) (fun i j => pt_u d n v i = pt_u d n v j) := by
    intro i j hi hj e
    show pt_u d n v i = pt_u d n v j
    by_cases ei : i = n
    · by_cases ej : j = n
      · rw [ei, ej]
      · have := D j (by omega)
        rw [ei, pt_us, pt_un ej] at e
        omega
    · by_cases ej : j = n
      · have := D i (by omega)
        rw [ej, pt_us, pt_un ei] at e
        omega
      · rw [pt_un ei, pt_un ej] at e
        rw [pt_un ei, pt_un ej]
        exact e
  refine ⟨⟨?_, I0, rfl, ?_⟩, ?_⟩
  · intro i hi
    by_cases e : i = n
    · subst e
      rw [pt_us]
      rcases hv with ⟨m, hm, _, hv⟩ | ⟨hv, _⟩
      · have := D m hm
        rw [pt_un (by omega), hv]
        exact ⟨by omega, this.2⟩
      · subst hv
        rw [pt_us]
        exact ⟨Nat.le_refl _, rfl⟩
    · have := D i (by omega)
      rw [pt_un e, pt_un (by omega)]
      exact this
  · intro E hE hI _
    rcases hv with ⟨m, hm, c, hv⟩ | ⟨hv, _⟩
    · have hmn : E m n := pt_cg_E W' hE hI (by omega) (by omega) c
      have key : ∀ j, j < n → v = d j → E n j := by
        intro j hj e
        refine hE.2.2.1 _ _ _ (hE.2.1 _ _ hmn) (hI m j (by omega) (by omega) ?_)
        rw [pt_un (by omega), pt_un (by omega), ← hv]
        exact e
      intro i j hi hj e
      by_cases ei : i = n
      · by_cases ej : j = n
        · rw [ei, ej]
          exact hE.1 _
        · rw [ei, pt_us, pt_un ej] at e
          rw [ei]
          exact key j (by omega) e
      · by_cases ej : j = n
        · rw [ej, pt_us, pt_un ei] at e
          rw [ej]
          exact hE.2.1 _ _ (key i (by omega) e.symm)
        · refine hI i j hi hj ?_
          rw [pt_un ei, pt_un ej] at e
          rw [pt_un ei, pt_un ej]
          exact e
    · rw [hv]
      exact hI
  · intro i j hi hj c
    have c0 := pt_cgu (w := n) W ha2 hb2 ht hi hj c
    by_cases ei : i = n
    · by_cases ej : j = n
      · rw [ei, ej]
      · rcases hv with ⟨m, hm, cm, hv⟩ | ⟨_, hv⟩
        · rw [ei] at c0
          have cc := pt_cgo W hm (by omega) (pt_cg_trans cm c0)
          rw [ei, pt_us, pt_un ej, hv]
          exact C m j hm (by omega) cc
        · rw [ei] at c0
          exact absurd (pt_cg_sym c0) (hv j (by omega))
    · by_cases ej : j = n
      · rcases hv with ⟨m, hm, cm, hv⟩ | ⟨_, hv⟩
        · rw [ej] at c0
          have cc := pt_cgo W (by omega) hm (pt_cg_trans c0 (pt_cg_sym cm))
          rw [ej, pt_us, pt_un ei, hv]
          exact C i m (by omega) hm cc
        · rw [ej] at c0
          exact absurd c0 (hv i (by omega))
      · rw [pt_un ei, pt_un ej]
        exact C i j (by omega) (by omega) (pt_cgo W (by omega) (by omega) c)
end PTA
end
section
/-! pure: patterns, their values, the matches -/
section PTB
def pt_tl (f : Nat → Nat) : Nat → Nat → List Nat
  | _, 0 => []
  | i, k + 1 => f i :: pt_tl f (i + 1) k
theorem pt_tl_c {f : Nat → Nat} {i c : Nat} (h : i < c) : pt_tl f i (c - i) = f i :: pt_tl f (i + 1) (c - (i + 1)) := by
  obtain ⟨k, rfl⟩ : ∃ k, c = i + 1 + k := ⟨c - (i + 1), by omega⟩
  rw [show i + 1 + k - i = k + 1 by omega, show i + 1 + k - (i + 1) = k by omega]
  rfl
theorem pt_tl_mem {f : Nat → Nat} {v : Nat} : ∀ (k i : Nat), v ∈ pt_tl f i k ↔ ∃ j, i ≤ j ∧ j < i + k ∧ f j = v := by
  intro k
  induction k with
  | zero => intro i; exact ⟨fun h => (nomatch h), fun ⟨j, h1, h2, _⟩ => by omega⟩
  | succ k ih =>
    intro i
    show v ∈ f i :: pt_tl f (i + 1) k ↔ _
    rw [List.mem_cons, ih]
    constructor
    · rintro (h | ⟨j, h1, h2, h3⟩)
      · exact ⟨i, by omega, by omega, h.symm⟩
      · exact ⟨j, by omega, by omega, h3⟩
    · rintro ⟨j, h1, h2, h3⟩
      by_cases e : j = i
      · exact Or.inl (by rw [← h3, e])
      · exact Or.inr ⟨j, by omega, by omega, h3⟩
theorem pt_tl_congr {f g : Nat → Nat} : ∀ (k i : Nat), (∀ j, i ≤ j → j < i + k → f j = g j) → pt_tl f i k = pt_tl g i k := by
  intro k
  induction k with
  | zero => intro i _; rfl
  | succ k ih =>
    intro i h
    show f i :: pt_tl f (i + 1) k = g i :: pt_tl g (i + 1) k
    rw [h i (by omega) (by omega), ih (i + 1) (fun j h1 h2 => h j (by omega) (by omega))]
theorem pt_tl_len {f : Nat → Nat} : ∀ (k i : Nat), (pt_tl f i k).length = k := by
  intro k
  induction k with
  | zero => intro i; rfl
  | succ k ih =>
    intro i
    show (f i :: pt_tl f (i + 1) k).length = _
    rw [List.length_cons, ih]
def pt_tok (t : Nat) : Prop := t ≤ 2 ∨ (10 ≤ t ∧ t ≤ 15) ∨ t = 20 ∨ t = 21
def pt_ar (t : Nat) : Nat := if t = 21 then 2 else if t = 20 then 1 else 0
def pt_fw : List Nat → Nat → Bool
  | [], k => decide (k = 0)
  | t :: ts, k => decide (0 < k) && pt_fw ts (k - 1 + pt_ar t)
theorem pt_fw_c {t : Nat} {ts : List Nat} {k : Nat} : pt_fw (t :: ts) k = true ↔ 0 < k ∧ pt_fw ts (k - 1 + pt_ar t) = true := by
  show (decide (0 < k) && pt_fw ts (k - 1 + pt_ar t)) = true ↔ _
  rw [Bool.and_eq_true, decide_eq_true_eq]
/-- read from the back: the number of terms -/
def pt_wl : List Nat → Option Nat
  | [] => some 0
  | t :: ts => (pt_wl ts).bind (fun k => if t = 21 then (if 2 ≤ k then some (k - 1) else none) else if t = 20 then (if 1 ≤ k then some k else none) else some (k + 1))
theorem pt_wl_fw : ∀ (ts : List Nat) (k : Nat), pt_fw ts k = true ↔ pt_wl ts = some k := by
  intro ts
  induction ts with
  | nil =>
    intro k
    show decide (k = 0) = true ↔ some 0 = some k
    rw [decide_eq_true_eq, Option.some.injEq]
    omega
  | cons t ts ih =>
    intro k
    rw [pt_fw_c, ih]
    show _ ↔ (pt_wl ts).bind _ = some k
    cases h : pt_wl ts with
    | none =>
      rw [Option.bind_none]
      exact ⟨fun z => (nomatch z.2), fun z => (nomatch z)⟩
    | some m =>
      rw [Option.bind_some]
      unfold pt_ar
      by_cases e : t = 21
      · rw [if_pos e, if_pos e]
        by_cases g : 2 ≤ m
        · rw [if_pos g, Option.some.injEq, Option.some.injEq]; omega
        · rw [if_neg g, Option.some.injEq]
          exact ⟨fun z => by omega, fun z => (nomatch z)⟩
      · rw [if_neg e, if_neg e]
        by_cases e2 : t = 20
        · rw [if_pos e2, if_pos e2]
          by_cases g : 1 ≤ m
          · rw [if_pos g, Option.some.injEq, Option.some.injEq]; omega
          · rw [if_neg g, Option.some.injEq]
            exact ⟨fun z => by omega, fun z => (nomatch z)⟩
        · rw [if_neg e2, if_neg e2, Option.some.injEq, Option.some.injEq]; omega
theorem pt_wl_none {f : Nat → Nat} {c : Nat} : ∀ j, j ≤ c → pt_wl (pt_tl f j (c - j)) = none → pt_wl (pt_tl f 0 c) = none := by
  intro j
  induction j with
  | zero => intro _ h; exact h
  | succ j ih =>
    intro hj h
    refine ih (by omega) ?_
    rw [pt_tl_c (by omega)]
    show (pt_wl (pt_tl f (j + 1) (c - (j + 1)))).bind _ = none
    rw [h, Option.bind_none]
theorem pt_wl_some {f : Nat → Nat} {c k : Nat} (h : pt_wl (pt_tl f 0 c) = some k) (j : Nat) (hj : j ≤ c) : ∃ m, pt_wl (pt_tl f j (c - j)) = some m := by
  cases e : pt_wl (pt_tl f j (c - j)) with
  | none => rw [pt_wl_none j hj e] at h; exact nomatch h
  | some m => exact ⟨m, rfl⟩
/-- the first that fits -/
def pt_fi (p : Nat → Bool) : Nat → Nat → Option Nat
  | 0, _ => none
  | k + 1, i => if p i = true then some i else pt_fi p k (i + 1)
theorem pt_fi_c {p : Nat → Bool} {i n : Nat} (h : i < n) : pt_fi p (n - i) i = if p i = true then some i else pt_fi p (n - (i + 1)) (i + 1) := by
  obtain ⟨k, rfl⟩ : ∃ k, n = i + 1 + k := ⟨n - (i + 1), by omega⟩
  rw [show i + 1 + k - i = k + 1 by omega, show i + 1 + k - (i + 1) = k by omega]
  rfl
theorem pt_fi_s {p : Nat → Bool} : ∀ (k i : Nat) {j : Nat}, pt_fi p k i = some j → i ≤ j ∧ j < i + k ∧ p j = true := by
  intro k
  induction k with
  | zero => intro i j h; exact nomatch h
  | succ k ih =>
    intro i j h
    unfold pt_fi at h
    split at h
    · next e =>
      rw [Option.some.injEq] at h
      subst h
      exact ⟨by omega, by omega, e⟩
    · obtain ⟨h1, h2, h3⟩ := ih _ h
      exact ⟨by omega, by omega, h3⟩
theorem pt_fi_n {p : Nat → Bool} : ∀ (k i : Nat), pt_fi p k i = none → ∀ j, i ≤ j → j < i + k → p j = false := by
  intro k
  induction k with
  | zero => intro i _ j h1 h2; omega
  | succ k ih =>
    intro i h j h1 h2
    unfold pt_fi at h
    split at h
    · exact nomatch h
    · next e =>
      by_cases ej : j = i
      · subst ej
        cases z : p j
        · rfl
        · exact absurd z e
      · exact ih _ h j (by omega) (by omega)
def pt_ft (s l r d : Nat → Nat) (q x y : Nat) : Nat → Bool := fun i => decide (s i = q ∧ ((q = 0 ∧ l i = x) ∨ (q ≠ 0 ∧ d (l i) = x ∧ (q = 20 ∨ d (r i) = y))))
def pt_ov (n : Nat) (s l r d : Nat → Nat) (q x y : Nat) : Option Nat := (pt_fi (pt_ft s l r d q x y) n 0).map d
theorem pt_ov_l {n : Nat} {s l r d : Nat → Nat} {q x y c : Nat} (D : pt_WD n d) (h : pt_ov n s l r d q x y = some c) : c < n ∧ d c = c := by
  unfold pt_ov at h
  cases e : pt_fi (pt_ft s l r d q x y) n 0 with
  | none => rw [e] at h; exact nomatch h
  | some m =>
    rw [e] at h
    have hc : d m = c := Option.some.inj h
    obtain ⟨_, h2, _⟩ := pt_fi_s _ _ e
    have := D m (by omega)
    rw [← hc]
    exact ⟨by omega, this.2⟩
/-- over closed classes: any node that fits gives the class -/
theorem pt_ov_i {n : Nat} {s l r d : Nat → Nat} {q x y c : Nat} (C : pt_CL n s l r d) (hq : q ≠ 0) : pt_ov n s l r d q x y = some c ↔ ∃ m, m < n ∧ d m = c ∧ s m = q ∧ d (l m) = x ∧ (q = 20 ∨ d (r m) = y) := by
  unfold pt_ov
  cases e : pt_fi (pt_ft s l r d q x y) n 0 with
  | none =>
    have k := pt_fi_n _ _ e
    refine ⟨fun z => (nomatch z), ?_⟩
    rintro ⟨m, hm, h1, h2, h3, h4⟩
    have kk := k m (by omega) (by omega)
    have kk := of_decide_eq_false kk
    exact absurd ⟨h2, Or.inr ⟨hq, h3, h4⟩⟩ kk
  | some i =>
    obtain ⟨_, hi, hf⟩ := pt_fi_s _ _ e
    have hf := of_decide_eq_true hf
    obtain ⟨f1, f2⟩ := hf
    have f2 : d (l i) = x ∧ (q = 20 ∨ d (r i) = y) := by
      rcases f2 with f2 | f2
      · exact absurd f2.1 hq
      · exact f2.2
    show some (d i) = some c ↔ _
    rw [Option.some.injEq]
    constructor
    · intro h
      exact ⟨i, by omega, h, f1, f2.1, f2.2⟩
    · rintro ⟨m, hm, h1, h2, h3, h4⟩
      rw [← h1]
      refine C i m (by omega) hm ⟨by omega, by omega, by omega, ?_⟩
      rcases f2.2 with z | z
      · exact Or.inl (by omega)
      · rcases h4 with g | g
        · exact Or.inl (by omega)
        · exact Or.inr (by omega)
/-! values -/
def pt_o1 (n : Nat) (s l r d : Nat → Nat) : List (Option Nat) → List (Option Nat)
  | x :: L => (x.bind (fun a => pt_ov n s l r d 20 a 0)) :: L
  | [] => []
def pt_o2 (n : Nat) (s l r d : Nat → Nat) : List (Option Nat) → List (Option Nat)
  | x :: y :: L => (x.bind (fun a => y.bind (fun b => pt_ov n s l r d 21 a b))) :: L
  | _ => []
def pt_op (n : Nat) (s l r d σ : Nat → Nat) (t : Nat) (L : List (Option Nat)) : List (Option Nat) :=
  if t < 3 then some (σ t) :: L else if t < 20 then pt_ov n s l r d 0 (t - 10) 0 :: L else if t = 20 then pt_o1 n s l r d L else pt_o2 n s l r d L
def pt_st (n : Nat) (s l r d σ : Nat → Nat) : List Nat → List (Option Nat)
  | [] => []
  | t :: ts => pt_op n s l r d σ t (pt_st n s l r d σ ts)
theorem pt_op_v {n : Nat} {s l r d σ : Nat → Nat} {t : Nat} {L : List (Option Nat)} (h : t < 3) : pt_op n s l r d σ t L = some (σ t) :: L := if_pos h
theorem pt_op_c {n : Nat} {s l r d σ : Nat → Nat} {t : Nat} {L : List (Option Nat)} (h : ¬ t < 3) (h2 : t < 20) : pt_op n s l r d σ t L = pt_ov n s l r d 0 (t - 10) 0 :: L := by
  unfold pt_op
  rw [if_neg h, if_pos h2]
theorem pt_op_1 {n : Nat} {s l r d σ : Nat → Nat} {L : List (Option Nat)} : pt_op n s l r d σ 20 L = pt_o1 n s l r d L := rfl
theorem pt_op_2 {n : Nat} {s l r d σ : Nat → Nat} {L : List (Option Nat)} : pt_op n s l r d σ 21 L = pt_o2 n s l r d L := rfl
theorem pt_st_len {n : Nat} {s l r d σ : Nat → Nat} : ∀ (ts : List Nat) (k : Nat), (∀ t, t ∈ ts → pt_tok t) → pt_fw ts k = true → (pt_st n s l r d σ ts).length = k := by
  intro ts
  induction ts with
  | nil =>
    intro k _ h
    have h : k = 0 := of_decide_eq_true h
    rw [h]
    rfl
  | cons t ts ih =>
    intro k hT h
    obtain ⟨h1, h2⟩ := pt_fw_c.mp h
    have ih := ih _ (fun t ht => hT t (List.mem_cons_of_mem _ ht)) h2
    have ht := hT t List.mem_cons_self
    unfold pt_tok at ht
    show (pt_op n s l r d σ t (pt_st n s l r d σ ts)).length = k
    unfold pt_ar at ih
    generalize pt_st n s l r d σ ts = L at ih
    by_cases e : t < 3
    · rw [pt_op_v e, List.length_cons, ih, if_neg (by omega), if_neg (by omega)]
      omega
    · by_cases e2 : t < 20
      · rw [pt_op_c e e2, List.length_cons, ih, if_neg (by omega), if_neg (by omega)]
        omega
      · by_cases e3 : t = 20
        · subst e3
          rw [pt_op_1]
          rw [if_neg (by omega), if_pos rfl] at ih
          cases L with
          | nil => rw [List.length_nil] at ih; omega
          | cons x L =>
            rw [List.length_cons] at ih
            show (_ :: L).length = k
            rw [List.length_cons]
            omega
        · have e4 : t = 21 := by omega
          subst e4
          rw [pt_op_2]
          rw [if_pos rfl] at ih
          match L, ih with
          | [], ih => rw [List.length_nil] at ih; omega
          | [x], ih => rw [List.length_cons, List.length_nil] at ih; omega
          | x :: y :: L, ih =>
            rw [List.length_cons, List.length_cons] at ih
            show (_ :: L).length = k
            rw [List.length_cons]
            omega
/-! matches, as the search finds them -/
def pt_vz : Option Nat → Nat
  | none => 0
  | some c => c
def pt_num (β : Nat → Option Nat) : Nat := 400 * pt_vz (β 0) + 20 * pt_vz (β 1) + pt_vz (β 2)
def pt_dig (x v : Nat) : Nat := if v = 0 then x / 400 else if v = 1 then x / 20 % 20 else x % 20
def pt_bd (β : Nat → Option Nat) (t c : Nat) : Nat → Option Nat := fun v => if v = t then some c else β v
def pt_RN (n : Nat) (s l r d : Nat → Nat) : List Nat → List Nat → (Nat → Option Nat) → Nat → Prop
  | [], _, β, x => x = pt_num β
  | _ :: _, [], _, _ => False
  | t :: ts, c :: cs, β, x =>
    if t < 3 then (β t = none ∧ pt_RN n s l r d ts cs (pt_bd β t c) x) ∨ (β t = some c ∧ pt_RN n s l r d ts cs β x)
    else if t < 20 then pt_ov n s l r d 0 (t - 10) 0 = some c ∧ pt_RN n s l r d ts cs β x
    else if t = 20 then ∃ m, m < n ∧ d m = c ∧ s m = 20 ∧ pt_RN n s l r d ts (d (l m) :: cs) β x
    else ∃ m, m < n ∧ d m = c ∧ s m = 21 ∧ pt_RN n s l r d ts (d (l m) :: d (r m) :: cs) β x
def pt_vc (n : Nat) (d : Nat → Nat) : Option Nat → Bool → Nat → Prop
  | some e, _, y => y = e
  | none, true, y => y < n ∧ d y = y
  | none, false, y => y = 0
theorem pt_v3 {P : Nat → Prop} : (∀ v, v < 3 → P v) ↔ P 0 ∧ P 1 ∧ P 2 :=
  ⟨fun h => ⟨h 0 (by decide), h 1 (by decide), h 2 (by decide)⟩, fun ⟨a, b, c⟩ v hv => by
    rcases (show v = 0 ∨ v = 1 ∨ v = 2 by omega) with e | e | e <;> subst e <;> assumption⟩
theorem pt_dig3 {a b c : Nat} (hb : b < 20) (hc : c < 20) : pt_dig (400 * a + 20 * b + c) 0 = a ∧ pt_dig (400 * a + 20 * b + c) 1 = b ∧ pt_dig (400 * a + 20 * b + c) 2 = c := by
  refine ⟨?_, ?_, ?_⟩
  · show (400 * a + 20 * b + c) / 400 = a
    omega
  · show (400 * a + 20 * b + c) / 20 % 20 = b
    omega
  · show (400 * a + 20 * b + c) % 20 = c
    omega
theorem pt_dig_in {x : Nat} : x = 400 * pt_dig x 0 + 20 * pt_dig x 1 + pt_dig x 2 := by
  show x = 400 * (x / 400) + 20 * (x / 20 % 20) + x % 20
  omega
theorem pt_RN0 {n : Nat} {d : Nat → Nat} {β : Nat → Option Nat} {x : Nat} (hβ : ∀ v c, v < 3 → β v = some c → c < 20) : x = pt_num β ↔ x < 8000 ∧ ∀ v, v < 3 → pt_vc n d (β v) false (pt_dig x v) := by
  have b0 : pt_vz (β 0) < 20 := by
    cases h : β 0 with
    | none => exact (by decide : 0 < 20)
    | some c => exact hβ 0 c (by decide) h
  have b1 : pt_vz (β 1) < 20 := by
    cases h : β 1 with
    | none => exact (by decide : 0 < 20)
    | some c => exact hβ 1 c (by decide) h
  have b2 : pt_vz (β 2) < 20 := by
    cases h : β 2 with
    | none => exact (by decide : 0 < 20)
    | some c => exact hβ 2 c (by decide) h
  have key : ∀ (o : Option Nat) (y : Nat), pt_vc n d o false y ↔ y = pt_vz o := by
    intro o y
    cases o <;> exact Iff.rfl
  rw [pt_v3, key, key, key]
  constructor
  · intro h
    unfold pt_num at h
    have := pt_dig3 (a := pt_vz (β 0)) b1 b2
    rw [← h] at this
    exact ⟨by omega, this⟩
  · rintro ⟨h0, h1, h2, h3⟩
    have := pt_dig_in (x := x)
    unfold pt_num
    rw [h1, h2, h3] at this
    exact this
theorem pt_RN_iff {n : Nat} {s l r d : Nat → Nat} (W : pt_WN n s l r) (D : pt_WD n d) (C : pt_CL n s l r d) : ∀ (ts cs : List Nat) (β : Nat → Option Nat) (x : Nat), (∀ t, t ∈ ts → pt_tok t) → pt_fw ts cs.length = true → (∀ c, c ∈ cs → c < n ∧ d c = c) → (∀ v c, v < 3 → β v = some c → c < 20) →
    (pt_RN n s l r d ts cs β x ↔ x < 8000 ∧ (∀ v, v < 3 → pt_vc n d (β v) (decide (v ∈ ts)) (pt_dig x v)) ∧ pt_st n s l r d (pt_dig x) ts = cs.map some) := by
  intro ts
  induction ts with
  | nil =>
    intro cs β x _ hf _ hβ
    have hf : cs.length = 0 := of_decide_eq_true hf
    have hc : cs = [] := List.eq_nil_of_length_eq_zero hf
    subst hc
    show x = pt_num β ↔ _
    rw [pt_RN0 (n := n) (d := d) hβ]
    simp [pt_st]
  | cons t ts ih =>
    intro cs β x hT hf hcs hβ
    obtain ⟨h1, h2⟩ := pt_fw_c.mp hf
    cases cs with
    | nil => exact absurd h1 (by simp)
    | cons c cs =>
      have hT' : ∀ t, t ∈ ts → pt_tok t := fun t ht => hT t (List.mem_cons_of_mem _ ht)
      have ht := hT t List.mem_cons_self
      have hc := hcs c List.mem_cons_self
      have hcs' : ∀ c, c ∈ cs → c < n ∧ d c = c := fun c h => hcs c (List.mem_cons_of_mem _ h)
      have hn := W.1
      rw [List.length_cons, Nat.add_sub_cancel] at h2
      have mono : ∀ v, v ≠ t → decide (v ∈ t :: ts) = decide (v ∈ ts) := by
        intro v hv
        rw [decide_eq_decide, List.mem_cons]
        exact ⟨fun z => z.resolve_left hv, Or.inr⟩
      show pt_RN n s l r d (t :: ts) (c :: cs) β x ↔ x < 8000 ∧ _ ∧ pt_op n s l r d (pt_dig x) t (pt_st n s l r d (pt_dig x) ts) = some c :: cs.map some
      unfold pt_RN
      unfold pt_tok at ht
      by_cases e : t < 3
      · rw [if_pos e, pt_op_v e, List.cons.injEq, Option.some.injEq]
        have ar0 : pt_ar t = 0 := by
          unfold pt_ar
          rw [if_neg (by omega), if_neg (by omega)]
        rw [ar0, Nat.add_zero] at h2
        cases hb : β t with
        | none =>
          have hβ' : ∀ v e, v < 3 → pt_bd β t c v = some e → e < 20 := by
            intro v e hv he
            unfold pt_bd at he
            split at he
            · have := Option.some.inj he
              omega
            · exact hβ v e hv he
          rw [ih cs (pt_bd β t c) x hT' h2 hcs' hβ']
          have hm : decide (t ∈ t :: ts) = true := decide_eq_true List.mem_cons_self
          constructor
          · rintro (⟨_, g1, g2, g3⟩ | ⟨g, _⟩)
            · have gt := g2 t e
              unfold pt_bd at gt
              rw [if_pos rfl] at gt
              have gt : pt_dig x t = c := gt
              refine ⟨g1, ?_, gt, g3⟩
              intro v hv
              by_cases ev : v = t
              · subst ev
                rw [hb, hm, gt]
                exact hc
              · have gv := g2 v hv
                unfold pt_bd at gv
                rw [if_neg ev] at gv
                rw [mono v ev]
                exact gv
            · exact nomatch g
          · rintro ⟨g1, g2, g3, g4⟩
            refine Or.inl ⟨rfl, g1, ?_, g4⟩
            intro v hv
            unfold pt_bd
            by_cases ev : v = t
            · subst ev
              rw [if_pos rfl]
              exact g3
            · rw [if_neg ev, ← mono v ev]
              exact g2 v hv
        | some z =>
          rw [ih cs β x hT' h2 hcs' hβ]
          have vv : (∀ v, v < 3 → pt_vc n d (β v) (decide (v ∈ ts)) (pt_dig x v)) ↔ (∀ v, v < 3 → pt_vc n d (β v) (decide (v ∈ t :: ts)) (pt_dig x v)) := by
            constructor
            · intro g v hv
              by_cases ev : v = t
              · subst ev
                have gg := g v hv
                rw [hb] at gg ⊢
                exact gg
              · rw [mono v ev]
                exact g v hv
            · intro g v hv
              by_cases ev : v = t
              · subst ev
                have gg := g v hv
                rw [hb] at gg ⊢
                exact gg
              · rw [← mono v ev]
                exact g v hv
          rw [vv]
          constructor
          · rintro (⟨g, _⟩ | ⟨g0, g1, g2, g3⟩)
            · exact nomatch g
            · refine ⟨g1, g2, ?_, g3⟩
              have gg := g2 t e
              rw [hb] at gg
              have gg : pt_dig x t = z := gg
              rw [gg]
              exact Option.some.inj g0
          · rintro ⟨g1, g2, g3, g4⟩
            refine Or.inr ⟨?_, g1, g2, g4⟩
            have gg := g2 t e
            rw [hb] at gg
            have gg : pt_dig x t = z := gg
            rw [← gg, g3]
      · have vv : (∀ v, v < 3 → pt_vc n d (β v) (decide (v ∈ t :: ts)) (pt_dig x v)) ↔ (∀ v, v < 3 → pt_vc n d (β v) (decide (v ∈ ts)) (pt_dig x v)) := by
          constructor
          · intro g v hv
            rw [← mono v (by omega)]
            exact g v hv
          · intro g v hv
            rw [mono v (by omega)]
            exact g v hv
        rw [if_neg e, vv]
        by_cases e2 : t < 20
        · rw [if_pos e2, pt_op_c e e2, List.cons.injEq]
          have ar0 : pt_ar t = 0 := by
            unfold pt_ar
            rw [if_neg (by omega), if_neg (by omega)]
          rw [ar0, Nat.add_zero] at h2
          rw [ih cs β x hT' h2 hcs' hβ]
          constructor
          · rintro ⟨g0, g1, g2, g3⟩
            exact ⟨g1, g2, g0, g3⟩
          · rintro ⟨g1, g2, g0, g3⟩
            exact ⟨g0, g1, g2, g3⟩
        · rw [if_neg e2]
          by_cases e3 : t = 20
          · subst e3
            rw [if_pos rfl, pt_op_1]
            have K : ∀ m, m < n → s m = 20 → (pt_RN n s l r d ts (d (l m) :: cs) β x ↔ x < 8000 ∧ (∀ v, v < 3 → pt_vc n d (β v) (decide (v ∈ ts)) (pt_dig x v)) ∧ pt_st n s l r d (pt_dig x) ts = some (d (l m)) :: cs.map some) := by
              intro m hm hs
              have hl := (W.2 m hm).2.2.2.1 (by omega)
              have := D _ hl
              refine ih (d (l m) :: cs) β x hT' h2 ?_ hβ
              intro c hc
              rcases List.mem_cons.mp hc with z | z
              · rw [z]; exact ⟨by omega, this.2⟩
              · exact hcs' c z
            constructor
            · rintro ⟨m, hm, g1, g2, g3⟩
              obtain ⟨k1, k2, k3⟩ := (K m hm g2).mp g3
              refine ⟨k1, k2, ?_⟩
              rw [k3]
              show pt_ov n s l r d 20 (d (l m)) 0 :: cs.map some = _
              rw [(pt_ov_i C (by decide)).mpr ⟨m, hm, g1, g2, rfl, Or.inl rfl⟩]
            · rintro ⟨k1, k2, k3⟩
              match hL : pt_st n s l r d (pt_dig x) ts with
              | [] => rw [hL] at k3; exact nomatch k3
              | none :: L => rw [hL] at k3; exact nomatch (List.cons.inj k3).1
              | some y :: L =>
                rw [hL] at k3
                have k4 : pt_ov n s l r d 20 y 0 = some c := (List.cons.inj k3).1
                obtain ⟨m, hm, g1, g2, g3, _⟩ := (pt_ov_i C (by decide)).mp k4
                refine ⟨m, hm, g1, g2, (K m hm g2).mpr ⟨k1, k2, ?_⟩⟩
                rw [hL, g3, (List.cons.inj k3).2]
          · have e4 : t = 21 := by omega
            subst e4
            rw [if_neg e3, pt_op_2]
            have K : ∀ m, m < n → s m = 21 → (pt_RN n s l r d ts (d (l m) :: d (r m) :: cs) β x ↔ x < 8000 ∧ (∀ v, v < 3 → pt_vc n d (β v) (decide (v ∈ ts)) (pt_dig x v)) ∧ pt_st n s l r d (pt_dig x) ts = some (d (l m)) :: some (d (r m)) :: cs.map some) := by
              intro m hm hs
              have hl := (W.2 m hm).2.2.2.1 (by omega)
              have hr := (W.2 m hm).2.2.2.2 hs
              have := D _ hl
              have := D _ hr
              refine ih (d (l m) :: d (r m) :: cs) β x hT' h2 ?_ hβ
              intro c hc
              rcases List.mem_cons.mp hc with z | z
              · rw [z]; exact ⟨by omega, by omega⟩
              · rcases List.mem_cons.mp z with z | z
                · rw [z]; exact ⟨by omega, by omega⟩
                · exact hcs' c z
            constructor
            · rintro ⟨m, hm, g1, g2, g3⟩
              obtain ⟨k1, k2, k3⟩ := (K m hm g2).mp g3
              refine ⟨k1, k2, ?_⟩
              rw [k3]
              show pt_ov n s l r d 21 (d (l m)) (d (r m)) :: cs.map some = _
              rw [(pt_ov_i C (by decide)).mpr ⟨m, hm, g1, g2, rfl, Or.inr rfl⟩]
            · rintro ⟨k1, k2, k3⟩
              match hL : pt_st n s l r d (pt_dig x) ts with
              | [] => rw [hL] at k3; exact nomatch k3
              | [y] => rw [hL] at k3; exact nomatch k3
              | none :: z :: L => rw [hL] at k3; exact nomatch (List.cons.inj k3).1
              | some y :: none :: L => rw [hL] at k3; exact nomatch (List.cons.inj k3).1
              | some y :: some z :: L =>
                rw [hL] at k3
                have k4 : pt_ov n s l r d 21 y z = some c := (List.cons.inj k3).1
                obtain ⟨m, hm, g1, g2, g3, g4⟩ := (pt_ov_i C (by decide)).mp k4
                have g4 : d (r m) = z := g4.resolve_left (by decide)
                refine ⟨m, hm, g1, g2, (K m hm g2).mpr ⟨k1, k2, ?_⟩⟩
                rw [hL, g3, g4, (List.cons.inj k3).2]
end PTB
end
section
/-! pure: which triples are matches -/
section PTC
variable {n : Nat} {s l r d : Nat → Nat}
theorem pt_st_l {σ : Nat → Nat} (D : pt_WD n d) : ∀ (ts : List Nat), (∀ t, t ∈ ts → t < 3 → σ t < n ∧ d (σ t) = σ t) → ∀ o, o ∈ pt_st n s l r d σ ts → ∀ e, o = some e → e < n ∧ d e = e := by
  intro ts
  induction ts with
  | nil => intro _ o ho; exact nomatch ho
  | cons t ts ih =>
    intro hT o ho e he
    have ih := ih (fun t ht => hT t (List.mem_cons_of_mem _ ht))
    have ht := hT t List.mem_cons_self
    have ho : o ∈ pt_op n s l r d σ t (pt_st n s l r d σ ts) := ho
    generalize pt_st n s l r d σ ts = L at ih ho
    unfold pt_op at ho
    split at ho
    · next h3 =>
      rcases List.mem_cons.mp ho with z | z
      · rw [z] at he
        rw [← Option.some.inj he]
        exact ht h3
      · exact ih o z e he
    · split at ho
      · rcases List.mem_cons.mp ho with z | z
        · rw [z] at he
          exact pt_ov_l D he
        · exact ih o z e he
      · split at ho
        · match L, ih, ho with
          | [], _, ho => exact nomatch ho
          | x :: L, ih, ho =>
            rcases List.mem_cons.mp ho with z | z
            · rw [z] at he
              cases x with
              | none => exact nomatch he
              | some a => exact pt_ov_l D he
            · exact ih o (List.mem_cons_of_mem _ z) e he
        · match L, ih, ho with
          | [], _, ho => exact nomatch ho
          | [x], _, ho => exact nomatch ho
          | x :: y :: L, ih, ho =>
            rcases List.mem_cons.mp ho with z | z
            · rw [z] at he
              cases x with
              | none => exact nomatch he
              | some a =>
                cases y with
                | none => exact nomatch he
                | some b => exact pt_ov_l D he
            · exact ih o (List.mem_cons_of_mem _ (List.mem_cons_of_mem _ z)) e he
def pt_val : List (Option Nat) → Option Nat
  | x :: _ => x
  | [] => none
def pt_tr (n : Nat) (d : Nat → Nat) (tks : List Nat) (v k : Nat) : Bool := if v ∈ tks then decide (k < n ∧ d k = k) else decide (k = 0)
theorem pt_tr_i {tks : List Nat} {v k : Nat} : pt_vc n d none (decide (v ∈ tks)) k ↔ pt_tr n d tks v k = true := by
  unfold pt_tr
  by_cases h : v ∈ tks
  · rw [if_pos h, decide_eq_true h, decide_eq_true_eq]
    exact Iff.rfl
  · rw [if_neg h, decide_eq_false h, decide_eq_true_eq]
    exact Iff.rfl
def pt_ok (n : Nat) (d : Nat → Nat) (tks : List Nat) (x : Nat) : Bool := pt_tr n d tks 0 (pt_dig x 0) && (pt_tr n d tks 1 (pt_dig x 1) && pt_tr n d tks 2 (pt_dig x 2))
theorem pt_ok_i {tks : List Nat} {x : Nat} : (∀ v, v < 3 → pt_vc n d none (decide (v ∈ tks)) (pt_dig x v)) ↔ pt_ok n d tks x = true := by
  rw [pt_v3, pt_tr_i, pt_tr_i, pt_tr_i]
  unfold pt_ok
  rw [Bool.and_eq_true, Bool.and_eq_true]
def pt_vx (n : Nat) (s l r d : Nat → Nat) (tks : List Nat) (x : Nat) : Option Nat := pt_val (pt_st n s l r d (pt_dig x) tks)
/-- the triples that match with any class -/
def pt_of (n : Nat) (s l r d : Nat → Nat) (tks : List Nat) (x : Nat) : Bool := pt_ok n d tks x && (pt_vx n s l r d tks x).isSome
/-- the triples that match with this class -/
def pt_oc (n : Nat) (s l r d : Nat → Nat) (tks : List Nat) (c x : Nat) : Bool := pt_ok n d tks x && decide (pt_vx n s l r d tks x = some c)
theorem pt_bit1 (W : pt_WN n s l r) (D : pt_WD n d) (C : pt_CL n s l r d) {tks : List Nat} (hT : ∀ t, t ∈ tks → pt_tok t) (hf : pt_fw tks 1 = true) {m x : Nat} (hm : m < n) (hd : d m = m) : pt_RN n s l r d tks [m] (fun _ => none) x ↔ x < 8000 ∧ pt_oc n s l r d tks m x = true := by
  rw [pt_RN_iff W D C tks [m] (fun _ => none) x hT hf (fun c hc => by rw [List.mem_singleton.mp hc]; exact ⟨hm, hd⟩) (fun v c _ h => (nomatch h))]
  have hl := pt_st_len (n := n) (s := s) (l := l) (r := r) (d := d) (σ := pt_dig x) tks 1 hT hf
  rw [pt_ok_i]
  unfold pt_oc pt_vx
  rw [Bool.and_eq_true, decide_eq_true_eq]
  generalize pt_st n s l r d (pt_dig x) tks = L at hl
  match L, hl with
  | [o], _ =>
    refine and_congr_right (fun _ => and_congr_right (fun _ => ?_))
    show [o] = [some m] ↔ o = some m
    rw [List.cons.injEq]
    exact ⟨fun z => z.1, fun z => ⟨z, rfl⟩⟩
theorem pt_bitA (W : pt_WN n s l r) (D : pt_WD n d) (C : pt_CL n s l r d) {tks : List Nat} (hT : ∀ t, t ∈ tks → pt_tok t) (hf : pt_fw tks 1 = true) {x : Nat} : (∃ m, m < n ∧ d m = m ∧ pt_RN n s l r d tks [m] (fun _ => none) x) ↔ x < 8000 ∧ pt_of n s l r d tks x = true := by
  constructor
  · rintro ⟨m, hm, hd, h⟩
    obtain ⟨h1, h2⟩ := (pt_bit1 W D C hT hf hm hd).mp h
    unfold pt_oc at h2
    rw [Bool.and_eq_true, decide_eq_true_eq] at h2
    unfold pt_of
    rw [h2.1, h2.2]
    exact ⟨h1, rfl⟩
  · rintro ⟨h1, h2⟩
    unfold pt_of at h2
    rw [Bool.and_eq_true, Option.isSome_iff_exists] at h2
    obtain ⟨h2, m, h3⟩ := h2
    have hv := pt_ok_i.mpr h2
    have hl : m < n ∧ d m = m := by
      have key := pt_st_l (s := s) (l := l) (r := r) (σ := pt_dig x) D tks (fun t ht h3 => by
        have := hv t h3
        rw [decide_eq_true ht] at this
        exact this)
      unfold pt_vx at h3
      generalize pt_st n s l r d (pt_dig x) tks = L at key h3
      match L, key, h3 with
      | [], _, h3 => exact nomatch h3
      | o :: L, key, h3 => exact key o List.mem_cons_self m h3
    refine ⟨m, hl.1, hl.2, (pt_bit1 W D C hT hf hl.1 hl.2).mpr ⟨h1, ?_⟩⟩
    unfold pt_oc
    rw [h2, h3, decide_eq_true rfl]
    rfl
/-! the code of a pattern -/
def pt_CD (op ar rr aa : Nat → Int32) : List Nat → Nat → List Nat → Nat → Nat → Prop
  | [], i, _, _, _ => op i = 4
  | _ :: _, _, [], _, _ => False
  | t :: ts, i, o :: os, nr, vs => rr i = nI o ∧
    (if t < 3 then op i = (if vs.testBit t = true then 2 else 1) ∧ ar i = nI t ∧ pt_CD op ar rr aa ts (i + 1) os nr (vs ||| 2 ^ t)
     else if t < 20 then op i = 3 ∧ ar i = nI (t - 10) ∧ pt_CD op ar rr aa ts (i + 1) os nr vs
     else op i = 0 ∧ ar i = nI t ∧ aa i = nI nr ∧ (if t = 20 then pt_CD op ar rr aa ts (i + 1) (nr :: os) (nr + 1) vs else pt_CD op ar rr aa ts (i + 1) (nr :: (nr + 1) :: os) (nr + 2) vs))
def pt_vs : List Nat → Nat → Nat
  | [], m => m
  | t :: ts, m => pt_vs ts (if t < 3 then m ||| 2 ^ t else m)
theorem pt_vs_b {v : Nat} (hv : v < 3) : ∀ (ts : List Nat) (m : Nat), (pt_vs ts m).testBit v = (m.testBit v || decide (v ∈ ts)) := by
  intro ts
  induction ts with
  | nil => intro m; simp [pt_vs]
  | cons t ts ih =>
    intro m
    show (pt_vs ts (if t < 3 then m ||| 2 ^ t else m)).testBit v = _
    rw [ih]
    by_cases h : t < 3
    · rw [if_pos h, Nat.testBit_or, Nat.testBit_two_pow]
      by_cases e : v = t
      · subst e; simp
      · simp [e, Ne.symm e]
    · rw [if_neg h]
      have e : v ≠ t := by omega
      simp [e]
theorem pt_vs_lt : ∀ (ts : List Nat) (m : Nat), m < 8 → pt_vs ts m < 8 := by
  intro ts
  induction ts with
  | nil => intro m h; exact h
  | cons t ts ih =>
    intro m h
    refine ih _ ?_
    split
    · next h3 =>
      have : 2 ^ t < 2 ^ 3 := Nat.pow_lt_pow_right (by decide) h3
      exact Nat.or_lt_two_pow (n := 3) h this
    · exact h
end PTC
end
section
/-! X: numbers, congruent, node, classes -/
section PTX
theorem xb_i8 : ∀ v, v < 128 → (nI v).toInt8.toInt32 = nI v := by decide +kernel
theorem xb_n {v : Nat} (h : v < 128) : vp_nar .byte (nI v) = nI v := by rw [vp_nar_byte, xb_i8 v h]
theorem xb_nn {v : Nat} (h : v < 128) : vp_nar .byte (nI v).toInt8.toInt32 = nI v := by rw [xb_i8 v h, xb_n h]
theorem xb_m1 : vp_nar .byte (-1) = -1 := by rw [vp_nar_byte]; decide
theorem xb_10 : ¬ (1 : Int32) = 0 := by decide
/-- the store: symbols, arguments, leaders -/
def pt_NX (n : Nat) (s l r d : Nat → Nat) (sy le ri ld : Nat → Int32) : Prop := ∀ i, i < n → sy i = nI (s i) ∧ le i = nI (l i) ∧ ri i = nI (r i) ∧ ld i = nI (d i)
theorem pt_NXu {n t a b v : Nat} {s l r d : Nat → Nat} {sy le ri ld : Nat → Int32} (H : pt_NX n s l r d sy le ri ld) : pt_NX (n + 1) (pt_u s n t) (pt_u l n a) (pt_u r n b) (pt_u d n v) (upd sy n (nI t)) (upd le n (nI a)) (upd ri n (nI b)) (upd ld n (nI v)) := by
  intro i hi
  by_cases e : i = n
  · subst e
    rw [pt_us, pt_us, pt_us, pt_us, pk_us, pk_us, pk_us, pk_us]
    exact ⟨rfl, rfl, rfl, rfl⟩
  · rw [pt_un e, pt_un e, pt_un e, pt_un e, pk_un e, pk_un e, pk_un e, pk_un e]
    exact H i (by omega)
theorem pt_NXd {n v : Nat} {s l r d : Nat → Nat} {sy le ri ld : Nat → Int32} {w : Nat} (H : pt_NX (n + 1) s l r (pt_u d n w) sy le ri ld) : pt_NX (n + 1) s l r (pt_u d n v) sy le ri (upd ld n (nI v)) := by
  intro i hi
  obtain ⟨h1, h2, h3, h4⟩ := H i hi
  by_cases e : i = n
  · subst e
    rw [pt_us, pk_us]
    exact ⟨h1, h2, h3, rfl⟩
  · rw [pt_un e] at h4
    rw [pt_un e, pk_un e]
    exact ⟨h1, h2, h3, h4⟩
variable {nc pc tc cm iw vs ce : Int32} {sy le ri ld pA pB tk op ar rr aa oR rg va tr : Nat → Int32} {fo : Nat → Int64}
variable {n : Nat} {s l r d : Nat → Nat}
theorem xc_cong {i j : Nat} {post : Int32 → Prop} (W : pt_WN n s l r) (D : pt_WD n d) (H : pt_NX n s l r d sy le ri ld) (hi : i < n) (hj : j < n) (h1 : pt_cg s l r d i j → post 1) (h0 : ¬ pt_cg s l r d i j → post 0) : wpX_congruent post (nc, pc, tc, cm, iw, vs, ce, sy, le, ri, ld, pA, pB, tk, op, ar, rr, aa, oR, rg, va, tr, fo) (nI i) (nI j) := by
  obtain ⟨hn, W⟩ := W
  have ci := nI_clamp (n := i) (by omega)
  have cj := nI_clamp (n := j) (by omega)
  obtain ⟨w1, w2, w3, w4, w5⟩ := W i hi
  obtain ⟨v1, v2, v3, v4, v5⟩ := W j hj
  obtain ⟨a1, a2, a3, a4⟩ := H i hi
  obtain ⟨b1, b2, b3, b4⟩ := H j hj
  have vi : vp_in (nI i) 20 := vp_in_nI (by omega) (by decide)
  have vj : vp_in (nI j) 20 := vp_in_nI (by omega) (by decide)
  unfold wpX_congruent
  dsimp only
  rw [ci, cj, a1, b1, a2, b2, a3, b3, nI_clamp (n := l i) (by omega), nI_clamp (n := l j) (by omega), nI_clamp (n := r i) (by omega), nI_clamp (n := r j) (by omega)]
  refine ⟨vi, vj, pk_eq (s i) (s j) (fun e1 => ⟨vi, pk_eq (s i) 0 (fun e2 => h0 (fun c => c.2.1 e2)) (fun e2 => ?_)⟩) (fun e1 => h0 (fun c => e1 c.1))⟩
  have hli := w4 e2
  have hlj := v4 (by omega)
  have di := (D _ hli).1
  have dj := (D _ hlj).1
  rw [(H _ hli).2.2.2, (H _ hlj).2.2.2]
  refine ⟨vi, vp_in_nI w2 (by decide), vj, vp_in_nI v2 (by decide), pk_eq (d (l i)) (d (l j)) (fun e3 => ⟨vi, pk_eq (s i) 20 (fun e4 => h1 ⟨e1, e2, e3, Or.inl e4⟩) (fun e4 => ?_)⟩) (fun e3 => h0 (fun c => e3 c.2.2.1))⟩
  have hri := w5 (by omega)
  have hrj := v5 (by omega)
  have di := (D _ hri).1
  have dj := (D _ hrj).1
  rw [(H _ hri).2.2.2, (H _ hrj).2.2.2]
  exact ⟨vi, vp_in_nI w3 (by decide), vj, vp_in_nI v3 (by decide), pk_eq (d (r i)) (d (r j)) (fun e5 => h1 ⟨e1, e2, e3, Or.inr e5⟩) (fun e5 => h0 (fun c => c.2.2.2.elim e4 e5))⟩
theorem xn_122 {post : Int32 → SX → Prop} (W : pt_WN (n + 1) s l r) (D : pt_WD (n + 1) d) (H : pt_NX (n + 1) s l r d sy le ri ld) (h1 : ∀ m, m < n → pt_cg s l r d m n → post (nI n) (nc, pc, tc, cm, iw, vs, ce, sy, le, ri, upd ld n (nI (d m)), pA, pB, tk, op, ar, rr, aa, oR, rg, va, tr, fo)) (h0 : (∀ m, m < n → ¬ pt_cg s l r d m n) → post (nI n) (nc, pc, tc, cm, iw, vs, ce, sy, le, ri, ld, pA, pB, tk, op, ar, rr, aa, oR, rg, va, tr, fo)) : ∀ k i, i + k = n → (∀ m, m < i → ¬ pt_cg s l r d m n) → wX_node_122 post (nI n) nc pc tc cm iw vs ce sy le ri ld pA pB tk op ar rr aa oR rg va tr fo (k + 1) (nI i) := by
  have hn := W.1
  intro k
  induction k with
  | zero =>
    intro i hi hc
    rw [wX_node_122]
    dsimp only
    exact pk_le n i (fun _ => h0 (fun m hm => hc m (by omega))) (fun z => absurd z (by omega))
  | succ k ih =>
    intro i hi hc
    rw [wX_node_122]
    dsimp only
    refine pk_le n i (fun z => absurd z (by omega)) (fun _ => xc_cong W D H (by omega) (by omega) (fun c => br_f xb_10 ?_) (fun c => br_t rfl (nm_r (nI_1 i) (ih (i + 1) (by omega) (lt_s hc c)))))
    have := (D i (by omega)).1
    refine ⟨vp_in_nI (by omega) (by decide), vp_in_nI (by omega) (by decide), nm_r (e' := upd ld n (nI (d i))) ?_ (h1 i (by omega) c)⟩
    rw [nI_clamp (n := n) (by omega), nI_clamp (n := i) (by omega), (H i (by omega)).2.2.2, xb_n (by omega)]
/-- a node is sought; if it's new it joins the class of a congruent one -/
theorem xn_3 {t a b : Nat} {post : Int32 → SX → Prop} (W : pt_WN n s l r) (D : pt_WD n d) (C : pt_CL n s l r d) (H : pt_NX n s l r d sy le ri ld) (ht : t = 0 ∨ t = 20 ∨ t = 21) (ha : a < 20) (hb : b < 20) (ha2 : t ≠ 0 → a < n) (hb2 : t = 21 → b < n)
    (h1 : ∀ m, m < n → (∀ i, i < m → ¬ (s i = t ∧ l i = a ∧ r i = b)) → (s m = t ∧ l m = a ∧ r m = b) → post (nI m) (nI n, pc, tc, cm, iw, vs, ce, sy, le, ri, ld, pA, pB, tk, op, ar, rr, aa, oR, rg, va, tr, fo))
    (h2 : (∀ i, i < n → ¬ (s i = t ∧ l i = a ∧ r i = b)) → n = 20 → post (-2) (nI n, pc, tc, cm, iw, vs, ce, sy, le, ri, ld, pA, pB, tk, op, ar, rr, aa, oR, rg, va, tr, fo))
    (h3 : (∀ i, i < n → ¬ (s i = t ∧ l i = a ∧ r i = b)) → n < 20 → ∀ v ld', pt_LE (n + 1) (pt_u s n t) (pt_u l n a) (pt_u r n b) (pt_u d n n) 0 0 (pt_u d n v) → pt_NX (n + 1) (pt_u s n t) (pt_u l n a) (pt_u r n b) (pt_u d n v) (upd sy n (nI t)) (upd le n (nI a)) (upd ri n (nI b)) ld' → post (nI n) (nI (n + 1), pc, tc, cm, iw, vs, ce, upd sy n (nI t), upd le n (nI a), upd ri n (nI b), ld', pA, pB, tk, op, ar, rr, aa, oR, rg, va, tr, fo)) :
    ∀ k i, i + k = n → (∀ j, j < i → ¬ (s j = t ∧ l j = a ∧ r j = b)) → wX_node_3 post (nI t) (nI a) (nI b) (nI n) pc tc cm iw vs ce sy le ri ld pA pB tk op ar rr aa oR rg va tr fo (k + 1) (nI i) := by
  have hn := W.1
  intro k
  induction k with
  | zero =>
    intro i hi hc
    have hc : ∀ j, j < n → ¬ (s j = t ∧ l j = a ∧ r j = b) := fun j hj => hc j (by omega)
    rw [wX_node_3]
    dsimp only
    refine pk_le n i (fun _ => ?_) (fun z => absurd z (by omega))
    refine pk_lt n 20 (fun h => ?_) (fun h => h2 hc (by omega))
    have vn : vp_in (nI n) 20 := vp_in_nI h (by decide)
    have W' := pt_WNu W h ht ha hb ha2 hb2
    have D' := pt_WDu D
    rw [nI_clamp (n := n) (by omega), xb_nn (v := t) (by omega), xb_nn (v := a) (by omega), xb_nn (v := b) (by omega), xb_nn (v := n) (by omega)]
    refine nm_r (nI_1 n) ⟨vn, nm_e ⟨vn, nm_e ⟨vn, nm_e ⟨vn, nm_e ⟨n + 1, ?_⟩⟩⟩⟩⟩
    have H' := pt_NXu (t := t) (a := a) (b := b) (v := n) H
    refine xn_122 W' D' H' ?_ ?_ n 0 (by omega) (fun m hm => absurd hm (by omega))
    · intro m hm c
      rw [pt_un (by omega)]
      refine h3 hc h (d m) _ ?_ (pt_NXd H')
      exact pt_new W D C h ht ha hb ha2 hb2 (Or.inl ⟨m, hm, c, rfl⟩)
    · intro c
      refine h3 hc h n _ ?_ H'
      exact pt_new W D C h ht ha hb ha2 hb2 (Or.inr ⟨rfl, c⟩)
  | succ k ih =>
    intro i hi hc
    rw [wX_node_3]
    dsimp only
    refine pk_le n i (fun z => absurd z (by omega)) (fun _ => ?_)
    have vi : vp_in (nI i) 20 := vp_in_nI (by omega) (by decide)
    obtain ⟨w1, w2, w3, w4, w5⟩ := W.2 i (by omega)
    obtain ⟨a1, a2, a3, a4⟩ := H i (by omega)
    have nx : ¬ (s i = t ∧ l i = a ∧ r i = b) → wX_node_3 post (nI t) (nI a) (nI b) (nI n) pc tc cm iw vs ce sy le ri ld pA pB tk op ar rr aa oR rg va tr fo (k + 1) (nI (i + 1)) := fun c => ih (i + 1) (by omega) (lt_s hc c)
    rw [nI_clamp (n := i) (by omega), a1, a2, a3]
    refine ⟨vi, pk_eq (s i) t (fun e1 => ⟨vi, pk_eq (l i) a (fun e2 => ⟨vi, pk_eq (r i) b (fun e3 => ?_) (fun e3 => ?_)⟩) (fun e2 => ?_)⟩) (fun e1 => ?_)⟩
    · exact h1 i (by omega) hc ⟨e1, e2, e3⟩
    · exact nm_r (nI_1 i) (nx (fun z => e3 z.2.2))
    · exact nm_r (nI_1 i) (nx (fun z => e2 z.2.1))
    · exact nm_r (nI_1 i) (nx (fun z => e1 z.1))
theorem xk_4 {post : Int32 → Prop} (hn : n ≤ 20) (D : pt_WD n d) (H : ∀ i, i < n → ld i = nI (d i)) (h : post (nI (pt_cn (pt_ldr d) n))) : ∀ k i, i + k = n → wX_classes_4 post (nI n) pc tc cm iw vs ce sy le ri ld pA pB tk op ar rr aa oR rg va tr fo (k + 1) (nI (pt_cn (pt_ldr d) i)) (nI i) := by
  intro k
  induction k with
  | zero =>
    intro i hi
    have e : i = n := by omega
    subst e
    rw [wX_classes_4]
    dsimp only
    exact pk_le i i (fun _ => h) (fun z => absurd z (by omega))
  | succ k ih =>
    intro i hi
    rw [wX_classes_4]
    dsimp only
    have := (D i (by omega)).1
    rw [nI_clamp (n := i) (by omega), H i (by omega)]
    refine pk_le n i (fun z => absurd z (by omega)) (fun _ => ⟨vp_in_nI (by omega) (by decide), pk_eq (d i) i (fun e => ?_) (fun e => ?_)⟩)
    · have ih := ih (i + 1) (by omega)
      rw [pt_cn_t (pt_ldr_t e)] at ih
      exact nm_r (nI_1 _) (nm_r (nI_1 i) ih)
    · have ih := ih (i + 1) (by omega)
      rw [pt_cn_f (pt_ldr_f e)] at ih
      exact nm_r (nI_1 i) ih
theorem xk_classes {post : Int32 → Prop} (hn : n ≤ 20) (D : pt_WD n d) (H : ∀ i, i < n → ld i = nI (d i)) (h : post (nI (pt_cn (pt_ldr d) n))) : wpX_classes post (nI n, pc, tc, cm, iw, vs, ce, sy, le, ri, ld, pA, pB, tk, op, ar, rr, aa, oR, rg, va, tr, fo) := by
  unfold wpX_classes
  exact ⟨n + 1, xk_4 hn D H h n 0 (by omega)⟩
end PTX
end
section
/-! X: push, join, equate -/
section PTX
def pt_T : Nat → Nat
  | 0 => 0
  | j + 1 => pt_T j + j
theorem pt_T_le : ∀ j, j < 21 → pt_T j ≤ 190 := by decide
/-- the noted couples: all are congruent; those wanted of different classes are among them -/
def pt_PD (n : Nat) (s l r d : Nat → Nat) (c : Nat) (pA pB : Nat → Int32) (Q : Nat → Nat → Prop) : Prop :=
  (∀ k, k < c → ∃ i j, i < n ∧ j < n ∧ pA k = nI i ∧ pB k = nI j ∧ pt_cg s l r d i j) ∧
  (∀ i j, i < j → j < n → Q i j → pt_cg s l r d i j → d i ≠ d j → ∃ k, k < c ∧ pA k = nI i ∧ pB k = nI j)
theorem pt_PD_w {n : Nat} {s l r d : Nat → Nat} {c : Nat} {pA pB : Nat → Int32} {Q R : Nat → Nat → Prop} (h : pt_PD n s l r d c pA pB Q) (hq : ∀ i j, i < j → j < n → R i j → pt_cg s l r d i j → d i ≠ d j → Q i j) : pt_PD n s l r d c pA pB R :=
  ⟨h.1, fun i j hi hj hr hc hd => h.2 i j hi hj (hq i j hi hj hr hc hd) hc hd⟩
theorem pt_PD_p {n : Nat} {s l r d : Nat → Nat} {c i j : Nat} {pA pB : Nat → Int32} {Q R : Nat → Nat → Prop} (h : pt_PD n s l r d c pA pB Q) (hi : i < n) (hj : j < n) (hc : pt_cg s l r d i j) (hq : ∀ x y, R x y → Q x y ∨ (x = i ∧ y = j)) : pt_PD n s l r d (c + 1) (upd pA c (nI i)) (upd pB c (nI j)) R := by
  refine ⟨?_, ?_⟩
  · intro k hk
    by_cases e : k = c
    · subst e
      exact ⟨i, j, hi, hj, pk_us, pk_us, hc⟩
    · rw [pk_un e, pk_un e]
      exact h.1 k (by omega)
  · intro x y hx hy hr hcg hd
    rcases hq x y hr with z | ⟨z1, z2⟩
    · obtain ⟨k, hk, e1, e2⟩ := h.2 x y hx hy z hcg hd
      refine ⟨k, by omega, ?_, ?_⟩
      · rw [pk_un (by omega)]; exact e1
      · rw [pk_un (by omega)]; exact e2
    · subst z1 z2
      exact ⟨c, by omega, pk_us, pk_us⟩
variable {nc pc tc cm iw vs ce : Int32} {sy le ri ld pA pB tk op ar rr aa oR rg va tr : Nat → Int32} {fo : Nat → Int64}
variable {n : Nat} {s l r d : Nat → Nat}
theorem xp_push {c i j : Nat} {post : SX → Prop} (hc : c < 190) (hi : i < 20) (hj : j < 20) (h : post (nc, nI (c + 1), tc, cm, iw, vs, ce, sy, le, ri, ld, upd pA c (nI i), upd pB c (nI j), tk, op, ar, rr, aa, oR, rg, va, tr, fo)) : wpX_push post (nc, nI c, tc, cm, iw, vs, ce, sy, le, ri, ld, pA, pB, tk, op, ar, rr, aa, oR, rg, va, tr, fo) (nI i) (nI j) := by
  unfold wpX_push
  dsimp only
  rw [nI_clamp (n := c) (by omega), xb_nn (v := i) (by omega), xb_nn (v := j) (by omega)]
  exact ⟨vp_in_nI hc (by decide), nm_e ⟨vp_in_nI hc (by decide), nm_e (nm_r (nI_1 c) h)⟩⟩
theorem xj_110 {jj : Nat} {post : SX → Prop} {J : Int32 → Int32 → Int32 → Int32 → Int32 → Int32 → Int32 → Int32 → (Nat → Int32) → (Nat → Int32) → (Nat → Int32) → (Nat → Int32) → (Nat → Int32) → (Nat → Int32) → (Nat → Int32) → (Nat → Int32) → (Nat → Int32) → (Nat → Int32) → (Nat → Int32) → (Nat → Int32) → (Nat → Int32) → (Nat → Int32) → (Nat → Int32) → (Nat → Int64) → Prop}
    (W : pt_WN n s l r) (D : pt_WD n d) (H : pt_NX n s l r d sy le ri ld) (hj : jj < n)
    (h : ∀ c pA pB, c ≤ pt_T (jj + 1) → pt_PD n s l r d c pA pB (fun _ y => y < jj + 1) → J (nI (jj + 1)) (nI n) (nI c) tc cm iw vs ce sy le ri ld pA pB tk op ar rr aa oR rg va tr fo) :
    ∀ k ii c pA pB, ii + k = jj → c ≤ pt_T jj + ii → pt_PD n s l r d c pA pB (fun x y => y < jj ∨ (y = jj ∧ x < ii)) → wX_join_110 post J (nI jj) (k + 1) (nI ii) (nI n) (nI c) tc cm iw vs ce sy le ri ld pA pB tk op ar rr aa oR rg va tr fo := by
  have hn := W.1
  have hT : pt_T (jj + 1) = pt_T jj + jj := rfl
  have hT2 := pt_T_le (jj + 1) (by omega)
  intro k
  induction k with
  | zero =>
    intro ii c pA pB hi hc hP
    rw [wX_join_110]
    dsimp only
    refine pk_le jj ii (fun _ => nm_r (nI_1 jj) (h c pA pB (by omega) (pt_PD_w hP ?_))) (fun z => absurd z (by omega))
    intro x y hx hy hr _ _
    have hr : y < jj + 1 := hr
    show y < jj ∨ (y = jj ∧ x < ii)
    omega
  | succ k ih =>
    intro ii c pA pB hi hc hP
    rw [wX_join_110]
    dsimp only
    have di := (D ii (by omega)).1
    have dj := (D jj (by omega)).1
    refine pk_le jj ii (fun z => absurd z (by omega)) (fun _ => ⟨vp_in_nI (by omega) (by decide), vp_in_nI (by omega) (by decide), ?_⟩)
    rw [nI_clamp (n := ii) (by omega), nI_clamp (n := jj) (by omega), (H ii (by omega)).2.2.2, (H jj (by omega)).2.2.2]
    refine pk_eq (d ii) (d jj) (fun e => nm_r (nI_1 ii) (ih (ii + 1) c pA pB (by omega) (by omega) (pt_PD_w hP ?_))) (fun e => xc_cong W D H (by omega) (by omega) (fun cg => br_f xb_10 (xp_push (by omega) (by omega) (by omega) (nm_r (nI_1 ii) (ih (ii + 1) (c + 1) _ _ (by omega) (by omega) (pt_PD_p hP (by omega) (by omega) cg ?_))))) (fun cg => br_t rfl (nm_r (nI_1 ii) (ih (ii + 1) c pA pB (by omega) (by omega) (pt_PD_w hP ?_)))))
    · intro x y hx hy hr hcg hd
      by_cases ex : x = ii ∧ y = jj
      · rw [ex.1, ex.2] at hd
        exact absurd e hd
      · show y < jj ∨ (y = jj ∧ x < ii)
        have hr : y < jj ∨ (y = jj ∧ x < ii + 1) := hr
        omega
    · intro x y hr
      have hr : y < jj ∨ (y = jj ∧ x < ii + 1) := hr
      show (y < jj ∨ (y = jj ∧ x < ii)) ∨ (x = ii ∧ y = jj)
      omega
    · intro x y hx hy hr hcg hd
      by_cases ex : x = ii ∧ y = jj
      · rw [ex.1, ex.2] at hcg
        exact absurd hcg cg
      · show y < jj ∨ (y = jj ∧ x < ii)
        have hr : y < jj ∨ (y = jj ∧ x < ii + 1) := hr
        omega
theorem xj_98 {post : SX → Prop} (W : pt_WN n s l r) (D : pt_WD n d) (H : pt_NX n s l r d sy le ri ld)
    (h : ∀ c pA pB, c ≤ 190 → pt_PD n s l r d c pA pB (fun _ _ => True) → post (nI n, nI c, tc, cm, iw, vs, ce, sy, le, ri, ld, pA, pB, tk, op, ar, rr, aa, oR, rg, va, tr, fo)) :
    ∀ k jj c pA pB, jj + k = n → c ≤ pt_T jj → pt_PD n s l r d c pA pB (fun _ y => y < jj) → wX_join_98 post (k + 1) (nI jj) (nI n) (nI c) tc cm iw vs ce sy le ri ld pA pB tk op ar rr aa oR rg va tr fo := by
  have hn := W.1
  intro k
  induction k with
  | zero =>
    intro jj c pA pB hj hc hP
    rw [wX_join_98]
    dsimp only
    have hT2 := pt_T_le jj (by omega)
    refine pk_le n jj (fun _ => h c pA pB (by omega) (pt_PD_w hP ?_)) (fun z => absurd z (by omega))
    intro x y hx hy _ _ _
    show y < jj
    omega
  | succ k ih =>
    intro jj c pA pB hj hc hP
    rw [wX_join_98]
    dsimp only
    refine pk_le n jj (fun z => absurd z (by omega)) (fun _ => ⟨jj + 1, ?_⟩)
    refine xj_110 W D H (by omega) ?_ jj 0 c pA pB (by omega) (by omega) (pt_PD_w hP ?_)
    · intro c' pA' pB' hc' hP'
      exact ih (jj + 1) c' pA' pB' (by omega) hc' hP'
    · intro x y _ _ hr _ _
      have hr : y < jj ∨ (y = jj ∧ x < 0) := hr
      show y < jj
      omega
theorem xj_53 {p q : Nat} {post : SX → Prop} (hn : n ≤ 20) (hp : p < 20) (hq : q < 20) (hd : ∀ i, i < n → d i < 20)
    (h : ∀ ld, (∀ j, j < n → ld j = nI (pt_jn n d p q j)) → ∃ k, wX_join_98 post k 1 (nI n) 0 tc cm iw vs ce sy le ri ld pA pB tk op ar rr aa oR rg va tr fo) :
    ∀ k i ld, i + k = n → (∀ j, j < n → ld j = nI (if j < i then pt_jn n d p q j else d j)) → wX_join_53 post (nI p) (nI q) (nI n) pc tc cm iw vs ce (k + 1) (nI i) sy le ri ld pA pB tk op ar rr aa oR rg va tr fo := by
  intro k
  induction k with
  | zero =>
    intro i ld hi hl
    rw [wX_join_53]
    dsimp only
    refine pk_le n i (fun _ => h ld ?_) (fun z => absurd z (by omega))
    intro j hj
    rw [hl j hj, if_pos (by omega)]
  | succ k ih =>
    intro i ld hi hl
    rw [wX_join_53]
    dsimp only
    have di := hd i (by omega)
    have li := hl i (by omega)
    rw [if_neg (by omega)] at li
    rw [nI_clamp (n := i) (by omega), li, xb_nn (v := p) (by omega)]
    have vi : vp_in (nI i) 20 := vp_in_nI (by omega) (by decide)
    refine pk_le n i (fun z => absurd z (by omega)) (fun _ => ⟨vi, pk_eq (d i) q (fun e => ⟨vi, nm_e (nm_r (nI_1 i) (ih (i + 1) _ (by omega) ?_))⟩) (fun e => nm_r (nI_1 i) (ih (i + 1) ld (by omega) ?_))⟩)
    · intro j hj
      by_cases ej : j = i
      · subst ej
        rw [pk_us, if_pos (by omega)]
        unfold pt_jn
        rw [if_pos ⟨hj, e⟩]
      · rw [pk_un ej, hl j hj]
        by_cases h1 : j < i
        · rw [if_pos h1, if_pos (by omega)]
        · rw [if_neg h1, if_neg (by omega)]
    · intro j hj
      rw [hl j hj]
      by_cases ej : j = i
      · subst ej
        rw [if_neg (by omega), if_pos (by omega)]
        unfold pt_jn
        rw [if_neg (fun z => e z.2)]
      · by_cases h1 : j < i
        · rw [if_pos h1, if_pos (by omega)]
        · rw [if_neg h1, if_neg (by omega)]
/-- two classes joined, all congruent couples noted anew -/
theorem xj_join {i j c : Nat} {post : SX → Prop} (W : pt_WN n s l r) (D : pt_WD n d) (H : pt_NX n s l r d sy le ri ld) (hi : i < n) (hj : j < n)
    (h1 : d i = d j → post (nI n, nI c, tc, cm, iw, vs, ce, sy, le, ri, ld, pA, pB, tk, op, ar, rr, aa, oR, rg, va, tr, fo))
    (h2 : d i ≠ d j → ∀ ld c pA pB, pt_NX n s l r (pt_jo n d i j) sy le ri ld → c ≤ 190 → pt_PD n s l r (pt_jo n d i j) c pA pB (fun _ _ => True) → post (nI n, nI c, tc, cm, iw, vs, ce, sy, le, ri, ld, pA, pB, tk, op, ar, rr, aa, oR, rg, va, tr, fo)) :
    wpX_join post (nI n, nI c, tc, cm, iw, vs, ce, sy, le, ri, ld, pA, pB, tk, op, ar, rr, aa, oR, rg, va, tr, fo) (nI i) (nI j) := by
  have hn := W.1
  have di := (D i hi).1
  have dj := (D j hj).1
  unfold wpX_join
  dsimp only
  rw [nI_clamp (n := i) (by omega), nI_clamp (n := j) (by omega), (H i hi).2.2.2, (H j hj).2.2.2]
  refine ⟨vp_in_nI (by omega) (by decide), nm_e ⟨vp_in_nI (by omega) (by decide), nm_e (pk_eq (d i) (d j) h1 (fun ne => ?_))⟩⟩
  have key : ∃ n53 : Nat, wX_join_53 post (nI (pt_lo d i j)) (nI (pt_hi d i j)) (nI n) (nI c) tc cm iw vs ce n53 0 sy le ri ld pA pB tk op ar rr aa oR rg va tr fo := by
    obtain ⟨f1, f2, f3, f4, f5⟩ := pt_jo_f D hi hj ne
    refine ⟨n + 1, xj_53 (d := d) hn (by omega) (by omega) (fun i hi => Nat.lt_of_le_of_lt (D i hi).1 (by omega)) ?_ n 0 ld (by omega) ?_⟩
    · intro ld' hl
      have N' : pt_NX n s l r (pt_jo n d i j) sy le ri ld' := by
        intro k hk
        obtain ⟨x1, x2, x3, x4⟩ := H k hk
        exact ⟨x1, x2, x3, hl k hk⟩
      have D' : pt_WD n (pt_jo n d i j) := pt_jn_WD D f1 f2 f4
      refine ⟨(n - 1) + 1, xj_98 W D' N' (fun c' pA' pB' hc hP => h2 ne ld' c' pA' pB' N' hc hP) (n - 1) 1 0 pA pB (by omega) (Nat.zero_le _) ⟨?_, ?_⟩⟩
      · intro k hk
        omega
      · intro x y hx hy hr
        have hr : y < 1 := hr
        omega
    · intro j' hj'
      rw [if_neg (by omega)]
      exact (H j' hj').2.2.2
  unfold pt_lo pt_hi at key
  by_cases e : d j ≤ d i
  · have e' : nI (d j) ≤ nI (d i) := nI_le e (by omega)
    rw [if_pos e, if_pos e] at key
    exact br_t e' (br_t e' key)
  · have e' : ¬ nI (d j) ≤ nI (d i) := nI_ge (by omega) (by omega)
    rw [if_neg e, if_neg e] at key
    exact br_f e' (br_f e' key)
theorem pt_cg_CL {c : Nat} {pA pB : Nat → Int32} (h : pt_PD n s l r d 0 pA pB (fun _ _ => True)) : pt_CL n s l r d := by
  have key : ∀ i j, i < j → j < n → pt_cg s l r d i j → d i = d j := by
    intro i j hi hj c
    by_cases e : d i = d j
    · exact e
    · obtain ⟨k, hk, _⟩ := h.2 i j hi hj trivial c e
      omega
  intro i j hi hj c
  rcases Nat.lt_trichotomy i j with z | z | z
  · exact key i j z hj c
  · rw [z]
  · exact (key j i z hi (pt_cg_sym c)).symm
theorem xq_29 {a b : Nat} {d0 : Nat → Nat} {post : Int32 → SX → Prop} (W : pt_WN n s l r) (ha : a < n) (hb : b < n)
    (h : ∀ d ld pA pB, pt_LE n s l r d0 a b d → pt_NX n s l r d sy le ri ld → post (nI (pt_cn (pt_ldr d) n)) (nI n, nI 0, tc, cm, iw, vs, ce, sy, le, ri, ld, pA, pB, tk, op, ar, rr, aa, oR, rg, va, tr, fo)) :
    ∀ N d ld c pA pB, 200 * pt_cn (pt_ldr d) n + c < N → pt_LP n s l r d0 a b d → pt_NX n s l r d sy le ri ld → c ≤ 190 → pt_PD n s l r d c pA pB (fun _ _ => True) → wX_equate_29 post N (nI n) (nI c) tc cm iw vs ce sy le ri ld pA pB tk op ar rr aa oR rg va tr fo := by
  have hn := W.1
  intro N
  induction N with
  | zero => intro d ld c pA pB hN; omega
  | succ N ih =>
    intro d ld c pA pB hN L H hc P
    rw [wX_equate_29]
    dsimp only
    refine pk_le c 0 (fun e => ?_) (fun e => ?_)
    · have e : c = 0 := by omega
      subst e
      exact xk_classes hn L.1 (fun i hi => (H i hi).2.2.2) (h d ld pA pB ⟨L, pt_cg_CL (c := 0) P⟩ H)
    · obtain ⟨m, rfl⟩ : ∃ m, c = m + 1 := ⟨c - 1, by omega⟩
      have vm : vp_in (nI m) 190 := vp_in_nI (by omega) (by decide)
      refine nm_r (nI_pred m) ⟨vm, vm, ?_⟩
      obtain ⟨i, j, hi, hj, eA, eB, cg⟩ := P.1 m (by omega)
      rw [nI_clamp (n := m) (by omega), eA, eB]
      refine xj_join W L.1 H hi hj (fun e1 => ?_) (fun e1 ld' c' pA' pB' H' hc' P' => ?_)
      · refine ih d ld m pA pB (by omega) L H (by omega) ⟨fun k hk => P.1 k (by omega), ?_⟩
        intro x y hx hy _ hcg hd
        obtain ⟨k, hk, k1, k2⟩ := P.2 x y hx hy trivial hcg hd
        refine ⟨k, ?_, k1, k2⟩
        by_cases ek : k = m
        · rw [ek, eA] at k1
          rw [ek, eB] at k2
          have k1 := (nI_eq (by omega) (by omega)).mp k1
          have k2 := (nI_eq (by omega) (by omega)).mp k2
          rw [← k1, ← k2] at hd
          exact absurd e1 hd
        · omega
      · have := pt_jo_lt L.1 hi hj e1
        exact ih (pt_jo n d i j) ld' c' pA' pB' (by omega) (pt_LPs W ha hb L hi hj cg) H' hc' P'
theorem xi_1 {a : Nat} {post : Int32 → Prop} (hn : n ≤ 20) (ha : a < n) (h : post 1) : wpX_isNode post (nI n, pc, tc, cm, iw, vs, ce, sy, le, ri, ld, pA, pB, tk, op, ar, rr, aa, oR, rg, va, tr, fo) (nI a) := by
  unfold wpX_isNode
  exact br_f (nI_pos (by omega)) (br_f (nI_ge ha (by omega)) h)
theorem xi_0 {x : Int32} {post : Int32 → Prop} (hx : x < 0 ∨ nc ≤ x) (h : post 0) : wpX_isNode post (nc, pc, tc, cm, iw, vs, ce, sy, le, ri, ld, pA, pB, tk, op, ar, rr, aa, oR, rg, va, tr, fo) x := by
  unfold wpX_isNode
  by_cases e : x < 0
  · exact br_t e h
  · exact br_f e (br_t (hx.resolve_left e) h)
theorem xq_equate {a b : Nat} {post : Int32 → SX → Prop} (W : pt_WN n s l r) (D : pt_WD n d) (C : pt_CL n s l r d) (H : pt_NX n s l r d sy le ri ld) (ha : a < n) (hb : b < n)
    (h : ∀ d1 ld pA pB, pt_LE n s l r d a b d1 → pt_NX n s l r d1 sy le ri ld → post (nI (pt_cn (pt_ldr d1) n)) (nI n, nI 0, tc, cm, iw, vs, ce, sy, le, ri, ld, pA, pB, tk, op, ar, rr, aa, oR, rg, va, tr, fo)) :
    wpX_equate post (nI n, pc, tc, cm, iw, vs, ce, sy, le, ri, ld, pA, pB, tk, op, ar, rr, aa, oR, rg, va, tr, fo) (nI a) (nI b) := by
  have hn := W.1
  unfold wpX_equate
  dsimp only
  refine xi_1 hn ha (br_f xb_10 (xi_1 hn hb (br_f xb_10 (xp_push (c := 0) (by omega) (by omega) (by omega) ⟨5001, ?_⟩))))
  have L := xq_29 (d0 := d) W ha hb h 5000
  have hcn := pt_cn_le (pt_ldr d) n
  rw [wX_equate_29]
  dsimp only
  have vm : vp_in (nI 0) 190 := vp_in_nI (by omega) (by decide)
  refine br_f (nI_nle (n := 1) (by omega) (by omega)) (nm_r (e' := nI 0) (nI_pred 0) ⟨vm, vm, ?_⟩)
  rw [nI_clamp (n := 0) (by omega), pk_us, pk_us]
  refine xj_join W D H ha hb (fun e => ?_) (fun e ld' c' pA' pB' H' hc' P' => ?_)
  · refine L d ld 0 _ _ (by omega) ⟨D, fun _ _ _ _ z => z, e, fun E _ hI _ => hI⟩ H (by omega) ⟨fun k hk => absurd hk (by omega), ?_⟩
    intro x y hx hy _ hcg hd
    exact absurd (C x y (by omega) hy hcg) hd
  · have := pt_jo_lt D ha hb e
    exact L (pt_jo n d a b) ld' c' pA' pB' (by omega) (pt_LP0 D ha hb) H' hc' P'
end PTX
end
section
/-! Y: alike, join, follow, make, classes, equate -/
section PTY
def pt_NY (n : Nat) (s l r d : Nat → Nat) (yk ya yb yl : Nat → Int32) : Prop := ∀ i, i < n → yk i = nI (s i - 19) ∧ ya i = nI (l i) ∧ yb i = nI (r i) ∧ yl i = nI (d i)
theorem pt_NYu {n t a b v : Nat} {s l r d : Nat → Nat} {sy le ri ld : Nat → Int32} (H : pt_NY n s l r d sy le ri ld) : pt_NY (n + 1) (pt_u s n t) (pt_u l n a) (pt_u r n b) (pt_u d n v) (upd sy n (nI (t - 19))) (upd le n (nI a)) (upd ri n (nI b)) (upd ld n (nI v)) := by
  intro i hi
  by_cases e : i = n
  · subst e
    rw [pt_us, pt_us, pt_us, pt_us, pk_us, pk_us, pk_us, pk_us]
    exact ⟨rfl, rfl, rfl, rfl⟩
  · rw [pt_un e, pt_un e, pt_un e, pt_un e, pk_un e, pk_un e, pk_un e, pk_un e]
    exact H i (by omega)
variable {yn yt yw yc yf : Int32} {yk ya yb yl yp yo ye ys : Nat → Int32}
variable {n : Nat} {s l r d : Nat → Nat}
theorem yc_alike {i j : Nat} {post : Int32 → Prop} (W : pt_WN n s l r) (D : pt_WD n d) (H : pt_NY n s l r d yk ya yb yl) (hi : i < n) (hj : j < n) (h1 : pt_cg s l r d i j → post 1) (h0 : ¬ pt_cg s l r d i j → post 0) : wpY_alike post (yn, yt, yw, yc, yf, yk, ya, yb, yl, yp, yo, ye, ys) (nI i) (nI j) := by
  obtain ⟨hn, W⟩ := W
  have ci := nI_clamp (n := i) (by omega)
  have cj := nI_clamp (n := j) (by omega)
  obtain ⟨w1, w2, w3, w4, w5⟩ := W i hi
  obtain ⟨v1, v2, v3, v4, v5⟩ := W j hj
  obtain ⟨a1, a2, a3, a4⟩ := H i hi
  obtain ⟨b1, b2, b3, b4⟩ := H j hj
  have vi : vp_in (nI i) 20 := vp_in_nI (by omega) (by decide)
  have vj : vp_in (nI j) 20 := vp_in_nI (by omega) (by decide)
  unfold wpY_alike
  dsimp only
  rw [ci, cj, a1, b1, a2, b2, a3, b3, nI_clamp (n := l i) (by omega), nI_clamp (n := l j) (by omega), nI_clamp (n := r i) (by omega), nI_clamp (n := r j) (by omega)]
  refine ⟨vi, vj, pk_eq (s i - 19) (s j - 19) (fun e1 => ⟨vi, pk_eq (s i - 19) 0 (fun e2 => h0 (fun c => c.2.1 (by omega))) (fun e2 => ?_)⟩) (fun e1 => h0 (fun c => e1 (by rw [c.1])))⟩
  have hli := w4 (by omega)
  have hlj := v4 (by omega)
  have di := (D _ hli).1
  have dj := (D _ hlj).1
  rw [(H _ hli).2.2.2, (H _ hlj).2.2.2]
  refine ⟨vi, vp_in_nI w2 (by decide), vj, vp_in_nI v2 (by decide), pk_eq (d (l i)) (d (l j)) (fun e3 => ⟨vi, pk_eq (s i - 19) 1 (fun e4 => h1 ⟨by omega, by omega, e3, Or.inl (by omega)⟩) (fun e4 => ?_)⟩) (fun e3 => h0 (fun c => e3 c.2.2.1))⟩
  have hri := w5 (by omega)
  have hrj := v5 (by omega)
  have di := (D _ hri).1
  have dj := (D _ hrj).1
  rw [(H _ hri).2.2.2, (H _ hrj).2.2.2]
  exact ⟨vi, vp_in_nI w3 (by decide), vj, vp_in_nI v3 (by decide), pk_eq (d (r i)) (d (r j)) (fun e5 => h1 ⟨by omega, by omega, e3, Or.inr e5⟩) (fun e5 => h0 (fun c => c.2.2.2.elim (fun z => e4 (by omega)) e5))⟩
theorem yj_66 {p q : Nat} {post : Int32 → SY → Prop} (hn : n ≤ 20) (hp : p < 20) (hq : q < 20) (hd : ∀ i, i < n → d i < 20)
    (h : ∀ yl, (∀ j, j < n → yl j = nI (pt_jn n d p q j)) → (p = q → post 0 (nI n, yt, yw, yc, yf, yk, ya, yb, yl, yp, yo, ye, ys)) ∧ (p ≠ q → post 1 (nI n, yt, yw, yc, yf, yk, ya, yb, yl, yp, yo, ye, ys))) :
    ∀ k i yl, i + k = n → (∀ j, j < n → yl j = nI (if j < i then pt_jn n d p q j else d j)) → wY_join_66 post (nI p) (nI q) (nI n) yt yw yc yf (k + 1) (nI i) yk ya yb yl yp yo ye ys := by
  intro k
  induction k with
  | zero =>
    intro i yl hi hl
    rw [wY_join_66]
    dsimp only
    refine pk_le n i (fun _ => ?_) (fun z => absurd z (by omega))
    have hh := h yl (fun j hj => by rw [hl j hj, if_pos (by omega)])
    exact pk_eq p q hh.1 hh.2
  | succ k ih =>
    intro i yl hi hl
    rw [wY_join_66]
    dsimp only
    have di := hd i (by omega)
    have li := hl i (by omega)
    rw [if_neg (by omega)] at li
    rw [nI_clamp (n := i) (by omega), li]
    have vi : vp_in (nI i) 20 := vp_in_nI (by omega) (by decide)
    refine pk_le n i (fun z => absurd z (by omega)) (fun _ => ⟨vi, pk_eq (d i) q (fun e => ⟨vi, nm_e (nm_r (nI_1 i) (ih (i + 1) _ (by omega) ?_))⟩) (fun e => nm_r (nI_1 i) (ih (i + 1) yl (by omega) ?_))⟩)
    · intro j hj
      by_cases ej : j = i
      · subst ej
        rw [pk_us, if_pos (by omega)]
        unfold pt_jn
        rw [if_pos ⟨hj, e⟩]
      · rw [pk_un ej, hl j hj]
        by_cases h1 : j < i
        · rw [if_pos h1, if_pos (by omega)]
        · rw [if_neg h1, if_neg (by omega)]
    · intro j hj
      rw [hl j hj]
      by_cases ej : j = i
      · subst ej
        rw [if_neg (by omega), if_pos (by omega)]
        unfold pt_jn
        rw [if_neg (fun z => e z.2)]
      · by_cases h1 : j < i
        · rw [if_pos h1, if_pos (by omega)]
        · rw [if_neg h1, if_neg (by omega)]
theorem yj_join {i j : Nat} {post : Int32 → SY → Prop} (W : pt_WN n s l r) (D : pt_WD n d) (H : pt_NY n s l r d yk ya yb yl) (hi : i < n) (hj : j < n)
    (h : ∀ yl, pt_NY n s l r (pt_jo n d i j) yk ya yb yl → (d i = d j → post 0 (nI n, yt, yw, yc, yf, yk, ya, yb, yl, yp, yo, ye, ys)) ∧ (d i ≠ d j → post 1 (nI n, yt, yw, yc, yf, yk, ya, yb, yl, yp, yo, ye, ys))) :
    wpY_join post (nI n, yt, yw, yc, yf, yk, ya, yb, yl, yp, yo, ye, ys) (nI i) (nI j) := by
  have hn := W.1
  have di := (D i hi).1
  have dj := (D j hj).1
  have key : ∃ n66 : Nat, wY_join_66 post (nI (pt_lo d i j)) (nI (pt_hi d i j)) (nI n) yt yw yc yf n66 0 yk ya yb yl yp yo ye ys := by
    have b : pt_lo d i j < 20 ∧ pt_hi d i j < 20 ∧ (pt_lo d i j = pt_hi d i j ↔ d i = d j) := by
      unfold pt_lo pt_hi
      by_cases e : d j ≤ d i
      · rw [if_pos e, if_pos e]; omega
      · rw [if_neg e, if_neg e]; omega
    refine ⟨n + 1, yj_66 (d := d) hn b.1 b.2.1 (fun i hi => Nat.lt_of_le_of_lt (D i hi).1 (by omega)) ?_ n 0 yl (by omega) ?_⟩
    · intro yl' hl
      have hh := h yl' (fun k hk => by
        obtain ⟨x1, x2, x3, x4⟩ := H k hk
        exact ⟨x1, x2, x3, hl k hk⟩)
      exact ⟨fun z => hh.1 (b.2.2.mp z), fun z => hh.2 (fun y => z (b.2.2.mpr y))⟩
    · intro j' hj'
      rw [if_neg (by omega)]
      exact (H j' hj').2.2.2
  have vi : vp_in (nI i) 20 := vp_in_nI (by omega) (by decide)
  have vj : vp_in (nI j) 20 := vp_in_nI (by omega) (by decide)
  unfold wpY_join
  dsimp only
  unfold wY_join_30
  rw [nI_clamp (n := i) (by omega), nI_clamp (n := j) (by omega), (H i hi).2.2.2, (H j hj).2.2.2]
  unfold pt_lo pt_hi at key
  by_cases e : d j ≤ d i
  · have e' : nI (d j) ≤ nI (d i) := nI_le e (by omega)
    rw [if_pos e, if_pos e] at key
    exact ⟨vi, vj, br_t e' ⟨vj, vi, vj, br_t e' ⟨vi, nm_e key⟩⟩⟩
  · have e' : ¬ nI (d j) ≤ nI (d i) := nI_ge (by omega) (by omega)
    rw [if_neg e, if_neg e] at key
    exact ⟨vi, vj, br_f e' ⟨vi, vi, vj, br_f e' ⟨vj, nm_e key⟩⟩⟩
/-- one round over all couples -/
theorem yf_18 {a b rd c0 : Nat} {d0 : Nat → Nat} {post : SY → Prop} {J : Int32 → Int32 → Int32 → Int32 → Int32 → Int32 → Int32 → (Nat → Int32) → (Nat → Int32) → (Nat → Int32) → (Nat → Int32) → (Nat → Int32) → (Nat → Int32) → (Nat → Int32) → (Nat → Int32) → Prop}
    (W : pt_WN n s l r) (h0 : 0 < n) (ha : a < n) (hb : b < n)
    (h : ∀ m d yl, pt_LP n s l r d0 a b d → pt_NY n s l r d yk ya yb yl → ((m = 0 ∧ pt_CL n s l r d) ∨ (m = 1 ∧ pt_cn (pt_ldr d) n < c0)) → J (nI m) (nI (rd + 1)) (nI n) yt yw yc yf yk ya yb yl yp yo ye ys) :
    ∀ k x m d yl, x + k = n * n → pt_LP n s l r d0 a b d → pt_NY n s l r d yk ya yb yl → ((m = 0 ∧ pt_cn (pt_ldr d) n ≤ c0 ∧ ∀ i j, i < n → j < n → i * n + j < x → pt_cg s l r d i j → d i = d j) ∨ (m = 1 ∧ pt_cn (pt_ldr d) n < c0)) → wY_follow_18 post J (nI rd) (k + 1) (nI m) (nI x) (nI n) yt yw yc yf yk ya yb yl yp yo ye ys := by
  have hn := W.1
  have hnn : n * n ≤ 400 := Nat.mul_le_mul hn hn
  have enn : nI n * nI n = nI (n * n) := pk_mul n n
  intro k
  induction k with
  | zero =>
    intro x m d yl hx L H hm
    rw [wY_follow_18]
    dsimp only
    rw [enn]
    refine pk_le (n * n) x (fun _ => nm_r (nI_1 rd) (h m d yl L H ?_)) (fun z => absurd z (by omega))
    rcases hm with ⟨h1, _, h2⟩ | h1
    · refine Or.inl ⟨h1, ?_⟩
      intro i j hi hj
      refine h2 i j hi hj ?_
      have : (i + 1) * n ≤ n * n := Nat.mul_le_mul_right n hi
      rw [Nat.add_mul] at this
      omega
    · exact Or.inr h1
  | succ k ih =>
    intro x m d yl hx L H hm
    rw [wY_follow_18]
    dsimp only
    rw [enn]
    have ne : ¬ nI n = 0 := nI_ne0 h0 (by omega)
    have e1 : nI x / nI n = nI (x / n) := pk_div (by omega) h0 (by omega)
    have e2 : nI x - nI (x / n) * nI n = nI (x % n) := by
      have := pk_rem (a := x) (d := n) (by omega) h0 (by omega)
      rw [e1] at this
      exact this
    rw [e1, e2]
    have hi : x / n < n := (Nat.div_lt_iff_lt_mul h0).mpr (by omega)
    have hj : x % n < n := Nat.mod_lt _ h0
    have split : ∀ i j, i < n → j < n → i * n + j < x + 1 → i * n + j < x ∨ (i = x / n ∧ j = x % n) := by
      intro i j hi' hj' h
      by_cases e : i * n + j = x
      · right
        rw [← e, Nat.mul_comm i n, Nat.mul_add_div h0, Nat.mul_add_mod, Nat.div_eq_of_lt hj', Nat.mod_eq_of_lt hj']
        exact ⟨rfl, rfl⟩
      · left; omega
    refine pk_le (n * n) x (fun z => absurd z (by omega)) (fun _ => ⟨ne, ne, yc_alike W L.1 H hi hj (fun cg => br_f xb_10 ⟨ne, ne, yj_join W L.1 H hi hj (fun yl' H' => ⟨fun e => br_t rfl (nm_r (nI_1 x) ?_), fun e => br_f xb_10 (nm_r (nI_1 x) ?_)⟩)⟩) (fun cg => br_t rfl (nm_r (nI_1 x) ?_))⟩)
    · have ed : pt_jo n d (x / n) (x % n) = d := by
        unfold pt_jo
        have : pt_lo d (x / n) (x % n) = pt_hi d (x / n) (x % n) := by
          unfold pt_lo pt_hi
          simp only [e]
        rw [this, pt_jn_s]
      rw [ed] at H'
      refine ih (x + 1) m d yl' (by omega) L H' ?_
      rcases hm with ⟨h1, hc, h2⟩ | h1
      · refine Or.inl ⟨h1, hc, ?_⟩
        intro i j hi hj hx c
        rcases split i j hi hj hx with z | ⟨z1, z2⟩
        · exact h2 i j hi hj z c
        · rw [z1, z2]; exact e
      · exact Or.inr h1
    · have lt := pt_jo_lt L.1 hi hj e
      refine ih (x + 1) 1 _ yl' (by omega) (pt_LPs W ha hb L hi hj cg) H' (Or.inr ⟨rfl, ?_⟩)
      rcases hm with ⟨_, hc, _⟩ | ⟨_, hc⟩ <;> omega
    · refine ih (x + 1) m d yl (by omega) L H ?_
      rcases hm with ⟨h1, hc, h2⟩ | h1
      · refine Or.inl ⟨h1, hc, ?_⟩
        intro i j hi hj hx c
        rcases split i j hi hj hx with z | ⟨z1, z2⟩
        · exact h2 i j hi hj z c
        · rw [z1, z2] at c
          exact absurd c cg
      · exact Or.inr h1
theorem yf_4 {a b : Nat} {d0 : Nat → Nat} {post : SY → Prop} (W : pt_WN n s l r) (h0 : 0 < n) (ha : a < n) (hb : b < n)
    (h : ∀ d yl, pt_LE n s l r d0 a b d → pt_NY n s l r d yk ya yb yl → post (nI n, yt, yw, yc, yf, yk, ya, yb, yl, yp, yo, ye, ys)) :
    ∀ k rd m d yl, rd + k = 20 → pt_LP n s l r d0 a b d → pt_NY n s l r d yk ya yb yl → ((m = 0 ∧ pt_CL n s l r d) ∨ (m = 1 ∧ pt_cn (pt_ldr d) n + rd ≤ 20)) → wY_follow_4 post (k + 1) (nI m) (nI rd) (nI n) yt yw yc yf yk ya yb yl yp yo ye ys := by
  intro k
  induction k with
  | zero =>
    intro rd m d yl hr L H hm
    rw [wY_follow_4]
    dsimp only
    refine pk_le 20 rd (fun _ => h d yl ⟨L, ?_⟩ H) (fun z => absurd z (by omega))
    rcases hm with ⟨_, h1⟩ | ⟨_, h1⟩
    · exact h1
    · have := pt_cn_pos (p := pt_ldr d) h0 (pt_ldr_t (by have := (L.1 0 h0).1; omega))
      omega
  | succ k ih =>
    intro rd m d yl hr L H hm
    rw [wY_follow_4]
    dsimp only
    refine pk_le 20 rd (fun z => absurd z (by omega)) (fun _ => ?_)
    rcases hm with ⟨h1, h2⟩ | ⟨h1, h2⟩
    · subst h1
      exact br_t rfl (h d yl ⟨L, h2⟩ H)
    · subst h1
      refine br_f xb_10 ⟨n * n + 1, ?_⟩
      refine yf_18 (c0 := pt_cn (pt_ldr d) n) W h0 ha hb ?_ (n * n) 0 0 d yl (by omega) L H (Or.inl ⟨rfl, Nat.le_refl _, fun i j _ _ z => absurd z (by omega)⟩)
      intro m' d' yl' L' H' hm'
      refine ih (rd + 1) m' d' yl' (by omega) L' H' ?_
      rcases hm' with z | ⟨z1, z2⟩
      · exact Or.inl z
      · exact Or.inr ⟨z1, by omega⟩
theorem yf_follow {a b : Nat} {d0 : Nat → Nat} {post : SY → Prop} (W : pt_WN n s l r) (h0 : 0 < n) (ha : a < n) (hb : b < n) (L : pt_LP n s l r d0 a b d) (H : pt_NY n s l r d yk ya yb yl)
    (h : ∀ d yl, pt_LE n s l r d0 a b d → pt_NY n s l r d yk ya yb yl → post (nI n, yt, yw, yc, yf, yk, ya, yb, yl, yp, yo, ye, ys)) : wpY_follow post (nI n, yt, yw, yc, yf, yk, ya, yb, yl, yp, yo, ye, ys) := by
  unfold wpY_follow
  have := pt_cn_le (pt_ldr d) n
  have hn := W.1
  exact ⟨21, yf_4 W h0 ha hb h 20 0 1 d yl (by omega) L H (Or.inr ⟨rfl, by omega⟩)⟩
theorem yn_3 {t a b : Nat} {post : Int32 → SY → Prop} (W : pt_WN n s l r) (D : pt_WD n d) (H : pt_NY n s l r d yk ya yb yl) (ht : t = 0 ∨ t = 20 ∨ t = 21) (ha : a < 20) (hb : b < 20) (ha2 : t ≠ 0 → a < n) (hb2 : t = 21 → b < n)
    (h1 : ∀ m, m < n → (∀ i, i < m → ¬ (s i = t ∧ l i = a ∧ r i = b)) → (s m = t ∧ l m = a ∧ r m = b) → post (nI m) (nI n, yt, yw, yc, yf, yk, ya, yb, yl, yp, yo, ye, ys))
    (h2 : (∀ i, i < n → ¬ (s i = t ∧ l i = a ∧ r i = b)) → n = 20 → post (-2) (nI n, yt, yw, yc, yf, yk, ya, yb, yl, yp, yo, ye, ys))
    (h3 : (∀ i, i < n → ¬ (s i = t ∧ l i = a ∧ r i = b)) → n < 20 → ∀ d' yl', pt_LE (n + 1) (pt_u s n t) (pt_u l n a) (pt_u r n b) (pt_u d n n) 0 0 d' → pt_NY (n + 1) (pt_u s n t) (pt_u l n a) (pt_u r n b) d' (upd yk n (nI (t - 19))) (upd ya n (nI a)) (upd yb n (nI b)) yl' → post (nI n) (nI (n + 1), yt, yw, yc, yf, upd yk n (nI (t - 19)), upd ya n (nI a), upd yb n (nI b), yl', yp, yo, ye, ys)) :
    ∀ k i, i + k = n → (∀ j, j < i → ¬ (s j = t ∧ l j = a ∧ r j = b)) → wY_make_3 post (nI (t - 19)) (nI a) (nI b) (nI n) yt yw yc yf yk ya yb yl yp yo ye ys (k + 1) (nI i) := by
  have hn := W.1
  intro k
  induction k with
  | zero =>
    intro i hi hc
    have hc : ∀ j, j < n → ¬ (s j = t ∧ l j = a ∧ r j = b) := fun j hj => hc j (by omega)
    rw [wY_make_3]
    dsimp only
    refine pk_le n i (fun _ => ?_) (fun z => absurd z (by omega))
    refine pk_eq n 20 (fun h => h2 hc h) (fun h => ?_)
    have h : n < 20 := by omega
    have vn : vp_in (nI n) 20 := vp_in_nI h (by decide)
    have W' := pt_WNu W h ht ha hb ha2 hb2
    have D' := pt_WDu D
    rw [nI_clamp (n := n) (by omega)]
    refine ⟨vn, nm_e ⟨vn, nm_e ⟨vn, nm_e ⟨vn, nm_e (nm_r (nI_1 n) ?_)⟩⟩⟩⟩
    have H' := pt_NYu (t := t) (a := a) (b := b) (v := n) H
    refine yf_follow (a := 0) (b := 0) (d0 := pt_u d n n) W' (by omega) (by omega) (by omega) ⟨D', fun _ _ _ _ z => z, rfl, fun E _ hI _ => hI⟩ H' ?_
    intro d' yl' L' N'
    show post (nI (n + 1) - 1) _
    rw [nI_pred]
    exact h3 hc h d' yl' L' N'
  | succ k ih =>
    intro i hi hc
    rw [wY_make_3]
    dsimp only
    refine pk_le n i (fun z => absurd z (by omega)) (fun _ => ?_)
    have vi : vp_in (nI i) 20 := vp_in_nI (by omega) (by decide)
    obtain ⟨w1, w2, w3, w4, w5⟩ := W.2 i (by omega)
    obtain ⟨a1, a2, a3, a4⟩ := H i (by omega)
    have nx : ¬ (s i = t ∧ l i = a ∧ r i = b) → wY_make_3 post (nI (t - 19)) (nI a) (nI b) (nI n) yt yw yc yf yk ya yb yl yp yo ye ys (k + 1) (nI (i + 1)) := fun c => ih (i + 1) (by omega) (lt_s hc c)
    rw [nI_clamp (n := i) (by omega), a1, a2, a3]
    refine ⟨vi, pk_eq (s i - 19) (t - 19) (fun e1 => ⟨vi, pk_eq (l i) a (fun e2 => ⟨vi, pk_eq (r i) b (fun e3 => ?_) (fun e3 => ?_)⟩) (fun e2 => ?_)⟩) (fun e1 => ?_)⟩
    · exact h1 i (by omega) hc ⟨by omega, e2, e3⟩
    · exact nm_r (nI_1 i) (nx (fun z => e3 z.2.2))
    · exact nm_r (nI_1 i) (nx (fun z => e2 z.2.1))
    · exact nm_r (nI_1 i) (nx (fun z => e1 (by rw [z.1])))
theorem yk_4 {post : Int32 → Prop} (hn : n ≤ 20) (D : pt_WD n d) (H : ∀ i, i < n → yl i = nI (d i)) (h : post (nI (pt_cn (pt_ldr d) n))) : ∀ k i, i + k = n → wY_classes_4 post (nI n) yt yw yc yf yk ya yb yl yp yo ye ys (k + 1) (nI (pt_cn (pt_ldr d) i)) (nI i) := by
  intro k
  induction k with
  | zero =>
    intro i hi
    have e : i = n := by omega
    subst e
    rw [wY_classes_4]
    dsimp only
    exact pk_le i i (fun _ => h) (fun z => absurd z (by omega))
  | succ k ih =>
    intro i hi
    rw [wY_classes_4]
    dsimp only
    have := (D i (by omega)).1
    rw [nI_clamp (n := i) (by omega), H i (by omega)]
    refine pk_le n i (fun z => absurd z (by omega)) (fun _ => ⟨vp_in_nI (by omega) (by decide), pk_eq (d i) i (fun e => ?_) (fun e => ?_)⟩)
    · have ih := ih (i + 1) (by omega)
      rw [pt_cn_t (pt_ldr_t e)] at ih
      exact nm_r (nI_1 _) (nm_r (nI_1 i) ih)
    · have ih := ih (i + 1) (by omega)
      rw [pt_cn_f (pt_ldr_f e)] at ih
      exact nm_r (nI_1 i) ih
theorem yk_classes {post : Int32 → Prop} (hn : n ≤ 20) (D : pt_WD n d) (H : ∀ i, i < n → yl i = nI (d i)) (h : post (nI (pt_cn (pt_ldr d) n))) : wpY_classes post (nI n, yt, yw, yc, yf, yk, ya, yb, yl, yp, yo, ye, ys) := by
  unfold wpY_classes
  exact ⟨n + 1, yk_4 hn D H h n 0 (by omega)⟩
theorem yi_1 {a : Nat} {post : Int32 → Prop} (hn : n ≤ 20) (ha : a < n) (h : post 1) : wpY_isNode post (nI n, yt, yw, yc, yf, yk, ya, yb, yl, yp, yo, ye, ys) (nI a) := by
  unfold wpY_isNode
  exact br_f (nI_pos (by omega)) (br_f (nI_ge ha (by omega)) h)
theorem yi_0 {x : Int32} {post : Int32 → Prop} (hx : x < 0 ∨ yn ≤ x) (h : post 0) : wpY_isNode post (yn, yt, yw, yc, yf, yk, ya, yb, yl, yp, yo, ye, ys) x := by
  unfold wpY_isNode
  by_cases e : x < 0
  · exact br_t e h
  · exact br_f e (br_t (hx.resolve_left e) h)
theorem yq_equate {a b : Nat} {post : Int32 → SY → Prop} (W : pt_WN n s l r) (D : pt_WD n d) (H : pt_NY n s l r d yk ya yb yl) (ha : a < n) (hb : b < n)
    (h : ∀ d1 yl, pt_LE n s l r d a b d1 → pt_NY n s l r d1 yk ya yb yl → post (nI (pt_cn (pt_ldr d1) n)) (nI n, yt, yw, yc, yf, yk, ya, yb, yl, yp, yo, ye, ys)) :
    wpY_equate post (nI n, yt, yw, yc, yf, yk, ya, yb, yl, yp, yo, ye, ys) (nI a) (nI b) := by
  have hn := W.1
  unfold wpY_equate
  dsimp only
  refine yi_1 hn ha (br_f xb_10 (yi_1 hn hb (br_f xb_10 (yj_join W D H ha hb (fun yl' H' => ?_)))))
  have K : wpY_follow (fun u => match u with | (yn0, yt0, yw0, yc0, yf0, yk0, ya0, yb0, yl0, yp0, yo0, ye0, ys0) => wpY_classes (fun r_59 => post r_59 (yn0, yt0, yw0, yc0, yf0, yk0, ya0, yb0, yl0, yp0, yo0, ye0, ys0)) (yn0, yt0, yw0, yc0, yf0, yk0, ya0, yb0, yl0, yp0, yo0, ye0, ys0)) (nI n, yt, yw, yc, yf, yk, ya, yb, yl', yp, yo, ye, ys) := by
    refine yf_follow W (by omega) ha hb (pt_LP0 D ha hb) H' ?_
    intro d1 yl1 L1 H1
    exact yk_classes hn L1.1.1 (fun i hi => (H1 i hi).2.2.2) (h d1 yl1 L1 H1)
  exact ⟨fun _ => K, fun _ => K⟩
end PTY
end
section
/-! X: compile -/
section PTX
def pt_SA {α : Type} (v : α → Int32) (a : Nat → Int32) : List α → Prop
  | [] => True
  | x :: L => a L.length = v x ∧ pt_SA v a L
theorem pt_SA_u {α : Type} {v : α → Int32} {a : Nat → Int32} {k : Nat} {y : Int32} : ∀ {L : List α}, pt_SA v a L → L.length ≤ k → pt_SA v (upd a k y) L := by
  intro L
  induction L with
  | nil => intro _ _; trivial
  | cons x L ih =>
    intro h hk
    rw [List.length_cons] at hk
    exact ⟨by rw [pk_un (by omega)]; exact h.1, ih h.2 (by omega)⟩
theorem pt_SA_p {α : Type} {v : α → Int32} {a : Nat → Int32} {x : α} {y : Int32} {L : List α} (h : pt_SA v a L) (e : y = v x) : pt_SA v (upd a L.length y) (x :: L) :=
  ⟨by rw [pk_us]; exact e, pt_SA_u h (Nat.le_refl _)⟩
theorem xm_tb : ∀ m, m < 8 → ∀ t, t < 3 → ((((nI m >>> (nI t &&& 31)) &&& 1) = 0) ↔ m.testBit t = false) := by decide +kernel
theorem xm_or : ∀ m, m < 8 → ∀ t, t < 3 → nI m ||| ((1 : Int32) <<< (nI t &&& 31)) = nI (m ||| 2 ^ t) := by decide +kernel
theorem xm_f0 : fits .boolean (.int 0) = true := fits_narrow_boolean 0
theorem xm_f1 : fits .boolean (.int 1) = true := fits_narrow_boolean 1
def pt_AG (i : Nat) (op ar rr aa op' ar' rr' aa' : Nat → Int32) : Prop := ∀ j, j < i → op' j = op j ∧ ar' j = ar j ∧ rr' j = rr j ∧ aa' j = aa j
theorem pt_AG_u {i : Nat} {op ar rr aa op' ar' rr' aa' : Nat → Int32} {x y z : Int32} (h : pt_AG (i + 1) (upd op i x) (upd ar i y) (upd rr i z) aa op' ar' rr' aa') : pt_AG i op ar rr aa op' ar' rr' aa' := by
  intro j hj
  have := h j (by omega)
  rw [pk_un (by omega), pk_un (by omega), pk_un (by omega)] at this
  exact this
theorem pt_AG_v {i : Nat} {op ar rr aa op' ar' rr' aa' : Nat → Int32} {x y z w : Int32} (h : pt_AG (i + 1) (upd op i x) (upd ar i y) (upd rr i z) (upd aa i w) op' ar' rr' aa') : pt_AG i op ar rr aa op' ar' rr' aa' := by
  intro j hj
  have := h j (by omega)
  rw [pk_un (by omega), pk_un (by omega), pk_un (by omega), pk_un (by omega)] at this
  exact this
variable {nc pc tc cm iw vs ce : Int32} {sy le ri ld pA pB tk op ar rr aa oR rg va tr : Nat → Int32} {fo : Nat → Int64}
theorem xw_write {i p q r : Nat} {post : SX → Prop} (hi : i < 10) (hp : p < 128) (hq : q < 128) (hr : r < 128) (h : post (nc, pc, tc, cm, iw, vs, nI (i + 1), sy, le, ri, ld, pA, pB, tk, upd op i (nI p), upd ar i (nI q), upd rr i (nI r), aa, oR, rg, va, tr, fo)) : wpX_write post (nc, pc, tc, cm, iw, vs, nI i, sy, le, ri, ld, pA, pB, tk, op, ar, rr, aa, oR, rg, va, tr, fo) (nI p) (nI q) (nI r) := by
  unfold wpX_write
  dsimp only
  rw [nI_clamp (n := i) (by omega), xb_nn hp, xb_nn hq, xb_nn hr]
  have vi : vp_in (nI i) 10 := vp_in_nI hi (by decide)
  exact ⟨vi, nm_e ⟨vi, nm_e ⟨vi, nm_e (nm_r (nI_1 i) h)⟩⟩⟩
theorem xm_215 {q i c : Nat} {post : SX → Prop} (hi : i ≤ c) (hc : c ≤ 7) (hq : q ≤ 8) (h : post (nc, pc, nI c, cm, if decide (q = 0 ∧ i = c) = true then 1 else 0, vs, nI (i + 1), sy, le, ri, ld, pA, pB, tk, upd op i (nI 4), upd ar i (nI 0), upd rr i (nI 0), aa, oR, rg, va, tr, fo)) : wX_compile_215 post (nI q) (nI i) nc pc (nI c) cm iw vs (nI i) sy le ri ld pA pB tk op ar rr aa oR rg va tr fo := by
  have k0 : ¬ (q = 0 ∧ i = c) → wX_compile_232 post nc pc (nI c) cm iw vs (nI i) sy le ri ld pA pB tk op ar rr aa oR rg va tr fo := by
    intro z
    rw [decide_eq_false z] at h
    exact ⟨narrow_b0, xm_f0, xw_write (by omega) (by decide) (by decide) (by decide) h⟩
  unfold wX_compile_215
  refine pk_eq q 0 (fun e => pk_eq i c (fun e2 => ?_) (fun e2 => k0 (fun z => e2 z.2))) (fun e => k0 (fun z => e z.1))
  rw [decide_eq_true ⟨e, e2⟩] at h
  exact ⟨narrow_b1, xm_f1, xw_write (by omega) (by decide) (by decide) (by decide) h⟩
theorem xm_41 {c : Nat} {f : Nat → Nat} {post : SX → Prop} (hc : c ≤ 7) (hT : ∀ i, i < c → pt_tok (f i)) (hk : ∀ i, i < c → tk i = nI (f i)) :
    ∀ (k i : Nat) (os : List Nat) (nr m : Nat) (op ar rr aa oR : Nat → Int32), i + k = c → pt_SA nI oR os → os.length ≤ 1 + i → nr ≤ 1 + 2 * i → (∀ o, o ∈ os → o < nr) → m < 8 →
    (∀ (w : Bool) (vs ce : Int32) (op' ar' rr' aa' oR : Nat → Int32), pt_AG i op ar rr aa op' ar' rr' aa' → w = pt_fw (pt_tl f i k) os.length → (w = true → pt_CD op' ar' rr' aa' (pt_tl f i k) i os nr m ∧ vs = nI (pt_vs (pt_tl f i k) m)) → post (nc, pc, nI c, cm, if w = true then 1 else 0, vs, ce, sy, le, ri, ld, pA, pB, tk, op', ar', rr', aa', oR, rg, va, tr, fo)) →
    wX_compile_41 post (k + 1) (nI os.length) (nI nr) (nI i) nc pc (nI c) cm iw (nI m) (nI i) sy le ri ld pA pB tk op ar rr aa oR rg va tr fo := by
  intro k
  induction k with
  | zero =>
    intro i os nr m op ar rr aa oR hi hS hl hn ho hm h
    rw [wX_compile_41]
    dsimp only
    refine pk_le c i (fun _ => xm_215 (by omega) hc (by omega) ?_) (fun z => absurd z (by omega))
    refine h _ _ _ _ _ _ _ _ ?_ ?_ ?_
    · intro j hj
      rw [pk_un (by omega), pk_un (by omega), pk_un (by omega)]
      exact ⟨rfl, rfl, rfl, rfl⟩
    · show decide (os.length = 0 ∧ i = c) = decide (os.length = 0)
      rw [decide_eq_decide]
      exact ⟨fun z => z.1, fun z => ⟨z, by omega⟩⟩
    · intro _
      exact ⟨pk_us, rfl⟩
  | succ k ih =>
    intro i os nr m op ar rr aa oR hi hS hl hn ho hm h
    rw [wX_compile_41]
    dsimp only
    refine pk_le c i (fun z => absurd z (by omega)) (fun _ => ?_)
    match os, hS, hl, ho, h with
    | [], _, _, _, h =>
      refine br_t (by decide : (0 : Int32) ≤ 0) (xm_215 (q := 0) (by omega) hc (by omega) ?_)
      refine h _ _ _ _ _ _ _ _ ?_ ?_ ?_
      · intro j hj
        rw [pk_un (by omega), pk_un (by omega), pk_un (by omega)]
        exact ⟨rfl, rfl, rfl, rfl⟩
      · show decide (0 = 0 ∧ i = c) = (decide (0 < 0) && _)
        rw [decide_eq_false (by omega)]
        rfl
      · intro z
        have z := of_decide_eq_true z
        omega
    | o :: os, hS, hl, ho, h =>
      rw [List.length_cons] at hl ⊢
      have ht := hT i (by omega)
      have ho0 := ho o List.mem_cons_self
      have ho' : ∀ x, x ∈ os → x < nr := fun x hx => ho x (List.mem_cons_of_mem _ hx)
      have vq : vp_in (nI os.length) 8 := vp_in_nI (by omega) (by decide)
      have fwc : pt_fw (pt_tl f i (k + 1)) (o :: os).length = pt_fw (pt_tl f (i + 1) k) (os.length + pt_ar (f i)) := by
        show (decide (0 < (o :: os).length) && pt_fw (pt_tl f (i + 1) k) ((o :: os).length - 1 + pt_ar (f i))) = _
        rw [List.length_cons, decide_eq_true (by omega), Nat.add_sub_cancel, Bool.true_and]
      refine br_f (nI_nle (by omega) (by omega)) ⟨vp_in_nI (by omega) (by decide), ?_⟩
      rw [nI_clamp (n := i) (by omega), hk i (by omega)]
      refine nm_e (nm_r (nI_1 i) (nm_r (pk_m1 _) ⟨vq, ?_⟩))
      rw [nI_clamp (n := os.length) (by omega), hS.1]
      refine nm_e ?_
      have cdc : ∀ {op' ar' rr' aa' : Nat → Int32}, pt_CD op' ar' rr' aa' (pt_tl f i (k + 1)) i (o :: os) nr m = (rr' i = nI o ∧
    (if f i < 3 then op' i = (if m.testBit (f i) = true then 2 else 1) ∧ ar' i = nI (f i) ∧ pt_CD op' ar' rr' aa' (pt_tl f (i + 1) k) (i + 1) os nr (m ||| 2 ^ f i)
     else if f i < 20 then op' i = 3 ∧ ar' i = nI (f i - 10) ∧ pt_CD op' ar' rr' aa' (pt_tl f (i + 1) k) (i + 1) os nr m
     else op' i = 0 ∧ ar' i = nI (f i) ∧ aa' i = nI nr ∧ (if f i = 20 then pt_CD op' ar' rr' aa' (pt_tl f (i + 1) k) (i + 1) (nr :: os) (nr + 1) m else pt_CD op' ar' rr' aa' (pt_tl f (i + 1) k) (i + 1) (nr :: (nr + 1) :: os) (nr + 2) m))) := by
        intro op' ar' rr' aa'
        show pt_CD op' ar' rr' aa' (f i :: pt_tl f (i + 1) k) i (o :: os) nr m = _
        rw [pt_CD]
      have vsc : pt_vs (pt_tl f i (k + 1)) m = pt_vs (pt_tl f (i + 1) k) (if f i < 3 then m ||| 2 ^ f i else m) := rfl
      generalize f i = t at ht fwc cdc vsc
      unfold pt_tok at ht
      refine pk_lt 2 t (fun h2 => pk_lt 15 t (fun h15 => ?_) (fun h15 => ?_)) (fun h2 => ?_)
      · -- a symbol
        refine xw_write (p := 0) (by omega) (by decide) (by omega) (by omega) ?_
        dsimp only
        have ce1 : nI (i + 1) - 1 = nI i := nI_pred i
        by_cases e : t = 21
        · subst e
          refine br_t rfl ⟨vq, nm_r (e' := upd oR os.length (nI (nr + 1))) ?_ (nm_r (nI_1 _) ?_)⟩
          · rw [nI_1, xb_nn (by omega)]
          · unfold wX_compile_173
            rw [ce1, nI_clamp (n := os.length + 1) (by omega), nI_clamp (n := i) (by omega), xb_nn (v := nr) (by omega)]
            refine ⟨vp_in_nI (by omega) (by decide), nm_e (nm_r (nI_1 _) ⟨vp_in_nI (by omega) (by decide), nm_e (br_t rfl (nm_r (nI_add nr 2) ?_))⟩)⟩
            have S1 : pt_SA nI (upd oR os.length (nI (nr + 1))) ((nr + 1) :: os) := pt_SA_p hS.2 rfl
            have S2 : pt_SA nI (upd (upd oR os.length (nI (nr + 1))) (os.length + 1) (nI nr)) (nr :: (nr + 1) :: os) := pt_SA_p S1 rfl
            refine ih (i + 1) (nr :: (nr + 1) :: os) (nr + 2) m _ _ _ _ _ (by omega) S2 (by rw [List.length_cons, List.length_cons]; omega) (by omega) ?_ hm ?_
            · intro x hx
              rcases List.mem_cons.mp hx with z | z
              · omega
              · rcases List.mem_cons.mp z with z | z
                · omega
                · have := ho' x z; omega
            · intro w vs ce op' ar' rr' aa' oR' hA hw hC
              refine h w vs ce op' ar' rr' aa' oR' (pt_AG_v hA) (by rw [fwc, hw]; rfl) ?_
              intro z
              obtain ⟨c1, c2⟩ := hC z
              obtain ⟨g1, g2, g3, g4⟩ := hA i (by omega)
              rw [pk_us] at g1 g2 g3 g4
              rw [cdc, vsc]
              exact ⟨⟨g3, g1, g2, g4, c1⟩, c2⟩
        · have e2 : t = 20 := by omega
          subst e2
          refine br_f (by decide : ¬ nI 20 = 21) ?_
          unfold wX_compile_173
          rw [ce1, nI_clamp (n := os.length) (by omega), nI_clamp (n := i) (by omega), xb_nn (v := nr) (by omega)]
          refine ⟨vq, nm_e (nm_r (nI_1 _) ⟨vp_in_nI (by omega) (by decide), nm_e (br_f (by decide : ¬ nI 20 = 21) (nm_r (nI_1 nr) ?_))⟩)⟩
          have S1 : pt_SA nI (upd oR os.length (nI nr)) (nr :: os) := pt_SA_p hS.2 rfl
          refine ih (i + 1) (nr :: os) (nr + 1) m _ _ _ _ _ (by omega) S1 (by rw [List.length_cons]; omega) (by omega) ?_ hm ?_
          · intro x hx
            rcases List.mem_cons.mp hx with z | z
            · omega
            · have := ho' x z; omega
          · intro w vs ce op' ar' rr' aa' oR' hA hw hC
            refine h w vs ce op' ar' rr' aa' oR' (pt_AG_v hA) (by rw [fwc, hw]; rfl) ?_
            intro z
            obtain ⟨c1, c2⟩ := hC z
            obtain ⟨g1, g2, g3, g4⟩ := hA i (by omega)
            rw [pk_us] at g1 g2 g3 g4
            rw [cdc, vsc]
            exact ⟨⟨g3, g1, g2, g4, c1⟩, c2⟩
      · -- a constant
        have e10 : nI t - 10 = nI (t - 10) := pk_sub (b := 10) (by omega)
        rw [e10]
        refine xw_write (p := 3) (by omega) (by decide) (by omega) (by omega) ?_
        dsimp only
        refine ih (i + 1) os nr m _ _ _ _ _ (by omega) hS.2 (by omega) (by omega) ho' hm ?_
        intro w vs ce op' ar' rr' aa' oR' hA hw hC
        have a0 : pt_ar t = 0 := by
          unfold pt_ar
          rw [if_neg (by omega), if_neg (by omega)]
        refine h w vs ce op' ar' rr' aa' oR' (pt_AG_u hA) (by rw [fwc, hw, a0]; rfl) ?_
        intro z
        obtain ⟨c1, c2⟩ := hC z
        obtain ⟨g1, g2, g3, g4⟩ := hA i (by omega)
        rw [pk_us] at g1 g2 g3
        rw [cdc, vsc, if_neg (by omega), if_pos (by omega), if_neg (by omega)]
        exact ⟨⟨g3, g1, g2, c1⟩, c2⟩
      · -- a variable
        have t3 : t < 3 := by omega
        have hm' : m ||| 2 ^ t < 8 := by
          have : 2 ^ t < 2 ^ 3 := Nat.pow_lt_pow_right (by decide) t3
          exact Nat.or_lt_two_pow (n := 3) hm this
        have a0 : pt_ar t = 0 := by
          unfold pt_ar
          rw [if_neg (by omega), if_neg (by omega)]
        have K : ∀ b : Nat, nI b = (if m.testBit t = true then 2 else 1) → b < 128 → wX_compile_99 post (wX_compile_41 post (k + 1)) (nI os.length) (nI nr) (nI (i + 1)) (nI t) (nI o) (nI b) nc pc (nI c) cm iw (nI m) (nI i) sy le ri ld pA pB tk op ar rr aa oR rg va tr fo := by
          intro b hb hb2
          unfold wX_compile_99
          refine xw_write (by omega) hb2 (by omega) (by omega) ?_
          dsimp only
          refine nm_r (xm_or m hm t t3) ?_
          refine ih (i + 1) os nr (m ||| 2 ^ t) _ _ _ _ _ (by omega) hS.2 (by omega) (by omega) ho' hm' ?_
          intro w vs ce op' ar' rr' aa' oR' hA hw hC
          refine h w vs ce op' ar' rr' aa' oR' (pt_AG_u hA) (by rw [fwc, hw, a0]; rfl) ?_
          intro z
          obtain ⟨c1, c2⟩ := hC z
          obtain ⟨g1, g2, g3, g4⟩ := hA i (by omega)
          rw [pk_us] at g1 g2 g3
          rw [cdc, vsc, if_pos t3, if_pos t3]
          exact ⟨⟨g3, by rw [g1, hb], g2, c1⟩, c2⟩
        by_cases e : m.testBit t = false
        · exact br_t ((xm_tb m hm t t3).mpr e) (K 1 (by rw [e]; rfl) (by decide))
        · refine br_f (fun z => e ((xm_tb m hm t t3).mp z)) (K 2 ?_ (by decide))
          rw [if_pos (by simpa using e)]
          rfl
theorem xm_compile0 {c : Nat} {f : Nat → Nat} {post : SX → Prop} (hc : c ≤ 7) (hT : ∀ i, i < c → pt_tok (f i)) (hk : ∀ i, i < c → tk i = nI (f i))
    (h : ∀ (w : Bool) (vs ce : Int32) (op ar rr aa oR : Nat → Int32), w = pt_fw (pt_tl f 0 c) 1 → (w = true → pt_CD op ar rr aa (pt_tl f 0 c) 0 [0] 1 0 ∧ vs = nI (pt_vs (pt_tl f 0 c) 0)) → post (nc, pc, nI c, 1, if w = true then 1 else 0, vs, ce, sy, le, ri, ld, pA, pB, tk, op, ar, rr, aa, oR, rg, va, tr, fo)) :
    wpX_compile post (nc, pc, nI c, 0, iw, vs, ce, sy, le, ri, ld, pA, pB, tk, op, ar, rr, aa, oR, rg, va, tr, fo) := by
  unfold wpX_compile
  refine br_t rfl (nm_r (e' := upd oR 0 (nI 0)) ?_ ⟨c + 1, ?_⟩)
  · rw [← nI_0, xb_n (by decide)]
  · refine xm_41 hc hT hk c 0 [0] 1 0 op ar rr aa _ (by omega) ⟨pk_us, trivial⟩ (by decide) (by decide) ?_ (by decide) ?_
    · intro x hx
      rw [List.mem_singleton.mp hx]
      decide
    · intro w vs ce op' ar' rr' aa' oR' _ hw hC
      exact h w vs ce op' ar' rr' aa' oR' hw hC
end PTX
end
section
/-! X: the matcher's single steps -/
section PTX
def pt_vv : Option Nat → Int32
  | none => -1
  | some c => nI c
def pt_fb (fo : Nat → Int64) (x : Nat) : Bool := (fo (x / 64)).toBitVec.getLsbD (x % 64)
theorem xt_sh : ∀ k, k < 64 → ((1 : Int64) <<< ((nI k).toInt64 &&& 63)).toBitVec = BitVec.twoPow 64 k := by decide +kernel
theorem xt_q {N : Nat} (h : N < 8000) : nI N >>> ((6 : Int32) &&& 31) = nI (N / 64) := pk_shrN (by omega) _ 6 (by decide)
theorem xt_r {N : Nat} (h : N < 8000) : nI N &&& 63 = nI (N % 64) := pk_andN (by omega) 6 (by decide)
theorem xt_or {fo : Nat → Int64} {N x : Nat} (hN : N < 8000) (hx : x < 8000) : pt_fb (vp_updL fo (N / 64) (fo (N / 64) ||| ((1 : Int64) <<< ((nI (N % 64)).toInt64 &&& 63)))) x = true ↔ pt_fb fo x = true ∨ x = N := by
  unfold pt_fb
  by_cases e : x / 64 = N / 64
  · rw [e, pk_uLs, Int64.toBitVec_or, xt_sh _ (Nat.mod_lt _ (by decide)), BitVec.getLsbD_or, BitVec.getLsbD_twoPow, Bool.or_eq_true, Bool.and_eq_true, decide_eq_true_eq, decide_eq_true_eq]
    refine or_congr_right ?_
    omega
  · rw [pk_uLn e]
    refine ⟨Or.inl, fun z => z.resolve_right (fun y => e (by rw [y]))⟩
theorem xt_bit (w : Int64) {k : Nat} (hk : k < 64) : ((w.toUInt64 >>> ((nI k).toInt64.toUInt64 &&& Int64.toUInt64 63)).toInt64 &&& 1) = if w.toBitVec.getLsbD k = true then 1 else 0 := by
  obtain ⟨v, hv, rfl⟩ := wb_of w
  rw [wb_bit hv hk, wb_tb, BitVec.getLsbD_ofNat, decide_eq_true hk, Bool.true_and, Nat.testBit_eq_decide_div_mod_eq]
  rcases Nat.mod_two_eq_zero_or_one (v / 2 ^ k) with z | z
  · rw [z]; rfl
  · rw [z]; rfl
variable {nc pc tc cm iw vs ce : Int32} {sy le ri ld pA pB tk op ar rr aa oR rg va tr : Nat → Int32} {fo : Nat → Int64}
variable {n : Nat} {s l r d : Nat → Nat}
theorem xt_n1 {o : Option Nat} {a v k : Nat} {post : SX → Prop} (hv : v < 3) (e : va v = pt_vv o) (ho : ∀ c, o = some c → c < 20) (h : wX_note_4 post nc pc tc cm iw vs ce sy le ri ld pA pB tk op ar rr aa oR rg va tr fo k (nI (20 * a + pt_vz o)) (nI (v + 1))) : wX_note_4 post nc pc tc cm iw vs ce sy le ri ld pA pB tk op ar rr aa oR rg va tr fo (k + 1) (nI a) (nI v) := by
  rw [wX_note_4]
  dsimp only
  have vv : vp_in (nI v) 3 := vp_in_nI hv (by decide)
  have m20 : 20 * nI a = nI (20 * a) := pk_mul 20 a
  rw [nI_clamp (n := v) (by omega), e, m20]
  refine br_f (nI_ge (b := 3) hv (by decide)) ⟨vv, ?_⟩
  cases o with
  | none => exact br_f (by decide) (nm_r (nI_add (20 * a) 0) (nm_r (nI_1 v) h))
  | some c =>
    have := ho c rfl
    exact br_t (nI_pos' (by omega)) ⟨vv, nm_r (nI_add (20 * a) c) (nm_r (nI_1 v) h)⟩
theorem xt_note {β : Nat → Option Nat} {post : SX → Prop} (hv : ∀ v, v < 3 → va v = pt_vv (β v)) (hβ : ∀ v c, v < 3 → β v = some c → c < 20)
    (h : ∀ fo', (∀ x, x < 8000 → (pt_fb fo' x = true ↔ pt_fb fo x = true ∨ x = pt_num β)) → post (nc, pc, tc, cm, iw, vs, ce, sy, le, ri, ld, pA, pB, tk, op, ar, rr, aa, oR, rg, va, tr, fo')) : wpX_note post (nc, pc, tc, cm, iw, vs, ce, sy, le, ri, ld, pA, pB, tk, op, ar, rr, aa, oR, rg, va, tr, fo) := by
  unfold wpX_note
  refine ⟨4, xt_n1 (a := 0) (v := 0) (by decide) (hv 0 (by decide)) (fun c => hβ 0 c (by decide)) (xt_n1 (by decide) (hv 1 (by decide)) (fun c => hβ 1 c (by decide)) (xt_n1 (by decide) (hv 2 (by decide)) (fun c => hβ 2 c (by decide)) ?_))⟩
  have e : 20 * (20 * (20 * 0 + pt_vz (β 0)) + pt_vz (β 1)) + pt_vz (β 2) = pt_num β := by
    unfold pt_num
    omega
  have hN : pt_num β < 8000 := ((pt_RN0 (n := 0) (d := id) hβ).mp rfl).1
  rw [wX_note_4, e]
  dsimp only
  rw [xt_q hN, xt_r hN, nI_clamp (n := pt_num β / 64) (by omega)]
  have vi : vp_in (nI (pt_num β / 64)) 125 := vp_in_nI (by omega) (by decide)
  exact br_t (by decide) ⟨vi, vi, nm_e (h _ (fun x hx => xt_or hN hx))⟩
/-! the class of a constant -/
theorem xo_2 {k : Nat} {post : Int32 → Prop} (W : pt_WN n s l r) (H : pt_NX n s l r d sy le ri ld) (hk : k < 20) : ∀ K i, i + K = n → post (pt_vv ((pt_fi (pt_ft s l r d 0 k 0) (n - i) i).map d)) → wX_classOfConstant_2 post (nI k) (nI n) pc tc cm iw vs ce sy le ri ld pA pB tk op ar rr aa oR rg va tr fo (K + 1) (nI i) := by
  have hn := W.1
  intro K
  induction K with
  | zero =>
    intro i hi h
    rw [wX_classOfConstant_2]
    dsimp only
    have e : n - i = 0 := by omega
    rw [e] at h
    exact pk_le n i (fun _ => h) (fun z => absurd z (by omega))
  | succ K ih =>
    intro i hi h
    rw [wX_classOfConstant_2]
    dsimp only
    obtain ⟨a1, a2, a3, a4⟩ := H i (by omega)
    obtain ⟨w1, w2, w3, w4, w5⟩ := W.2 i (by omega)
    rw [nI_clamp (n := i) (by omega), a1, a2, a4]
    have vi : vp_in (nI i) 20 := vp_in_nI (by omega) (by decide)
    rw [pt_fi_c (by omega)] at h
    have no : ¬ (s i = 0 ∧ l i = k) → wX_classOfConstant_2 post (nI k) (nI n) pc tc cm iw vs ce sy le ri ld pA pB tk op ar rr aa oR rg va tr fo (K + 1) (nI (i + 1)) := by
      intro z
      refine ih (i + 1) (by omega) ?_
      rw [if_neg] at h
      · exact h
      · intro y
        have y := of_decide_eq_true y
        exact z ⟨y.1, y.2.elim (fun q => q.2) (fun q => absurd rfl q.1)⟩
    refine pk_le n i (fun z => absurd z (by omega)) (fun _ => ⟨vi, pk_eq (s i) 0 (fun e1 => ⟨vi, pk_eq (l i) k (fun e2 => ⟨vi, ?_⟩) (fun e2 => nm_r (nI_1 i) (no (fun z => e2 z.2)))⟩) (fun e1 => nm_r (nI_1 i) (no (fun z => e1 z.1)))⟩)
    have hf : pt_ft s l r d 0 k 0 i = true := decide_eq_true ⟨e1, Or.inl ⟨rfl, e2⟩⟩
    rw [if_pos hf] at h
    exact h
theorem xo_const {k : Nat} {post : Int32 → Prop} (W : pt_WN n s l r) (H : pt_NX n s l r d sy le ri ld) (hk : k < 20) (h : post (pt_vv (pt_ov n s l r d 0 k 0))) : wpX_classOfConstant post (nI n, pc, tc, cm, iw, vs, ce, sy, le, ri, ld, pA, pB, tk, op, ar, rr, aa, oR, rg, va, tr, fo) (nI k) := by
  unfold wpX_classOfConstant
  exact ⟨n + 1, xo_2 W H hk n 0 (by omega) h⟩
theorem pt_vv_eq {o : Option Nat} {c : Nat} (ho : ∀ e, o = some e → e < 2 ^ 31) (hc : c < 2 ^ 31) : pt_vv o = nI c ↔ o = some c := by
  cases o with
  | none =>
    refine ⟨fun z => ?_, fun z => (nomatch z)⟩
    have h := nI_pos (n := c) hc
    rw [← z] at h
    exact absurd (by decide : (-1 : Int32) < 0) h
  | some e =>
    rw [Option.some.injEq]
    exact nI_eq (ho e rfl) hc
/-! take -/
def pt_rg (t nr a b : Nat) (rg : Nat → Int32) : Nat → Int32 := if t = 21 then upd (upd rg nr (nI a)) (nr + 1) (nI b) else upd rg nr (nI a)
theorem xt_58 {i m t nr : Nat} {post : Int32 → SX → Prop} (W : pt_WN n s l r) (D : pt_WD n d) (H : pt_NX n s l r d sy le ri ld) (hi : i < 8) (hm : m < n) (hs : s m = t) (ht : t = 20 ∨ t = 21) (ha : aa i = nI nr) (hr : nr + 1 < 16)
    (h : post 1 (nI n, pc, tc, cm, iw, vs, ce, sy, le, ri, ld, pA, pB, tk, op, ar, rr, aa, oR, pt_rg t nr (d (l m)) (d (r m)) rg, va, upd tr i (nI m), fo)) : wX_take_58 post (nI i) (nI m) (nI n) pc tc cm iw vs ce sy le ri ld pA pB tk op ar rr aa oR rg va tr fo := by
  have hn := W.1
  obtain ⟨a1, a2, a3, a4⟩ := H m hm
  obtain ⟨w1, w2, w3, w4, w5⟩ := W.2 m hm
  have hl := w4 (by omega)
  have dl := (D _ hl).1
  unfold wX_take_58
  rw [nI_clamp (n := i) (by omega), nI_clamp (n := m) (by omega), a1, a2, a3, nI_clamp (n := l m) (by omega), nI_clamp (n := r m) (by omega), (H _ hl).2.2.2, ha, xb_nn (v := m) (by omega), xb_n (v := d (l m)) (by omega)]
  have vm : vp_in (nI m) 20 := vp_in_nI (by omega) (by decide)
  refine br_t (nI_lt hm (by omega)) ⟨vp_in_nI (by omega) (by decide), nm_e ⟨vp_in_nI (by omega) (by decide), nm_e ?_⟩⟩
  rw [nI_1, nI_clamp (n := nr) (by omega), nI_clamp (n := nr + 1) (by omega)]
  refine ⟨vm, vp_in_nI w2 (by decide), vp_in_nI (by omega) (by decide), nm_e ⟨vm, pk_eq (s m) 21 (fun e => ?_) (fun e => ?_)⟩⟩
  · have hr := w5 e
    have dr := (D _ hr).1
    rw [(H _ hr).2.2.2, xb_n (v := d (r m)) (by omega)]
    unfold pt_rg at h
    rw [if_pos (by omega)] at h
    exact ⟨vm, vp_in_nI w3 (by decide), vp_in_nI (by omega) (by decide), nm_e h⟩
  · unfold pt_rg at h
    rw [if_neg (by omega)] at h
    exact h
theorem xt_9S {i m t nr o c : Nat} {post : Int32 → SX → Prop} (W : pt_WN n s l r) (D : pt_WD n d) (H : pt_NX n s l r d sy le ri ld) (hi : i < 8) (hm : m < n) (hs : s m = t) (hd : d m = c) (ht : t = 20 ∨ t = 21) (ha : aa i = nI nr) (hr : nr + 1 < 16) (ho : rr i = nI o) (ho2 : o < 16) (hc : rg o = nI c) (hc2 : c < 20) (hA : ar i = nI t)
    (h : post 1 (nI n, pc, tc, cm, iw, vs, ce, sy, le, ri, ld, pA, pB, tk, op, ar, rr, aa, oR, pt_rg t nr (d (l m)) (d (r m)) rg, va, upd tr i (nI m), fo)) : ∀ K j, j + K = m → (∀ q, j ≤ q → q < m → ¬ (d q = c ∧ s q = t)) → wX_take_9 post (nI i) (nI n) pc tc cm iw vs ce sy le ri ld pA pB tk op ar rr aa oR rg va tr fo (K + 1) (nI j) := by
  have hn := W.1
  have vi : vp_in (nI i) 10 := vp_in_nI (by omega) (by decide)
  have vo : vp_in (nI o) 16 := vp_in_nI ho2 (by decide)
  intro K
  induction K with
  | zero =>
    intro j hj hno
    have e : j = m := by omega
    subst e
    rw [wX_take_9]
    dsimp only
    obtain ⟨a1, a2, a3, a4⟩ := H j hm
    rw [nI_clamp (n := i) (by omega), nI_clamp (n := j) (by omega), a1, a4, ho, nI_clamp (n := o) (by omega), hc, hA]
    have vj : vp_in (nI j) 20 := vp_in_nI (by omega) (by decide)
    refine br_f (nI_ge hm (by omega)) ⟨vj, vi, vo, br_t (by rw [hd]) ⟨vj, vi, br_t (by rw [hs]) (xt_58 W D H hi hm hs ht ha hr h)⟩⟩
  | succ K ih =>
    intro j hj hno
    have nx := ih (j + 1) (by omega) (fun q h1 h2 => hno q (by omega) h2)
    rw [wX_take_9]
    dsimp only
    obtain ⟨a1, a2, a3, a4⟩ := H j (by omega)
    obtain ⟨w1, w2, w3, w4, w5⟩ := W.2 j (by omega)
    have dj := (D j (by omega)).1
    rw [nI_clamp (n := i) (by omega), nI_clamp (n := j) (by omega), a1, a4, ho, nI_clamp (n := o) (by omega), hc, hA]
    have vj : vp_in (nI j) 20 := vp_in_nI (by omega) (by decide)
    refine br_f (nI_ge (by omega) (by omega)) ⟨vj, vi, vo, pk_eq (d j) c (fun e1 => ⟨vj, vi, pk_eq (s j) t (fun e2 => absurd ⟨e1, e2⟩ (hno j (by omega) (by omega))) (fun _ => nm_r (nI_1 j) nx)⟩) (fun _ => nm_r (nI_1 j) nx)⟩
theorem xt_9N {i t o c : Nat} {post : Int32 → SX → Prop} (W : pt_WN n s l r) (D : pt_WD n d) (H : pt_NX n s l r d sy le ri ld) (hi : i < 8) (ht : t = 20 ∨ t = 21) (ho : rr i = nI o) (ho2 : o < 16) (hc : rg o = nI c) (hc2 : c < 20) (hA : ar i = nI t)
    (h : post 0 (nI n, pc, tc, cm, iw, vs, ce, sy, le, ri, ld, pA, pB, tk, op, ar, rr, aa, oR, rg, va, tr, fo)) : ∀ K j, j + K = n → (∀ q, j ≤ q → q < n → ¬ (d q = c ∧ s q = t)) → wX_take_9 post (nI i) (nI n) pc tc cm iw vs ce sy le ri ld pA pB tk op ar rr aa oR rg va tr fo (K + 1) (nI j) := by
  have hn := W.1
  have vi : vp_in (nI i) 10 := vp_in_nI (by omega) (by decide)
  have vo : vp_in (nI o) 16 := vp_in_nI ho2 (by decide)
  intro K
  induction K with
  | zero =>
    intro j hj hno
    have e : j = n := by omega
    subst e
    rw [wX_take_9]
    dsimp only
    refine br_t (nI_le (Nat.le_refl _) (by omega)) ?_
    unfold wX_take_58
    exact br_f (nI_nlt (Nat.le_refl _) (by omega)) h
  | succ K ih =>
    intro j hj hno
    have nx := ih (j + 1) (by omega) (fun q h1 h2 => hno q (by omega) h2)
    rw [wX_take_9]
    dsimp only
    obtain ⟨a1, a2, a3, a4⟩ := H j (by omega)
    obtain ⟨w1, w2, w3, w4, w5⟩ := W.2 j (by omega)
    have dj := (D j (by omega)).1
    rw [nI_clamp (n := i) (by omega), nI_clamp (n := j) (by omega), a1, a4, ho, nI_clamp (n := o) (by omega), hc, hA]
    have vj : vp_in (nI j) 20 := vp_in_nI (by omega) (by decide)
    refine br_f (nI_ge (by omega) (by omega)) ⟨vj, vi, vo, pk_eq (d j) c (fun e1 => ⟨vj, vi, pk_eq (s j) t (fun e2 => absurd ⟨e1, e2⟩ (hno j (by omega) (by omega))) (fun _ => nm_r (nI_1 j) nx)⟩) (fun _ => nm_r (nI_1 j) nx)⟩
/-! the steps of run's loop -/
theorem xr_takeS {i m m0 t nr o c N : Nat} {post : SX → Prop} (W : pt_WN n s l r) (D : pt_WD n d) (H : pt_NX n s l r d sy le ri ld) (hi : i < 8) (hop : op i = 0) (hm : m < n) (hs : s m = t) (hd : d m = c) (ht : t = 20 ∨ t = 21) (ha : aa i = nI nr) (hr : nr + 1 < 16) (ho : rr i = nI o) (ho2 : o < 16) (hc : rg o = nI c) (hc2 : c < 20) (hA : ar i = nI t) (htr : tr i + 1 = nI m0) (h0 : m0 ≤ m) (hno : ∀ q, m0 ≤ q → q < m → ¬ (d q = c ∧ s q = t))
    (h : wX_run_63 post (wX_run_37 post N) (nI i) 1 (nI n) pc tc cm iw vs ce sy le ri ld pA pB tk op ar rr aa oR (pt_rg t nr (d (l m)) (d (r m)) rg) va (upd tr i (nI m)) fo) : wX_run_37 post (N + 1) (nI i) (nI n) pc tc cm iw vs ce sy le ri ld pA pB tk op ar rr aa oR rg va tr fo := by
  rw [wX_run_37]
  dsimp only
  rw [nI_clamp (n := i) (by omega)]
  have vi : vp_in (nI i) 10 := vp_in_nI (by omega) (by decide)
  refine br_f (nI_pos (by omega)) ⟨vi, br_t hop ?_⟩
  unfold wpX_take
  dsimp only
  rw [nI_clamp (n := i) (by omega)]
  exact ⟨vi, nm_r htr ⟨m - m0 + 1, xt_9S W D H hi hm hs hd ht ha hr ho ho2 hc hc2 hA h (m - m0) m0 (by omega) hno⟩⟩
theorem xr_takeN {i m0 t o c N : Nat} {post : SX → Prop} (W : pt_WN n s l r) (D : pt_WD n d) (H : pt_NX n s l r d sy le ri ld) (hi : i < 8) (hop : op i = 0) (ht : t = 20 ∨ t = 21) (ho : rr i = nI o) (ho2 : o < 16) (hc : rg o = nI c) (hc2 : c < 20) (hA : ar i = nI t) (htr : tr i + 1 = nI m0) (h0 : m0 ≤ n) (hno : ∀ q, m0 ≤ q → q < n → ¬ (d q = c ∧ s q = t))
    (h : wX_run_63 post (wX_run_37 post N) (nI i) 0 (nI n) pc tc cm iw vs ce sy le ri ld pA pB tk op ar rr aa oR rg va tr fo) : wX_run_37 post (N + 1) (nI i) (nI n) pc tc cm iw vs ce sy le ri ld pA pB tk op ar rr aa oR rg va tr fo := by
  rw [wX_run_37]
  dsimp only
  rw [nI_clamp (n := i) (by omega)]
  have vi : vp_in (nI i) 10 := vp_in_nI (by omega) (by decide)
  refine br_f (nI_pos (by omega)) ⟨vi, br_t hop ?_⟩
  unfold wpX_take
  dsimp only
  rw [nI_clamp (n := i) (by omega)]
  exact ⟨vi, nm_r htr ⟨n - m0 + 1, xt_9N W D H hi ht ho ho2 hc hc2 hA h (n - m0) m0 (by omega) hno⟩⟩
theorem xr_yield {i N : Nat} {β : Nat → Option Nat} {post : SX → Prop} (hi : i < 10) (hop : op i = 4) (hv : ∀ v, v < 3 → va v = pt_vv (β v)) (hβ : ∀ v c, v < 3 → β v = some c → c < 20)
    (h : ∀ fo', (∀ x, x < 8000 → (pt_fb fo' x = true ↔ pt_fb fo x = true ∨ x = pt_num β)) → wX_run_63 post (wX_run_37 post N) (nI i) 0 nc pc tc cm iw vs ce sy le ri ld pA pB tk op ar rr aa oR rg va tr fo') : wX_run_37 post (N + 1) (nI i) nc pc tc cm iw vs ce sy le ri ld pA pB tk op ar rr aa oR rg va tr fo := by
  rw [wX_run_37]
  dsimp only
  have vi : vp_in (nI i) 10 := vp_in_nI (by omega) (by decide)
  rw [nI_clamp (n := i) (by omega), hop]
  refine br_f (nI_pos (by omega)) ⟨vi, br_f (by decide) ?_⟩
  unfold wpX_decide
  dsimp only
  rw [nI_clamp (n := i) (by omega), hop]
  exact ⟨vi, nm_e (br_t rfl (xt_note hv hβ h))⟩
theorem xr_bind {i t o c N : Nat} {post : SX → Prop} (hi : i < 10) (hop : op i = 1) (ht : t < 3) (hA : ar i = nI t) (ho : rr i = nI o) (ho2 : o < 16) (hc : rg o = nI c) (hc2 : c < 20)
    (h : wX_run_63 post (wX_run_37 post N) (nI i) 1 nc pc tc cm iw vs ce sy le ri ld pA pB tk op ar rr aa oR rg (upd va t (nI c)) tr fo) : wX_run_37 post (N + 1) (nI i) nc pc tc cm iw vs ce sy le ri ld pA pB tk op ar rr aa oR rg va tr fo := by
  rw [wX_run_37]
  dsimp only
  have vi : vp_in (nI i) 10 := vp_in_nI (by omega) (by decide)
  rw [nI_clamp (n := i) (by omega), hop]
  refine br_f (nI_pos (by omega)) ⟨vi, br_f (by decide) ?_⟩
  unfold wpX_decide
  dsimp only
  rw [nI_clamp (n := i) (by omega), hop, ho, hA, nI_clamp (n := o) (by omega), hc]
  refine ⟨vi, nm_e (br_f (by decide) ⟨vi, vp_in_nI ho2 (by decide), nm_e ⟨vi, nm_e (br_f (by decide) (br_f (by decide) ⟨vp_in_nI ht (by decide), nm_r (e' := upd va t (nI c)) ?_ h⟩))⟩⟩)⟩
  rw [nI_clamp (n := t) (by omega), xb_nn (by omega)]
theorem xr_cmp {i t o c e N : Nat} {post : SX → Prop} (hi : i < 10) (hop : op i = 2) (ht : t < 3) (hA : ar i = nI t) (ho : rr i = nI o) (ho2 : o < 16) (hc : rg o = nI c) (hc2 : c < 20) (he : va t = nI e) (he2 : e < 20)
    (h1 : e = c → wX_run_63 post (wX_run_37 post N) (nI i) 1 nc pc tc cm iw vs ce sy le ri ld pA pB tk op ar rr aa oR rg va tr fo) (h0 : e ≠ c → wX_run_63 post (wX_run_37 post N) (nI i) 0 nc pc tc cm iw vs ce sy le ri ld pA pB tk op ar rr aa oR rg va tr fo) : wX_run_37 post (N + 1) (nI i) nc pc tc cm iw vs ce sy le ri ld pA pB tk op ar rr aa oR rg va tr fo := by
  rw [wX_run_37]
  dsimp only
  have vi : vp_in (nI i) 10 := vp_in_nI (by omega) (by decide)
  rw [nI_clamp (n := i) (by omega), hop]
  refine br_f (nI_pos (by omega)) ⟨vi, br_f (by decide) ?_⟩
  unfold wpX_decide
  dsimp only
  rw [nI_clamp (n := i) (by omega), hop, ho, hA, nI_clamp (n := o) (by omega), hc]
  refine ⟨vi, nm_e (br_f (by decide) ⟨vi, vp_in_nI ho2 (by decide), nm_e ⟨vi, nm_e (br_t rfl ⟨vp_in_nI ht (by decide), ?_⟩)⟩⟩)⟩
  rw [nI_clamp (n := t) (by omega), he]
  exact pk_eq e c h1 h0
theorem xr_chk {i k o c N : Nat} {post : SX → Prop} (W : pt_WN n s l r) (D : pt_WD n d) (H : pt_NX n s l r d sy le ri ld) (hi : i < 10) (hop : op i = 3) (hk : k < 20) (hA : ar i = nI k) (ho : rr i = nI o) (ho2 : o < 16) (hc : rg o = nI c) (hc2 : c < 20)
    (h1 : pt_ov n s l r d 0 k 0 = some c → wX_run_63 post (wX_run_37 post N) (nI i) 1 (nI n) pc tc cm iw vs ce sy le ri ld pA pB tk op ar rr aa oR rg va tr fo) (h0 : pt_ov n s l r d 0 k 0 ≠ some c → wX_run_63 post (wX_run_37 post N) (nI i) 0 (nI n) pc tc cm iw vs ce sy le ri ld pA pB tk op ar rr aa oR rg va tr fo) : wX_run_37 post (N + 1) (nI i) (nI n) pc tc cm iw vs ce sy le ri ld pA pB tk op ar rr aa oR rg va tr fo := by
  have hn := W.1
  rw [wX_run_37]
  dsimp only
  have vi : vp_in (nI i) 10 := vp_in_nI (by omega) (by decide)
  rw [nI_clamp (n := i) (by omega), hop]
  refine br_f (nI_pos (by omega)) ⟨vi, br_f (by decide) ?_⟩
  unfold wpX_decide
  dsimp only
  rw [nI_clamp (n := i) (by omega), hop, ho, hA, nI_clamp (n := o) (by omega), hc]
  refine ⟨vi, nm_e (br_f (by decide) ⟨vi, vp_in_nI ho2 (by decide), nm_e ⟨vi, nm_e (br_f (by decide) (br_t rfl (xo_const W H hk ?_)))⟩⟩)⟩
  have q := pt_vv_eq (o := pt_ov n s l r d 0 k 0) (c := c) (fun e he => by have := (pt_ov_l D he).1; omega) (by omega)
  exact ⟨fun z => h1 (q.mp z), fun z => h0 (fun y => z (q.mpr y))⟩
/-! forward and back -/
theorem xr_f {i : Nat} {post : SX → Prop} {J : Int32 → Int32 → Int32 → Int32 → Int32 → Int32 → Int32 → Int32 → (Nat → Int32) → (Nat → Int32) → (Nat → Int32) → (Nat → Int32) → (Nat → Int32) → (Nat → Int32) → (Nat → Int32) → (Nat → Int32) → (Nat → Int32) → (Nat → Int32) → (Nat → Int32) → (Nat → Int32) → (Nat → Int32) → (Nat → Int32) → (Nat → Int32) → (Nat → Int64) → Prop} (hi : i < 9)
    (h : J (nI (i + 1)) nc pc tc cm iw vs ce sy le ri ld pA pB tk op ar rr aa oR rg va (upd tr (i + 1) (-1)) fo) : wX_run_63 post J (nI i) 1 nc pc tc cm iw vs ce sy le ri ld pA pB tk op ar rr aa oR rg va tr fo := by
  unfold wX_run_63
  refine br_f xb_10 (nm_r (nI_1 i) ⟨vp_in_nI (by omega) (by decide), nm_r (e' := upd tr (i + 1) (-1)) ?_ h⟩)
  rw [nI_clamp (n := i + 1) (by omega), xb_m1]
theorem xr_b0 {post : SX → Prop} {J : Int32 → Int32 → Int32 → Int32 → Int32 → Int32 → Int32 → Int32 → (Nat → Int32) → (Nat → Int32) → (Nat → Int32) → (Nat → Int32) → (Nat → Int32) → (Nat → Int32) → (Nat → Int32) → (Nat → Int32) → (Nat → Int32) → (Nat → Int32) → (Nat → Int32) → (Nat → Int32) → (Nat → Int32) → (Nat → Int32) → (Nat → Int32) → (Nat → Int64) → Prop}
    (h : J (-1) nc pc tc cm iw vs ce sy le ri ld pA pB tk op ar rr aa oR rg va tr fo) : wX_run_63 post J (nI 0) 0 nc pc tc cm iw vs ce sy le ri ld pA pB tk op ar rr aa oR rg va tr fo := by
  unfold wX_run_63
  refine br_t rfl ?_
  unfold wpX_back
  refine nm_r (e' := -1) (by decide) ⟨1, ?_⟩
  rw [wX_back_4]
  exact br_t (by decide) h
theorem xr_b1 {i : Nat} {post : SX → Prop} {J : Int32 → Int32 → Int32 → Int32 → Int32 → Int32 → Int32 → Int32 → (Nat → Int32) → (Nat → Int32) → (Nat → Int32) → (Nat → Int32) → (Nat → Int32) → (Nat → Int32) → (Nat → Int32) → (Nat → Int32) → (Nat → Int32) → (Nat → Int32) → (Nat → Int32) → (Nat → Int32) → (Nat → Int32) → (Nat → Int32) → (Nat → Int32) → (Nat → Int64) → Prop} (hi : i < 10) (hop : op i = 0)
    (h : J (nI i) nc pc tc cm iw vs ce sy le ri ld pA pB tk op ar rr aa oR rg va tr fo) : wX_run_63 post J (nI (i + 1)) 0 nc pc tc cm iw vs ce sy le ri ld pA pB tk op ar rr aa oR rg va tr fo := by
  unfold wX_run_63
  refine br_t rfl ?_
  unfold wpX_back
  refine nm_r (nI_pred i) ⟨1, ?_⟩
  rw [wX_back_4]
  dsimp only
  rw [nI_clamp (n := i) (by omega)]
  exact br_f (nI_pos (by omega)) ⟨vp_in_nI hi (by decide), br_t hop h⟩
theorem xr_b2 {i t : Nat} {post : SX → Prop} {J : Int32 → Int32 → Int32 → Int32 → Int32 → Int32 → Int32 → Int32 → (Nat → Int32) → (Nat → Int32) → (Nat → Int32) → (Nat → Int32) → (Nat → Int32) → (Nat → Int32) → (Nat → Int32) → (Nat → Int32) → (Nat → Int32) → (Nat → Int32) → (Nat → Int32) → (Nat → Int32) → (Nat → Int32) → (Nat → Int32) → (Nat → Int32) → (Nat → Int64) → Prop} (hi : i < 10) (hop : op i = 1) (ht : t < 3) (hA : ar i = nI t)
    (h : wX_run_63 post J (nI i) 0 nc pc tc cm iw vs ce sy le ri ld pA pB tk op ar rr aa oR rg (upd va t (-1)) tr fo) : wX_run_63 post J (nI (i + 1)) 0 nc pc tc cm iw vs ce sy le ri ld pA pB tk op ar rr aa oR rg va tr fo := by
  have h := h.1 rfl
  unfold wpX_back at h
  obtain ⟨k, h⟩ := h _ rfl
  unfold wX_run_63
  refine br_t rfl ?_
  unfold wpX_back
  refine nm_r (nI_pred i) ⟨k + 1, ?_⟩
  have vi : vp_in (nI i) 10 := vp_in_nI (by omega) (by decide)
  rw [wX_back_4]
  dsimp only
  rw [nI_clamp (n := i) (by omega), hop, hA, nI_clamp (n := t) (by omega), xb_m1]
  exact br_f (nI_pos (by omega)) ⟨vi, br_f (by decide) ⟨vi, br_t rfl ⟨vi, vp_in_nI ht (by decide), nm_e (nm_r (Int32.sub_eq_add_neg (nI i) 1).symm h)⟩⟩⟩
theorem xr_b3 {i : Nat} {post : SX → Prop} {J : Int32 → Int32 → Int32 → Int32 → Int32 → Int32 → Int32 → Int32 → (Nat → Int32) → (Nat → Int32) → (Nat → Int32) → (Nat → Int32) → (Nat → Int32) → (Nat → Int32) → (Nat → Int32) → (Nat → Int32) → (Nat → Int32) → (Nat → Int32) → (Nat → Int32) → (Nat → Int32) → (Nat → Int32) → (Nat → Int32) → (Nat → Int32) → (Nat → Int64) → Prop} (hi : i < 10) (hop : ¬ op i = 0) (hop1 : ¬ op i = 1)
    (h : wX_run_63 post J (nI i) 0 nc pc tc cm iw vs ce sy le ri ld pA pB tk op ar rr aa oR rg va tr fo) : wX_run_63 post J (nI (i + 1)) 0 nc pc tc cm iw vs ce sy le ri ld pA pB tk op ar rr aa oR rg va tr fo := by
  have h := h.1 rfl
  unfold wpX_back at h
  obtain ⟨k, h⟩ := h _ rfl
  unfold wX_run_63
  refine br_t rfl ?_
  unfold wpX_back
  refine nm_r (nI_pred i) ⟨k + 1, ?_⟩
  have vi : vp_in (nI i) 10 := vp_in_nI (by omega) (by decide)
  rw [wX_back_4]
  dsimp only
  rw [nI_clamp (n := i) (by omega)]
  exact br_f (nI_pos (by omega)) ⟨vi, br_f hop ⟨vi, br_f hop1 (nm_r (Int32.sub_eq_add_neg (nI i) 1).symm h)⟩⟩
end PTX
end
section
/-! X: run, runAll -/
section PTX
variable {n : Nat} {s l r d : Nat → Nat}
theorem pt_RN_v0 {t c x : Nat} {ts cs : List Nat} {β : Nat → Option Nat} (h : t < 3) (hb : β t = none) : pt_RN n s l r d (t :: ts) (c :: cs) β x ↔ pt_RN n s l r d ts cs (pt_bd β t c) x := by
  rw [pt_RN, if_pos h, hb]
  exact ⟨fun z => z.elim (fun y => y.2) (fun y => (nomatch y.1)), fun z => Or.inl ⟨rfl, z⟩⟩
theorem pt_RN_v1 {t c e x : Nat} {ts cs : List Nat} {β : Nat → Option Nat} (h : t < 3) (hb : β t = some e) : pt_RN n s l r d (t :: ts) (c :: cs) β x ↔ e = c ∧ pt_RN n s l r d ts cs β x := by
  rw [pt_RN, if_pos h, hb]
  exact ⟨fun z => z.elim (fun y => (nomatch y.1)) (fun y => ⟨Option.some.inj y.1, y.2⟩), fun z => Or.inr ⟨by rw [z.1], z.2⟩⟩
theorem pt_RN_c {t c x : Nat} {ts cs : List Nat} {β : Nat → Option Nat} (h : ¬ t < 3) (h2 : t < 20) : pt_RN n s l r d (t :: ts) (c :: cs) β x ↔ pt_ov n s l r d 0 (t - 10) 0 = some c ∧ pt_RN n s l r d ts cs β x := by
  rw [pt_RN, if_neg h, if_pos h2]
/-- the classes of a node's arguments -/
def pt_cs (l r d : Nat → Nat) (t m : Nat) (cs : List Nat) : List Nat := if t = 21 then d (l m) :: d (r m) :: cs else d (l m) :: cs
theorem pt_RN_t {t c x : Nat} {ts cs : List Nat} {β : Nat → Option Nat} (h : t = 20 ∨ t = 21) : pt_RN n s l r d (t :: ts) (c :: cs) β x ↔ ∃ m, 0 ≤ m ∧ m < n ∧ d m = c ∧ s m = t ∧ pt_RN n s l r d ts (pt_cs l r d t m cs) β x := by
  rw [pt_RN, if_neg (by omega), if_neg (by omega)]
  rcases h with h | h
  · subst h
    rw [if_pos rfl]
    exact ⟨fun ⟨m, a, b, c, e⟩ => ⟨m, Nat.zero_le _, a, b, c, e⟩, fun ⟨m, _, a, b, c, e⟩ => ⟨m, a, b, c, e⟩⟩
  · subst h
    rw [if_neg (by omega)]
    exact ⟨fun ⟨m, a, b, c, e⟩ => ⟨m, Nat.zero_le _, a, b, c, e⟩, fun ⟨m, _, a, b, c, e⟩ => ⟨m, a, b, c, e⟩⟩
def pt_os (t nr : Nat) (os : List Nat) : List Nat := if t = 21 then nr :: (nr + 1) :: os else nr :: os
theorem pt_map_rg {t nr a b : Nat} {rg : Nat → Int32} : ∀ {os : List Nat}, (∀ o, o ∈ os → o < nr) → os.map (pt_rg t nr a b rg) = os.map rg := by
  intro os h
  refine List.map_congr_left ?_
  intro o ho
  have := h o ho
  unfold pt_rg
  split
  · rw [pk_un (by omega), pk_un (by omega)]
  · rw [pk_un (by omega)]
theorem pt_rg_lo {t nr a b q : Nat} {rg : Nat → Int32} (h : q < nr) : pt_rg t nr a b rg q = rg q := by
  unfold pt_rg
  split
  · rw [pk_un (by omega), pk_un (by omega)]
  · rw [pk_un (by omega)]
theorem pt_map_c {l r d : Nat → Nat} {t nr m : Nat} {rg : Nat → Int32} {os cs : List Nat} (h : ∀ o, o ∈ os → o < nr) (e : os.map rg = cs.map nI) : (pt_os t nr os).map (pt_rg t nr (d (l m)) (d (r m)) rg) = (pt_cs l r d t m cs).map nI := by
  have k := pt_map_rg (t := t) (a := d (l m)) (b := d (r m)) (rg := rg) h
  unfold pt_os pt_cs
  by_cases h : t = 21
  · rw [if_pos h, if_pos h, List.map_cons, List.map_cons, List.map_cons, List.map_cons, k, e]
    unfold pt_rg
    rw [if_pos h, pk_us, pk_un (by omega), pk_us]
  · rw [if_neg h, if_neg h, List.map_cons, List.map_cons, k, e]
    unfold pt_rg
    rw [if_neg h, pk_us]
variable {nc pc tc cm iw vs ce : Int32} {sy le ri ld pA pB tk op ar rr aa oR rg va tr : Nat → Int32} {fo : Nat → Int64}
/-- what is asked of the search from place i on, at these registers, bindings, matches -/
def pt_EX (post : SX → Prop) (N C i : Nat) (nr : Nat) (β : Nat → Option Nat) (R : Nat → Prop) (os cs : List Nat) (T : Int32 → Prop) (n : Nat) (pc tc cm iw vs ce : Int32) (sy le ri ld pA pB tk op ar rr aa oR : Nat → Int32) : Prop :=
  ∀ (rg va tr : Nat → Int32) (fo : Nat → Int64), os.map rg = cs.map nI → (∀ v, v < 3 → va v = pt_vv (β v)) → T (tr i) →
    (∀ (rg' va' tr' : Nat → Int32) (fo' : Nat → Int64), (∀ q, q < nr → rg' q = rg q) → (∀ v, v < 3 → va' v = pt_vv (β v)) → (∀ j, j < i → tr' j = tr j) → (∀ x, x < 8000 → (pt_fb fo' x = true ↔ pt_fb fo x = true ∨ R x)) → wX_run_63 post (wX_run_37 post N) (nI i) 0 (nI n) pc tc cm iw vs ce sy le ri ld pA pB tk op ar rr aa oR rg' va' tr' fo') →
    wX_run_37 post (N + C) (nI i) (nI n) pc tc cm iw vs ce sy le ri ld pA pB tk op ar rr aa oR rg va tr fo
theorem xr_tk {ts : List Nat} {i t nr o c : Nat} {os cs : List Nat} {β : Nat → Option Nat} (W : pt_WN n s l r) (D : pt_WD n d) (H : pt_NX n s l r d sy le ri ld) (hi : i < 7) (hop : op i = 0) (ht : t = 20 ∨ t = 21) (hA : ar i = nI t) (haa : aa i = nI nr) (hnr : nr + 1 < 16) (ho : rr i = nI o) (ho2 : ∀ q, q ∈ o :: os → q < nr) (hc2 : c < n)
    (ih : ∀ m, m < n → s m = t → ∃ C, ∀ N post, pt_EX post N C (i + 1) (nr + pt_ar t) β (pt_RN n s l r d ts (pt_cs l r d t m cs) β) (pt_os t nr os) (pt_cs l r d t m cs) (fun z => z = -1) n pc tc cm iw vs ce sy le ri ld pA pB tk op ar rr aa oR) :
    ∀ K m0, m0 ≤ n → n - m0 = K → ∃ C, ∀ N post, pt_EX post N C i nr β (fun x => ∃ m, m0 ≤ m ∧ m < n ∧ d m = c ∧ s m = t ∧ pt_RN n s l r d ts (pt_cs l r d t m cs) β x) (o :: os) (c :: cs) (fun z => z + 1 = nI m0) n pc tc cm iw vs ce sy le ri ld pA pB tk op ar rr aa oR := by
  have hn := W.1
  have ho3 : o < 16 := by have := ho2 o List.mem_cons_self; omega
  intro K
  induction K using Nat.strongRecOn with
  | ind K IH =>
    intro m0 h0 hK
    by_cases hex : ∃ m, m0 ≤ m ∧ m < n ∧ d m = c ∧ s m = t
    · obtain ⟨m, ⟨g1, g2, g3, g4⟩, hmin⟩ := pk_least _ hex
      have hno : ∀ q, m0 ≤ q → q < m → ¬ (d q = c ∧ s q = t) := fun q q1 q2 z => hmin q q2 ⟨q1, by omega, z.1, z.2⟩
      obtain ⟨C1, E1⟩ := ih m g2 g4
      obtain ⟨C2, E2⟩ := IH (n - (m + 1)) (by omega) (m + 1) (by omega) rfl
      refine ⟨C2 + C1 + 1, ?_⟩
      intro N post rg va tr fo hmap hva htr hk
      have hrc := hmap
      rw [List.map_cons, List.map_cons, List.cons.injEq] at hrc
      show wX_run_37 post (N + (C2 + C1) + 1) (nI i) (nI n) pc tc cm iw vs ce sy le ri ld pA pB tk op ar rr aa oR rg va tr fo
      refine xr_takeS W D H (by omega) hop g2 g4 g3 ht haa hnr ho ho3 hrc.1 (by omega) hA htr g1 hno (xr_f (by omega) ?_)
      rw [← Nat.add_assoc]
      refine E1 (N + C2) post _ _ _ _ (pt_map_c (fun q hq => ho2 q (List.mem_cons_of_mem _ hq)) hrc.2) hva pk_us ?_
      intro rg' va' tr' fo' k1 k2 k3 k4
      refine xr_b1 (by omega) hop ?_
      have e1 : ∀ q, q < nr → rg' q = rg q := by
        intro q hq
        rw [k1 q (by omega), pt_rg_lo hq]
      refine E2 N post rg' va' tr' fo' ?_ k2 ?_ ?_
      · rw [← hmap]
        refine List.map_congr_left ?_
        intro q hq
        exact e1 q (ho2 q hq)
      · show tr' i + 1 = nI (m + 1)
        rw [k3 i (by omega), pk_un (by omega), pk_us, nI_1]
      · intro rg2 va2 tr2 fo2 q1 q2 q3 q4
        refine hk rg2 va2 tr2 fo2 (fun q hq => (q1 q hq).trans (e1 q hq)) q2 ?_ ?_
        · intro j hj
          rw [q3 j hj, k3 j (by omega), pk_un (by omega), pk_un (by omega)]
        · intro x hx
          rw [q4 x hx, k4 x hx]
          constructor
          · rintro ((z | z) | ⟨m', z1, z2, z3, z4, z5⟩)
            · exact Or.inl z
            · exact Or.inr ⟨m, g1, g2, g3, g4, z⟩
            · exact Or.inr ⟨m', by omega, z2, z3, z4, z5⟩
          · rintro (z | ⟨m', z1, z2, z3, z4, z5⟩)
            · exact Or.inl (Or.inl z)
            · rcases Nat.lt_trichotomy m' m with y | y | y
              · exact absurd ⟨z3, z4⟩ (hno m' z1 y)
              · subst y
                exact Or.inl (Or.inr z5)
              · exact Or.inr ⟨m', by omega, z2, z3, z4, z5⟩
    · refine ⟨1, ?_⟩
      intro N post rg va tr fo hmap hva htr hk
      have hrc := hmap
      rw [List.map_cons, List.map_cons, List.cons.injEq] at hrc
      refine xr_takeN W D H (by omega) hop ht ho ho3 hrc.1 (by omega) hA htr h0 (fun q q1 q2 z => hex ⟨q, q1, q2, z.1, z.2⟩) ?_
      refine hk rg va tr fo (fun _ _ => rfl) hva (fun _ _ => rfl) ?_
      intro x hx
      exact ⟨Or.inl, fun z => z.elim id (fun ⟨m', z1, z2, z3, z4, z5⟩ => absurd ⟨m', z1, z2, z3, z4⟩ hex)⟩
theorem xr_ex (W : pt_WN n s l r) (D : pt_WD n d) (H : pt_NX n s l r d sy le ri ld) : ∀ (ts : List Nat) (i : Nat) (os cs : List Nat) (nr m : Nat) (β : Nat → Option Nat), pt_CD op ar rr aa ts i os nr m → (∀ t, t ∈ ts → pt_tok t) → i + ts.length ≤ 7 → nr ≤ 1 + 2 * i → (∀ o, o ∈ os → o < nr) → (∀ c, c ∈ cs → c < n) → os.length = cs.length → (∀ v, v < 3 → m.testBit v = (β v).isSome) → (∀ v c, v < 3 → β v = some c → c < 20) →
    ∃ C, ∀ N post, pt_EX post N C i nr β (pt_RN n s l r d ts cs β) os cs (fun z => z = -1) n pc tc cm iw vs ce sy le ri ld pA pB tk op ar rr aa oR := by
  have hn := W.1
  intro ts
  induction ts with
  | nil =>
    intro i os cs nr m β hC _ hi _ _ _ _ _ hβ
    refine ⟨1, ?_⟩
    intro N post rg va tr fo hmap hva htr hk
    rw [List.length_nil] at hi
    refine xr_yield (by omega) hC hva hβ ?_
    intro fo' hfo
    exact hk rg va tr fo' (fun _ _ => rfl) hva (fun _ _ => rfl) hfo
  | cons t ts ih =>
    intro i os cs nr m β hC hT hi hnr ho hcs hlen hm hβ
    match os, cs, hC, ho, hcs, hlen with
    | [], _, hC, _, _, _ => exact absurd hC (by rw [pt_CD]; exact id)
    | _ :: _, [], _, _, _, hlen => exact nomatch hlen
    | o :: os, c :: cs, hC, ho, hcs, hlen =>
      rw [List.length_cons] at hi
      have hT' : ∀ t, t ∈ ts → pt_tok t := fun t ht => hT t (List.mem_cons_of_mem _ ht)
      have ht := hT t List.mem_cons_self
      have ho0 := ho o List.mem_cons_self
      have ho' : ∀ x, x ∈ os → x < nr := fun x hx => ho x (List.mem_cons_of_mem _ hx)
      have hc0 := hcs c List.mem_cons_self
      have hcs' : ∀ x, x ∈ cs → x < n := fun x hx => hcs x (List.mem_cons_of_mem _ hx)
      have hlen' : os.length = cs.length := by
        rw [List.length_cons, List.length_cons] at hlen
        omega
      rw [pt_CD] at hC
      obtain ⟨hR, hC⟩ := hC
      unfold pt_tok at ht
      by_cases t3 : t < 3
      · rw [if_pos t3] at hC
        obtain ⟨c1, c2, c3⟩ := hC
        cases hb : β t with
        | none =>
          rw [if_neg (by rw [hm t t3, hb]; decide)] at c1
          have hm' : ∀ v, v < 3 → (m ||| 2 ^ t).testBit v = (pt_bd β t c v).isSome := by
            intro v hv
            rw [Nat.testBit_or, Nat.testBit_two_pow]
            unfold pt_bd
            by_cases e : v = t
            · subst e; simp
            · rw [if_neg e, decide_eq_false (fun z => e z.symm), Bool.or_false]
              exact hm v hv
          have hβ' : ∀ v e, v < 3 → pt_bd β t c v = some e → e < 20 := by
            intro v e hv he
            unfold pt_bd at he
            split at he
            · have := Option.some.inj he
              omega
            · exact hβ v e hv he
          obtain ⟨C, E⟩ := ih (i + 1) os cs nr (m ||| 2 ^ t) (pt_bd β t c) c3 hT' (by omega) (by omega) ho' hcs' hlen' hm' hβ'
          refine ⟨C + 1, ?_⟩
          intro N post rg va tr fo hmap hva htr hk
          rw [List.map_cons, List.map_cons, List.cons.injEq] at hmap
          show wX_run_37 post (N + C + 1) (nI i) (nI n) pc tc cm iw vs ce sy le ri ld pA pB tk op ar rr aa oR rg va tr fo
          refine xr_bind (by omega) c1 t3 c2 hR (by omega) hmap.1 (by omega) (xr_f (by omega) ?_)
          refine E N post rg _ _ fo hmap.2 ?_ pk_us ?_
          · intro v hv
            unfold pt_bd
            by_cases e : v = t
            · subst e
              rw [pk_us, if_pos rfl]
              rfl
            · rw [pk_un e, if_neg e]
              exact hva v hv
          · intro rg' va' tr' fo' k1 k2 k3 k4
            refine xr_b2 (by omega) c1 t3 c2 (hk rg' _ tr' fo' k1 ?_ ?_ ?_)
            · intro v hv
              by_cases e : v = t
              · subst e
                rw [pk_us, hb]
                rfl
              · rw [pk_un e, k2 v hv]
                unfold pt_bd
                rw [if_neg e]
            · intro j hj
              rw [k3 j (by omega), pk_un (by omega)]
            · intro x hx
              rw [k4 x hx, pt_RN_v0 t3 hb]
        | some e =>
          rw [if_pos (by rw [hm t t3, hb]; rfl)] at c1
          have he := hβ t e t3 hb
          have hm' : ∀ v, v < 3 → (m ||| 2 ^ t).testBit v = (β v).isSome := by
            intro v hv
            rw [Nat.testBit_or, Nat.testBit_two_pow]
            by_cases e : v = t
            · subst e; rw [hb]; simp
            · rw [decide_eq_false (fun z => e z.symm), Bool.or_false]
              exact hm v hv
          by_cases ec : e = c
          · obtain ⟨C, E⟩ := ih (i + 1) os cs nr (m ||| 2 ^ t) β c3 hT' (by omega) (by omega) ho' hcs' hlen' hm' hβ
            refine ⟨C + 1, ?_⟩
            intro N post rg va tr fo hmap hva htr hk
            rw [List.map_cons, List.map_cons, List.cons.injEq] at hmap
            show wX_run_37 post (N + C + 1) (nI i) (nI n) pc tc cm iw vs ce sy le ri ld pA pB tk op ar rr aa oR rg va tr fo
            refine xr_cmp (by omega) c1 t3 c2 hR (by omega) hmap.1 (by omega) (by rw [hva t t3, hb]; rfl) he (fun _ => xr_f (by omega) ?_) (fun z => absurd ec z)
            refine E N post rg _ _ fo hmap.2 hva pk_us ?_
            intro rg' va' tr' fo' k1 k2 k3 k4
            refine xr_b3 (by omega) (by rw [c1]; decide) (by rw [c1]; decide) (hk rg' va' tr' fo' k1 k2 ?_ ?_)
            · intro j hj
              rw [k3 j (by omega), pk_un (by omega)]
            · intro x hx
              rw [k4 x hx, pt_RN_v1 t3 hb]
              exact or_congr_right ⟨fun z => ⟨ec, z⟩, fun z => z.2⟩
          · refine ⟨1, ?_⟩
            intro N post rg va tr fo hmap hva htr hk
            rw [List.map_cons, List.map_cons, List.cons.injEq] at hmap
            refine xr_cmp (by omega) c1 t3 c2 hR (by omega) hmap.1 (by omega) (by rw [hva t t3, hb]; rfl) he (fun z => absurd z ec) (fun _ => ?_)
            refine hk rg va tr fo (fun _ _ => rfl) hva (fun _ _ => rfl) ?_
            intro x hx
            rw [pt_RN_v1 t3 hb]
            exact ⟨Or.inl, fun z => z.elim id (fun y => absurd y.1 ec)⟩
      · rw [if_neg t3] at hC
        by_cases t20 : t < 20
        · rw [if_pos t20] at hC
          obtain ⟨c1, c2, c3⟩ := hC
          by_cases ec : pt_ov n s l r d 0 (t - 10) 0 = some c
          · obtain ⟨C, E⟩ := ih (i + 1) os cs nr m β c3 hT' (by omega) (by omega) ho' hcs' hlen' hm hβ
            refine ⟨C + 1, ?_⟩
            intro N post rg va tr fo hmap hva htr hk
            rw [List.map_cons, List.map_cons, List.cons.injEq] at hmap
            show wX_run_37 post (N + C + 1) (nI i) (nI n) pc tc cm iw vs ce sy le ri ld pA pB tk op ar rr aa oR rg va tr fo
            refine xr_chk W D H (by omega) c1 (by omega) c2 hR (by omega) hmap.1 (by omega) (fun _ => xr_f (by omega) ?_) (fun z => absurd ec z)
            refine E N post rg _ _ fo hmap.2 hva pk_us ?_
            intro rg' va' tr' fo' k1 k2 k3 k4
            refine xr_b3 (by omega) (by rw [c1]; decide) (by rw [c1]; decide) (hk rg' va' tr' fo' k1 k2 ?_ ?_)
            · intro j hj
              rw [k3 j (by omega), pk_un (by omega)]
            · intro x hx
              rw [k4 x hx, pt_RN_c t3 t20]
              exact or_congr_right ⟨fun z => ⟨ec, z⟩, fun z => z.2⟩
          · refine ⟨1, ?_⟩
            intro N post rg va tr fo hmap hva htr hk
            rw [List.map_cons, List.map_cons, List.cons.injEq] at hmap
            refine xr_chk W D H (by omega) c1 (by omega) c2 hR (by omega) hmap.1 (by omega) (fun z => absurd z ec) (fun _ => ?_)
            refine hk rg va tr fo (fun _ _ => rfl) hva (fun _ _ => rfl) ?_
            intro x hx
            rw [pt_RN_c t3 t20]
            exact ⟨Or.inl, fun z => z.elim id (fun y => absurd y.1 ec)⟩
        · rw [if_neg t20] at hC
          obtain ⟨c1, c2, c3, c4⟩ := hC
          have t01 : t = 20 ∨ t = 21 := by omega
          have c5 : pt_CD op ar rr aa ts (i + 1) (pt_os t nr os) (nr + pt_ar t) m := by
            rcases t01 with e | e
            · subst e
              exact c4
            · subst e
              exact c4
          have har : pt_ar t ≤ 2 ∧ 1 ≤ pt_ar t := by
            rcases t01 with e | e <;> subst e <;> decide
          obtain ⟨C, E⟩ := xr_tk (ts := ts) (os := os) (cs := cs) (β := β) (pc := pc) (tc := tc) (cm := cm) (iw := iw) (vs := vs) (ce := ce) (pA := pA) (pB := pB) (tk := tk) (oR := oR) W D H (by omega) c1 t01 c2 c3 (by omega) hR ho hc0 (by
            intro m2 hm2 hs2
            have hl := (W.2 m2 hm2).2.2.2.1 (by omega)
            have dl := (D _ hl).1
            refine ih (i + 1) (pt_os t nr os) (pt_cs l r d t m2 cs) (nr + pt_ar t) m β c5 hT' (by omega) (by omega) ?_ ?_ ?_ hm hβ
            · intro q hq
              unfold pt_os at hq
              unfold pt_ar
              split at hq
              · next e =>
                rw [if_pos e]
                rcases List.mem_cons.mp hq with z | z
                · omega
                · rcases List.mem_cons.mp z with z | z
                  · omega
                  · have := ho' q z; omega
              · next e =>
                rw [if_neg e]
                rcases List.mem_cons.mp hq with z | z
                · rw [if_pos (by omega)]; omega
                · have := ho' q z; omega
            · intro q hq
              unfold pt_cs at hq
              split at hq
              · next e =>
                have hr := (W.2 m2 hm2).2.2.2.2 (by omega)
                have dr := (D _ hr).1
                rcases List.mem_cons.mp hq with z | z
                · omega
                · rcases List.mem_cons.mp z with z | z
                  · omega
                  · exact hcs' q z
              · rcases List.mem_cons.mp hq with z | z
                · omega
                · exact hcs' q z
            · unfold pt_os pt_cs
              split
              · rw [List.length_cons, List.length_cons, List.length_cons, List.length_cons, hlen']
              · rw [List.length_cons, List.length_cons, hlen']) n 0 (Nat.zero_le _) rfl
          refine ⟨C, ?_⟩
          intro N post rg va tr fo hmap hva htr hk
          refine E N post rg va tr fo hmap hva (by rw [htr]; decide) ?_
          intro rg' va' tr' fo' k1 k2 k3 k4
          refine hk rg' va' tr' fo' k1 k2 k3 ?_
          intro x hx
          rw [k4 x hx, pt_RN_t t01]
end PTX
end
section
/-! X: run, clearFound, foundCount, runAll, the loop of binding -/
section PTX
variable {nc pc tc cm iw vs ce : Int32} {sy le ri ld pA pB tk op ar rr aa oR rg va tr : Nat → Int32} {fo : Nat → Int64}
variable {n : Nat} {s l r d : Nat → Nat}
theorem xr_10s {v k : Nat} {post : SX → Prop} (hv : v < 3) (h : wX_run_10 post nc pc tc cm iw vs ce k (nI (v + 1)) sy le ri ld pA pB tk op ar rr aa oR rg (upd va v (-1)) tr fo) : wX_run_10 post nc pc tc cm iw vs ce (k + 1) (nI v) sy le ri ld pA pB tk op ar rr aa oR rg va tr fo := by
  rw [wX_run_10]
  dsimp only
  rw [nI_clamp (n := v) (by omega), xb_m1]
  exact br_f (nI_ge (b := 3) hv (by decide)) ⟨vp_in_nI hv (by decide), nm_e (nm_r (nI_1 v) h)⟩
theorem xr_run {m : Nat} {tks : List Nat} {post : SX → Prop} (W : pt_WN n s l r) (D : pt_WD n d) (H : pt_NX n s l r d sy le ri ld) (hC : pt_CD op ar rr aa tks 0 [0] 1 0) (hT : ∀ t, t ∈ tks → pt_tok t) (hl : tks.length ≤ 7) (hm : m < n)
    (h : ∀ (rg va tr : Nat → Int32) (fo' : Nat → Int64), (∀ x, x < 8000 → (pt_fb fo' x = true ↔ pt_fb fo x = true ∨ pt_RN n s l r d tks [m] (fun _ => none) x)) → post (nI n, pc, tc, cm, iw, vs, ce, sy, le, ri, ld, pA, pB, tk, op, ar, rr, aa, oR, rg, va, tr, fo')) : wpX_run post (nI n, pc, tc, cm, iw, vs, ce, sy, le, ri, ld, pA, pB, tk, op, ar, rr, aa, oR, rg, va, tr, fo) (nI m) := by
  have hn := W.1
  obtain ⟨C, E⟩ := xr_ex (pc := pc) (tc := tc) (cm := cm) (iw := iw) (vs := vs) (ce := ce) (pA := pA) (pB := pB) (tk := tk) (oR := oR) W D H tks 0 [0] [m] 1 0 (fun _ => none) hC hT (by omega) (by decide) (fun o ho => by rw [List.mem_singleton.mp ho]; decide) (fun c hc => by rw [List.mem_singleton.mp hc]; exact hm) rfl (fun v hv => by simp) (fun v c _ z => (nomatch z))
  unfold wpX_run
  dsimp only
  rw [xb_nn (v := m) (by omega)]
  refine nm_e ⟨4, xr_10s (v := 0) (by decide) (xr_10s (by decide) (xr_10s (by decide) ?_))⟩
  rw [wX_run_10]
  dsimp only
  rw [xb_m1]
  refine br_t (by decide) (nm_e ⟨1 + C, ?_⟩)
  refine E 1 post _ _ _ fo ?_ ?_ pk_us ?_
  · show [upd rg 0 (nI m) 0] = [nI m]
    rw [pk_us]
  · intro v hv
    show _ = (-1 : Int32)
    rcases (show v = 0 ∨ v = 1 ∨ v = 2 by omega) with e | e | e <;> subst e <;> rfl
  · intro rg' va' tr' fo' _ _ _ k4
    refine xr_b0 ?_
    rw [wX_run_37]
    exact br_t (by decide) (h rg' va' tr' fo' k4)
theorem xf_clear {post : SX → Prop} (h : ∀ fo, (∀ x, x < 8000 → pt_fb fo x = false) → post (nc, pc, tc, cm, iw, vs, ce, sy, le, ri, ld, pA, pB, tk, op, ar, rr, aa, oR, rg, va, tr, fo)) : wpX_clearFound post (nc, pc, tc, cm, iw, vs, ce, sy, le, ri, ld, pA, pB, tk, op, ar, rr, aa, oR, rg, va, tr, fo) := by
  have key : ∀ K i (fo : Nat → Int64), i + K = 125 → (∀ q, q < i → fo q = 0) → wX_clearFound_2 post nc pc tc cm iw vs ce (K + 1) (nI i) sy le ri ld pA pB tk op ar rr aa oR rg va tr fo := by
    intro K
    induction K with
    | zero =>
      intro i fo hi hz
      rw [wX_clearFound_2]
      dsimp only
      refine pk_le 125 i (fun _ => h fo ?_) (fun z => absurd z (by omega))
      intro x hx
      unfold pt_fb
      rw [hz _ (by omega)]
      simp
    | succ K ih =>
      intro i fo hi hz
      rw [wX_clearFound_2]
      dsimp only
      rw [nI_clamp (n := i) (by omega)]
      refine pk_le 125 i (fun z => absurd z (by omega)) (fun _ => ⟨vp_in_nI (by omega) (by decide), nm_e (nm_r (nI_1 i) (ih (i + 1) _ (by omega) ?_))⟩)
      intro q hq
      by_cases e : q = i
      · subst e
        exact pk_uLs
      · rw [pk_uLn e]
        exact hz q (by omega)
  unfold wpX_clearFound
  exact ⟨126, key 125 0 fo (by omega) (fun q hq => absurd hq (by omega))⟩
theorem xf_count {post : Int32 → Prop} (h : post (nI (pt_cn (pt_fb fo) 8000))) : wpX_foundCount post (nc, pc, tc, cm, iw, vs, ce, sy, le, ri, ld, pA, pB, tk, op, ar, rr, aa, oR, rg, va, tr, fo) := by
  have key : ∀ K x, x + K = 8000 → wX_foundCount_4 post nc pc tc cm iw vs ce sy le ri ld pA pB tk op ar rr aa oR rg va tr fo (K + 1) (nI (pt_cn (pt_fb fo) x)) (nI x) := by
    intro K
    induction K with
    | zero =>
      intro x hx
      have e : x = 8000 := by omega
      subst e
      rw [wX_foundCount_4]
      exact br_t (nI_le (a := 8000) (Nat.le_refl _) (by decide)) h
    | succ K ih =>
      intro x hx
      have ih := ih (x + 1) (by omega)
      rw [wX_foundCount_4]
      dsimp only
      rw [xt_q (by omega), xt_r (by omega), nI_clamp (n := x / 64) (by omega), xt_bit _ (by omega)]
      refine br_f (nI_ge (b := 8000) (by omega) (by decide)) ⟨vp_in_nI (by omega) (by decide), ?_⟩
      cases hb : pt_fb fo x with
      | false =>
        rw [pt_cn_f hb] at ih
        unfold pt_fb at hb
        rw [hb]
        exact nm_r (nI_add _ 0) (nm_r (nI_1 x) ih)
      | true =>
        rw [pt_cn_t hb] at ih
        unfold pt_fb at hb
        rw [hb]
        exact nm_r (nI_1 _) (nm_r (nI_1 x) ih)
  unfold wpX_foundCount
  exact ⟨8001, key 8000 0 (by omega)⟩
theorem xa_6 {tks : List Nat} {post : SX → Prop} (W : pt_WN n s l r) (D : pt_WD n d) (H : pt_NX n s l r d sy le ri ld) (hC : pt_CD op ar rr aa tks 0 [0] 1 0) (hT : ∀ t, t ∈ tks → pt_tok t) (hl : tks.length ≤ 7) :
    ∀ K m (rg va tr : Nat → Int32) (fo : Nat → Int64), m + K = n → (∀ (rg va tr : Nat → Int32) (fo' : Nat → Int64), (∀ x, x < 8000 → (pt_fb fo' x = true ↔ pt_fb fo x = true ∨ ∃ q, m ≤ q ∧ q < n ∧ d q = q ∧ pt_RN n s l r d tks [q] (fun _ => none) x)) → post (nI n, pc, tc, cm, iw, vs, ce, sy, le, ri, ld, pA, pB, tk, op, ar, rr, aa, oR, rg, va, tr, fo')) → wX_runAll_6 post (K + 1) (nI m) (nI n) pc tc cm iw vs ce sy le ri ld pA pB tk op ar rr aa oR rg va tr fo := by
  have hn := W.1
  intro K
  induction K with
  | zero =>
    intro m rg va tr fo hm h
    rw [wX_runAll_6]
    dsimp only
    refine pk_le n m (fun _ => h rg va tr fo ?_) (fun z => absurd z (by omega))
    intro x _
    exact ⟨Or.inl, fun z => z.elim id (fun ⟨q, q1, q2, _⟩ => by omega)⟩
  | succ K ih =>
    intro m rg va tr fo hm h
    rw [wX_runAll_6]
    dsimp only
    have dm := (D m (by omega)).1
    rw [nI_clamp (n := m) (by omega), (H m (by omega)).2.2.2]
    refine pk_le n m (fun z => absurd z (by omega)) (fun _ => ⟨vp_in_nI (by omega) (by decide), pk_eq (d m) m (fun e => xr_run W D H hC hT hl (by omega) ?_) (fun e => nm_r (nI_1 m) (ih (m + 1) rg va tr fo (by omega) ?_))⟩)
    · intro rg' va' tr' fo' hf
      refine nm_r (nI_1 m) (ih (m + 1) rg' va' tr' fo' (by omega) ?_)
      intro rg2 va2 tr2 fo2 hf2
      refine h rg2 va2 tr2 fo2 ?_
      intro x hx
      rw [hf2 x hx, hf x hx]
      constructor
      · rintro ((z | z) | ⟨q, q1, q2, q3, q4⟩)
        · exact Or.inl z
        · exact Or.inr ⟨m, by omega, by omega, e, z⟩
        · exact Or.inr ⟨q, by omega, q2, q3, q4⟩
      · rintro (z | ⟨q, q1, q2, q3, q4⟩)
        · exact Or.inl (Or.inl z)
        · by_cases eq : q = m
          · subst eq
            exact Or.inl (Or.inr q4)
          · exact Or.inr ⟨q, by omega, q2, q3, q4⟩
    · intro rg2 va2 tr2 fo2 hf2
      refine h rg2 va2 tr2 fo2 ?_
      intro x hx
      rw [hf2 x hx]
      refine or_congr_right ⟨fun ⟨q, q1, q2, q3, q4⟩ => ⟨q, by omega, q2, q3, q4⟩, fun ⟨q, q1, q2, q3, q4⟩ => ⟨q, ?_, q2, q3, q4⟩⟩
      by_cases eq : q = m
      · rw [eq] at q3
        exact absurd q3 e
      · omega
theorem xa_runAll {tks : List Nat} {post : SX → Prop} (W : pt_WN n s l r) (D : pt_WD n d) (H : pt_NX n s l r d sy le ri ld) (hC : pt_CD op ar rr aa tks 0 [0] 1 0) (hT : ∀ t, t ∈ tks → pt_tok t) (hl : tks.length ≤ 7)
    (h : ∀ (rg va tr : Nat → Int32) (fo : Nat → Int64), (∀ x, x < 8000 → (pt_fb fo x = true ↔ ∃ q, q < n ∧ d q = q ∧ pt_RN n s l r d tks [q] (fun _ => none) x)) → post (nI n, pc, tc, cm, iw, vs, ce, sy, le, ri, ld, pA, pB, tk, op, ar, rr, aa, oR, rg, va, tr, fo)) : wpX_runAll post (nI n, pc, tc, cm, iw, vs, ce, sy, le, ri, ld, pA, pB, tk, op, ar, rr, aa, oR, rg, va, tr, fo) := by
  unfold wpX_runAll
  dsimp only
  refine xf_clear ?_
  intro fo0 hz
  refine ⟨n + 1, xa_6 W D H hC hT hl n 0 rg va tr fo0 (by omega) ?_⟩
  intro rg' va' tr' fo' hf
  refine h rg' va' tr' fo' ?_
  intro x hx
  rw [hf x hx, hz x hx]
  exact ⟨fun z => z.elim (fun y => (nomatch y)) (fun ⟨q, _, q2, q3, q4⟩ => ⟨q, q2, q3, q4⟩), fun ⟨q, q2, q3, q4⟩ => Or.inr ⟨q, Nat.zero_le _, q2, q3, q4⟩⟩
theorem xb_49 {v w : Nat} {post : Int32 → SX → Prop} (hv : v < 3) (hw : w < 2 ^ 31)
    (h1 : ∀ x, x < 8000 → pt_fb fo x = true → pt_cn (pt_fb fo) x = w → post (nI (pt_dig x v)) (nc, pc, tc, cm, iw, vs, ce, sy, le, ri, ld, pA, pB, tk, op, ar, rr, aa, oR, rg, va, tr, fo)) (h0 : pt_cn (pt_fb fo) 8000 ≤ w → post (-3) (nc, pc, tc, cm, iw, vs, ce, sy, le, ri, ld, pA, pB, tk, op, ar, rr, aa, oR, rg, va, tr, fo)) :
    ∀ K x, x + K = 8000 → pt_cn (pt_fb fo) x ≤ w → wX_binding_49 post (nI v) nc pc tc cm iw vs ce sy le ri ld pA pB tk op ar rr aa oR rg va tr fo (K + 1) (nI (w - pt_cn (pt_fb fo) x)) (nI x) := by
  intro K
  induction K with
  | zero =>
    intro x hx hc
    have e : x = 8000 := by omega
    subst e
    rw [wX_binding_49]
    exact br_t (nI_le (a := 8000) (Nat.le_refl _) (by decide)) (h0 hc)
  | succ K ih =>
    intro x hx hc
    have ih := ih (x + 1) (by omega)
    have hcx := pt_cn_le (pt_fb fo) x
    rw [wX_binding_49]
    dsimp only
    rw [xt_q (by omega), xt_r (by omega), nI_clamp (n := x / 64) (by omega), xt_bit _ (by omega)]
    refine br_f (nI_ge (b := 8000) (by omega) (by decide)) ⟨vp_in_nI (by omega) (by decide), ?_⟩
    cases hb : pt_fb fo x with
    | false =>
      rw [pt_cn_f hb] at ih
      have ih := ih hc
      unfold pt_fb at hb
      rw [hb]
      exact br_t rfl (nm_r (nI_1 x) ih)
    | true =>
      have H1 := h1 x (by omega) hb
      rw [pt_cn_t hb] at ih
      have hb' := hb
      unfold pt_fb at hb'
      rw [hb']
      have e400 : nI x / 400 = nI (x / 400) := pk_div (d := 400) (by omega) (by decide) (by decide)
      have e20 : nI x / 20 = nI (x / 20) := pk_div (d := 20) (by omega) (by decide) (by decide)
      have r20 : nI x - nI (x / 20) * 20 = nI (x % 20) := by
        have := pk_rem (a := x) (d := 20) (by omega) (by decide) (by decide)
        have e20' : nI x / nI 20 = nI (x / 20) := e20
        rw [e20'] at this
        exact this
      have r400 : nI (x / 20) - nI (x / 20) / 20 * 20 = nI (x / 20 % 20) := pk_rem (a := x / 20) (d := 20) (by omega) (by decide) (by decide)
      rw [e400, e20, r400, r20]
      refine br_f (by decide) (pk_eq (w - pt_cn (pt_fb fo) x) 0 (fun e => ?_) (fun e => ?_))
      · have H1 := H1 (by omega)
        have n400 : ¬ (400 : Int32) = 0 := by decide
        have n20 : ¬ (20 : Int32) = 0 := by decide
        refine pk_eq v 0 (fun e0 => ⟨n400, ?_⟩) (fun e0 => pk_eq v 1 (fun e1 => ⟨n20, n20, ?_⟩) (fun e1 => ⟨n20, ?_⟩))
        · subst e0; exact H1
        · subst e1; exact H1
        · have e2 : v = 2 := by omega
          subst e2; exact H1
      · have ih := ih (by omega)
        refine nm_r (e' := nI (w - (pt_cn (pt_fb fo) x + 1))) ?_ (nm_r (nI_1 x) ih)
        rw [show w - pt_cn (pt_fb fo) x = (w - (pt_cn (pt_fb fo) x + 1)) + 1 by omega]
        exact pk_m1 _
end PTX
end
section
/-! Y: whole, hasVariable, over, tried -/
section PTY
theorem pt_wl_c {f : Nat → Nat} {c j k : Nat} (hj : j < c) (h : pt_wl (pt_tl f (j + 1) (c - (j + 1))) = some k) : pt_wl (pt_tl f j (c - j)) = if f j = 21 then (if 2 ≤ k then some (k - 1) else none) else if f j = 20 then (if 1 ≤ k then some k else none) else some (k + 1) := by
  rw [pt_tl_c hj]
  show (pt_wl (pt_tl f (j + 1) (c - (j + 1)))).bind _ = _
  rw [h, Option.bind_some]
theorem pt_wl_le : ∀ (ts : List Nat) (k : Nat), pt_wl ts = some k → k ≤ ts.length := by
  intro ts
  induction ts with
  | nil =>
    intro k h
    have h : (0 : Nat) = k := Option.some.inj h
    omega
  | cons t ts ih =>
    intro k h
    have h : (pt_wl ts).bind _ = some k := h
    cases e : pt_wl ts with
    | none => rw [e, Option.bind_none] at h; exact nomatch h
    | some m =>
      have := ih m e
      rw [e, Option.bind_some] at h
      rw [List.length_cons]
      split at h
      · split at h
        · have := Option.some.inj h; omega
        · exact nomatch h
      · split at h
        · split at h
          · have := Option.some.inj h; omega
          · exact nomatch h
        · have := Option.some.inj h; omega
variable {yn yt yw yc yf : Int32} {yk ya yb yl yp yo ye ys : Nat → Int32}
theorem yw_9 {c : Nat} {f : Nat → Nat} {post : Int32 → Prop} (hc : c ≤ 7) (hT : ∀ i, i < c → pt_tok (f i)) (hk : ∀ i, i < c → yp i = nI (f i)) (h1 : pt_fw (pt_tl f 0 c) 1 = true → post 1) (h0 : pt_fw (pt_tl f 0 c) 1 = false → post 0) :
    ∀ j k, j ≤ c → pt_wl (pt_tl f j (c - j)) = some k → wY_whole_9 post yn (nI c) yw yc yf yk ya yb yl yp yo ye ys (j + 1) (nI k) (nI j + (-1)) := by
  have nn : ∀ j, j ≤ c → pt_wl (pt_tl f j (c - j)) = none → post 0 := by
    intro j hj hn
    refine h0 ?_
    cases e : pt_fw (pt_tl f 0 c) 1 with
    | false => rfl
    | true =>
      rw [pt_wl_fw, pt_wl_none j hj hn] at e
      exact nomatch e
  intro j
  induction j with
  | zero =>
    intro k _ hw
    have hw : pt_wl (pt_tl f 0 c) = some k := hw
    have hk := pt_wl_le _ _ hw
    rw [pt_tl_len] at hk
    rw [wY_whole_9]
    dsimp only
    refine br_t (by decide) (pk_eq k 1 (fun e => h1 ?_) (fun e => h0 ?_))
    · rw [pt_wl_fw, hw, e]
    · cases e2 : pt_fw (pt_tl f 0 c) 1 with
      | false => rfl
      | true =>
        rw [pt_wl_fw, hw] at e2
        exact absurd (Option.some.inj e2) e
  | succ j ih =>
    intro k hj hw
    have hkl := pt_wl_le _ _ hw
    rw [pt_tl_len] at hkl
    have ht := hT j (by omega)
    have hp := hk j (by omega)
    have hw' := pt_wl_c (by omega) hw
    unfold pt_tok at ht
    rw [pk_m1, wY_whole_9]
    dsimp only
    unfold wY_whole_29 wY_whole_47 wY_whole_61
    rw [nI_clamp (n := j) (by omega), hp]
    have vj : vp_in (nI j) 7 := vp_in_nI (by omega) (by decide)
    refine br_f (nI_pos (by omega)) ⟨vj, ?_⟩
    generalize f j = t at ht hw'
    by_cases e20 : t = 20
    · subst e20
      refine br_t rfl (pk_lt k 1 (fun z => nn j (by omega) ?_) (fun z => ⟨vj, br_f (by decide) ⟨vj, br_t (by decide) ⟨vj, br_f (by decide) (nm_e (ih k (by omega) ?_))⟩⟩⟩))
      · rw [hw', if_neg (by omega), if_pos rfl, if_neg (by omega)]
      · rw [hw', if_neg (by omega), if_pos rfl, if_pos (by omega)]
    · refine br_f (fun z => e20 ((nI_eq (b := 20) (by omega) (by decide)).mp z)) ⟨vj, ?_⟩
      by_cases e21 : t = 21
      · subst e21
        refine br_t rfl (pk_le 2 k (fun z => ⟨vj, br_t (by decide) ⟨vj, br_t rfl (nm_r (e' := nI (k - 1)) ?_ (nm_e (ih (k - 1) (by omega) ?_)))⟩⟩) (fun z => nn j (by omega) ?_))
        · exact sb_m1 (by omega)
        · rw [hw', if_pos rfl, if_pos (by omega)]
        · rw [hw', if_pos rfl, if_neg (by omega)]
      · have b21 : ¬ nI t = 21 := fun z => e21 ((nI_eq (b := 21) (by omega) (by decide)).mp z)
        refine br_f b21 ⟨vj, br_f (nI_ge (b := 20) (by omega) (by decide)) (nm_r (nI_1 k) ⟨vj, br_f b21 (nm_e (ih (k + 1) (by omega) ?_))⟩)⟩
        rw [hw', if_neg e21, if_neg e20]
theorem yw_whole {c : Nat} {f : Nat → Nat} {post : Int32 → Prop} (hc : c ≤ 7) (hT : ∀ i, i < c → pt_tok (f i)) (hk : ∀ i, i < c → yp i = nI (f i)) (h1 : pt_fw (pt_tl f 0 c) 1 = true → post 1) (h0 : pt_fw (pt_tl f 0 c) 1 = false → post 0) : wpY_whole post (yn, nI c, yw, yc, yf, yk, ya, yb, yl, yp, yo, ye, ys) := by
  unfold wpY_whole
  refine nm_r (e' := nI c + (-1)) (Int32.sub_eq_add_neg _ _) ⟨c + 1, yw_9 hc hT hk h1 h0 c 0 (Nat.le_refl _) ?_⟩
  rw [Nat.sub_self]
  rfl
theorem yh_2 {c v : Nat} {f : Nat → Nat} {post : Int32 → Prop} (hc : c ≤ 7) (hT : ∀ i, i < c → pt_tok (f i)) (hk : ∀ i, i < c → yp i = nI (f i)) (hv : v < 3) :
    ∀ K i, i + K = c → (v ∈ pt_tl f i K → post 1) → (v ∉ pt_tl f i K → post 0) → wY_hasVariable_2 post (nI v) yn (nI c) yw yc yf yk ya yb yl yp yo ye ys (K + 1) (nI i) := by
  intro K
  induction K with
  | zero =>
    intro i hi _ h0
    rw [wY_hasVariable_2]
    dsimp only
    exact pk_le c i (fun _ => h0 (fun z => (nomatch z))) (fun z => absurd z (by omega))
  | succ K ih =>
    intro i hi h1 h0
    have ht := hT i (by omega)
    unfold pt_tok at ht
    rw [wY_hasVariable_2]
    dsimp only
    rw [nI_clamp (n := i) (by omega), hk i (by omega)]
    refine pk_le c i (fun z => absurd z (by omega)) (fun _ => ⟨vp_in_nI (by omega) (by decide), pk_eq (f i) v (fun e => h1 ?_) (fun e => nm_r (nI_1 i) (ih (i + 1) (by omega) (fun z => h1 (List.mem_cons_of_mem _ z)) (fun z => h0 ?_)))⟩)
    · rw [← e]
      exact List.mem_cons_self
    · intro y
      rcases List.mem_cons.mp y with q | q
      · exact e q.symm
      · exact z q
theorem yh_has {c v : Nat} {f : Nat → Nat} {post : Int32 → Prop} (hc : c ≤ 7) (hT : ∀ i, i < c → pt_tok (f i)) (hk : ∀ i, i < c → yp i = nI (f i)) (hv : v < 3) (h1 : v ∈ pt_tl f 0 c → post 1) (h0 : v ∉ pt_tl f 0 c → post 0) : wpY_hasVariable post (yn, nI c, yw, yc, yf, yk, ya, yb, yl, yp, yo, ye, ys) (nI v) := by
  unfold wpY_hasVariable
  exact ⟨c + 1, yh_2 hc hT hk hv c 0 (by omega) h1 h0⟩
variable {n : Nat} {s l r d : Nat → Nat}
theorem yo_3 {q x y : Nat} {post : Int32 → Prop} (W : pt_WN n s l r) (D : pt_WD n d) (H : pt_NY n s l r d yk ya yb yl) (hq : q = 0 ∨ q = 20 ∨ q = 21) (hx : x < 20) (hy : y < 20) : ∀ K i, i + K = n → post (pt_vv ((pt_fi (pt_ft s l r d q x y) (n - i) i).map d)) → wY_over_3 post (nI (q - 19)) (nI x) (nI y) (nI n) yt yw yc yf yk ya yb yl yp yo ye ys (K + 1) (nI i) := by
  have hn := W.1
  intro K
  induction K with
  | zero =>
    intro i hi h
    rw [wY_over_3]
    dsimp only
    have e : n - i = 0 := by omega
    rw [e] at h
    exact pk_le n i (fun _ => h) (fun z => absurd z (by omega))
  | succ K ih =>
    intro i hi h
    rw [wY_over_3]
    dsimp only
    obtain ⟨a1, a2, a3, a4⟩ := H i (by omega)
    obtain ⟨w1, w2, w3, w4, w5⟩ := W.2 i (by omega)
    have vi : vp_in (nI i) 20 := vp_in_nI (by omega) (by decide)
    rw [pt_fi_c (by omega)] at h
    have no : ¬ (s i = q ∧ ((q = 0 ∧ l i = x) ∨ (q ≠ 0 ∧ d (l i) = x ∧ (q = 20 ∨ d (r i) = y)))) → wY_over_82 post (wY_over_3 post (nI (q - 19)) (nI x) (nI y) (nI n) yt yw yc yf yk ya yb yl yp yo ye ys (K + 1)) (nI (q - 19)) (nI x) (nI y) (nI i) (nI n) yt yw yc yf yk ya yb yl yp yo ye ys := by
      intro z
      unfold wY_over_82 wY_over_83
      refine br_t rfl (nm_r (nI_1 i) (ih (i + 1) (by omega) ?_))
      rw [if_neg] at h
      · exact h
      · intro y
        exact z (of_decide_eq_true y)
    have yes : (s i = q ∧ ((q = 0 ∧ l i = x) ∨ (q ≠ 0 ∧ d (l i) = x ∧ (q = 20 ∨ d (r i) = y)))) → wY_over_78 post (wY_over_3 post (nI (q - 19)) (nI x) (nI y) (nI n) yt yw yc yf yk ya yb yl yp yo ye ys (K + 1)) (nI (q - 19)) (nI x) (nI y) (nI i) (nI n) yt yw yc yf yk ya yb yl yp yo ye ys := by
      intro z
      unfold wY_over_78 wY_over_83
      have hf : pt_ft s l r d q x y i = true := decide_eq_true z
      rw [if_pos hf] at h
      refine br_f xb_10 ⟨vi, ?_⟩
      rw [nI_clamp (n := i) (by omega), a4]
      exact h
    rw [nI_clamp (n := i) (by omega), a1, a2, a3, nI_clamp (n := l i) (by omega), nI_clamp (n := r i) (by omega)]
    refine pk_le n i (fun z => absurd z (by omega)) (fun _ => ⟨vi, pk_eq (s i - 19) (q - 19) (fun e1 => pk_eq (q - 19) 0 (fun e2 => ⟨vi, pk_eq (l i) x (fun e3 => yes ⟨by omega, Or.inl ⟨by omega, e3⟩⟩) (fun e3 => no (fun z => ?_))⟩) (fun e2 => ⟨vi, vp_in_nI w2 (by decide), ?_⟩)) (fun e1 => no (fun z => e1 (by rw [z.1])))⟩)
    · rcases z.2 with y | y
      · exact e3 y.2
      · exact absurd (by omega) y.1
    · have hl := w4 (by omega)
      have dl := (D _ hl).1
      rw [(H _ hl).2.2.2]
      refine pk_eq (d (l i)) x (fun e3 => pk_eq (q - 19) 1 (fun e4 => yes ⟨by omega, Or.inr ⟨by omega, e3, Or.inl (by omega)⟩⟩) (fun e4 => ⟨vi, vp_in_nI w3 (by decide), ?_⟩)) (fun e3 => no (fun z => ?_))
      · have hr := w5 (by omega)
        have dr := (D _ hr).1
        rw [(H _ hr).2.2.2]
        refine pk_eq (d (r i)) y (fun e5 => yes ⟨by omega, Or.inr ⟨by omega, e3, Or.inr e5⟩⟩) (fun e5 => no (fun z => ?_))
        rcases z.2 with y | y
        · exact absurd y.1 (by omega)
        · exact y.2.2.elim (fun q => absurd q (by omega)) e5
      · rcases z.2 with y | y
        · exact absurd y.1 (by omega)
        · exact e3 y.2.1
theorem yo_over {q x y : Nat} {post : Int32 → Prop} (W : pt_WN n s l r) (D : pt_WD n d) (H : pt_NY n s l r d yk ya yb yl) (hq : q = 0 ∨ q = 20 ∨ q = 21) (hx : x < 20) (hy : y < 20) (h : post (pt_vv (pt_ov n s l r d q x y))) : wpY_over post (nI n, yt, yw, yc, yf, yk, ya, yb, yl, yp, yo, ye, ys) (nI (q - 19)) (nI x) (nI y) := by
  unfold wpY_over
  exact ⟨n + 1, yo_3 W D H hq hx hy n 0 (by omega) h⟩
theorem yt_tried {c v k : Nat} {f : Nat → Nat} {post : Int32 → Prop} (hn : n ≤ 20) (D : pt_WD n d) (H : pt_NY n s l r d yk ya yb yl) (hc : c ≤ 7) (hT : ∀ i, i < c → pt_tok (f i)) (hk : ∀ i, i < c → yp i = nI (f i)) (hv : v < 3) (hk2 : k < 20)
    (h1 : pt_tr n d (pt_tl f 0 c) v k = true → post 1) (h0 : pt_tr n d (pt_tl f 0 c) v k = false → post 0) : wpY_tried post (nI n, nI c, yw, yc, yf, yk, ya, yb, yl, yp, yo, ye, ys) (nI v) (nI k) := by
  unfold wpY_tried
  dsimp only
  unfold pt_tr at h1 h0
  refine yh_has hc hT hk hv (fun z => br_f xb_10 ?_) (fun z => br_t rfl ?_)
  · rw [if_pos z] at h1 h0
    refine pk_le n k (fun e => h0 (decide_eq_false (fun y => by omega))) (fun e => ⟨vp_in_nI hk2 (by decide), ?_⟩)
    have dk := (D k e).1
    rw [nI_clamp (n := k) (by omega), (H k e).2.2.2]
    exact pk_eq (d k) k (fun e2 => h1 (decide_eq_true ⟨e, e2⟩)) (fun e2 => h0 (decide_eq_false (fun y => e2 y.2)))
  · rw [if_neg z] at h1 h0
    exact pk_eq k 0 (fun e => h1 (decide_eq_true e)) (fun e => h0 (decide_eq_false e))
end PTY
end
section
/-! Y: value, look, search -/
section PTY
theorem pt_vv0 {o : Option Nat} (ho : ∀ e, o = some e → e < 20) : (0 ≤ pt_vv o) ↔ ∃ e, o = some e := by
  cases o with
  | none => exact ⟨fun z => absurd z (by decide), fun ⟨e, h⟩ => (nomatch h)⟩
  | some e =>
    have := ho e rfl
    exact ⟨fun _ => ⟨e, rfl⟩, fun _ => nI_pos' (by omega)⟩
variable {yn yt yw yc yf : Int32} {yk ya yb yl yp yo ye ys : Nat → Int32}
variable {n : Nat} {s l r d : Nat → Nat}
theorem yv_9 {c : Nat} {f σ : Nat → Nat} {post : Int32 → SY → Prop} (W : pt_WN n s l r) (D : pt_WD n d) (H : pt_NY n s l r d yk ya yb yl) (hc : c ≤ 7) (hT : ∀ i, i < c → pt_tok (f i)) (hk : ∀ i, i < c → yp i = nI (f i)) (hw : pt_fw (pt_tl f 0 c) 1 = true)
    (hσ : ∀ v, v < 3 → yo v = nI (σ v)) (hl : ∀ t, t ∈ pt_tl f 0 c → t < 3 → σ t < n ∧ d (σ t) = σ t)
    (h : ∀ ys, post (pt_vv (pt_val (pt_st n s l r d σ (pt_tl f 0 c)))) (nI n, nI c, yw, yc, yf, yk, ya, yb, yl, yp, yo, ye, ys)) :
    ∀ (j : Nat) (L : List (Option Nat)) (ys : Nat → Int32), j ≤ c → L = pt_st n s l r d σ (pt_tl f j (c - j)) → pt_SA pt_vv ys L → wY_value_9 post (nI n) (nI c) yw yc yf (j + 1) (nI L.length) (nI j + (-1)) yk ya yb yl yp yo ye ys := by
  have hn := W.1
  have hmem : ∀ j, j ≤ c → ∀ t, t ∈ pt_tl f j (c - j) → t ∈ pt_tl f 0 c := by
    intro j hj t ht
    rw [pt_tl_mem] at ht ⊢
    obtain ⟨i, i1, i2, i3⟩ := ht
    exact ⟨i, by omega, by omega, i3⟩
  have htok : ∀ j, j ≤ c → ∀ t, t ∈ pt_tl f j (c - j) → pt_tok t := by
    intro j hj t ht
    rw [pt_tl_mem] at ht
    obtain ⟨i, i1, i2, i3⟩ := ht
    rw [← i3]
    exact hT i (by omega)
  have hfacts : ∀ j, j ≤ c → ∃ k, pt_wl (pt_tl f j (c - j)) = some k ∧ k ≤ 7 ∧ (pt_st n s l r d σ (pt_tl f j (c - j))).length = k := by
    intro j hj
    obtain ⟨k, e⟩ := pt_wl_some ((pt_wl_fw _ _).mp hw) j hj
    have := pt_wl_le _ _ e
    rw [pt_tl_len] at this
    exact ⟨k, e, by omega, pt_st_len _ k (htok j hj) ((pt_wl_fw _ _).mpr e)⟩
  have hel : ∀ j, j ≤ c → ∀ o, o ∈ pt_st n s l r d σ (pt_tl f j (c - j)) → ∀ e, o = some e → e < 20 := by
    intro j hj o ho e he
    have := pt_st_l (s := s) (l := l) (r := r) D (pt_tl f j (c - j)) (fun t ht h3 => hl t (hmem j hj t ht) h3) o ho e he
    omega
  intro j
  induction j with
  | zero =>
    intro L ys _ hL hS
    obtain ⟨k, k1, k2, k3⟩ := hfacts 0 (Nat.zero_le _)
    have k1' : pt_wl (pt_tl f 0 c) = some k := k1
    rw [(pt_wl_fw _ _).mp hw] at k1'
    have k1' := Option.some.inj k1'
    have hL : L = pt_st n s l r d σ (pt_tl f 0 c) := hL
    have k3 : (pt_st n s l r d σ (pt_tl f 0 c)).length = k := k3
    rw [← hL] at h k3
    rw [wY_value_9]
    dsimp only
    match L, hS, h, k3 with
    | [], _, _, k3 => rw [List.length_nil] at k3; omega
    | [o], hS, h, _ =>
      refine br_t (by decide) (br_f (nI_nle (n := 1) (by decide) (by decide)) ?_)
      have e : ys 0 = pt_vv o := hS.1
      rw [e]
      exact h ys
    | _ :: _ :: _, _, _, k3 => rw [List.length_cons, List.length_cons] at k3; omega
  | succ j ih =>
    intro L ys hj hL hS
    obtain ⟨k, k1, k2, k3⟩ := hfacts (j + 1) hj
    obtain ⟨k', k1', k2', k3'⟩ := hfacts j (by omega)
    have hb := hel (j + 1) hj
    have hw' := pt_wl_c (by omega) k1
    rw [k1'] at hw'
    have hst : pt_st n s l r d σ (pt_tl f j (c - j)) = pt_op n s l r d σ (f j) L := by
      rw [pt_tl_c (by omega), hL]
      rfl
    have ih' : ∀ (L' : List (Option Nat)) (ys : Nat → Int32), L' = pt_op n s l r d σ (f j) L → pt_SA pt_vv ys L' → wY_value_9 post (nI n) (nI c) yw yc yf (j + 1) (nI L'.length) (nI j + (-1)) yk ya yb yl yp yo ye ys := fun L' ys e hS' => ih L' ys (by omega) (by rw [hst]; exact e) hS'
    rw [← hL] at k3 hb
    clear ih hst
    have ht := hT j (by omega)
    have hp := hk j (by omega)
    unfold pt_tok at ht
    rw [pk_m1, wY_value_9]
    dsimp only
    rw [nI_clamp (n := j) (by omega), hp]
    refine br_f (nI_pos (by omega)) ⟨vp_in_nI (by omega) (by decide), nm_e ?_⟩
    generalize f j = t at ht hw' ih'
    have K : ∀ z0 : Int32, (∀ o L', L = o :: L' → z0 = pt_vv o) → wY_value_36 post (wY_value_9 post (nI n) (nI c) yw yc yf (j + 1)) (nI L.length) (nI j) (nI t) z0 (nI n) (nI c) yw yc yf yk ya yb yl yp yo ye ys := by
      intro z0 hz
      unfold wY_value_36
      by_cases t20 : t < 20
      · refine br_f (nI_ge (b := 20) t20 (by decide)) ?_
        have vx : vp_in (nI L.length) 8 := vp_in_nI (by omega) (by decide)
        rw [nI_clamp (n := L.length) (by omega)]
        by_cases t3 : t < 3
        · have ih1 := ih' (some (σ t) :: L) (upd ys L.length (yo t)) (by rw [pt_op_v t3]) (pt_SA_p hS (hσ t t3))
          rw [List.length_cons] at ih1
          rw [nI_clamp (n := t) (by omega)]
          exact br_f (nI_ge (b := 3) t3 (by decide)) ⟨vp_in_nI t3 (by decide), vx, nm_e (nm_r (nI_1 _) (nm_e ih1))⟩
        · have ih1 := ih' (pt_ov n s l r d 0 (t - 10) 0 :: L) (upd ys L.length (pt_vv (pt_ov n s l r d 0 (t - 10) 0))) (by rw [pt_op_c t3 t20]) (pt_SA_p hS rfl)
          rw [List.length_cons] at ih1
          have e10 : nI t - 10 = nI (t - 10) := pk_sub (b := 10) (by omega)
          rw [e10]
          exact br_t (nI_le (a := 3) (by omega) (by omega)) (yo_over (q := 0) (y := 0) W D H (Or.inl rfl) (by omega) (by omega) ⟨vx, nm_e (nm_r (nI_1 _) (nm_e ih1))⟩)
      · refine br_t (nI_le (a := 20) (by omega) (by omega)) ?_
        by_cases e20 : t = 20
        · subst e20
          rw [if_neg (by omega), if_pos rfl] at hw'
          have k1pos : 1 ≤ k := by
            by_cases g : 1 ≤ k
            · exact g
            · rw [if_neg g] at hw'; exact nomatch hw'
          refine br_t rfl ?_
          match L, hS, hz, hb, k3, ih' with
          | [], _, _, _, k3, _ => rw [List.length_nil] at k3; omega
          | o :: L, hS, hz, hb, k3, ih' =>
            have hz := hz o L rfl
            subst hz
            rw [List.length_cons] at k3 ⊢
            have e1 : nI (L.length + 1) - 1 = nI L.length := nI_pred _
            have vx : vp_in (nI L.length) 8 := vp_in_nI (by omega) (by decide)
            rw [e1, nI_clamp (n := L.length) (by omega)]
            refine br_f (nI_nle (by omega) (by omega)) ?_
            cases o with
            | none =>
              have ih1 := ih' (none :: L) (upd ys L.length (-1)) rfl (pt_SA_p hS.2 rfl)
              rw [List.length_cons] at ih1
              exact br_f (by decide) ⟨vx, nm_e (nm_e ih1)⟩
            | some e =>
              have he := hb (some e) List.mem_cons_self e rfl
              have ih1 := ih' (pt_ov n s l r d 20 e 0 :: L) (upd ys L.length (pt_vv (pt_ov n s l r d 20 e 0))) rfl (pt_SA_p hS.2 rfl)
              rw [List.length_cons] at ih1
              exact br_t (nI_pos' (by omega)) (yo_over (q := 20) (y := 0) W D H (Or.inr (Or.inl rfl)) he (by omega) ⟨vx, nm_e (nm_e ih1)⟩)
        · have e21 : t = 21 := by omega
          subst e21
          rw [if_pos rfl] at hw'
          have k2pos : 2 ≤ k := by
            by_cases g : 2 ≤ k
            · exact g
            · rw [if_neg g] at hw'; exact nomatch hw'
          refine br_f (by decide) ?_
          match L, hS, hz, hb, k3, ih' with
          | [], _, _, _, k3, _ => rw [List.length_nil] at k3; omega
          | [_], _, _, _, k3, _ => rw [List.length_cons, List.length_nil] at k3; omega
          | o :: p :: L, hS, hz, hb, k3, ih' =>
            have hz := hz o (p :: L) rfl
            subst hz
            rw [List.length_cons, List.length_cons] at k3 ⊢
            unfold wY_value_118
            have e2 : nI (L.length + 1 + 1) - 2 = nI L.length := by
              have := pk_sub (a := L.length + 1 + 1) (b := 2) (by omega)
              rw [show L.length + 1 + 1 - 2 = L.length by omega] at this
              exact this
            have m1 : nI (L.length + 1 + 1) + (-1) = nI (L.length + 1) := pk_m1 _
            have vx : vp_in (nI L.length) 8 := vp_in_nI (by omega) (by decide)
            rw [e2, nI_clamp (n := L.length) (by omega), hS.2.1]
            refine br_f (nI_ge (b := L.length + 1 + 1) (a := 1) (by omega) (by omega)) ⟨vx, nm_e ?_⟩
            have N : pt_op n s l r d σ 21 (o :: p :: L) = none :: L → wY_value_9 post (nI n) (nI c) yw yc yf (j + 1) (nI (L.length + 1)) (nI j + (-1)) yk ya yb yl yp yo ye (upd ys L.length (-1)) := by
              intro e
              have ih1 := ih' (none :: L) (upd ys L.length (-1)) e.symm (pt_SA_p hS.2.2 rfl)
              rw [List.length_cons] at ih1
              exact ih1
            cases o with
            | none => exact br_t (by decide) ⟨vx, nm_e (nm_r m1 (nm_e (N rfl)))⟩
            | some a =>
              have ha := hb (some a) List.mem_cons_self a rfl
              refine br_f (nI_pos (by omega)) ?_
              cases p with
              | none => exact br_f (by decide) ⟨vx, nm_e (nm_r m1 (nm_e (N rfl)))⟩
              | some b =>
                have hb' := hb (some b) (List.mem_cons_of_mem _ List.mem_cons_self) b rfl
                have ih1 := ih' (pt_ov n s l r d 21 a b :: L) (upd ys L.length (pt_vv (pt_ov n s l r d 21 a b))) rfl (pt_SA_p hS.2.2 rfl)
                rw [List.length_cons] at ih1
                exact br_t (nI_pos' (by omega)) (yo_over (q := 21) W D H (Or.inr (Or.inr rfl)) ha hb' ⟨vx, nm_e (nm_r m1 (nm_e ih1))⟩)
    match hLL : L with
    | [] => exact br_t (by decide) (K _ (fun o L' e => (nomatch e)))
    | o :: L' =>
      rw [List.length_cons] at k3
      refine br_f (nI_nle (by rw [List.length_cons]; omega) (by rw [List.length_cons]; omega)) ⟨?_, K _ ?_⟩
      · rw [List.length_cons, nI_pred]
        exact vp_in_nI (by omega) (by decide)
      · intro o2 L2 e
        rw [List.length_cons, nI_pred, nI_clamp (n := L'.length) (by omega), hS.1, (List.cons.inj e).1]
theorem yv_value {c : Nat} {f σ : Nat → Nat} {post : Int32 → SY → Prop} (W : pt_WN n s l r) (D : pt_WD n d) (H : pt_NY n s l r d yk ya yb yl) (hc : c ≤ 7) (hT : ∀ i, i < c → pt_tok (f i)) (hk : ∀ i, i < c → yp i = nI (f i)) (hw : pt_fw (pt_tl f 0 c) 1 = true)
    (hσ : ∀ v, v < 3 → yo v = nI (σ v)) (hl : ∀ t, t ∈ pt_tl f 0 c → t < 3 → σ t < n ∧ d (σ t) = σ t)
    (h : ∀ ys, post (pt_vv (pt_val (pt_st n s l r d σ (pt_tl f 0 c)))) (nI n, nI c, yw, yc, yf, yk, ya, yb, yl, yp, yo, ye, ys)) : wpY_value post (nI n, nI c, yw, yc, yf, yk, ya, yb, yl, yp, yo, ye, ys) := by
  unfold wpY_value
  refine nm_r (e' := nI c + (-1)) (Int32.sub_eq_add_neg _ _) ⟨c + 1, yv_9 W D H hc hT hk hw hσ hl h c [] ys (Nat.le_refl _) ?_ trivial⟩
  rw [Nat.sub_self]
  rfl
end PTY
end
section
/-! Y: look, search -/
section PTY
variable {yn yt yw yc yf : Int32} {yk ya yb yl yp yo ye ys : Nat → Int32}
variable {n : Nat} {s l r d : Nat → Nat}
theorem yl_42 {post : SY → Prop} (h : ∀ ye, (∀ v, v < 3 → ye v = yo v) → post (yn, yt, yw, yc, yf + 1, yk, ya, yb, yl, yp, yo, ye, ys)) : ∃ k, wY_look_42 post yn yt yw yc yf k 0 yk ya yb yl yp yo ye ys := by
  have key : ∀ K i (ye : Nat → Int32), i + K = 3 → (∀ v, v < i → ye v = yo v) → wY_look_42 post yn yt yw yc yf (K + 1) (nI i) yk ya yb yl yp yo ye ys := by
    intro K
    induction K with
    | zero =>
      intro i ye hi hz
      rw [wY_look_42]
      dsimp only
      exact pk_le 3 i (fun _ => nm_e (h ye (fun v hv => hz v (by omega)))) (fun z => absurd z (by omega))
    | succ K ih =>
      intro i ye hi hz
      rw [wY_look_42]
      dsimp only
      rw [nI_clamp (n := i) (by omega)]
      have vi : vp_in (nI i) 3 := vp_in_nI (by omega) (by decide)
      refine pk_le 3 i (fun z => absurd z (by omega)) (fun _ => ⟨vi, vi, nm_e (nm_r (nI_1 i) (ih (i + 1) _ (by omega) ?_))⟩)
      intro v hv
      by_cases e : v = i
      · subst e
        exact pk_us
      · rw [pk_un e]
        exact hz v (by omega)
  exact ⟨4, key 3 0 ye (by omega) (fun v hv => absurd hv (by omega))⟩
theorem yl_29 {post : SY → Prop} (h : ∀ ye', (yf = yw → ∀ v, v < 3 → ye' v = yo v) → (yf ≠ yw → ye' = ye) → post (yn, yt, yw, yc, yf + 1, yk, ya, yb, yl, yp, yo, ye', ys)) : wY_look_29 post yn yt yw yc yf yk ya yb yl yp yo ye ys := by
  unfold wY_look_29
  by_cases e : yf = yw
  · exact br_t e (yl_42 (fun ye' z => h ye' (fun _ => z) (fun q => absurd e q)))
  · exact br_f e (nm_e (h ye (fun q => absurd q e) (fun _ => rfl)))
/-- one choice of classes is worked out -/
theorem yl_look {c : Nat} {f σ : Nat → Nat} {p0 : Int32} {post : SY → Prop} (W : pt_WN n s l r) (D : pt_WD n d) (H : pt_NY n s l r d yk ya yb yl) (hc : c ≤ 7) (hT : ∀ i, i < c → pt_tok (f i)) (hk : ∀ i, i < c → yp i = nI (f i)) (hw : pt_fw (pt_tl f 0 c) 1 = true)
    (hσ : ∀ v, v < 3 → yo v = nI (σ v)) (hl : ∀ t, t ∈ pt_tl f 0 c → t < 3 → σ t < n ∧ d (σ t) = σ t)
    (h0 : pt_val (pt_st n s l r d σ (pt_tl f 0 c)) = none → ∀ ys, post (nI n, nI c, yw, yc, yf, yk, ya, yb, yl, yp, yo, ye, ys))
    (h1 : ∀ e, pt_val (pt_st n s l r d σ (pt_tl f 0 c)) = some e → ∀ ys ye' yc', (p0 < 0 ∨ nI e = p0 → yc' = yc + 1) → (¬ (p0 < 0 ∨ nI e = p0) → yc' = yc) → (yf = yw → ∀ v, v < 3 → ye' v = yo v) → (yf ≠ yw → ye' = ye) → post (nI n, nI c, yw, yc', yf + 1, yk, ya, yb, yl, yp, yo, ye', ys)) :
    wpY_look post (nI n, nI c, yw, yc, yf, yk, ya, yb, yl, yp, yo, ye, ys) p0 := by
  unfold wpY_look
  dsimp only
  refine yv_value W D H hc hT hk hw hσ hl ?_
  intro ys'
  dsimp only
  cases e : pt_val (pt_st n s l r d σ (pt_tl f 0 c)) with
  | none => exact br_f (by decide) (h0 e ys')
  | some a =>
    have ha : a < 20 := by
      have key := pt_st_l (s := s) (l := l) (r := r) D (pt_tl f 0 c) hl
      have hn := W.1
      generalize pt_st n s l r d σ (pt_tl f 0 c) = L at e key
      match L, e, key with
      | [], e, _ => exact nomatch e
      | o :: L, e, key =>
        have := key o List.mem_cons_self a e
        omega
    have h1 := h1 a e
    refine br_t (nI_pos' (by omega)) ?_
    have A : (p0 < 0 ∨ nI a = p0) → wY_look_19 post (nI n) (nI c) yw yc yf yk ya yb yl yp yo ye ys' := by
      intro z
      unfold wY_look_19
      exact nm_e (yl_29 (fun ye' q1 q2 => h1 ys' ye' _ (fun _ => rfl) (fun y => absurd z y) q1 q2))
    by_cases hp : p0 < 0
    · exact br_t hp (A (Or.inl hp))
    · refine br_f hp ?_
      by_cases hq : nI a = p0
      · exact br_t hq (A (Or.inr hq))
      · exact br_f hq (yl_29 (fun ye' q1 q2 => h1 ys' ye' _ (fun y => absurd y (fun z => z.elim hp hq)) (fun _ => rfl) q1 q2))
/-- the state of the search when the first x triples are through -/
def pt_SR (Pf : Nat → Bool) (yw : Int32) (x : Nat) (ye : Nat → Int32) : Prop := ∀ y, y < x → Pf y = true → nI (pt_cn Pf y) = yw → ∀ v, v < 3 → ye v = nI (pt_dig y v)
theorem pt_SR_f {Pf : Nat → Bool} {yw : Int32} {x : Nat} {ye : Nat → Int32} (h : pt_SR Pf yw x ye) (hx : Pf x = false) : pt_SR Pf yw (x + 1) ye := by
  intro y hy hp
  by_cases e : y = x
  · subst e
    rw [hx] at hp
    exact nomatch hp
  · exact h y (by omega) hp
theorem pt_SR_t {Pf : Nat → Bool} {yw : Int32} {x : Nat} {ye ye' yo : Nat → Int32} (h : pt_SR Pf yw x ye) (hx : Pf x = true) (hb : x < 8000) (ho : ∀ v, v < 3 → yo v = nI (pt_dig x v)) (h1 : nI (pt_cn Pf x) = yw → ∀ v, v < 3 → ye' v = yo v) (h2 : nI (pt_cn Pf x) ≠ yw → ye' = ye) : pt_SR Pf yw (x + 1) ye' := by
  intro y hy hp he v hv
  by_cases e : y = x
  · subst e
    rw [h1 he v hv, ho v hv]
  · by_cases g : nI (pt_cn Pf x) = yw
    · rw [← he] at g
      have b1 := pt_cn_le Pf x
      have b2 := pt_cn_le Pf y
      have g := (nI_eq (by omega) (by omega)).mp g
      have k := pt_cn_up Pf (y + 1) x (by omega)
      rw [pt_cn_t hp] at k
      omega
    · rw [h2 g]
      exact h y (by omega) hp he v hv
theorem ys_27 {c k : Nat} {f : Nat → Nat} {p0 : Int32} {Pc : Nat → Bool} {post : SY → Prop} {J : Int32 → Int32 → Int32 → Int32 → Int32 → Int32 → (Nat → Int32) → (Nat → Int32) → (Nat → Int32) → (Nat → Int32) → (Nat → Int32) → (Nat → Int32) → (Nat → Int32) → (Nat → Int32) → Prop}
    (W : pt_WN n s l r) (D : pt_WD n d) (H : pt_NY n s l r d yk ya yb yl) (hc : c ≤ 7) (hT : ∀ i, i < c → pt_tok (f i)) (hk : ∀ i, i < c → yp i = nI (f i)) (hw : pt_fw (pt_tl f 0 c) 1 = true) (hkk : k < 400)
    (hP0 : ∀ x, pt_ok n d (pt_tl f 0 c) x = false → Pc x = false) (hP1 : ∀ x, pt_vx n s l r d (pt_tl f 0 c) x = none → Pc x = false) (hP2 : ∀ x e, pt_ok n d (pt_tl f 0 c) x = true → pt_vx n s l r d (pt_tl f 0 c) x = some e → (Pc x = true ↔ (p0 < 0 ∨ nI e = p0)))
    (h : ∀ yo ye ys, pt_SR (pt_of n s l r d (pt_tl f 0 c)) yw (20 * (k + 1)) ye → J (nI (k + 1)) (nI n) (nI c) yw (nI (pt_cn Pc (20 * (k + 1)))) (nI (pt_cn (pt_of n s l r d (pt_tl f 0 c)) (20 * (k + 1)))) yk ya yb yl yp yo ye ys) :
    ∀ K m yo ye ys, m + K = 20 → pt_SR (pt_of n s l r d (pt_tl f 0 c)) yw (20 * k + m) ye → wY_search_27 post J p0 (nI k) (K + 1) (nI m) (nI n) (nI c) yw (nI (pt_cn Pc (20 * k + m))) (nI (pt_cn (pt_of n s l r d (pt_tl f 0 c)) (20 * k + m))) yk ya yb yl yp yo ye ys := by
  have hn := W.1
  intro K
  induction K with
  | zero =>
    intro m yo ye ys hm hS
    have e : m = 20 := by omega
    subst e
    rw [wY_search_27]
    dsimp only
    exact br_t (nI_le (a := 20) (Nat.le_refl _) (by decide)) (nm_r (nI_1 k) (h yo ye ys hS))
  | succ K ih =>
    intro m yo ye ys hm hS
    have ih := ih (m + 1)
    rw [show 20 * k + (m + 1) = 20 * k + m + 1 by omega] at ih
    have d0 : pt_dig (20 * k + m) 0 = k / 20 := by
      show (20 * k + m) / 400 = k / 20
      omega
    have d1 : pt_dig (20 * k + m) 1 = k % 20 := by
      show (20 * k + m) / 20 % 20 = k % 20
      omega
    have d2 : pt_dig (20 * k + m) 2 = m := by
      show (20 * k + m) % 20 = m
      omega
    have hx : 20 * k + m < 8000 := by omega
    generalize 20 * k + m = x at hS ih d0 d1 d2 hx
    have e1 : nI k / 20 = nI (k / 20) := pk_div (d := 20) (by omega) (by decide) (by decide)
    have e2 : nI k - nI (k / 20) * 20 = nI (k % 20) := by
      have := pk_rem (a := k) (d := 20) (by omega) (by decide) (by decide)
      have e1' : nI k / nI 20 = nI (k / 20) := e1
      rw [e1'] at this
      exact this
    have n20 : ¬ (20 : Int32) = 0 := by decide
    have no : ∀ yo ye ys, pt_SR (pt_of n s l r d (pt_tl f 0 c)) yw x ye → pt_of n s l r d (pt_tl f 0 c) x = false → Pc x = false → ∀ y, y = nI m + 1 → wY_search_27 post J p0 (nI k) (K + 1) y (nI n) (nI c) yw (nI (pt_cn Pc x)) (nI (pt_cn (pt_of n s l r d (pt_tl f 0 c)) x)) yk ya yb yl yp yo ye ys := by
      intro yo ye ys hS z1 z2
      have ih := ih yo ye ys (by omega) (pt_SR_f hS z1)
      rw [pt_cn_f z1, pt_cn_f z2] at ih
      exact nm_r (nI_1 m) ih
    have ofF : pt_ok n d (pt_tl f 0 c) x = false → pt_of n s l r d (pt_tl f 0 c) x = false := by
      intro z
      unfold pt_of
      rw [z]
      rfl
    have okF : pt_ok n d (pt_tl f 0 c) x = false → ∀ y, y = nI m + 1 → wY_search_27 post J p0 (nI k) (K + 1) y (nI n) (nI c) yw (nI (pt_cn Pc x)) (nI (pt_cn (pt_of n s l r d (pt_tl f 0 c)) x)) yk ya yb yl yp yo ye ys := fun z => no yo ye ys hS (ofF z) (hP0 x z)
    rw [wY_search_27]
    dsimp only
    rw [e1, e2]
    refine br_f (nI_ge (b := 20) (by omega) (by decide)) ⟨n20, yt_tried (v := 0) hn D H hc hT hk (by decide) (by omega) (fun t0 => br_f xb_10 ⟨n20, yt_tried (v := 1) hn D H hc hT hk (by decide) (by omega) (fun t1 => br_f xb_10 (yt_tried (v := 2) hn D H hc hT hk (by decide) (by omega) (fun t2 => br_f xb_10 ⟨n20, nm_e ⟨n20, nm_e (nm_e ?_)⟩⟩) (fun t2 => br_t rfl (okF ?_)))) (fun t1 => br_t rfl (okF ?_))⟩) (fun t0 => br_t rfl (okF ?_))⟩
    · have ok : pt_ok n d (pt_tl f 0 c) x = true := by
        unfold pt_ok
        rw [d0, d1, d2, t0, t1, t2]
        rfl
      have hσ : ∀ v, v < 3 → upd (upd (upd yo 0 (nI (k / 20))) 1 (nI (k % 20))) 2 (nI m) v = nI (pt_dig x v) := by
        rw [pt_v3, d0, d1, d2]
        exact ⟨rfl, rfl, rfl⟩
      refine yl_look (σ := pt_dig x) W D H hc hT hk hw hσ ?_ ?_ ?_
      · intro t ht h3
        have := pt_ok_i.mpr ok t h3
        rw [decide_eq_true ht] at this
        exact this
      · intro hnone ys'
        refine no _ _ _ hS ?_ (hP1 x hnone)
        unfold pt_of pt_vx
        rw [hnone, ok]
        rfl
      · intro e he ys' ye' yc' c1 c2 g1 g2
        have hpf : pt_of n s l r d (pt_tl f 0 c) x = true := by
          unfold pt_of pt_vx
          rw [he, ok]
          rfl
        have ih := ih (upd (upd (upd yo 0 (nI (k / 20))) 1 (nI (k % 20))) 2 (nI m)) ye' ys' (by omega) (pt_SR_t hS hpf hx hσ g1 g2)
        have hq := hP2 x e ok he
        rw [pt_cn_t hpf] at ih
        dsimp only
        rw [nI_1 (pt_cn (pt_of n s l r d (pt_tl f 0 c)) x)]
        refine nm_r (nI_1 m) ?_
        cases hb : Pc x with
        | true =>
          rw [pt_cn_t hb] at ih
          rw [c1 (hq.mp hb), nI_1 (pt_cn Pc x)]
          exact ih
        | false =>
          rw [pt_cn_f hb] at ih
          rw [c2 (fun z => by rw [hq.mpr z] at hb; exact nomatch hb)]
          exact ih
    · unfold pt_ok
      rw [d2, t2, Bool.and_false, Bool.and_false]
    · unfold pt_ok
      rw [d1, t1, Bool.false_and, Bool.and_false]
    · unfold pt_ok
      rw [d0, t0, Bool.false_and]
theorem ys_search {c : Nat} {f : Nat → Nat} {p0 p1 : Int32} {Pc : Nat → Bool} {post : SY → Prop}
    (W : pt_WN n s l r) (D : pt_WD n d) (H : pt_NY n s l r d yk ya yb yl) (hc : c ≤ 7) (hT : ∀ i, i < c → pt_tok (f i)) (hk : ∀ i, i < c → yp i = nI (f i)) (hw : pt_fw (pt_tl f 0 c) 1 = true)
    (hP0 : ∀ x, pt_ok n d (pt_tl f 0 c) x = false → Pc x = false) (hP1 : ∀ x, pt_vx n s l r d (pt_tl f 0 c) x = none → Pc x = false) (hP2 : ∀ x e, pt_ok n d (pt_tl f 0 c) x = true → pt_vx n s l r d (pt_tl f 0 c) x = some e → (Pc x = true ↔ (p0 < 0 ∨ nI e = p0)))
    (h : ∀ yo ye ys, pt_SR (pt_of n s l r d (pt_tl f 0 c)) p1 8000 ye → post (nI n, nI c, p1, nI (pt_cn Pc 8000), nI (pt_cn (pt_of n s l r d (pt_tl f 0 c)) 8000), yk, ya, yb, yl, yp, yo, ye, ys)) :
    wpY_search post (nI n, nI c, yw, yc, yf, yk, ya, yb, yl, yp, yo, ye, ys) p0 p1 := by
  have key : ∀ K k yo ye ys, k + K = 400 → pt_SR (pt_of n s l r d (pt_tl f 0 c)) p1 (20 * k) ye → wY_search_17 post p0 (K + 1) (nI k) (nI n) (nI c) p1 (nI (pt_cn Pc (20 * k))) (nI (pt_cn (pt_of n s l r d (pt_tl f 0 c)) (20 * k))) yk ya yb yl yp yo ye ys := by
    intro K
    induction K with
    | zero =>
      intro k yo ye ys hk hS
      have e : k = 400 := by omega
      subst e
      rw [wY_search_17]
      exact br_t (nI_le (a := 400) (Nat.le_refl _) (by decide)) (h yo ye ys hS)
    | succ K ih =>
      intro k yo ye ys hkk hS
      rw [wY_search_17]
      refine br_f (nI_ge (b := 400) (by omega) (by decide)) ⟨21, ?_⟩
      refine ys_27 W D H hc hT hk hw (by omega) hP0 hP1 hP2 ?_ 20 0 yo ye ys (by omega) hS
      intro yo' ye' ys' hS'
      exact ih (k + 1) yo' ye' ys' (by omega) hS'
  unfold wpY_search
  exact ⟨401, key 400 0 yo ye ys (by omega) (fun y hy => absurd hy (by omega))⟩
end PTY
end
section
/-! the relation -/
section PTR
def pt_CM (f : Nat → Nat) (c : Nat) (iw vs : Int32) (op ar rr aa : Nat → Int32) : Prop := iw = (if pt_fw (pt_tl f 0 c) 1 = true then 1 else 0) ∧ (pt_fw (pt_tl f 0 c) 1 = true → pt_CD op ar rr aa (pt_tl f 0 c) 0 [0] 1 0 ∧ vs = nI (pt_vs (pt_tl f 0 c) 0))
def pt_Nd (n : Nat) (s l r d : Nat → Nat) (sy le ri ld yk ya yb yl : Nat → Int32) : Prop := pt_WN n s l r ∧ pt_WD n d ∧ pt_CL n s l r d ∧ pt_NX n s l r d sy le ri ld ∧ pt_NY n s l r d yk ya yb yl
def pt_Tk (c : Nat) (f : Nat → Nat) (tk yp : Nat → Int32) : Prop := c ≤ 7 ∧ (∀ i, i < c → pt_tok (f i)) ∧ (∀ i, i < c → tk i = nI (f i)) ∧ (∀ i, i < c → yp i = nI (f i))
def i_Rel (k : Nat) (u : SX) (v : SY) : Prop := match u, v with
  | (nc, pc, tc, cm, iw, vs, ce, sy, le, ri, ld, pA, pB, tk, op, ar, rr, aa, oR, rg, va, tr, fo), (yn, yt, yw, yc, yf, yk, ya, yb, yl, yp, yo, ye, ys) => ∃ (n c : Nat) (s l r d f : Nat → Nat), nc = nI n ∧ yn = nI n ∧ tc = nI c ∧ yt = nI c ∧ pt_Nd n s l r d sy le ri ld yk ya yb yl ∧ pt_Tk c f tk yp ∧ (cm = 0 ∨ (cm = 1 ∧ pt_CM f c iw vs op ar rr aa))
variable {nc pc tc cm iw vs ce : Int32} {sy le ri ld pA pB tk op ar rr aa oR rg va tr : Nat → Int32} {fo : Nat → Int64}
variable {yn yt yw yc yf : Int32} {yk ya yb yl yp yo ye ys : Nat → Int32}
theorem zz_in {k n c : Nat} {s l r d f : Nat → Nat} (h1 : pt_Nd n s l r d sy le ri ld yk ya yb yl) (h2 : pt_Tk c f tk yp) (h3 : cm = 0 ∨ (cm = 1 ∧ pt_CM f c iw vs op ar rr aa)) : i_Rel k (nI n, pc, nI c, cm, iw, vs, ce, sy, le, ri, ld, pA, pB, tk, op, ar, rr, aa, oR, rg, va, tr, fo) (nI n, nI c, yw, yc, yf, yk, ya, yb, yl, yp, yo, ye, ys) :=
  ⟨n, c, s, l, r, d, f, rfl, rfl, rfl, rfl, h1, h2, h3⟩
theorem zz_el {k : Nat} {u : SX} {v : SY} {P : SX → SY → Prop} (I : i_Rel k u v) (h : ∀ (n c : Nat) (s l r d f : Nat → Nat) (nc pc tc cm iw vs ce : Int32) (sy le ri ld pA pB tk op ar rr aa oR rg va tr : Nat → Int32) (fo : Nat → Int64) (yn yt yw yc yf : Int32) (yk ya yb yl yp yo ye ys : Nat → Int32), pt_Nd n s l r d sy le ri ld yk ya yb yl → pt_Tk c f tk yp → (cm = 0 ∨ (cm = 1 ∧ pt_CM f c iw vs op ar rr aa)) → P (nI n, pc, nI c, cm, iw, vs, ce, sy, le, ri, ld, pA, pB, tk, op, ar, rr, aa, oR, rg, va, tr, fo) (nI n, nI c, yw, yc, yf, yk, ya, yb, yl, yp, yo, ye, ys)) : P u v := by
  obtain ⟨nc, pc, tc, cm, iw, vs, ce, sy, le, ri, ld, pA, pB, tk, op, ar, rr, aa, oR, rg, va, tr, fo⟩ := u
  obtain ⟨yn, yt, yw, yc, yf, yk, ya, yb, yl, yp, yo, ye, ys⟩ := v
  obtain ⟨n, c, s, l, r, d, f, e1, e2, e3, e4, h1, h2, h3⟩ := I
  subst e1 e2 e3 e4
  exact h n c s l r d f 0 pc 0 cm iw vs ce sy le ri ld pA pB tk op ar rr aa oR rg va tr fo 0 0 yw yc yf yk ya yb yl yp yo ye ys h1 h2 h3
theorem i_up {k : Nat} {u : SX} {v : SY} (h : i_Rel k u v) : i_Rel (k + 3) u v := h
theorem i_vc0 : wpX_init (fun u => wpY_init (fun v => i_Rel 0 u v)) := by
  unfold wpX_init wpY_init
  refine zz_in (n := 0) (c := 0) (s := fun _ => 0) (l := fun _ => 0) (r := fun _ => 0) (d := fun _ => 0) (f := fun _ => 0) ⟨⟨by decide, fun i hi => absurd hi (by omega)⟩, fun i hi => absurd hi (by omega), fun i j hi => absurd hi (by omega), fun i hi => absurd hi (by omega), fun i hi => absurd hi (by omega)⟩ ⟨by decide, fun i hi => absurd hi (by omega), fun i hi => absurd hi (by omega), fun i hi => absurd hi (by omega)⟩ (Or.inl rfl)
/-! nodes on both sides -/
theorem nd_node {k n c t a b : Nat} {s l r d f : Nat → Nat} {G : Int32 → SX → Prop} (h1 : pt_Nd n s l r d sy le ri ld yk ya yb yl) (h2 : pt_Tk c f tk yp) (h3 : cm = 0 ∨ (cm = 1 ∧ pt_CM f c iw vs op ar rr aa)) (ht : t = 0 ∨ t = 20 ∨ t = 21) (ha : a < 20) (hb : b < 20) (ha2 : t ≠ 0 → a < n) (hb2 : t = 21 → b < n)
    (hG : ∀ (r : Int32) (nc' pc' tc' cm' iw' vs' ce' : Int32) (sy' le' ri' ld' pA' pB' tk' op' ar' rr' aa' oR' rg' va' tr' : Nat → Int32) (fo' : Nat → Int64), (∀ P : Int32 → SY → Prop, (∀ (yn' yt' yw' yc' yf' : Int32) (yk' ya' yb' yl' yp' yo' ye' ys' : Nat → Int32), i_Rel k (nc', pc', tc', cm', iw', vs', ce', sy', le', ri', ld', pA', pB', tk', op', ar', rr', aa', oR', rg', va', tr', fo') (yn', yt', yw', yc', yf', yk', ya', yb', yl', yp', yo', ye', ys') → P r (yn', yt', yw', yc', yf', yk', ya', yb', yl', yp', yo', ye', ys')) → wpY_make P (nI n, nI c, yw, yc, yf, yk, ya, yb, yl, yp, yo, ye, ys) (nI (t - 19)) (nI a) (nI b)) → G r (nc', pc', tc', cm', iw', vs', ce', sy', le', ri', ld', pA', pB', tk', op', ar', rr', aa', oR', rg', va', tr', fo')) : wpX_node G (nI n, pc, nI c, cm, iw, vs, ce, sy, le, ri, ld, pA, pB, tk, op, ar, rr, aa, oR, rg, va, tr, fo) (nI t) (nI a) (nI b) := by
  obtain ⟨W, D, C, HX, HY⟩ := h1
  unfold wpX_node
  dsimp only
  refine ⟨n + 1, xn_3 W D C HX ht ha hb ha2 hb2 ?_ ?_ ?_ n 0 (by omega) (fun j hj => absurd hj (by omega))⟩
  · intro m hm hf hs
    refine hG _ _ _ _ _ _ _ _ _ _ _ _ _ _ _ _ _ _ _ _ _ _ _ _ ?_
    intro P hP
    unfold wpY_make
    refine ⟨n + 1, yn_3 W D HY ht ha hb ha2 hb2 ?_ (fun z => absurd hs (z m hm)) (fun z => absurd hs (z m hm)) n 0 (by omega) (fun j hj => absurd hj (by omega))⟩
    intro m' hm' hf' hs'
    have e : m' = m := by
      rcases Nat.lt_trichotomy m' m with z | z | z
      · exact absurd hs' (hf m' z)
      · exact z
      · exact absurd hs (hf' m z)
    subst e
    exact hP _ _ _ _ _ _ _ _ _ _ _ _ _ (zz_in ⟨W, D, C, HX, HY⟩ h2 h3)
  · intro hno hn
    refine hG _ _ _ _ _ _ _ _ _ _ _ _ _ _ _ _ _ _ _ _ _ _ _ _ ?_
    intro P hP
    unfold wpY_make
    refine ⟨n + 1, yn_3 W D HY ht ha hb ha2 hb2 (fun m hm _ z => absurd z (hno m hm)) (fun _ _ => ?_) (fun _ z => absurd z (by omega)) n 0 (by omega) (fun j hj => absurd hj (by omega))⟩
    exact hP _ _ _ _ _ _ _ _ _ _ _ _ _ (zz_in ⟨W, D, C, HX, HY⟩ h2 h3)
  · intro hno hn v ld' L HX'
    refine hG _ _ _ _ _ _ _ _ _ _ _ _ _ _ _ _ _ _ _ _ _ _ _ _ ?_
    intro P hP
    unfold wpY_make
    refine ⟨n + 1, yn_3 W D HY ht ha hb ha2 hb2 (fun m hm _ z => absurd z (hno m hm)) (fun _ z => absurd z (by omega)) (fun _ _ d' yl' L' HY' => ?_) n 0 (by omega) (fun j hj => absurd hj (by omega))⟩
    refine hP _ _ _ _ _ _ _ _ _ _ _ _ _ (zz_in ⟨pt_WNu W hn ht ha hb ha2 hb2, L.1.1, L.2, HX', ?_⟩ h2 h3)
    intro i hi
    obtain ⟨y1, y2, y3, y4⟩ := HY' i hi
    exact ⟨y1, y2, y3, by rw [y4, pt_LE_u L' L i hi]⟩
end PTR
end
section
/-! the owed statements: nodes, classes, tokens -/
section PTO
theorem i_vc_constant {k : Nat} {u : SX} {v : SY} (I : i_Rel k u v) (hk : k + 3 ≤ 1536) (v1 : Int32) : wpX_constant (fun r u' => wpY_constant (fun r' v' => r' = r ∧ i_Rel (k + 3) u' v') v v1) u v1 := by
  refine zz_el (P := fun u v => wpX_constant (fun r u' => wpY_constant (fun r' v' => r' = r ∧ i_Rel (k + 3) u' v') v v1) u v1) I ?_
  intro n c s l r d f nc pc tc cm iw vs ce sy le ri ld pA pB tk op ar rr aa oR rg va tr fo yn yt yw yc yf yk ya yb yl yp yo ye ys h1 h2 h3
  unfold wpX_constant wpY_constant
  dsimp only
  by_cases e : v1 < 0
  · exact br_t e (br_t e ⟨rfl, zz_in h1 h2 h3⟩)
  · by_cases e5 : v1 ≤ 5
    · obtain ⟨a, ha, rfl⟩ := nI_of2 (n := 5) (by decide) e e5
      refine br_f e (br_t e5 (nd_node (yw := yw) (yc := yc) (yf := yf) (yo := yo) (ye := ye) (ys := ys) (t := 0) (b := 0) (k := k + 3) h1 h2 h3 (Or.inl rfl) (by omega) (by omega) (fun z => absurd rfl z) (fun z => absurd z (by decide)) ?_))
      intro r nc' pc' tc' cm' iw' vs' ce' sy' le' ri' ld' pA' pB' tk' op' ar' rr' aa' oR' rg' va' tr' fo' hY
      exact br_f e (br_t e5 (hY _ (fun yn' yt' yw' yc' yf' yk' ya' yb' yl' yp' yo' ye' ys' h => ⟨rfl, h⟩)))
    · exact br_f e (br_f e5 (br_f e (br_f e5 ⟨rfl, zz_in h1 h2 h3⟩)))
theorem i_vc_one {k : Nat} {u : SX} {v : SY} (I : i_Rel k u v) (hk : k + 3 ≤ 1536) (v1 : Int32) : wpX_one (fun r u' => wpY_one (fun r' v' => r' = r ∧ i_Rel (k + 3) u' v') v v1) u v1 := by
  refine zz_el (P := fun u v => wpX_one (fun r u' => wpY_one (fun r' v' => r' = r ∧ i_Rel (k + 3) u' v') v v1) u v1) I ?_
  intro n c s l r d f nc pc tc cm iw vs ce sy le ri ld pA pB tk op ar rr aa oR rg va tr fo yn yt yw yc yf yk ya yb yl yp yo ye ys h1 h2 h3
  have hn := h1.1.1
  unfold wpX_one wpY_one
  dsimp only
  have bad : (v1 < 0 ∨ nI n ≤ v1) ∨ ∃ j, j < n ∧ v1 = nI j := by
    rcases pk_ix v1 (n := n) (by omega) with z | z | z
    · exact Or.inl (Or.inl z)
    · exact Or.inl (Or.inr z)
    · exact Or.inr z
  rcases bad with e | ⟨a, ha, rfl⟩
  · exact xi_0 e (br_t rfl (yi_0 e (br_t rfl ⟨rfl, zz_in h1 h2 h3⟩)))
  · refine xi_1 hn ha (br_f xb_10 (nd_node (yw := yw) (yc := yc) (yf := yf) (yo := yo) (ye := ye) (ys := ys) (t := 20) (b := 0) (k := k + 3) h1 h2 h3 (Or.inr (Or.inl rfl)) (by omega) (by omega) (fun _ => ha) (fun z => absurd z (by decide)) ?_))
    intro r nc' pc' tc' cm' iw' vs' ce' sy' le' ri' ld' pA' pB' tk' op' ar' rr' aa' oR' rg' va' tr' fo' hY
    exact yi_1 hn ha (br_f xb_10 (hY _ (fun yn' yt' yw' yc' yf' yk' ya' yb' yl' yp' yo' ye' ys' h => ⟨rfl, h⟩)))
theorem i_vc_two {k : Nat} {u : SX} {v : SY} (I : i_Rel k u v) (hk : k + 3 ≤ 1536) (v1 : Int32) (v2 : Int32) : wpX_two (fun r u' => wpY_two (fun r' v' => r' = r ∧ i_Rel (k + 3) u' v') v v1 v2) u v1 v2 := by
  refine zz_el (P := fun u v => wpX_two (fun r u' => wpY_two (fun r' v' => r' = r ∧ i_Rel (k + 3) u' v') v v1 v2) u v1 v2) I ?_
  intro n c s l r d f nc pc tc cm iw vs ce sy le ri ld pA pB tk op ar rr aa oR rg va tr fo yn yt yw yc yf yk ya yb yl yp yo ye ys h1 h2 h3
  have hn := h1.1.1
  unfold wpX_two wpY_two
  dsimp only
  have bad : ∀ v1 : Int32, (v1 < 0 ∨ nI n ≤ v1) ∨ ∃ j, j < n ∧ v1 = nI j := by
    intro v1
    rcases pk_ix v1 (n := n) (by omega) with z | z | z
    · exact Or.inl (Or.inl z)
    · exact Or.inl (Or.inr z)
    · exact Or.inr z
  rcases bad v1 with e | ⟨a, ha, rfl⟩
  · exact xi_0 e (br_t rfl (yi_0 e (br_t rfl ⟨rfl, zz_in h1 h2 h3⟩)))
  · rcases bad v2 with e | ⟨b, hb, rfl⟩
    · exact xi_1 hn ha (br_f xb_10 (xi_0 e (br_t rfl (yi_1 hn ha (br_f xb_10 (yi_0 e (br_t rfl ⟨rfl, zz_in h1 h2 h3⟩)))))))
    · refine xi_1 hn ha (br_f xb_10 (xi_1 hn hb (br_f xb_10 (nd_node (yw := yw) (yc := yc) (yf := yf) (yo := yo) (ye := ye) (ys := ys) (t := 21) (k := k + 3) h1 h2 h3 (Or.inr (Or.inr rfl)) (by omega) (by omega) (fun _ => ha) (fun _ => hb) ?_))))
      intro r nc' pc' tc' cm' iw' vs' ce' sy' le' ri' ld' pA' pB' tk' op' ar' rr' aa' oR' rg' va' tr' fo' hY
      exact yi_1 hn ha (br_f xb_10 (yi_1 hn hb (br_f xb_10 (hY _ (fun yn' yt' yw' yc' yf' yk' ya' yb' yl' yp' yo' ye' ys' h => ⟨rfl, h⟩)))))
theorem i_vc_equate {k : Nat} {u : SX} {v : SY} (I : i_Rel k u v) (hk : k + 3 ≤ 1536) (v1 : Int32) (v2 : Int32) : wpX_equate (fun r u' => wpY_equate (fun r' v' => r' = r ∧ i_Rel (k + 3) u' v') v v1 v2) u v1 v2 := by
  refine zz_el (P := fun u v => wpX_equate (fun r u' => wpY_equate (fun r' v' => r' = r ∧ i_Rel (k + 3) u' v') v v1 v2) u v1 v2) I ?_
  intro n c s l r d f nc pc tc cm iw vs ce sy le ri ld pA pB tk op ar rr aa oR rg va tr fo yn yt yw yc yf yk ya yb yl yp yo ye ys h1 h2 h3
  have hn := h1.1.1
  have bad : ∀ v1 : Int32, (v1 < 0 ∨ nI n ≤ v1) ∨ ∃ j, j < n ∧ v1 = nI j := by
    intro v1
    rcases pk_ix v1 (n := n) (by omega) with z | z | z
    · exact Or.inl (Or.inl z)
    · exact Or.inl (Or.inr z)
    · exact Or.inr z
  rcases bad v1 with e | ⟨a, ha, rfl⟩
  · unfold wpX_equate wpY_equate
    exact xi_0 e (br_t rfl (yi_0 e (br_t rfl ⟨rfl, zz_in h1 h2 h3⟩)))
  · rcases bad v2 with e | ⟨b, hb, rfl⟩
    · unfold wpX_equate wpY_equate
      exact xi_1 hn ha (br_f xb_10 (xi_0 e (br_t rfl (yi_1 hn ha (br_f xb_10 (yi_0 e (br_t rfl ⟨rfl, zz_in h1 h2 h3⟩)))))))
    · obtain ⟨W, D, C, HX, HY⟩ := h1
      refine xq_equate W D C HX ha hb ?_
      intro d1 ld1 pA1 pB1 L1 HX1
      refine yq_equate W D HY ha hb ?_
      intro d2 yl2 L2 HY2
      have e := pt_LE_u L2 L1
      refine ⟨?_, zz_in ⟨W, L1.1.1, L1.2, HX1, ?_⟩ h2 h3⟩
      · refine congrArg nI (pt_cn_congr n ?_)
        intro i hi
        unfold pt_ldr
        rw [e i hi]
      · intro i hi
        obtain ⟨y1, y2, y3, y4⟩ := HY2 i hi
        exact ⟨y1, y2, y3, by rw [y4, e i hi]⟩
theorem i_vc_leader {k : Nat} {u : SX} {v : SY} (I : i_Rel k u v) (hk : k + 3 ≤ 1536) (v1 : Int32) : wpX_leader (fun r => wpY_leader (fun r' => r' = r ∧ i_Rel (k + 3) u v) v v1) u v1 := by
  refine zz_el (P := fun u v => wpX_leader (fun r => wpY_leader (fun r' => r' = r ∧ i_Rel (k + 3) u v) v v1) u v1) I ?_
  intro n c s l r d f nc pc tc cm iw vs ce sy le ri ld pA pB tk op ar rr aa oR rg va tr fo yn yt yw yc yf yk ya yb yl yp yo ye ys h1 h2 h3
  have hn := h1.1.1
  unfold wpX_leader wpY_leader
  dsimp only
  have bad : (v1 < 0 ∨ nI n ≤ v1) ∨ ∃ j, j < n ∧ v1 = nI j := by
    rcases pk_ix v1 (n := n) (by omega) with z | z | z
    · exact Or.inl (Or.inl z)
    · exact Or.inl (Or.inr z)
    · exact Or.inr z
  rcases bad with e | ⟨a, ha, rfl⟩
  · exact xi_0 e (br_t rfl (yi_0 e (br_t rfl ⟨rfl, zz_in h1 h2 h3⟩)))
  · have va : vp_in (nI a) 20 := vp_in_nI (by omega) (by decide)
    refine xi_1 hn ha (br_f xb_10 ⟨va, yi_1 hn ha (br_f xb_10 ⟨va, ?_, zz_in h1 h2 h3⟩)⟩)
    rw [nI_clamp (n := a) (by omega), (h1.2.2.2.1 a ha).2.2.2, (h1.2.2.2.2 a ha).2.2.2]
theorem i_vc_classes {k : Nat} {u : SX} {v : SY} (I : i_Rel k u v) (hk : k + 3 ≤ 1536) : wpX_classes (fun r => wpY_classes (fun r' => r' = r ∧ i_Rel (k + 3) u v) v) u := by
  refine zz_el (P := fun u v => wpX_classes (fun r => wpY_classes (fun r' => r' = r ∧ i_Rel (k + 3) u v) v) u) I ?_
  intro n c s l r d f nc pc tc cm iw vs ce sy le ri ld pA pB tk op ar rr aa oR rg va tr fo yn yt yw yc yf yk ya yb yl yp yo ye ys h1 h2 h3
  exact xk_classes h1.1.1 h1.2.1 (fun i hi => (h1.2.2.2.1 i hi).2.2.2) (yk_classes h1.1.1 h1.2.1 (fun i hi => (h1.2.2.2.2 i hi).2.2.2) ⟨rfl, zz_in h1 h2 h3⟩)
theorem i_vc_wipe {k : Nat} {u : SX} {v : SY} (I : i_Rel k u v) (hk : k + 3 ≤ 1536) : wpX_wipe (fun r u' => wpY_wipe (fun r' v' => r' = r ∧ i_Rel (k + 3) u' v') v) u := by
  refine zz_el (P := fun u v => wpX_wipe (fun r u' => wpY_wipe (fun r' v' => r' = r ∧ i_Rel (k + 3) u' v') v) u) I ?_
  intro n c s l r d f nc pc tc cm iw vs ce sy le ri ld pA pB tk op ar rr aa oR rg va tr fo yn yt yw yc yf yk ya yb yl yp yo ye ys h1 h2 h3
  exact ⟨rfl, zz_in (c := 0) (f := f) h1 ⟨by decide, fun i hi => absurd hi (by omega), fun i hi => absurd hi (by omega), fun i hi => absurd hi (by omega)⟩ (Or.inl rfl)⟩
theorem i_vc_clear {k : Nat} {u : SX} {v : SY} (I : i_Rel k u v) (hk : k + 3 ≤ 1536) : wpX_clear (fun r u' => wpY_clear (fun r' v' => r' = r ∧ i_Rel (k + 3) u' v') v) u := by
  refine zz_el (P := fun u v => wpX_clear (fun r u' => wpY_clear (fun r' v' => r' = r ∧ i_Rel (k + 3) u' v') v) u) I ?_
  intro n c s l r d f nc pc tc cm iw vs ce sy le ri ld pA pB tk op ar rr aa oR rg va tr fo yn yt yw yc yf yk ya yb yl yp yo ye ys h1 h2 h3
  exact ⟨rfl, zz_in (n := 0) (s := s) (l := l) (r := r) (d := d) ⟨⟨by decide, fun i hi => absurd hi (by omega)⟩, fun i hi => absurd hi (by omega), fun i j hi => absurd hi (by omega), fun i hi => absurd hi (by omega), fun i hi => absurd hi (by omega)⟩ h2 h3⟩
/-! tokens -/
section
variable {nc pc tc cm iw vs ce : Int32} {sy le ri ld pA pB tk op ar rr aa oR rg va tr : Nat → Int32} {fo : Nat → Int64}
variable {yn yt yw yc yf : Int32} {yk ya yb yl yp yo ye ys : Nat → Int32}
theorem tk_X {c t : Nat} {post : Int32 → SX → Prop} (hc : c < 7) (ht : t < 2 ^ 31) (h1 : pt_tok t → post (nI (c + 1)) (nc, pc, nI (c + 1), 0, iw, vs, ce, sy, le, ri, ld, pA, pB, upd tk c (nI t), op, ar, rr, aa, oR, rg, va, tr, fo)) (h0 : ¬ pt_tok t → post (-1) (nc, pc, nI c, cm, iw, vs, ce, sy, le, ri, ld, pA, pB, tk, op, ar, rr, aa, oR, rg, va, tr, fo)) : wpX_token post (nc, pc, nI c, cm, iw, vs, ce, sy, le, ri, ld, pA, pB, tk, op, ar, rr, aa, oR, rg, va, tr, fo) (nI t) := by
  have K1 : pt_tok t → wX_token_45 post (nI t) nc pc (nI c) cm iw vs ce sy le ri ld pA pB tk op ar rr aa oR rg va tr fo := by
    intro z
    unfold wX_token_45 wX_token_50
    have h1 := h1 z
    unfold pt_tok at z
    rw [nI_clamp (n := c) (by omega), xb_nn (v := t) (by omega)]
    exact br_f xb_10 ⟨vp_in_nI hc (by decide), nm_e (nm_r (nI_1 c) h1)⟩
  have K0 : ¬ pt_tok t → wX_token_50 post (nI t) 0 nc pc (nI c) cm iw vs ce sy le ri ld pA pB tk op ar rr aa oR rg va tr fo := fun z => br_t rfl (h0 z)
  have K33 : ¬ t ≤ 2 → ¬ (10 ≤ t ∧ t ≤ 15) → wX_token_33 post (nI t) nc pc (nI c) cm iw vs ce sy le ri ld pA pB tk op ar rr aa oR rg va tr fo := by
    intro z1 z2
    unfold wX_token_33
    refine pk_eq t 20 (fun e => K1 (Or.inr (Or.inr (Or.inl e)))) (fun e => pk_eq t 21 (fun e2 => K1 (Or.inr (Or.inr (Or.inr e2)))) (fun e2 => K0 ?_))
    unfold pt_tok
    omega
  have K21 : ¬ t ≤ 2 → wX_token_21 post (nI t) nc pc (nI c) cm iw vs ce sy le ri ld pA pB tk op ar rr aa oR rg va tr fo := by
    intro z1
    unfold wX_token_21
    exact pk_lt t 10 (fun e => K33 z1 (by omega)) (fun e => pk_le t 15 (fun e2 => K1 (Or.inr (Or.inl ⟨e, e2⟩))) (fun e2 => K33 z1 (by omega)))
  unfold wpX_token
  exact br_t (nI_lt (b := 7) hc (by decide)) (br_f (nI_pos ht) (pk_le t 2 (fun e => K1 (Or.inl e)) (fun e => K21 (by omega))))
theorem tk_Y {c t : Nat} {post : Int32 → SY → Prop} (hc : c < 7) (ht : t < 2 ^ 31) (h1 : pt_tok t → post (nI (c + 1)) (yn, nI (c + 1), yw, yc, yf, yk, ya, yb, yl, upd yp c (nI t), yo, ye, ys)) (h0 : ¬ pt_tok t → post (-1) (yn, nI c, yw, yc, yf, yk, ya, yb, yl, yp, yo, ye, ys)) : wpY_token post (yn, nI c, yw, yc, yf, yk, ya, yb, yl, yp, yo, ye, ys) (nI t) := by
  have K1 : pt_tok t → wY_token_47 post (nI t) yn (nI c) yw yc yf yk ya yb yl yp yo ye ys := by
    intro z
    unfold wY_token_47
    rw [nI_clamp (n := c) (by omega)]
    exact ⟨vp_in_nI hc (by decide), nm_e (nm_r (nI_1 c) (h1 z))⟩
  have K33 : t ≤ 21 → (t ≤ 2 ∨ 10 ≤ t) → wY_token_33 post (nI t) yn (nI c) yw yc yf yk ya yb yl yp yo ye ys := by
    intro z1 z2
    unfold wY_token_33
    refine pk_le t 15 (fun e => K1 ?_) (fun e => pk_le 20 t (fun e2 => K1 ?_) (fun e2 => h0 ?_))
    · unfold pt_tok; omega
    · unfold pt_tok; omega
    · unfold pt_tok; omega
  unfold wpY_token
  refine br_f (fun z => ?_) (br_f (nI_pos ht) (pk_lt 21 t (fun e => h0 ?_) (fun e => pk_le t 2 (fun e2 => K33 (by omega) (Or.inl e2)) (fun e2 => pk_lt t 10 (fun e3 => h0 ?_) (fun e3 => K33 (by omega) (Or.inr e3))))))
  · have := (nI_eq (b := 7) (by omega) (by decide)).mp z
    omega
  · unfold pt_tok; omega
  · unfold pt_tok; omega
end
theorem i_vc_token {k : Nat} {u : SX} {v : SY} (I : i_Rel k u v) (hk : k + 3 ≤ 1536) (v1 : Int32) : wpX_token (fun r u' => wpY_token (fun r' v' => r' = r ∧ i_Rel (k + 3) u' v') v v1) u v1 := by
  refine zz_el (P := fun u v => wpX_token (fun r u' => wpY_token (fun r' v' => r' = r ∧ i_Rel (k + 3) u' v') v v1) u v1) I ?_
  intro n c s l r d f nc pc tc cm iw vs ce sy le ri ld pA pB tk op ar rr aa oR rg va tr fo yn yt yw yc yf yk ya yb yl yp yo ye ys h1 h2 h3
  have R : i_Rel (k + 3) (nI n, pc, nI c, cm, iw, vs, ce, sy, le, ri, ld, pA, pB, tk, op, ar, rr, aa, oR, rg, va, tr, fo) (nI n, nI c, yw, yc, yf, yk, ya, yb, yl, yp, yo, ye, ys) := zz_in h1 h2 h3
  obtain ⟨c7, T1, T2, T3⟩ := h2
  by_cases e : c = 7
  · subst e
    unfold wpX_token wpY_token
    exact br_f (by decide) (br_t rfl ⟨rfl, R⟩)
  · by_cases ev : v1 < 0
    · unfold wpX_token wpY_token
      have e10 : v1 < 10 := Int32.lt_trans ev (by decide)
      have e20 : ¬ v1 = 20 := fun z => by rw [z] at ev; exact absurd ev (by decide)
      have e21 : ¬ v1 = 21 := fun z => by rw [z] at ev; exact absurd ev (by decide)
      have e7 : ¬ nI c = 7 := fun z => e ((nI_eq (b := 7) (by omega) (by decide)).mp z)
      exact br_t (nI_lt (b := 7) (by omega) (by decide)) (br_t ev (br_t e10 (br_f e20 (br_f e21 (br_t rfl (br_f e7 (br_t ev ⟨rfl, R⟩)))))))
    · obtain ⟨t, ht, rfl⟩ := nI_of ev
      refine tk_X (by omega) ht (fun z => tk_Y (by omega) ht (fun _ => ⟨rfl, zz_in (c := c + 1) (f := pt_u f c t) h1 ⟨by omega, ?_, ?_, ?_⟩ (Or.inl rfl)⟩) (fun y => absurd z y)) (fun z => tk_Y (by omega) ht (fun y => absurd y z) (fun _ => ⟨rfl, R⟩))
      · intro i hi
        by_cases ei : i = c
        · subst ei; rw [pt_us]; exact z
        · rw [pt_un ei]; exact T1 i (by omega)
      · intro i hi
        by_cases ei : i = c
        · subst ei; rw [pt_us, pk_us]
        · rw [pt_un ei, pk_un ei]; exact T2 i (by omega)
      · intro i hi
        by_cases ei : i = c
        · subst ei; rw [pt_us, pk_us]
        · rw [pt_un ei, pk_un ei]; exact T3 i (by omega)
end PTO
end
section
/-! the owed statements: matches -/
section PTO
section
variable {nc pc tc cm iw vs ce : Int32} {sy le ri ld pA pB tk op ar rr aa oR rg va tr : Nat → Int32} {fo : Nat → Int64}
theorem cm_X {c : Nat} {f : Nat → Nat} {yp : Nat → Int32} {post : SX → Prop} (h2 : pt_Tk c f tk yp) (h3 : cm = 0 ∨ (cm = 1 ∧ pt_CM f c iw vs op ar rr aa))
    (h : ∀ (iw vs ce : Int32) (op ar rr aa oR : Nat → Int32), pt_CM f c iw vs op ar rr aa → post (nc, pc, nI c, 1, iw, vs, ce, sy, le, ri, ld, pA, pB, tk, op, ar, rr, aa, oR, rg, va, tr, fo)) : wpX_compile post (nc, pc, nI c, cm, iw, vs, ce, sy, le, ri, ld, pA, pB, tk, op, ar, rr, aa, oR, rg, va, tr, fo) := by
  rcases h3 with e | ⟨e, h3⟩
  · subst e
    refine xm_compile0 h2.1 h2.2.1 h2.2.2.1 ?_
    intro w vs' ce' op' ar' rr' aa' oR' hw hC
    subst hw
    exact h _ vs' ce' op' ar' rr' aa' oR' ⟨rfl, hC⟩
  · subst e
    unfold wpX_compile
    exact br_f xb_10 (h iw vs ce op ar rr aa oR h3)
end
theorem pt_tl_tok {c : Nat} {f : Nat → Nat} (hT : ∀ i, i < c → pt_tok (f i)) : ∀ t, t ∈ pt_tl f 0 c → pt_tok t := by
  intro t ht
  rw [pt_tl_mem] at ht
  obtain ⟨i, i1, i2, i3⟩ := ht
  rw [← i3]
  exact hT i (by omega)
theorem pt_beq {a b : Bool} (h : a = true ↔ b = true) : a = b := by
  cases a <;> cases b <;> simp at h ⊢
theorem pt_iw {w : Bool} (h : w = true) : ¬ (if w = true then (1 : Int32) else 0) = 0 := by
  rw [if_pos h]
  decide
theorem pt_iw0 {w : Bool} (h : w = false) : (if w = true then (1 : Int32) else 0) = 0 := by
  rw [h]
  rfl
section
variable {n : Nat} {s l r d : Nat → Nat} {tks : List Nat}
theorem pt_A0 : ∀ x, pt_ok n d tks x = false → pt_of n s l r d tks x = false := by
  intro x h
  unfold pt_of
  rw [h]
  rfl
theorem pt_A1 : ∀ x, pt_vx n s l r d tks x = none → pt_of n s l r d tks x = false := by
  intro x h
  unfold pt_of
  rw [h, Option.isSome_none, Bool.and_false]
theorem pt_A2 : ∀ x e, pt_ok n d tks x = true → pt_vx n s l r d tks x = some e → (pt_of n s l r d tks x = true ↔ ((-1 : Int32) < 0 ∨ nI e = -1)) := by
  intro x e h1 h2
  unfold pt_of
  rw [h1, h2]
  exact ⟨fun _ => Or.inl (by decide), fun _ => rfl⟩
theorem pt_B0 {c : Nat} : ∀ x, pt_ok n d tks x = false → pt_oc n s l r d tks c x = false := by
  intro x h
  unfold pt_oc
  rw [h]
  rfl
theorem pt_B1 {c : Nat} : ∀ x, pt_vx n s l r d tks x = none → pt_oc n s l r d tks c x = false := by
  intro x h
  unfold pt_oc
  rw [h, decide_eq_false (fun z => (nomatch z)), Bool.and_false]
theorem pt_vx_l (D : pt_WD n d) {x e : Nat} (h1 : pt_ok n d tks x = true) (h : pt_vx n s l r d tks x = some e) : e < n := by
  have hv := pt_ok_i.mpr h1
  have key := pt_st_l (s := s) (l := l) (r := r) (σ := pt_dig x) D tks (fun t ht h3 => by
    have := hv t h3
    rw [decide_eq_true ht] at this
    exact this)
  unfold pt_vx at h
  generalize pt_st n s l r d (pt_dig x) tks = L at key h
  match L, key, h with
  | [], _, h => exact nomatch h
  | o :: L, key, h => exact (key o List.mem_cons_self e h).1
theorem pt_B2 (hn : n ≤ 20) (D : pt_WD n d) {c : Nat} (hc : c < 20) : ∀ x e, pt_ok n d tks x = true → pt_vx n s l r d tks x = some e → (pt_oc n s l r d tks c x = true ↔ (nI c < 0 ∨ nI e = nI c)) := by
  intro x e h1 h2
  have he := pt_vx_l D h1 h2
  unfold pt_oc
  rw [h1, h2, Bool.true_and, decide_eq_true_eq, Option.some.injEq, nI_eq (by omega) (by omega)]
  exact ⟨Or.inr, fun z => z.elim (fun y => absurd y (nI_pos (by omega))) id⟩
end
theorem i_vc_matches {k : Nat} {u : SX} {v : SY} (I : i_Rel k u v) (hk : k + 3 ≤ 1536) : wpX_matches (fun r u' => wpY_matches (fun r' v' => r' = r ∧ i_Rel (k + 3) u' v') v) u := by
  refine zz_el (P := fun u v => wpX_matches (fun r u' => wpY_matches (fun r' v' => r' = r ∧ i_Rel (k + 3) u' v') v) u) I ?_
  intro n c s l r d f nc pc tc cm iw vs ce sy le ri ld pA pB tk op ar rr aa oR rg va tr fo yn yt yw yc yf yk ya yb yl yp yo ye ys h1 h2 h3
  unfold wpX_matches wpY_matches
  dsimp only
  refine cm_X h2 h3 ?_
  intro iw vs ce op ar rr aa oR hM
  have R : ∀ (rg va tr : Nat → Int32) (fo : Nat → Int64) (yw yc yf : Int32) (yo ye ys : Nat → Int32), i_Rel (k + 3) (nI n, pc, nI c, 1, iw, vs, ce, sy, le, ri, ld, pA, pB, tk, op, ar, rr, aa, oR, rg, va, tr, fo) (nI n, nI c, yw, yc, yf, yk, ya, yb, yl, yp, yo, ye, ys) := fun rg va tr fo yw yc yf yo ye ys => zz_in h1 h2 (Or.inr ⟨rfl, hM⟩)
  obtain ⟨W, D, C, HX, HY⟩ := h1
  obtain ⟨c7, T1, T2, T3⟩ := h2
  obtain ⟨M1, M2⟩ := hM
  dsimp only
  cases hw : pt_fw (pt_tl f 0 c) 1 with
  | false =>
    refine br_t (by rw [M1]; exact pt_iw0 hw) (yw_whole c7 T1 T3 (fun z => ?_) (fun _ => br_t rfl ⟨rfl, R _ _ _ _ _ _ _ _ _ _⟩))
    rw [hw] at z
    exact nomatch z
  | true =>
    obtain ⟨M2, M3⟩ := M2 hw
    refine br_f (by rw [M1]; exact pt_iw hw) (xa_runAll W D HX M2 (pt_tl_tok T1) (by rw [pt_tl_len]; exact c7) ?_)
    intro rg' va' tr' fo' hb
    refine xf_count ?_
    refine yw_whole c7 T1 T3 (fun _ => br_f xb_10 (ys_search (Pc := pt_of n s l r d (pt_tl f 0 c)) W D HY c7 T1 T3 hw pt_A0 pt_A1 pt_A2 ?_)) (fun z => ?_)
    · intro yo' ye' ys' _
      refine ⟨congrArg nI (pt_cn_congr 8000 ?_), R _ _ _ _ _ _ _ _ _ _⟩
      intro x hx
      refine pt_beq ?_
      rw [hb x hx, pt_bitA W D C (pt_tl_tok T1) hw]
      exact ⟨fun z => ⟨hx, z⟩, fun z => z.2⟩
    · rw [hw] at z
      exact nomatch z
theorem i_vc_matchesAt {k : Nat} {u : SX} {v : SY} (I : i_Rel k u v) (hk : k + 3 ≤ 1536) (v1 : Int32) : wpX_matchesAt (fun r u' => wpY_matchesAt (fun r' v' => r' = r ∧ i_Rel (k + 3) u' v') v v1) u v1 := by
  refine zz_el (P := fun u v => wpX_matchesAt (fun r u' => wpY_matchesAt (fun r' v' => r' = r ∧ i_Rel (k + 3) u' v') v v1) u v1) I ?_
  intro n c s l r d f nc pc tc cm iw vs ce sy le ri ld pA pB tk op ar rr aa oR rg va tr fo yn yt yw yc yf yk ya yb yl yp yo ye ys h1 h2 h3
  have hn := h1.1.1
  unfold wpX_matchesAt wpY_matchesAt
  dsimp only
  have bad : (v1 < 0 ∨ nI n ≤ v1) ∨ ∃ j, j < n ∧ v1 = nI j := by
    rcases pk_ix v1 (n := n) (by omega) with z | z | z
    · exact Or.inl (Or.inl z)
    · exact Or.inl (Or.inr z)
    · exact Or.inr z
  rcases bad with e | ⟨a, ha, rfl⟩
  · exact xi_0 e (br_t rfl (yi_0 e (br_t rfl ⟨rfl, zz_in h1 h2 h3⟩)))
  · refine xi_1 hn ha (br_f xb_10 (cm_X h2 h3 ?_))
    intro iw vs ce op ar rr aa oR hM
    have R : ∀ (rg va tr : Nat → Int32) (fo : Nat → Int64) (yw yc yf : Int32) (yo ye ys : Nat → Int32), i_Rel (k + 3) (nI n, pc, nI c, 1, iw, vs, ce, sy, le, ri, ld, pA, pB, tk, op, ar, rr, aa, oR, rg, va, tr, fo) (nI n, nI c, yw, yc, yf, yk, ya, yb, yl, yp, yo, ye, ys) := fun rg va tr fo yw yc yf yo ye ys => zz_in h1 h2 (Or.inr ⟨rfl, hM⟩)
    obtain ⟨W, D, C, HX, HY⟩ := h1
    obtain ⟨c7, T1, T2, T3⟩ := h2
    obtain ⟨M1, M2⟩ := hM
    dsimp only
    have vpa : vp_in (nI a) 20 := vp_in_nI (by omega) (by decide)
    have da := D a ha
    cases hw : pt_fw (pt_tl f 0 c) 1 with
    | false =>
      refine br_t (by rw [M1]; exact pt_iw0 hw) (yi_1 hn ha (br_f xb_10 (yw_whole c7 T1 T3 (fun z => ?_) (fun _ => br_t rfl ⟨rfl, R _ _ _ _ _ _ _ _ _ _⟩))))
      rw [hw] at z
      exact nomatch z
    | true =>
      obtain ⟨M2, M3⟩ := M2 hw
      refine br_f (by rw [M1]; exact pt_iw hw) (xf_clear ?_)
      intro fo0 hz
      dsimp only
      rw [nI_clamp (n := a) (by omega), (HX a ha).2.2.2, (HY a ha).2.2.2]
      refine ⟨vpa, xr_run W D HX M2 (pt_tl_tok T1) (by rw [pt_tl_len]; exact c7) (by omega) ?_⟩
      intro rg' va' tr' fo' hb
      refine xf_count ?_
      refine yi_1 hn ha (br_f xb_10 (yw_whole c7 T1 T3 (fun _ => br_f xb_10 ⟨vpa, ys_search (Pc := pt_oc n s l r d (pt_tl f 0 c) (d a)) W D HY c7 T1 T3 hw pt_B0 pt_B1 (pt_B2 hn D (by omega)) ?_⟩) (fun z => ?_)))
      · intro yo' ye' ys' _
        refine ⟨congrArg nI (pt_cn_congr 8000 ?_), R _ _ _ _ _ _ _ _ _ _⟩
        intro x hx
        refine pt_beq ?_
        rw [hb x hx, hz x hx, pt_bit1 W D C (pt_tl_tok T1) hw (by omega) da.2]
        exact ⟨fun z => Or.inr ⟨hx, z⟩, fun z => z.elim (fun y => (nomatch y)) (fun y => y.2)⟩
      · rw [hw] at z
        exact nomatch z
theorem i_vc_binding {k : Nat} {u : SX} {v : SY} (I : i_Rel k u v) (hk : k + 3 ≤ 1536) (v1 : Int32) (v2 : Int32) : wpX_binding (fun r u' => wpY_binding (fun r' v' => r' = r ∧ i_Rel (k + 3) u' v') v v1 v2) u v1 v2 := by
  refine zz_el (P := fun u v => wpX_binding (fun r u' => wpY_binding (fun r' v' => r' = r ∧ i_Rel (k + 3) u' v') v v1 v2) u v1 v2) I ?_
  intro n c s l r d f nc pc tc cm iw vs ce sy le ri ld pA pB tk op ar rr aa oR rg va tr fo yn yt yw yc yf yk ya yb yl yp yo ye ys h1 h2 h3
  have hn := h1.1.1
  unfold wpX_binding wpY_binding
  dsimp only
  by_cases e0 : v2 < 0
  · exact br_t e0 (br_t e0 ⟨rfl, zz_in h1 h2 h3⟩)
  · by_cases e2 : v2 ≤ 2
    · obtain ⟨q, hq, rfl⟩ := nI_of2 (n := 2) (by decide) e0 e2
      refine br_f e0 (br_t e2 (cm_X h2 h3 ?_))
      intro iw vs ce op ar rr aa oR hM
      have R : ∀ (rg va tr : Nat → Int32) (fo : Nat → Int64) (yw yc yf : Int32) (yo ye ys : Nat → Int32), i_Rel (k + 3) (nI n, pc, nI c, 1, iw, vs, ce, sy, le, ri, ld, pA, pB, tk, op, ar, rr, aa, oR, rg, va, tr, fo) (nI n, nI c, yw, yc, yf, yk, ya, yb, yl, yp, yo, ye, ys) := fun rg va tr fo yw yc yf yo ye ys => zz_in h1 h2 (Or.inr ⟨rfl, hM⟩)
      obtain ⟨W, D, C, HX, HY⟩ := h1
      obtain ⟨c7, T1, T2, T3⟩ := h2
      obtain ⟨M1, M2⟩ := hM
      dsimp only
      cases hw : pt_fw (pt_tl f 0 c) 1 with
      | false =>
        refine br_t (by rw [M1]; exact pt_iw0 hw) (br_f e0 (br_t e2 (yw_whole c7 T1 T3 (fun z => ?_) (fun _ => br_t rfl ⟨rfl, R _ _ _ _ _ _ _ _ _ _⟩))))
        rw [hw] at z
        exact nomatch z
      | true =>
        have nw : pt_fw (pt_tl f 0 c) 1 = false → False := fun z => by rw [hw] at z; exact nomatch z
        obtain ⟨M2, M3⟩ := M2 hw
        refine br_f (by rw [M1]; exact pt_iw hw) ?_
        by_cases en : v1 < 0
        · have en' : ¬ 0 ≤ v1 := Int32.not_le.mpr en
          exact br_t en (br_f e0 (br_t e2 (yw_whole c7 T1 T3 (fun _ => br_f xb_10 (yh_has c7 T1 T3 (by omega) (fun _ => br_f xb_10 (br_f en' ⟨rfl, R _ _ _ _ _ _ _ _ _ _⟩)) (fun _ => br_t rfl ⟨rfl, R _ _ _ _ _ _ _ _ _ _⟩))) (fun z => absurd (nw z) id))))
        · obtain ⟨w, hw31, rfl⟩ := nI_of en
          have pos : (0 : Int32) ≤ nI w := nI_pos' hw31
          refine br_f en ?_
          have tb := xm_tb (pt_vs (pt_tl f 0 c) 0) (pt_vs_lt _ _ (by decide)) q (by omega)
          rw [pt_vs_b (by omega), Nat.zero_testBit, Bool.false_or, decide_eq_false_iff_not] at tb
          rw [← M3] at tb
          by_cases hv : q ∈ pt_tl f 0 c
          · refine br_f (fun z => (tb.mp z) hv) (xa_runAll W D HX M2 (pt_tl_tok T1) (by rw [pt_tl_len]; exact c7) ?_)
            intro rg' va' tr' fo' hb
            have hP : ∀ x, x < 8000 → pt_fb fo' x = pt_of n s l r d (pt_tl f 0 c) x := by
              intro x hx
              refine pt_beq ?_
              rw [hb x hx, pt_bitA W D C (pt_tl_tok T1) hw]
              exact ⟨fun z => z.2, fun z => ⟨hx, z⟩⟩
            have hcn : ∀ x, x ≤ 8000 → pt_cn (pt_fb fo') x = pt_cn (pt_of n s l r d (pt_tl f 0 c)) x := fun x hx => pt_cn_congr x (fun i hi => hP i (by omega))
            have h8 := pt_cn_le (pt_of n s l r d (pt_tl f 0 c)) 8000
            refine ⟨8001, xb_49 (w := w) (by omega) hw31 ?_ ?_ 8000 0 (by omega) (Nat.zero_le _)⟩
            · intro x hx hfb hcx
              rw [hcn x (by omega)] at hcx
              rw [hP x hx] at hfb
              have up := pt_cn_up (pt_of n s l r d (pt_tl f 0 c)) (x + 1) 8000 (by omega)
              rw [pt_cn_t hfb, hcx] at up
              refine br_f e0 (br_t e2 (yw_whole c7 T1 T3 (fun _ => br_f xb_10 (yh_has c7 T1 T3 (by omega) (fun _ => br_f xb_10 (br_t pos (ys_search (Pc := pt_of n s l r d (pt_tl f 0 c)) W D HY c7 T1 T3 hw pt_A0 pt_A1 pt_A2 ?_))) (fun z => absurd hv z))) (fun z => absurd (nw z) id)))
              intro yo' ye' ys' hS
              refine br_f (nI_ge (by omega) (by omega)) ⟨vp_in_nI (by omega) (by decide), ?_, R _ _ _ _ _ _ _ _ _ _⟩
              rw [nI_clamp (n := q) (by omega)]
              exact hS x hx hfb (by rw [hcx]) q (by omega)
            · intro hle
              rw [hcn 8000 (Nat.le_refl _)] at hle
              refine br_f e0 (br_t e2 (yw_whole c7 T1 T3 (fun _ => br_f xb_10 (yh_has c7 T1 T3 (by omega) (fun _ => br_f xb_10 (br_t pos (ys_search (Pc := pt_of n s l r d (pt_tl f 0 c)) W D HY c7 T1 T3 hw pt_A0 pt_A1 pt_A2 ?_))) (fun z => absurd hv z))) (fun z => absurd (nw z) id)))
              intro yo' ye' ys' hS
              exact br_t (nI_le hle hw31) ⟨rfl, R _ _ _ _ _ _ _ _ _ _⟩
          · exact br_t (tb.mpr hv) (br_f e0 (br_t e2 (yw_whole c7 T1 T3 (fun _ => br_f xb_10 (yh_has c7 T1 T3 (by omega) (fun z => absurd z hv) (fun _ => br_t rfl ⟨rfl, R _ _ _ _ _ _ _ _ _ _⟩))) (fun z => absurd (nw z) id))))
    · exact br_f e0 (br_f e2 (br_f e0 (br_f e2 ⟨rfl, zz_in h1 h2 h3⟩)))
end PTO
end
