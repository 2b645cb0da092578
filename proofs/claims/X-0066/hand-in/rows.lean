section
/-! pure rows to paste: stores, nI and lN arithmetic, masks, shifts, narrowing, branches by naturals (pk_le, pk_lt, pk_eq), loops (lp1 .. lp16: the measure of the state; rp1 ..: recursion), negatives. Take what you need -/
theorem pk_us {f : Nat → Int32} {k : Nat} {x : Int32} : upd f k x k = x := if_pos rfl
theorem pk_un {f : Nat → Int32} {k j : Nat} {x : Int32} (h : j ≠ k) : upd f k x j = f j := if_neg h
theorem pk_uLs {f : Nat → Int64} {k : Nat} {x : Int64} : vp_updL f k x k = x := if_pos rfl
theorem pk_uLn {f : Nat → Int64} {k j : Nat} {x : Int64} (h : j ≠ k) : vp_updL f k x j = f j := if_neg h
theorem pk_sub {a b : Nat} (h : b ≤ a) : nI a - nI b = nI (a - b) := by
  obtain ⟨c, rfl⟩ : ∃ c, a = c + b := ⟨a - b, by omega⟩
  rw [← nI_add, Int32.add_sub_cancel, Nat.add_sub_cancel]
theorem pk_m1 (n : Nat) : nI (n + 1) + (-1) = nI n := by
  rw [← nI_1, Int32.add_assoc, show (1 : Int32) + (-1) = 0 from rfl, Int32.add_zero]
theorem pk_mul (a b : Nat) : nI a * nI b = nI (a * b) := (Int32.ofNat_mul a b).symm
theorem pk_div {a d : Nat} (ha : a < 2 ^ 31) (h0 : 0 < d) (hd : d < 2 ^ 31) : nI a / nI d = nI (a / d) := by
  apply Int32.toInt_inj.mp
  rw [lg_idiv_nonneg (by rw [nI_toInt ha]; omega) (by rw [nI_toInt hd]; omega), nI_toInt ha, nI_toInt hd, nI_toInt (Nat.lt_of_le_of_lt (Nat.div_le_self a d) ha)]
  first | rfl | exact (Int.natCast_ediv _ _).symm
theorem pk_rem {a d : Nat} (ha : a < 2 ^ 31) (h0 : 0 < d) (hd : d < 2 ^ 31) : nI a - nI a / nI d * nI d = nI (a % d) := by
  rw [pk_div ha h0 hd, pk_mul, pk_sub (Nat.div_mul_le_self a d)]
  exact congrArg nI (by have := Nat.div_add_mod' a d; omega)
theorem pk_sub_toInt {a b : Nat} (ha : a < 2 ^ 30) (hb : b < 2 ^ 30) : (nI a - nI b).toInt = (a : Int) - b := by
  rw [Int32.toInt_sub, nI_toInt (by omega), nI_toInt (by omega)]
  exact Int.bmod_eq_of_le (by omega) (by omega)
theorem pk_sneg {a b : Nat} (hb : b < 2 ^ 30) (h : a < b) : nI a - nI b < 0 := by
  rw [Int32.lt_iff_toInt_lt, pk_sub_toInt (by omega) hb, show (0 : Int32).toInt = 0 from by decide]
  omega
theorem pk_ix (x : Int32) {n : Nat} (hn : n < 2 ^ 31) : x < 0 ∨ nI n ≤ x ∨ ∃ j : Nat, j < n ∧ x = nI j := by
  by_cases h : x < 0
  · exact Or.inl h
  · obtain ⟨j, hj, rfl⟩ := nI_of h
    by_cases h2 : j < n
    · exact Or.inr (Or.inr ⟨j, h2, rfl⟩)
    · exact Or.inr (Or.inl (nI_le (by omega) hj))
theorem pk_le {x y : Int32} {A B : Prop} (a b : Nat) (f : a ≤ b → A) (g : b < a → B) (hx : x = nI a := by rfl) (hy : y = nI b := by rfl) (ha : a < 2 ^ 31 := by omega) (hb : b < 2 ^ 31 := by omega) : (x ≤ y → A) ∧ (¬ x ≤ y → B) := by
  subst hx hy
  rw [nI_leI ha hb]
  exact ⟨f, fun z => g (by omega)⟩
theorem pk_lt {x y : Int32} {A B : Prop} (a b : Nat) (f : a < b → A) (g : b ≤ a → B) (hx : x = nI a := by rfl) (hy : y = nI b := by rfl) (ha : a < 2 ^ 31 := by omega) (hb : b < 2 ^ 31 := by omega) : (x < y → A) ∧ (¬ x < y → B) := by
  subst hx hy
  rw [nI_ltI ha hb]
  exact ⟨f, fun z => g (by omega)⟩
theorem pk_eq {x y : Int32} {A B : Prop} (a b : Nat) (f : a = b → A) (g : a ≠ b → B) (hx : x = nI a := by rfl) (hy : y = nI b := by rfl) (ha : a < 2 ^ 31 := by omega) (hb : b < 2 ^ 31 := by omega) : (x = y → A) ∧ (¬ x = y → B) := by
  subst hx hy
  rw [nI_eq ha hb]
  exact ⟨f, g⟩
theorem pk_in {x : Int32} (n N : Nat) (h : n < N) (hx : x = nI n := by rfl) (hN : N < 2 ^ 31 := by omega) : vp_in x N := by
  subst hx
  exact vp_in_nI h hN
theorem pk_cl {x : Int32} (n : Nat) (hx : x = nI n := by rfl) (h : n < 2 ^ 31 := by omega) : x.toNatClampNeg = n := by
  subst hx
  exact nI_clamp h
theorem pk_tn {n : Nat} (h : n < 2 ^ 32) : (nI n).toBitVec.toNat = n := Nat.mod_eq_of_lt h
theorem pk_and (x : Int32) {m : Int32} (k : Nat) (hm : m.toBitVec.toNat = 2 ^ k - 1) : x &&& m = nI (x.toBitVec.toNat % 2 ^ k) := by
  apply Int32.toBitVec_inj.mp
  apply BitVec.eq_of_toNat_eq
  rw [Int32.toBitVec_and, BitVec.toNat_and, hm, Nat.and_two_pow_sub_one_eq_mod]
  show _ = (BitVec.ofNat 32 _).toNat
  rw [BitVec.toNat_ofNat]
  exact (Nat.mod_eq_of_lt (Nat.lt_of_le_of_lt (Nat.mod_le _ _) x.toBitVec.isLt)).symm
theorem pk_andN {n : Nat} (h : n < 2 ^ 32) {m : Int32} (k : Nat) (hm : m.toBitVec.toNat = 2 ^ k - 1) : nI n &&& m = nI (n % 2 ^ k) := by
  rw [pk_and _ k hm, pk_tn h]
theorem pk_andE (x : Int32) {m : Int32} (k : Nat) (hm : m.toBitVec.toNat = 2 ^ k - 1) : ∃ j : Nat, j < 2 ^ k ∧ x &&& m = nI j := ⟨_, Nat.mod_lt _ (Nat.two_pow_pos k), pk_and x k hm⟩
theorem pk_andIn (x : Int32) {m : Int32} (k : Nat) (hm : m.toBitVec.toNat = 2 ^ k - 1) (hk : k ≤ 30) : vp_in (x &&& m) (2 ^ k) := by
  obtain ⟨j, hj, e⟩ := pk_andE x k hm
  rw [e]
  exact vp_in_nI hj (Nat.lt_of_le_of_lt (Nat.pow_le_pow_right (by decide) hk) (by decide))
theorem pk_shl (a s : Int32) (k : Nat) (hs : (s.toBitVec.smod 32).toNat = k) : (a <<< s).toBitVec.toNat = a.toBitVec.toNat * 2 ^ k % 2 ^ 32 := by
  show (a.toBitVec <<< (s.toBitVec.smod 32).toNat).toNat = _
  rw [hs, BitVec.toNat_shiftLeft, Nat.shiftLeft_eq]
theorem pk_shlN {n : Nat} (s : Int32) (k : Nat) (hs : (s.toBitVec.smod 32).toNat = k) (h : n * 2 ^ k < 2 ^ 32) : nI n <<< s = nI (n * 2 ^ k) := by
  apply Int32.toBitVec_inj.mp
  apply BitVec.eq_of_toNat_eq
  have hn : n < 2 ^ 32 := Nat.lt_of_le_of_lt (Nat.le_mul_of_pos_right n (Nat.two_pow_pos k)) h
  rw [pk_shl _ _ k hs, pk_tn hn, pk_tn h, Nat.mod_eq_of_lt h]
theorem pk_shr (a s : Int32) (k : Nat) (hs : (s.toBitVec.smod 32).toNat = k) : (a >>> s).toInt = a.toInt >>> k := by
  show (a.toBitVec.sshiftRight (s.toBitVec.smod 32).toNat).toInt = _
  rw [hs, BitVec.toInt_sshiftRight]
  rfl
theorem pk_shrN {n : Nat} (h : n < 2 ^ 31) (s : Int32) (k : Nat) (hs : (s.toBitVec.smod 32).toNat = k) : nI n >>> s = nI (n / 2 ^ k) := by
  apply Int32.toInt_inj.mp
  have h2 : n / 2 ^ k ≤ n := Nat.div_le_self _ _
  rw [pk_shr _ _ k hs, nI_toInt h, nI_toInt (by omega), Int.shiftRight_eq_div_pow]
  rfl
theorem pk_ushr (x s : Int32) (k : Nat) (hs : ((s.toUInt32 &&& Int32.toUInt32 31).toBitVec % 32).toNat = k) : (x.toUInt32 >>> (s.toUInt32 &&& Int32.toUInt32 31)).toInt32.toBitVec.toNat = x.toBitVec.toNat / 2 ^ k := by
  have e : (x.toUInt32 >>> (s.toUInt32 &&& Int32.toUInt32 31)).toInt32.toBitVec = x.toBitVec >>> k := by
    rw [← hs]
    exact UInt32.toBitVec_shiftRight _ _
  rw [e, BitVec.toNat_ushiftRight, Nat.shiftRight_eq_div_pow]
theorem pk_ushrN {n : Nat} (hn : n < 2 ^ 32) (s : Int32) (k : Nat) (hs : ((s.toUInt32 &&& Int32.toUInt32 31).toBitVec % 32).toNat = k) : ((nI n).toUInt32 >>> (s.toUInt32 &&& Int32.toUInt32 31)).toInt32 = nI (n / 2 ^ k) := by
  apply Int32.toBitVec_inj.mp
  apply BitVec.eq_of_toNat_eq
  rw [pk_ushr _ s k hs, pk_tn hn, pk_tn (Nat.lt_of_le_of_lt (Nat.div_le_self _ _) hn)]
theorem pk_nb (z : Int32) : narrow .byte (.int z.toInt8.toInt32) = .int z.toInt8.toInt32 := congrArg Value.int (by simp)
theorem pk_ns (z : Int32) : narrow .short (.int z.toInt16.toInt32) = .int z.toInt16.toInt32 := congrArg Value.int (by simp)
theorem pk_fb (r : Int32) : fits .byte (.int r.toInt8.toInt32) = true := by
  have ⟨a, b⟩ := lg_i2b_range r
  have h1 : (-128 : Int32).toInt = -128 := by decide
  have h2 : (127 : Int32).toInt = 127 := by decide
  simp only [fits, Bool.and_eq_true, decide_eq_true_eq, Int32.le_iff_toInt_le, h1, h2]
  omega
theorem pk_fs (r : Int32) : fits .short (.int r.toInt16.toInt32) = true := by
  have ⟨a, b⟩ := lg_i2s_range r
  have h1 : (-32768 : Int32).toInt = -32768 := by decide
  have h2 : (32767 : Int32).toInt = 32767 := by decide
  simp only [fits, Bool.and_eq_true, decide_eq_true_eq, Int32.le_iff_toInt_le, h1, h2]
  omega
theorem pk_charN {q : Nat} (hq : q < 65536) : narrow .char (.int (nI q)) = .int (nI q) ∧ fits .char (.int (nI q)) = true := by
  constructor
  · have e : (nI q).toUInt32.toUInt16.toUInt32.toInt32 = nI q := by
      apply Int32.toBitVec_inj.mp
      apply BitVec.eq_of_toNat_eq
      show (nI q).toUInt32.toUInt16.toUInt32.toNat = q % 2 ^ 32
      rw [UInt16.toNat_toUInt32, UInt32.toNat_toUInt16, show (nI q).toUInt32.toNat = q % 2 ^ 32 from rfl]
      omega
    exact congrArg Value.int e
  · have a : (0 : Int32) ≤ nI q := nI_pos' (by omega)
    have b : nI q ≤ 65535 := nI_le (b := 65535) (by omega) (by decide)
    show (decide ((0 : Int32) ≤ nI q) && decide (nI q ≤ 65535)) = true
    rw [decide_eq_true a, decide_eq_true b]
    rfl
theorem pk_char (x : Int32) : (x.toUInt32 % 65536).toInt32 = nI (x.toBitVec.toNat % 65536) := by
  apply Int32.toBitVec_inj.mp
  apply BitVec.eq_of_toNat_eq
  rw [pk_tn (by omega)]
  show (x.toUInt32 % 65536).toNat = _
  rw [UInt32.toNat_mod]
  rfl
theorem pk_nc (x : Int32) : narrow .char (.int (x.toUInt32 % 65536).toInt32) = .int (x.toUInt32 % 65536).toInt32 := by
  rw [pk_char]
  exact (pk_charN (Nat.mod_lt _ (by decide))).1
theorem pk_fc (x : Int32) : fits .char (.int (x.toUInt32 % 65536).toInt32) = true := by
  rw [pk_char]
  exact (pk_charN (Nat.mod_lt _ (by decide))).2
theorem pk_vb (z : Int32) : vp_nar .byte z.toInt8.toInt32 = z.toInt8.toInt32 := by rw [vp_nar_byte]; simp
theorem pk_vs (z : Int32) : vp_nar .short z.toInt16.toInt32 = z.toInt16.toInt32 := by rw [vp_nar_short]; simp
theorem pk_vc (z : Int32) : vp_nar .char (z.toUInt32 % 65536).toInt32 = (z.toUInt32 % 65536).toInt32 := Value.int.inj (pk_nc z)
theorem pk_lT {n : Nat} (h : n < 2 ^ 63) : (lN n).toInt = (n : Int) := lg_ofNat_toInt h
theorem pk_lLT {a b : Nat} (ha : a < 2 ^ 63) (hb : b < 2 ^ 63) : lN a < lN b ↔ a < b := by
  rw [Int64.lt_iff_toInt_lt, pk_lT ha, pk_lT hb]; omega
theorem pk_lLE {a b : Nat} (ha : a < 2 ^ 63) (hb : b < 2 ^ 63) : lN a ≤ lN b ↔ a ≤ b := by
  rw [Int64.le_iff_toInt_le, pk_lT ha, pk_lT hb]; omega
theorem pk_lEQ {a b : Nat} (ha : a < 2 ^ 63) (hb : b < 2 ^ 63) : lN a = lN b ↔ a = b := by
  rw [← Int64.toInt_inj, pk_lT ha, pk_lT hb]; omega
theorem pk_lOf {x : Int64} (h : ¬ x < 0) : ∃ k : Nat, k < 2 ^ 63 ∧ x = lN k := by
  rw [Int64.lt_iff_toInt_lt] at h
  have h0 : (0 : Int64).toInt = 0 := by decide
  have hx := Int64.toInt_lt x
  refine ⟨x.toInt.toNat, by omega, Int64.toInt_inj.mp ?_⟩
  rw [pk_lT (by omega)]
  omega
theorem pk_lDiv {a b : Nat} (ha : a < 2 ^ 63) (h0 : 0 < b) (hb : b < 2 ^ 63) : lN a / lN b = lN (a / b) := by
  apply Int64.toInt_inj.mp
  rw [lg_ldiv_nonneg (by rw [pk_lT ha]; omega) (by rw [pk_lT hb]; omega), pk_lT ha, pk_lT hb, pk_lT (Nat.lt_of_le_of_lt (Nat.div_le_self a b) ha)]
  rfl
theorem pk_lRem {a b : Nat} (ha : a < 2 ^ 63) (h0 : 0 < b) (hb : b < 2 ^ 63) : lN a - lN a / lN b * lN b = lN (a % b) := by
  rw [pk_lDiv ha h0 hb, lN_mul, lN_sub (Nat.div_mul_le_self a b)]
  exact congrArg lN (by have := Nat.div_add_mod' a b; omega)
theorem pk_loop {σ : Type} (W : Nat → Nat → σ → Prop) (I : Nat → σ → Prop) (e i0 : Nat) (s : σ) (hi : i0 ≤ e) (h0 : I i0 s) (hx : ∀ n s, I e s → W (n + 1) e s)
    (hs : ∀ n i s, i < e → I i s → (∀ s', I (i + 1) s' → W n (i + 1) s') → W (n + 1) i s) : ∃ n, W n i0 s :=
  ⟨e + 1, loop_i W I e hx hs (e + 1) i0 s hi (by omega) h0⟩
theorem pk_loopD {σ : Type} (W : Nat → Nat → σ → Prop) (I : Nat → σ → Prop) (hx : ∀ n s, I 0 s → W (n + 1) 0 s)
    (hs : ∀ n i s, I (i + 1) s → (∀ s', I i s' → W n i s') → W (n + 1) (i + 1) s) : ∀ (e : Nat) (s : σ), I e s → W (e + 1) e s := by
  intro e
  induction e with
  | zero => exact fun s h => hx 0 s h
  | succ e ih => exact fun s h => hs (e + 1) e s h (fun s' h' => ih s' h')
theorem lp1 {A1 : Type} (W : Nat → A1 → Prop) (I : A1 → Prop) (μ : A1 → Nat) (hs : ∀ (n : Nat) (a1 : A1), I a1 → (∀ (b1 : A1), I b1 → μ b1 < μ a1 → W n b1) → W (n + 1) a1) (a1 : A1) (h : I a1) : ∃ n, W n a1 :=
  loop_m (σ := A1) (fun n s => W n s) (fun s => I s) (fun s => μ s) (fun n s hI hk => hs n s hI (fun b1 h9 hm => hk b1 h9 hm)) a1 h
theorem lp2 {A1 A2 : Type} (W : Nat → A1 → A2 → Prop) (I : A1 → A2 → Prop) (μ : A1 → A2 → Nat) (hs : ∀ (n : Nat) (a1 : A1) (a2 : A2), I a1 a2 → (∀ (b1 : A1) (b2 : A2), I b1 b2 → μ b1 b2 < μ a1 a2 → W n b1 b2) → W (n + 1) a1 a2) (a1 : A1) (a2 : A2) (h : I a1 a2) : ∃ n, W n a1 a2 :=
  loop_m (σ := A1 × A2) (fun n s => W n s.1 s.2) (fun s => I s.1 s.2) (fun s => μ s.1 s.2) (fun n s hI hk => hs n s.1 s.2 hI (fun b1 b2 h9 hm => hk (b1, b2) h9 hm)) (a1, a2) h
theorem lp3 {A1 A2 A3 : Type} (W : Nat → A1 → A2 → A3 → Prop) (I : A1 → A2 → A3 → Prop) (μ : A1 → A2 → A3 → Nat) (hs : ∀ (n : Nat) (a1 : A1) (a2 : A2) (a3 : A3), I a1 a2 a3 → (∀ (b1 : A1) (b2 : A2) (b3 : A3), I b1 b2 b3 → μ b1 b2 b3 < μ a1 a2 a3 → W n b1 b2 b3) → W (n + 1) a1 a2 a3) (a1 : A1) (a2 : A2) (a3 : A3) (h : I a1 a2 a3) : ∃ n, W n a1 a2 a3 :=
  loop_m (σ := A1 × A2 × A3) (fun n s => W n s.1 s.2.1 s.2.2) (fun s => I s.1 s.2.1 s.2.2) (fun s => μ s.1 s.2.1 s.2.2) (fun n s hI hk => hs n s.1 s.2.1 s.2.2 hI (fun b1 b2 b3 h9 hm => hk (b1, b2, b3) h9 hm)) (a1, a2, a3) h
theorem lp4 {A1 A2 A3 A4 : Type} (W : Nat → A1 → A2 → A3 → A4 → Prop) (I : A1 → A2 → A3 → A4 → Prop) (μ : A1 → A2 → A3 → A4 → Nat) (hs : ∀ (n : Nat) (a1 : A1) (a2 : A2) (a3 : A3) (a4 : A4), I a1 a2 a3 a4 → (∀ (b1 : A1) (b2 : A2) (b3 : A3) (b4 : A4), I b1 b2 b3 b4 → μ b1 b2 b3 b4 < μ a1 a2 a3 a4 → W n b1 b2 b3 b4) → W (n + 1) a1 a2 a3 a4) (a1 : A1) (a2 : A2) (a3 : A3) (a4 : A4) (h : I a1 a2 a3 a4) : ∃ n, W n a1 a2 a3 a4 :=
  loop_m (σ := A1 × A2 × A3 × A4) (fun n s => W n s.1 s.2.1 s.2.2.1 s.2.2.2) (fun s => I s.1 s.2.1 s.2.2.1 s.2.2.2) (fun s => μ s.1 s.2.1 s.2.2.1 s.2.2.2) (fun n s hI hk => hs n s.1 s.2.1 s.2.2.1 s.2.2.2 hI (fun b1 b2 b3 b4 h9 hm => hk (b1, b2, b3, b4) h9 hm)) (a1, a2, a3, a4) h
theorem lp5 {A1 A2 A3 A4 A5 : Type} (W : Nat → A1 → A2 → A3 → A4 → A5 → Prop) (I : A1 → A2 → A3 → A4 → A5 → Prop) (μ : A1 → A2 → A3 → A4 → A5 → Nat) (hs : ∀ (n : Nat) (a1 : A1) (a2 : A2) (a3 : A3) (a4 : A4) (a5 : A5), I a1 a2 a3 a4 a5 → (∀ (b1 : A1) (b2 : A2) (b3 : A3) (b4 : A4) (b5 : A5), I b1 b2 b3 b4 b5 → μ b1 b2 b3 b4 b5 < μ a1 a2 a3 a4 a5 → W n b1 b2 b3 b4 b5) → W (n + 1) a1 a2 a3 a4 a5) (a1 : A1) (a2 : A2) (a3 : A3) (a4 : A4) (a5 : A5) (h : I a1 a2 a3 a4 a5) : ∃ n, W n a1 a2 a3 a4 a5 :=
  loop_m (σ := A1 × A2 × A3 × A4 × A5) (fun n s => W n s.1 s.2.1 s.2.2.1 s.2.2.2.1 s.2.2.2.2) (fun s => I s.1 s.2.1 s.2.2.1 s.2.2.2.1 s.2.2.2.2) (fun s => μ s.1 s.2.1 s.2.2.1 s.2.2.2.1 s.2.2.2.2) (fun n s hI hk => hs n s.1 s.2.1 s.2.2.1 s.2.2.2.1 s.2.2.2.2 hI (fun b1 b2 b3 b4 b5 h9 hm => hk (b1, b2, b3, b4, b5) h9 hm)) (a1, a2, a3, a4, a5) h
theorem lp6 {A1 A2 A3 A4 A5 A6 : Type} (W : Nat → A1 → A2 → A3 → A4 → A5 → A6 → Prop) (I : A1 → A2 → A3 → A4 → A5 → A6 → Prop) (μ : A1 → A2 → A3 → A4 → A5 → A6 → Nat) (hs : ∀ (n : Nat) (a1 : A1) (a2 : A2) (a3 : A3) (a4 : A4) (a5 : A5) (a6 : A6), I a1 a2 a3 a4 a5 a6 → (∀ (b1 : A1) (b2 : A2) (b3 : A3) (b4 : A4) (b5 : A5) (b6 : A6), I b1 b2 b3 b4 b5 b6 → μ b1 b2 b3 b4 b5 b6 < μ a1 a2 a3 a4 a5 a6 → W n b1 b2 b3 b4 b5 b6) → W (n + 1) a1 a2 a3 a4 a5 a6) (a1 : A1) (a2 : A2) (a3 : A3) (a4 : A4) (a5 : A5) (a6 : A6) (h : I a1 a2 a3 a4 a5 a6) : ∃ n, W n a1 a2 a3 a4 a5 a6 :=
  loop_m (σ := A1 × A2 × A3 × A4 × A5 × A6) (fun n s => W n s.1 s.2.1 s.2.2.1 s.2.2.2.1 s.2.2.2.2.1 s.2.2.2.2.2) (fun s => I s.1 s.2.1 s.2.2.1 s.2.2.2.1 s.2.2.2.2.1 s.2.2.2.2.2) (fun s => μ s.1 s.2.1 s.2.2.1 s.2.2.2.1 s.2.2.2.2.1 s.2.2.2.2.2) (fun n s hI hk => hs n s.1 s.2.1 s.2.2.1 s.2.2.2.1 s.2.2.2.2.1 s.2.2.2.2.2 hI (fun b1 b2 b3 b4 b5 b6 h9 hm => hk (b1, b2, b3, b4, b5, b6) h9 hm)) (a1, a2, a3, a4, a5, a6) h
theorem lp7 {A1 A2 A3 A4 A5 A6 A7 : Type} (W : Nat → A1 → A2 → A3 → A4 → A5 → A6 → A7 → Prop) (I : A1 → A2 → A3 → A4 → A5 → A6 → A7 → Prop) (μ : A1 → A2 → A3 → A4 → A5 → A6 → A7 → Nat) (hs : ∀ (n : Nat) (a1 : A1) (a2 : A2) (a3 : A3) (a4 : A4) (a5 : A5) (a6 : A6) (a7 : A7), I a1 a2 a3 a4 a5 a6 a7 → (∀ (b1 : A1) (b2 : A2) (b3 : A3) (b4 : A4) (b5 : A5) (b6 : A6) (b7 : A7), I b1 b2 b3 b4 b5 b6 b7 → μ b1 b2 b3 b4 b5 b6 b7 < μ a1 a2 a3 a4 a5 a6 a7 → W n b1 b2 b3 b4 b5 b6 b7) → W (n + 1) a1 a2 a3 a4 a5 a6 a7) (a1 : A1) (a2 : A2) (a3 : A3) (a4 : A4) (a5 : A5) (a6 : A6) (a7 : A7) (h : I a1 a2 a3 a4 a5 a6 a7) : ∃ n, W n a1 a2 a3 a4 a5 a6 a7 :=
  loop_m (σ := A1 × A2 × A3 × A4 × A5 × A6 × A7) (fun n s => W n s.1 s.2.1 s.2.2.1 s.2.2.2.1 s.2.2.2.2.1 s.2.2.2.2.2.1 s.2.2.2.2.2.2) (fun s => I s.1 s.2.1 s.2.2.1 s.2.2.2.1 s.2.2.2.2.1 s.2.2.2.2.2.1 s.2.2.2.2.2.2) (fun s => μ s.1 s.2.1 s.2.2.1 s.2.2.2.1 s.2.2.2.2.1 s.2.2.2.2.2.1 s.2.2.2.2.2.2) (fun n s hI hk => hs n s.1 s.2.1 s.2.2.1 s.2.2.2.1 s.2.2.2.2.1 s.2.2.2.2.2.1 s.2.2.2.2.2.2 hI (fun b1 b2 b3 b4 b5 b6 b7 h9 hm => hk (b1, b2, b3, b4, b5, b6, b7) h9 hm)) (a1, a2, a3, a4, a5, a6, a7) h
theorem lp8 {A1 A2 A3 A4 A5 A6 A7 A8 : Type} (W : Nat → A1 → A2 → A3 → A4 → A5 → A6 → A7 → A8 → Prop) (I : A1 → A2 → A3 → A4 → A5 → A6 → A7 → A8 → Prop) (μ : A1 → A2 → A3 → A4 → A5 → A6 → A7 → A8 → Nat) (hs : ∀ (n : Nat) (a1 : A1) (a2 : A2) (a3 : A3) (a4 : A4) (a5 : A5) (a6 : A6) (a7 : A7) (a8 : A8), I a1 a2 a3 a4 a5 a6 a7 a8 → (∀ (b1 : A1) (b2 : A2) (b3 : A3) (b4 : A4) (b5 : A5) (b6 : A6) (b7 : A7) (b8 : A8), I b1 b2 b3 b4 b5 b6 b7 b8 → μ b1 b2 b3 b4 b5 b6 b7 b8 < μ a1 a2 a3 a4 a5 a6 a7 a8 → W n b1 b2 b3 b4 b5 b6 b7 b8) → W (n + 1) a1 a2 a3 a4 a5 a6 a7 a8) (a1 : A1) (a2 : A2) (a3 : A3) (a4 : A4) (a5 : A5) (a6 : A6) (a7 : A7) (a8 : A8) (h : I a1 a2 a3 a4 a5 a6 a7 a8) : ∃ n, W n a1 a2 a3 a4 a5 a6 a7 a8 :=
  loop_m (σ := A1 × A2 × A3 × A4 × A5 × A6 × A7 × A8) (fun n s => W n s.1 s.2.1 s.2.2.1 s.2.2.2.1 s.2.2.2.2.1 s.2.2.2.2.2.1 s.2.2.2.2.2.2.1 s.2.2.2.2.2.2.2) (fun s => I s.1 s.2.1 s.2.2.1 s.2.2.2.1 s.2.2.2.2.1 s.2.2.2.2.2.1 s.2.2.2.2.2.2.1 s.2.2.2.2.2.2.2) (fun s => μ s.1 s.2.1 s.2.2.1 s.2.2.2.1 s.2.2.2.2.1 s.2.2.2.2.2.1 s.2.2.2.2.2.2.1 s.2.2.2.2.2.2.2) (fun n s hI hk => hs n s.1 s.2.1 s.2.2.1 s.2.2.2.1 s.2.2.2.2.1 s.2.2.2.2.2.1 s.2.2.2.2.2.2.1 s.2.2.2.2.2.2.2 hI (fun b1 b2 b3 b4 b5 b6 b7 b8 h9 hm => hk (b1, b2, b3, b4, b5, b6, b7, b8) h9 hm)) (a1, a2, a3, a4, a5, a6, a7, a8) h
theorem lp9 {A1 A2 A3 A4 A5 A6 A7 A8 A9 : Type} (W : Nat → A1 → A2 → A3 → A4 → A5 → A6 → A7 → A8 → A9 → Prop) (I : A1 → A2 → A3 → A4 → A5 → A6 → A7 → A8 → A9 → Prop) (μ : A1 → A2 → A3 → A4 → A5 → A6 → A7 → A8 → A9 → Nat) (hs : ∀ (n : Nat) (a1 : A1) (a2 : A2) (a3 : A3) (a4 : A4) (a5 : A5) (a6 : A6) (a7 : A7) (a8 : A8) (a9 : A9), I a1 a2 a3 a4 a5 a6 a7 a8 a9 → (∀ (b1 : A1) (b2 : A2) (b3 : A3) (b4 : A4) (b5 : A5) (b6 : A6) (b7 : A7) (b8 : A8) (b9 : A9), I b1 b2 b3 b4 b5 b6 b7 b8 b9 → μ b1 b2 b3 b4 b5 b6 b7 b8 b9 < μ a1 a2 a3 a4 a5 a6 a7 a8 a9 → W n b1 b2 b3 b4 b5 b6 b7 b8 b9) → W (n + 1) a1 a2 a3 a4 a5 a6 a7 a8 a9) (a1 : A1) (a2 : A2) (a3 : A3) (a4 : A4) (a5 : A5) (a6 : A6) (a7 : A7) (a8 : A8) (a9 : A9) (h : I a1 a2 a3 a4 a5 a6 a7 a8 a9) : ∃ n, W n a1 a2 a3 a4 a5 a6 a7 a8 a9 :=
  loop_m (σ := A1 × A2 × A3 × A4 × A5 × A6 × A7 × A8 × A9) (fun n s => W n s.1 s.2.1 s.2.2.1 s.2.2.2.1 s.2.2.2.2.1 s.2.2.2.2.2.1 s.2.2.2.2.2.2.1 s.2.2.2.2.2.2.2.1 s.2.2.2.2.2.2.2.2) (fun s => I s.1 s.2.1 s.2.2.1 s.2.2.2.1 s.2.2.2.2.1 s.2.2.2.2.2.1 s.2.2.2.2.2.2.1 s.2.2.2.2.2.2.2.1 s.2.2.2.2.2.2.2.2) (fun s => μ s.1 s.2.1 s.2.2.1 s.2.2.2.1 s.2.2.2.2.1 s.2.2.2.2.2.1 s.2.2.2.2.2.2.1 s.2.2.2.2.2.2.2.1 s.2.2.2.2.2.2.2.2) (fun n s hI hk => hs n s.1 s.2.1 s.2.2.1 s.2.2.2.1 s.2.2.2.2.1 s.2.2.2.2.2.1 s.2.2.2.2.2.2.1 s.2.2.2.2.2.2.2.1 s.2.2.2.2.2.2.2.2 hI (fun b1 b2 b3 b4 b5 b6 b7 b8 b9 h9 hm => hk (b1, b2, b3, b4, b5, b6, b7, b8, b9) h9 hm)) (a1, a2, a3, a4, a5, a6, a7, a8, a9) h
theorem lp10 {A1 A2 A3 A4 A5 A6 A7 A8 A9 A10 : Type} (W : Nat → A1 → A2 → A3 → A4 → A5 → A6 → A7 → A8 → A9 → A10 → Prop) (I : A1 → A2 → A3 → A4 → A5 → A6 → A7 → A8 → A9 → A10 → Prop) (μ : A1 → A2 → A3 → A4 → A5 → A6 → A7 → A8 → A9 → A10 → Nat) (hs : ∀ (n : Nat) (a1 : A1) (a2 : A2) (a3 : A3) (a4 : A4) (a5 : A5) (a6 : A6) (a7 : A7) (a8 : A8) (a9 : A9) (a10 : A10), I a1 a2 a3 a4 a5 a6 a7 a8 a9 a10 → (∀ (b1 : A1) (b2 : A2) (b3 : A3) (b4 : A4) (b5 : A5) (b6 : A6) (b7 : A7) (b8 : A8) (b9 : A9) (b10 : A10), I b1 b2 b3 b4 b5 b6 b7 b8 b9 b10 → μ b1 b2 b3 b4 b5 b6 b7 b8 b9 b10 < μ a1 a2 a3 a4 a5 a6 a7 a8 a9 a10 → W n b1 b2 b3 b4 b5 b6 b7 b8 b9 b10) → W (n + 1) a1 a2 a3 a4 a5 a6 a7 a8 a9 a10) (a1 : A1) (a2 : A2) (a3 : A3) (a4 : A4) (a5 : A5) (a6 : A6) (a7 : A7) (a8 : A8) (a9 : A9) (a10 : A10) (h : I a1 a2 a3 a4 a5 a6 a7 a8 a9 a10) : ∃ n, W n a1 a2 a3 a4 a5 a6 a7 a8 a9 a10 :=
  loop_m (σ := A1 × A2 × A3 × A4 × A5 × A6 × A7 × A8 × A9 × A10) (fun n s => W n s.1 s.2.1 s.2.2.1 s.2.2.2.1 s.2.2.2.2.1 s.2.2.2.2.2.1 s.2.2.2.2.2.2.1 s.2.2.2.2.2.2.2.1 s.2.2.2.2.2.2.2.2.1 s.2.2.2.2.2.2.2.2.2) (fun s => I s.1 s.2.1 s.2.2.1 s.2.2.2.1 s.2.2.2.2.1 s.2.2.2.2.2.1 s.2.2.2.2.2.2.1 s.2.2.2.2.2.2.2.1 s.2.2.2.2.2.2.2.2.1 s.2.2.2.2.2.2.2.2.2) (fun s => μ s.1 s.2.1 s.2.2.1 s.2.2.2.1 s.2.2.2.2.1 s.2.2.2.2.2.1 s.2.2.2.2.2.2.1 s.2.2.2.2.2.2.2.1 s.2.2.2.2.2.2.2.2.1 s.2.2.2.2.2.2.2.2.2) (fun n s hI hk => hs n s.1 s.2.1 s.2.2.1 s.2.2.2.1 s.2.2.2.2.1 s.2.2.2.2.2.1 s.2.2.2.2.2.2.1 s.2.2.2.2.2.2.2.1 s.2.2.2.2.2.2.2.2.1 s.2.2.2.2.2.2.2.2.2 hI (fun b1 b2 b3 b4 b5 b6 b7 b8 b9 b10 h9 hm => hk (b1, b2, b3, b4, b5, b6, b7, b8, b9, b10) h9 hm)) (a1, a2, a3, a4, a5, a6, a7, a8, a9, a10) h
theorem lp11 {A1 A2 A3 A4 A5 A6 A7 A8 A9 A10 A11 : Type} (W : Nat → A1 → A2 → A3 → A4 → A5 → A6 → A7 → A8 → A9 → A10 → A11 → Prop) (I : A1 → A2 → A3 → A4 → A5 → A6 → A7 → A8 → A9 → A10 → A11 → Prop) (μ : A1 → A2 → A3 → A4 → A5 → A6 → A7 → A8 → A9 → A10 → A11 → Nat) (hs : ∀ (n : Nat) (a1 : A1) (a2 : A2) (a3 : A3) (a4 : A4) (a5 : A5) (a6 : A6) (a7 : A7) (a8 : A8) (a9 : A9) (a10 : A10) (a11 : A11), I a1 a2 a3 a4 a5 a6 a7 a8 a9 a10 a11 → (∀ (b1 : A1) (b2 : A2) (b3 : A3) (b4 : A4) (b5 : A5) (b6 : A6) (b7 : A7) (b8 : A8) (b9 : A9) (b10 : A10) (b11 : A11), I b1 b2 b3 b4 b5 b6 b7 b8 b9 b10 b11 → μ b1 b2 b3 b4 b5 b6 b7 b8 b9 b10 b11 < μ a1 a2 a3 a4 a5 a6 a7 a8 a9 a10 a11 → W n b1 b2 b3 b4 b5 b6 b7 b8 b9 b10 b11) → W (n + 1) a1 a2 a3 a4 a5 a6 a7 a8 a9 a10 a11) (a1 : A1) (a2 : A2) (a3 : A3) (a4 : A4) (a5 : A5) (a6 : A6) (a7 : A7) (a8 : A8) (a9 : A9) (a10 : A10) (a11 : A11) (h : I a1 a2 a3 a4 a5 a6 a7 a8 a9 a10 a11) : ∃ n, W n a1 a2 a3 a4 a5 a6 a7 a8 a9 a10 a11 :=
  loop_m (σ := A1 × A2 × A3 × A4 × A5 × A6 × A7 × A8 × A9 × A10 × A11) (fun n s => W n s.1 s.2.1 s.2.2.1 s.2.2.2.1 s.2.2.2.2.1 s.2.2.2.2.2.1 s.2.2.2.2.2.2.1 s.2.2.2.2.2.2.2.1 s.2.2.2.2.2.2.2.2.1 s.2.2.2.2.2.2.2.2.2.1 s.2.2.2.2.2.2.2.2.2.2) (fun s => I s.1 s.2.1 s.2.2.1 s.2.2.2.1 s.2.2.2.2.1 s.2.2.2.2.2.1 s.2.2.2.2.2.2.1 s.2.2.2.2.2.2.2.1 s.2.2.2.2.2.2.2.2.1 s.2.2.2.2.2.2.2.2.2.1 s.2.2.2.2.2.2.2.2.2.2) (fun s => μ s.1 s.2.1 s.2.2.1 s.2.2.2.1 s.2.2.2.2.1 s.2.2.2.2.2.1 s.2.2.2.2.2.2.1 s.2.2.2.2.2.2.2.1 s.2.2.2.2.2.2.2.2.1 s.2.2.2.2.2.2.2.2.2.1 s.2.2.2.2.2.2.2.2.2.2) (fun n s hI hk => hs n s.1 s.2.1 s.2.2.1 s.2.2.2.1 s.2.2.2.2.1 s.2.2.2.2.2.1 s.2.2.2.2.2.2.1 s.2.2.2.2.2.2.2.1 s.2.2.2.2.2.2.2.2.1 s.2.2.2.2.2.2.2.2.2.1 s.2.2.2.2.2.2.2.2.2.2 hI (fun b1 b2 b3 b4 b5 b6 b7 b8 b9 b10 b11 h9 hm => hk (b1, b2, b3, b4, b5, b6, b7, b8, b9, b10, b11) h9 hm)) (a1, a2, a3, a4, a5, a6, a7, a8, a9, a10, a11) h
theorem lp12 {A1 A2 A3 A4 A5 A6 A7 A8 A9 A10 A11 A12 : Type} (W : Nat → A1 → A2 → A3 → A4 → A5 → A6 → A7 → A8 → A9 → A10 → A11 → A12 → Prop) (I : A1 → A2 → A3 → A4 → A5 → A6 → A7 → A8 → A9 → A10 → A11 → A12 → Prop) (μ : A1 → A2 → A3 → A4 → A5 → A6 → A7 → A8 → A9 → A10 → A11 → A12 → Nat) (hs : ∀ (n : Nat) (a1 : A1) (a2 : A2) (a3 : A3) (a4 : A4) (a5 : A5) (a6 : A6) (a7 : A7) (a8 : A8) (a9 : A9) (a10 : A10) (a11 : A11) (a12 : A12), I a1 a2 a3 a4 a5 a6 a7 a8 a9 a10 a11 a12 → (∀ (b1 : A1) (b2 : A2) (b3 : A3) (b4 : A4) (b5 : A5) (b6 : A6) (b7 : A7) (b8 : A8) (b9 : A9) (b10 : A10) (b11 : A11) (b12 : A12), I b1 b2 b3 b4 b5 b6 b7 b8 b9 b10 b11 b12 → μ b1 b2 b3 b4 b5 b6 b7 b8 b9 b10 b11 b12 < μ a1 a2 a3 a4 a5 a6 a7 a8 a9 a10 a11 a12 → W n b1 b2 b3 b4 b5 b6 b7 b8 b9 b10 b11 b12) → W (n + 1) a1 a2 a3 a4 a5 a6 a7 a8 a9 a10 a11 a12) (a1 : A1) (a2 : A2) (a3 : A3) (a4 : A4) (a5 : A5) (a6 : A6) (a7 : A7) (a8 : A8) (a9 : A9) (a10 : A10) (a11 : A11) (a12 : A12) (h : I a1 a2 a3 a4 a5 a6 a7 a8 a9 a10 a11 a12) : ∃ n, W n a1 a2 a3 a4 a5 a6 a7 a8 a9 a10 a11 a12 :=
  loop_m (σ := A1 × A2 × A3 × A4 × A5 × A6 × A7 × A8 × A9 × A10 × A11 × A12) (fun n s => W n s.1 s.2.1 s.2.2.1 s.2.2.2.1 s.2.2.2.2.1 s.2.2.2.2.2.1 s.2.2.2.2.2.2.1 s.2.2.2.2.2.2.2.1 s.2.2.2.2.2.2.2.2.1 s.2.2.2.2.2.2.2.2.2.1 s.2.2.2.2.2.2.2.2.2.2.1 s.2.2.2.2.2.2.2.2.2.2.2) (fun s => I s.1 s.2.1 s.2.2.1 s.2.2.2.1 s.2.2.2.2.1 s.2.2.2.2.2.1 s.2.2.2.2.2.2.1 s.2.2.2.2.2.2.2.1 s.2.2.2.2.2.2.2.2.1 s.2.2.2.2.2.2.2.2.2.1 s.2.2.2.2.2.2.2.2.2.2.1 s.2.2.2.2.2.2.2.2.2.2.2) (fun s => μ s.1 s.2.1 s.2.2.1 s.2.2.2.1 s.2.2.2.2.1 s.2.2.2.2.2.1 s.2.2.2.2.2.2.1 s.2.2.2.2.2.2.2.1 s.2.2.2.2.2.2.2.2.1 s.2.2.2.2.2.2.2.2.2.1 s.2.2.2.2.2.2.2.2.2.2.1 s.2.2.2.2.2.2.2.2.2.2.2) (fun n s hI hk => hs n s.1 s.2.1 s.2.2.1 s.2.2.2.1 s.2.2.2.2.1 s.2.2.2.2.2.1 s.2.2.2.2.2.2.1 s.2.2.2.2.2.2.2.1 s.2.2.2.2.2.2.2.2.1 s.2.2.2.2.2.2.2.2.2.1 s.2.2.2.2.2.2.2.2.2.2.1 s.2.2.2.2.2.2.2.2.2.2.2 hI (fun b1 b2 b3 b4 b5 b6 b7 b8 b9 b10 b11 b12 h9 hm => hk (b1, b2, b3, b4, b5, b6, b7, b8, b9, b10, b11, b12) h9 hm)) (a1, a2, a3, a4, a5, a6, a7, a8, a9, a10, a11, a12) h
theorem lp13 {A1 A2 A3 A4 A5 A6 A7 A8 A9 A10 A11 A12 A13 : Type} (W : Nat → A1 → A2 → A3 → A4 → A5 → A6 → A7 → A8 → A9 → A10 → A11 → A12 → A13 → Prop) (I : A1 → A2 → A3 → A4 → A5 → A6 → A7 → A8 → A9 → A10 → A11 → A12 → A13 → Prop) (μ : A1 → A2 → A3 → A4 → A5 → A6 → A7 → A8 → A9 → A10 → A11 → A12 → A13 → Nat) (hs : ∀ (n : Nat) (a1 : A1) (a2 : A2) (a3 : A3) (a4 : A4) (a5 : A5) (a6 : A6) (a7 : A7) (a8 : A8) (a9 : A9) (a10 : A10) (a11 : A11) (a12 : A12) (a13 : A13), I a1 a2 a3 a4 a5 a6 a7 a8 a9 a10 a11 a12 a13 → (∀ (b1 : A1) (b2 : A2) (b3 : A3) (b4 : A4) (b5 : A5) (b6 : A6) (b7 : A7) (b8 : A8) (b9 : A9) (b10 : A10) (b11 : A11) (b12 : A12) (b13 : A13), I b1 b2 b3 b4 b5 b6 b7 b8 b9 b10 b11 b12 b13 → μ b1 b2 b3 b4 b5 b6 b7 b8 b9 b10 b11 b12 b13 < μ a1 a2 a3 a4 a5 a6 a7 a8 a9 a10 a11 a12 a13 → W n b1 b2 b3 b4 b5 b6 b7 b8 b9 b10 b11 b12 b13) → W (n + 1) a1 a2 a3 a4 a5 a6 a7 a8 a9 a10 a11 a12 a13) (a1 : A1) (a2 : A2) (a3 : A3) (a4 : A4) (a5 : A5) (a6 : A6) (a7 : A7) (a8 : A8) (a9 : A9) (a10 : A10) (a11 : A11) (a12 : A12) (a13 : A13) (h : I a1 a2 a3 a4 a5 a6 a7 a8 a9 a10 a11 a12 a13) : ∃ n, W n a1 a2 a3 a4 a5 a6 a7 a8 a9 a10 a11 a12 a13 :=
  loop_m (σ := A1 × A2 × A3 × A4 × A5 × A6 × A7 × A8 × A9 × A10 × A11 × A12 × A13) (fun n s => W n s.1 s.2.1 s.2.2.1 s.2.2.2.1 s.2.2.2.2.1 s.2.2.2.2.2.1 s.2.2.2.2.2.2.1 s.2.2.2.2.2.2.2.1 s.2.2.2.2.2.2.2.2.1 s.2.2.2.2.2.2.2.2.2.1 s.2.2.2.2.2.2.2.2.2.2.1 s.2.2.2.2.2.2.2.2.2.2.2.1 s.2.2.2.2.2.2.2.2.2.2.2.2) (fun s => I s.1 s.2.1 s.2.2.1 s.2.2.2.1 s.2.2.2.2.1 s.2.2.2.2.2.1 s.2.2.2.2.2.2.1 s.2.2.2.2.2.2.2.1 s.2.2.2.2.2.2.2.2.1 s.2.2.2.2.2.2.2.2.2.1 s.2.2.2.2.2.2.2.2.2.2.1 s.2.2.2.2.2.2.2.2.2.2.2.1 s.2.2.2.2.2.2.2.2.2.2.2.2) (fun s => μ s.1 s.2.1 s.2.2.1 s.2.2.2.1 s.2.2.2.2.1 s.2.2.2.2.2.1 s.2.2.2.2.2.2.1 s.2.2.2.2.2.2.2.1 s.2.2.2.2.2.2.2.2.1 s.2.2.2.2.2.2.2.2.2.1 s.2.2.2.2.2.2.2.2.2.2.1 s.2.2.2.2.2.2.2.2.2.2.2.1 s.2.2.2.2.2.2.2.2.2.2.2.2) (fun n s hI hk => hs n s.1 s.2.1 s.2.2.1 s.2.2.2.1 s.2.2.2.2.1 s.2.2.2.2.2.1 s.2.2.2.2.2.2.1 s.2.2.2.2.2.2.2.1 s.2.2.2.2.2.2.2.2.1 s.2.2.2.2.2.2.2.2.2.1 s.2.2.2.2.2.2.2.2.2.2.1 s.2.2.2.2.2.2.2.2.2.2.2.1 s.2.2.2.2.2.2.2.2.2.2.2.2 hI (fun b1 b2 b3 b4 b5 b6 b7 b8 b9 b10 b11 b12 b13 h9 hm => hk (b1, b2, b3, b4, b5, b6, b7, b8, b9, b10, b11, b12, b13) h9 hm)) (a1, a2, a3, a4, a5, a6, a7, a8, a9, a10, a11, a12, a13) h
theorem lp14 {A1 A2 A3 A4 A5 A6 A7 A8 A9 A10 A11 A12 A13 A14 : Type} (W : Nat → A1 → A2 → A3 → A4 → A5 → A6 → A7 → A8 → A9 → A10 → A11 → A12 → A13 → A14 → Prop) (I : A1 → A2 → A3 → A4 → A5 → A6 → A7 → A8 → A9 → A10 → A11 → A12 → A13 → A14 → Prop) (μ : A1 → A2 → A3 → A4 → A5 → A6 → A7 → A8 → A9 → A10 → A11 → A12 → A13 → A14 → Nat) (hs : ∀ (n : Nat) (a1 : A1) (a2 : A2) (a3 : A3) (a4 : A4) (a5 : A5) (a6 : A6) (a7 : A7) (a8 : A8) (a9 : A9) (a10 : A10) (a11 : A11) (a12 : A12) (a13 : A13) (a14 : A14), I a1 a2 a3 a4 a5 a6 a7 a8 a9 a10 a11 a12 a13 a14 → (∀ (b1 : A1) (b2 : A2) (b3 : A3) (b4 : A4) (b5 : A5) (b6 : A6) (b7 : A7) (b8 : A8) (b9 : A9) (b10 : A10) (b11 : A11) (b12 : A12) (b13 : A13) (b14 : A14), I b1 b2 b3 b4 b5 b6 b7 b8 b9 b10 b11 b12 b13 b14 → μ b1 b2 b3 b4 b5 b6 b7 b8 b9 b10 b11 b12 b13 b14 < μ a1 a2 a3 a4 a5 a6 a7 a8 a9 a10 a11 a12 a13 a14 → W n b1 b2 b3 b4 b5 b6 b7 b8 b9 b10 b11 b12 b13 b14) → W (n + 1) a1 a2 a3 a4 a5 a6 a7 a8 a9 a10 a11 a12 a13 a14) (a1 : A1) (a2 : A2) (a3 : A3) (a4 : A4) (a5 : A5) (a6 : A6) (a7 : A7) (a8 : A8) (a9 : A9) (a10 : A10) (a11 : A11) (a12 : A12) (a13 : A13) (a14 : A14) (h : I a1 a2 a3 a4 a5 a6 a7 a8 a9 a10 a11 a12 a13 a14) : ∃ n, W n a1 a2 a3 a4 a5 a6 a7 a8 a9 a10 a11 a12 a13 a14 :=
  loop_m (σ := A1 × A2 × A3 × A4 × A5 × A6 × A7 × A8 × A9 × A10 × A11 × A12 × A13 × A14) (fun n s => W n s.1 s.2.1 s.2.2.1 s.2.2.2.1 s.2.2.2.2.1 s.2.2.2.2.2.1 s.2.2.2.2.2.2.1 s.2.2.2.2.2.2.2.1 s.2.2.2.2.2.2.2.2.1 s.2.2.2.2.2.2.2.2.2.1 s.2.2.2.2.2.2.2.2.2.2.1 s.2.2.2.2.2.2.2.2.2.2.2.1 s.2.2.2.2.2.2.2.2.2.2.2.2.1 s.2.2.2.2.2.2.2.2.2.2.2.2.2) (fun s => I s.1 s.2.1 s.2.2.1 s.2.2.2.1 s.2.2.2.2.1 s.2.2.2.2.2.1 s.2.2.2.2.2.2.1 s.2.2.2.2.2.2.2.1 s.2.2.2.2.2.2.2.2.1 s.2.2.2.2.2.2.2.2.2.1 s.2.2.2.2.2.2.2.2.2.2.1 s.2.2.2.2.2.2.2.2.2.2.2.1 s.2.2.2.2.2.2.2.2.2.2.2.2.1 s.2.2.2.2.2.2.2.2.2.2.2.2.2) (fun s => μ s.1 s.2.1 s.2.2.1 s.2.2.2.1 s.2.2.2.2.1 s.2.2.2.2.2.1 s.2.2.2.2.2.2.1 s.2.2.2.2.2.2.2.1 s.2.2.2.2.2.2.2.2.1 s.2.2.2.2.2.2.2.2.2.1 s.2.2.2.2.2.2.2.2.2.2.1 s.2.2.2.2.2.2.2.2.2.2.2.1 s.2.2.2.2.2.2.2.2.2.2.2.2.1 s.2.2.2.2.2.2.2.2.2.2.2.2.2) (fun n s hI hk => hs n s.1 s.2.1 s.2.2.1 s.2.2.2.1 s.2.2.2.2.1 s.2.2.2.2.2.1 s.2.2.2.2.2.2.1 s.2.2.2.2.2.2.2.1 s.2.2.2.2.2.2.2.2.1 s.2.2.2.2.2.2.2.2.2.1 s.2.2.2.2.2.2.2.2.2.2.1 s.2.2.2.2.2.2.2.2.2.2.2.1 s.2.2.2.2.2.2.2.2.2.2.2.2.1 s.2.2.2.2.2.2.2.2.2.2.2.2.2 hI (fun b1 b2 b3 b4 b5 b6 b7 b8 b9 b10 b11 b12 b13 b14 h9 hm => hk (b1, b2, b3, b4, b5, b6, b7, b8, b9, b10, b11, b12, b13, b14) h9 hm)) (a1, a2, a3, a4, a5, a6, a7, a8, a9, a10, a11, a12, a13, a14) h
theorem lp15 {A1 A2 A3 A4 A5 A6 A7 A8 A9 A10 A11 A12 A13 A14 A15 : Type} (W : Nat → A1 → A2 → A3 → A4 → A5 → A6 → A7 → A8 → A9 → A10 → A11 → A12 → A13 → A14 → A15 → Prop) (I : A1 → A2 → A3 → A4 → A5 → A6 → A7 → A8 → A9 → A10 → A11 → A12 → A13 → A14 → A15 → Prop) (μ : A1 → A2 → A3 → A4 → A5 → A6 → A7 → A8 → A9 → A10 → A11 → A12 → A13 → A14 → A15 → Nat) (hs : ∀ (n : Nat) (a1 : A1) (a2 : A2) (a3 : A3) (a4 : A4) (a5 : A5) (a6 : A6) (a7 : A7) (a8 : A8) (a9 : A9) (a10 : A10) (a11 : A11) (a12 : A12) (a13 : A13) (a14 : A14) (a15 : A15), I a1 a2 a3 a4 a5 a6 a7 a8 a9 a10 a11 a12 a13 a14 a15 → (∀ (b1 : A1) (b2 : A2) (b3 : A3) (b4 : A4) (b5 : A5) (b6 : A6) (b7 : A7) (b8 : A8) (b9 : A9) (b10 : A10) (b11 : A11) (b12 : A12) (b13 : A13) (b14 : A14) (b15 : A15), I b1 b2 b3 b4 b5 b6 b7 b8 b9 b10 b11 b12 b13 b14 b15 → μ b1 b2 b3 b4 b5 b6 b7 b8 b9 b10 b11 b12 b13 b14 b15 < μ a1 a2 a3 a4 a5 a6 a7 a8 a9 a10 a11 a12 a13 a14 a15 → W n b1 b2 b3 b4 b5 b6 b7 b8 b9 b10 b11 b12 b13 b14 b15) → W (n + 1) a1 a2 a3 a4 a5 a6 a7 a8 a9 a10 a11 a12 a13 a14 a15) (a1 : A1) (a2 : A2) (a3 : A3) (a4 : A4) (a5 : A5) (a6 : A6) (a7 : A7) (a8 : A8) (a9 : A9) (a10 : A10) (a11 : A11) (a12 : A12) (a13 : A13) (a14 : A14) (a15 : A15) (h : I a1 a2 a3 a4 a5 a6 a7 a8 a9 a10 a11 a12 a13 a14 a15) : ∃ n, W n a1 a2 a3 a4 a5 a6 a7 a8 a9 a10 a11 a12 a13 a14 a15 :=
  loop_m (σ := A1 × A2 × A3 × A4 × A5 × A6 × A7 × A8 × A9 × A10 × A11 × A12 × A13 × A14 × A15) (fun n s => W n s.1 s.2.1 s.2.2.1 s.2.2.2.1 s.2.2.2.2.1 s.2.2.2.2.2.1 s.2.2.2.2.2.2.1 s.2.2.2.2.2.2.2.1 s.2.2.2.2.2.2.2.2.1 s.2.2.2.2.2.2.2.2.2.1 s.2.2.2.2.2.2.2.2.2.2.1 s.2.2.2.2.2.2.2.2.2.2.2.1 s.2.2.2.2.2.2.2.2.2.2.2.2.1 s.2.2.2.2.2.2.2.2.2.2.2.2.2.1 s.2.2.2.2.2.2.2.2.2.2.2.2.2.2) (fun s => I s.1 s.2.1 s.2.2.1 s.2.2.2.1 s.2.2.2.2.1 s.2.2.2.2.2.1 s.2.2.2.2.2.2.1 s.2.2.2.2.2.2.2.1 s.2.2.2.2.2.2.2.2.1 s.2.2.2.2.2.2.2.2.2.1 s.2.2.2.2.2.2.2.2.2.2.1 s.2.2.2.2.2.2.2.2.2.2.2.1 s.2.2.2.2.2.2.2.2.2.2.2.2.1 s.2.2.2.2.2.2.2.2.2.2.2.2.2.1 s.2.2.2.2.2.2.2.2.2.2.2.2.2.2) (fun s => μ s.1 s.2.1 s.2.2.1 s.2.2.2.1 s.2.2.2.2.1 s.2.2.2.2.2.1 s.2.2.2.2.2.2.1 s.2.2.2.2.2.2.2.1 s.2.2.2.2.2.2.2.2.1 s.2.2.2.2.2.2.2.2.2.1 s.2.2.2.2.2.2.2.2.2.2.1 s.2.2.2.2.2.2.2.2.2.2.2.1 s.2.2.2.2.2.2.2.2.2.2.2.2.1 s.2.2.2.2.2.2.2.2.2.2.2.2.2.1 s.2.2.2.2.2.2.2.2.2.2.2.2.2.2) (fun n s hI hk => hs n s.1 s.2.1 s.2.2.1 s.2.2.2.1 s.2.2.2.2.1 s.2.2.2.2.2.1 s.2.2.2.2.2.2.1 s.2.2.2.2.2.2.2.1 s.2.2.2.2.2.2.2.2.1 s.2.2.2.2.2.2.2.2.2.1 s.2.2.2.2.2.2.2.2.2.2.1 s.2.2.2.2.2.2.2.2.2.2.2.1 s.2.2.2.2.2.2.2.2.2.2.2.2.1 s.2.2.2.2.2.2.2.2.2.2.2.2.2.1 s.2.2.2.2.2.2.2.2.2.2.2.2.2.2 hI (fun b1 b2 b3 b4 b5 b6 b7 b8 b9 b10 b11 b12 b13 b14 b15 h9 hm => hk (b1, b2, b3, b4, b5, b6, b7, b8, b9, b10, b11, b12, b13, b14, b15) h9 hm)) (a1, a2, a3, a4, a5, a6, a7, a8, a9, a10, a11, a12, a13, a14, a15) h
theorem lp16 {A1 A2 A3 A4 A5 A6 A7 A8 A9 A10 A11 A12 A13 A14 A15 A16 : Type} (W : Nat → A1 → A2 → A3 → A4 → A5 → A6 → A7 → A8 → A9 → A10 → A11 → A12 → A13 → A14 → A15 → A16 → Prop) (I : A1 → A2 → A3 → A4 → A5 → A6 → A7 → A8 → A9 → A10 → A11 → A12 → A13 → A14 → A15 → A16 → Prop) (μ : A1 → A2 → A3 → A4 → A5 → A6 → A7 → A8 → A9 → A10 → A11 → A12 → A13 → A14 → A15 → A16 → Nat) (hs : ∀ (n : Nat) (a1 : A1) (a2 : A2) (a3 : A3) (a4 : A4) (a5 : A5) (a6 : A6) (a7 : A7) (a8 : A8) (a9 : A9) (a10 : A10) (a11 : A11) (a12 : A12) (a13 : A13) (a14 : A14) (a15 : A15) (a16 : A16), I a1 a2 a3 a4 a5 a6 a7 a8 a9 a10 a11 a12 a13 a14 a15 a16 → (∀ (b1 : A1) (b2 : A2) (b3 : A3) (b4 : A4) (b5 : A5) (b6 : A6) (b7 : A7) (b8 : A8) (b9 : A9) (b10 : A10) (b11 : A11) (b12 : A12) (b13 : A13) (b14 : A14) (b15 : A15) (b16 : A16), I b1 b2 b3 b4 b5 b6 b7 b8 b9 b10 b11 b12 b13 b14 b15 b16 → μ b1 b2 b3 b4 b5 b6 b7 b8 b9 b10 b11 b12 b13 b14 b15 b16 < μ a1 a2 a3 a4 a5 a6 a7 a8 a9 a10 a11 a12 a13 a14 a15 a16 → W n b1 b2 b3 b4 b5 b6 b7 b8 b9 b10 b11 b12 b13 b14 b15 b16) → W (n + 1) a1 a2 a3 a4 a5 a6 a7 a8 a9 a10 a11 a12 a13 a14 a15 a16) (a1 : A1) (a2 : A2) (a3 : A3) (a4 : A4) (a5 : A5) (a6 : A6) (a7 : A7) (a8 : A8) (a9 : A9) (a10 : A10) (a11 : A11) (a12 : A12) (a13 : A13) (a14 : A14) (a15 : A15) (a16 : A16) (h : I a1 a2 a3 a4 a5 a6 a7 a8 a9 a10 a11 a12 a13 a14 a15 a16) : ∃ n, W n a1 a2 a3 a4 a5 a6 a7 a8 a9 a10 a11 a12 a13 a14 a15 a16 :=
  loop_m (σ := A1 × A2 × A3 × A4 × A5 × A6 × A7 × A8 × A9 × A10 × A11 × A12 × A13 × A14 × A15 × A16) (fun n s => W n s.1 s.2.1 s.2.2.1 s.2.2.2.1 s.2.2.2.2.1 s.2.2.2.2.2.1 s.2.2.2.2.2.2.1 s.2.2.2.2.2.2.2.1 s.2.2.2.2.2.2.2.2.1 s.2.2.2.2.2.2.2.2.2.1 s.2.2.2.2.2.2.2.2.2.2.1 s.2.2.2.2.2.2.2.2.2.2.2.1 s.2.2.2.2.2.2.2.2.2.2.2.2.1 s.2.2.2.2.2.2.2.2.2.2.2.2.2.1 s.2.2.2.2.2.2.2.2.2.2.2.2.2.2.1 s.2.2.2.2.2.2.2.2.2.2.2.2.2.2.2) (fun s => I s.1 s.2.1 s.2.2.1 s.2.2.2.1 s.2.2.2.2.1 s.2.2.2.2.2.1 s.2.2.2.2.2.2.1 s.2.2.2.2.2.2.2.1 s.2.2.2.2.2.2.2.2.1 s.2.2.2.2.2.2.2.2.2.1 s.2.2.2.2.2.2.2.2.2.2.1 s.2.2.2.2.2.2.2.2.2.2.2.1 s.2.2.2.2.2.2.2.2.2.2.2.2.1 s.2.2.2.2.2.2.2.2.2.2.2.2.2.1 s.2.2.2.2.2.2.2.2.2.2.2.2.2.2.1 s.2.2.2.2.2.2.2.2.2.2.2.2.2.2.2) (fun s => μ s.1 s.2.1 s.2.2.1 s.2.2.2.1 s.2.2.2.2.1 s.2.2.2.2.2.1 s.2.2.2.2.2.2.1 s.2.2.2.2.2.2.2.1 s.2.2.2.2.2.2.2.2.1 s.2.2.2.2.2.2.2.2.2.1 s.2.2.2.2.2.2.2.2.2.2.1 s.2.2.2.2.2.2.2.2.2.2.2.1 s.2.2.2.2.2.2.2.2.2.2.2.2.1 s.2.2.2.2.2.2.2.2.2.2.2.2.2.1 s.2.2.2.2.2.2.2.2.2.2.2.2.2.2.1 s.2.2.2.2.2.2.2.2.2.2.2.2.2.2.2) (fun n s hI hk => hs n s.1 s.2.1 s.2.2.1 s.2.2.2.1 s.2.2.2.2.1 s.2.2.2.2.2.1 s.2.2.2.2.2.2.1 s.2.2.2.2.2.2.2.1 s.2.2.2.2.2.2.2.2.1 s.2.2.2.2.2.2.2.2.2.1 s.2.2.2.2.2.2.2.2.2.2.1 s.2.2.2.2.2.2.2.2.2.2.2.1 s.2.2.2.2.2.2.2.2.2.2.2.2.1 s.2.2.2.2.2.2.2.2.2.2.2.2.2.1 s.2.2.2.2.2.2.2.2.2.2.2.2.2.2.1 s.2.2.2.2.2.2.2.2.2.2.2.2.2.2.2 hI (fun b1 b2 b3 b4 b5 b6 b7 b8 b9 b10 b11 b12 b13 b14 b15 b16 h9 hm => hk (b1, b2, b3, b4, b5, b6, b7, b8, b9, b10, b11, b12, b13, b14, b15, b16) h9 hm)) (a1, a2, a3, a4, a5, a6, a7, a8, a9, a10, a11, a12, a13, a14, a15, a16) h
theorem pk_least (P : Nat → Prop) (h : ∃ k, P k) : ∃ k, P k ∧ ∀ j, j < k → ¬ P j := by
  obtain ⟨k, hk⟩ := h
  induction k using Nat.strongRecOn with
  | ind k ih =>
    by_cases e : ∃ j, j < k ∧ P j
    · obtain ⟨j, hj, pj⟩ := e
      exact ih j hj pj
    · exact ⟨k, hk, fun j hj pj => e ⟨j, hj, pj⟩⟩
theorem rp1 {ρ A1 : Type} (W : Nat → (ρ → Prop) → A1 → Prop) (ok : A1 → Prop) (μ : A1 → Nat) (val : A1 → ρ)
    (hs : ∀ (d : Nat) (post : ρ → Prop) (a1 : A1), ok a1 → post (val a1) → (∀ (post' : ρ → Prop) (b1 : A1), ok b1 → μ b1 < μ a1 → post' (val b1) → W d post' b1) → W (d + 1) post a1) :
    ∀ (d : Nat) (post : ρ → Prop) (a1 : A1), ok a1 → μ a1 < d → post (val a1) → W d post a1 := by
  intro d
  induction d with
  | zero => intro post a1 _ h; omega
  | succ d ih =>
    intro post a1 ho hm hp
    exact hs d post a1 ho hp (fun post' b1 ho' hm' hp' => ih post' b1 ho' (by omega) hp')
theorem rp2 {ρ A1 A2 : Type} (W : Nat → (ρ → Prop) → A1 → A2 → Prop) (ok : A1 → A2 → Prop) (μ : A1 → A2 → Nat) (val : A1 → A2 → ρ)
    (hs : ∀ (d : Nat) (post : ρ → Prop) (a1 : A1) (a2 : A2), ok a1 a2 → post (val a1 a2) → (∀ (post' : ρ → Prop) (b1 : A1) (b2 : A2), ok b1 b2 → μ b1 b2 < μ a1 a2 → post' (val b1 b2) → W d post' b1 b2) → W (d + 1) post a1 a2) :
    ∀ (d : Nat) (post : ρ → Prop) (a1 : A1) (a2 : A2), ok a1 a2 → μ a1 a2 < d → post (val a1 a2) → W d post a1 a2 := by
  intro d
  induction d with
  | zero => intro post a1 a2 _ h; omega
  | succ d ih =>
    intro post a1 a2 ho hm hp
    exact hs d post a1 a2 ho hp (fun post' b1 b2 ho' hm' hp' => ih post' b1 b2 ho' (by omega) hp')
theorem rp3 {ρ A1 A2 A3 : Type} (W : Nat → (ρ → Prop) → A1 → A2 → A3 → Prop) (ok : A1 → A2 → A3 → Prop) (μ : A1 → A2 → A3 → Nat) (val : A1 → A2 → A3 → ρ)
    (hs : ∀ (d : Nat) (post : ρ → Prop) (a1 : A1) (a2 : A2) (a3 : A3), ok a1 a2 a3 → post (val a1 a2 a3) → (∀ (post' : ρ → Prop) (b1 : A1) (b2 : A2) (b3 : A3), ok b1 b2 b3 → μ b1 b2 b3 < μ a1 a2 a3 → post' (val b1 b2 b3) → W d post' b1 b2 b3) → W (d + 1) post a1 a2 a3) :
    ∀ (d : Nat) (post : ρ → Prop) (a1 : A1) (a2 : A2) (a3 : A3), ok a1 a2 a3 → μ a1 a2 a3 < d → post (val a1 a2 a3) → W d post a1 a2 a3 := by
  intro d
  induction d with
  | zero => intro post a1 a2 a3 _ h; omega
  | succ d ih =>
    intro post a1 a2 a3 ho hm hp
    exact hs d post a1 a2 a3 ho hp (fun post' b1 b2 b3 ho' hm' hp' => ih post' b1 b2 b3 ho' (by omega) hp')
theorem rp4 {ρ A1 A2 A3 A4 : Type} (W : Nat → (ρ → Prop) → A1 → A2 → A3 → A4 → Prop) (ok : A1 → A2 → A3 → A4 → Prop) (μ : A1 → A2 → A3 → A4 → Nat) (val : A1 → A2 → A3 → A4 → ρ)
    (hs : ∀ (d : Nat) (post : ρ → Prop) (a1 : A1) (a2 : A2) (a3 : A3) (a4 : A4), ok a1 a2 a3 a4 → post (val a1 a2 a3 a4) → (∀ (post' : ρ → Prop) (b1 : A1) (b2 : A2) (b3 : A3) (b4 : A4), ok b1 b2 b3 b4 → μ b1 b2 b3 b4 < μ a1 a2 a3 a4 → post' (val b1 b2 b3 b4) → W d post' b1 b2 b3 b4) → W (d + 1) post a1 a2 a3 a4) :
    ∀ (d : Nat) (post : ρ → Prop) (a1 : A1) (a2 : A2) (a3 : A3) (a4 : A4), ok a1 a2 a3 a4 → μ a1 a2 a3 a4 < d → post (val a1 a2 a3 a4) → W d post a1 a2 a3 a4 := by
  intro d
  induction d with
  | zero => intro post a1 a2 a3 a4 _ h; omega
  | succ d ih =>
    intro post a1 a2 a3 a4 ho hm hp
    exact hs d post a1 a2 a3 a4 ho hp (fun post' b1 b2 b3 b4 ho' hm' hp' => ih post' b1 b2 b3 b4 ho' (by omega) hp')
theorem rp5 {ρ A1 A2 A3 A4 A5 : Type} (W : Nat → (ρ → Prop) → A1 → A2 → A3 → A4 → A5 → Prop) (ok : A1 → A2 → A3 → A4 → A5 → Prop) (μ : A1 → A2 → A3 → A4 → A5 → Nat) (val : A1 → A2 → A3 → A4 → A5 → ρ)
    (hs : ∀ (d : Nat) (post : ρ → Prop) (a1 : A1) (a2 : A2) (a3 : A3) (a4 : A4) (a5 : A5), ok a1 a2 a3 a4 a5 → post (val a1 a2 a3 a4 a5) → (∀ (post' : ρ → Prop) (b1 : A1) (b2 : A2) (b3 : A3) (b4 : A4) (b5 : A5), ok b1 b2 b3 b4 b5 → μ b1 b2 b3 b4 b5 < μ a1 a2 a3 a4 a5 → post' (val b1 b2 b3 b4 b5) → W d post' b1 b2 b3 b4 b5) → W (d + 1) post a1 a2 a3 a4 a5) :
    ∀ (d : Nat) (post : ρ → Prop) (a1 : A1) (a2 : A2) (a3 : A3) (a4 : A4) (a5 : A5), ok a1 a2 a3 a4 a5 → μ a1 a2 a3 a4 a5 < d → post (val a1 a2 a3 a4 a5) → W d post a1 a2 a3 a4 a5 := by
  intro d
  induction d with
  | zero => intro post a1 a2 a3 a4 a5 _ h; omega
  | succ d ih =>
    intro post a1 a2 a3 a4 a5 ho hm hp
    exact hs d post a1 a2 a3 a4 a5 ho hp (fun post' b1 b2 b3 b4 b5 ho' hm' hp' => ih post' b1 b2 b3 b4 b5 ho' (by omega) hp')
theorem rp6 {ρ A1 A2 A3 A4 A5 A6 : Type} (W : Nat → (ρ → Prop) → A1 → A2 → A3 → A4 → A5 → A6 → Prop) (ok : A1 → A2 → A3 → A4 → A5 → A6 → Prop) (μ : A1 → A2 → A3 → A4 → A5 → A6 → Nat) (val : A1 → A2 → A3 → A4 → A5 → A6 → ρ)
    (hs : ∀ (d : Nat) (post : ρ → Prop) (a1 : A1) (a2 : A2) (a3 : A3) (a4 : A4) (a5 : A5) (a6 : A6), ok a1 a2 a3 a4 a5 a6 → post (val a1 a2 a3 a4 a5 a6) → (∀ (post' : ρ → Prop) (b1 : A1) (b2 : A2) (b3 : A3) (b4 : A4) (b5 : A5) (b6 : A6), ok b1 b2 b3 b4 b5 b6 → μ b1 b2 b3 b4 b5 b6 < μ a1 a2 a3 a4 a5 a6 → post' (val b1 b2 b3 b4 b5 b6) → W d post' b1 b2 b3 b4 b5 b6) → W (d + 1) post a1 a2 a3 a4 a5 a6) :
    ∀ (d : Nat) (post : ρ → Prop) (a1 : A1) (a2 : A2) (a3 : A3) (a4 : A4) (a5 : A5) (a6 : A6), ok a1 a2 a3 a4 a5 a6 → μ a1 a2 a3 a4 a5 a6 < d → post (val a1 a2 a3 a4 a5 a6) → W d post a1 a2 a3 a4 a5 a6 := by
  intro d
  induction d with
  | zero => intro post a1 a2 a3 a4 a5 a6 _ h; omega
  | succ d ih =>
    intro post a1 a2 a3 a4 a5 a6 ho hm hp
    exact hs d post a1 a2 a3 a4 a5 a6 ho hp (fun post' b1 b2 b3 b4 b5 b6 ho' hm' hp' => ih post' b1 b2 b3 b4 b5 b6 ho' (by omega) hp')
theorem rec_p {σ ρ : Type} (W : Nat → (ρ → Prop) → σ → Prop) (ok : σ → Prop) (μ : σ → Nat) (val : σ → ρ)
    (hs : ∀ d s post, ok s → post (val s) → (∀ s' post', ok s' → μ s' < μ s → post' (val s') → W d post' s') → W (d + 1) post s) :
    ∀ d s post, ok s → μ s < d → post (val s) → W d post s := by
  intro d
  induction d with
  | zero => intro s post _ h; omega
  | succ d ih =>
    intro s post ho hm hp
    exact hs d s post ho hp (fun s' post' ho' hm' hp' => ih s' post' ho' (by omega) hp')
theorem rec_q {σ ρ : Type} (W : Nat → (ρ → Prop) → σ → Prop) (ok : σ → Prop) (μ : σ → Nat) (Q : σ → ρ → Prop)
    (hs : ∀ d s post, ok s → (∀ r, Q s r → post r) → (∀ s' post', ok s' → μ s' < μ s → (∀ r, Q s' r → post' r) → W d post' s') → W (d + 1) post s) :
    ∀ d s post, ok s → μ s < d → (∀ r, Q s r → post r) → W d post s := by
  intro d
  induction d with
  | zero => intro s post _ h; omega
  | succ d ih =>
    intro s post ho hm hp
    exact hs d s post ho hp (fun s' post' ho' hm' hp' => ih s' post' ho' (by omega) hp')
def bx_sum (f : Nat → Int32) : Nat → Int32
  | 0 => 0
  | n + 1 => bx_sum f n + f n
theorem ek_u {A : Prop} {B : Nat → Prop} {k N : Nat} (hk : k < N) (h : B k) : (some k = none → A) ∧ (∀ y : Nat, some k = some y → (y < N ∧ B y)) :=
  ⟨fun z => absurd z (Option.some_ne_none k), fun _ e => (by cases e; exact ⟨hk, h⟩)⟩
theorem ek_nu {A : Prop} {B : Nat → Prop} (h : A) : ((none : Option Nat) = none → A) ∧ (∀ y : Nat, (none : Option Nat) = some y → B y) :=
  ⟨fun _ => h, fun _ e => (by cases e)⟩
theorem ek_if {c d A B : Prop} (e : c ↔ d) (f : d → A) (g : ¬ d → B) : (c → A) ∧ (¬ c → B) :=
  ⟨fun z => f (e.mp z), fun z => g (fun y => z (e.mpr y))⟩
theorem ek_v {α : Sort _} {P : α → Prop} {a b : α} (e : a = b) (h : P b) : P a := e ▸ h
theorem co_some {x : Option Nat} {A : Prop} {B : Nat → Prop} (i : Nat) (h : B i) (hx : x = some i := by rfl) : (x = none → A) ∧ (∀ y : Nat, x = some y → B y) := by
  subst hx
  exact ⟨fun e => (nomatch e), fun y e => Option.some.inj e ▸ h⟩
theorem co_none {x : Option Nat} {A : Prop} {B : Nat → Prop} (h : A) (hx : x = none := by rfl) : (x = none → A) ∧ (∀ y : Nat, x = some y → B y) := by
  subst hx
  exact ⟨fun _ => h, fun y e => (nomatch e)⟩
theorem co_any {x : Option Nat} {A : Prop} {B : Nat → Prop} (hn : x = none → A) (hs : ∀ i : Nat, x = some i → B i) : (x = none → A) ∧ (∀ y : Nat, x = some y → B y) := ⟨hn, hs⟩
theorem co_2 {P : Nat → Prop} (h0 : P 0) (h1 : P 1) {i : Nat} (hi : i < 2) : P i :=
  match i, hi with
  | 0, _ => h0
  | 1, _ => h1
theorem co_3 {P : Nat → Prop} (h0 : P 0) (h1 : P 1) (h2 : P 2) {i : Nat} (hi : i < 3) : P i :=
  match i, hi with
  | 0, _ => h0
  | 1, _ => h1
  | 2, _ => h2
theorem co_4 {P : Nat → Prop} (h0 : P 0) (h1 : P 1) (h2 : P 2) (h3 : P 3) {i : Nat} (hi : i < 4) : P i :=
  match i, hi with
  | 0, _ => h0
  | 1, _ => h1
  | 2, _ => h2
  | 3, _ => h3
theorem co_dec {N : Nat} {P : Nat → Prop} [DecidablePred P] (h : (List.range N).all (fun i => decide (P i)) = true) {i : Nat} (hi : i < N) : P i := by
  have := List.all_eq_true.mp h i (List.mem_range.mpr hi)
  exact of_decide_eq_true this
theorem co_tab {α : Type} {l : List α} {d : α} {P : α → Prop} (h : ∀ a, a ∈ l → P a) {i : Nat} (hi : i < l.length) : P (l.getD i d) := by
  rw [List.getD_eq_getElem?_getD, List.getElem?_eq_getElem hi]
  exact h _ (List.getElem_mem hi)
theorem pk_mu {x : Int32} {L : Nat} (h0 : ¬ x < 0) (h : ¬ nI L ≤ x) (hL : L < 2 ^ 31) : ∃ j : Nat, j < L ∧ x = nI j ∧ x + 1 = nI (j + 1) ∧ x.toNatClampNeg = j ∧ L - (x + 1).toNatClampNeg < L - x.toNatClampNeg := by
  obtain ⟨j, hj, rfl⟩ := nI_of h0
  have hl : j < L := Nat.not_le.mp fun q => h (nI_le q hj)
  refine ⟨j, hl, rfl, nI_1 j, nI_clamp hj, ?_⟩
  rw [nI_1, nI_clamp (by omega), nI_clamp hj]
  omega
theorem op_s {α : Type} {r : Option α} {A : Prop} {B : α → Prop} {y : α} (h : r = some y) (b : B y) : (r = none → A) ∧ ∀ z, r = some z → B z :=
  ⟨fun e => (by rw [h] at e; cases e), fun z e => (by rw [h] at e; cases e; exact b)⟩
def l_holds {α : Type} (a : Nat → Option Nat) (LP : List Nat) (p : Nat → α) (c : Nat) (b : Nat → α) : Prop :=
  ∀ j, j < c → ∃ y, a j = some y ∧ y ∈ LP ∧ p y = b j
theorem l_holds_0 {α : Type} {a : Nat → Option Nat} {LP : List Nat} {p b : Nat → α} : l_holds a LP p 0 b := fun j h => absurd h (Nat.not_lt_zero j)
theorem l_in_new (LP : List Nat) (q : Nat) : q ∈ LP ++ [q] := List.mem_append.mpr (Or.inr (List.mem_singleton.mpr rfl))
def l_sum (b : Nat → Int32) : Nat → Int32
  | 0 => 0
  | k + 1 => l_sum b k + b k
theorem sb_shr0 (x : Int32) : x >>> ((0 : Int32) &&& 31) = x := by
  rw [show ((0 : Int32) &&& 31) = 0 by decide]
  simp
theorem sb_shl0 (x : Int32) : x <<< ((0 : Int32) &&& 31) = x := by
  rw [show ((0 : Int32) &&& 31) = 0 by decide]
  simp
theorem sb_cl0 : (0 : Int32).toNatClampNeg = 0 := by decide
theorem sb_m1 {p : Nat} (h : 0 < p) : nI p + (-1) = nI (p - 1) := by
  obtain ⟨q, rfl⟩ : ∃ q, p = q + 1 := ⟨p - 1, by omega⟩
  exact pk_m1 q
def sb_b (c : Nat) : Int32 := (nI c).toInt8.toInt32
theorem sb_byte : ∀ c, c < 256 → sb_b c &&& 255 = nI c ∧ ((nI c).toUInt32 % 65536).toInt32 = nI c ∧ nI c ≤ 255 := by decide +kernel
def sb_Fit (a : Nat → Int32) : Prop := ∀ j, fits .byte (.int (a j)) = true
def sb_Lat (t : Nat → Nat) (n : Nat) (a : Nat → Int32) : Prop := ∀ j, j < n → t j < 256 ∧ a j = sb_b (t j)
theorem sb_fitB (c : Nat) : fits .byte (.int (sb_b c)) = true := pk_fb _
theorem sb_fit0 : sb_Fit (fun _ => 0) := fun _ => by
  show fits .byte (.int 0) = true
  decide
theorem sb_fitU {a : Nat → Int32} {k : Nat} {x : Int32} (h : sb_Fit a) (hx : fits .byte (.int x) = true) : sb_Fit (upd a k x) := by
  intro j
  by_cases e : j = k
  · subst e
    rw [pk_us]
    exact hx
  · rw [pk_un e]
    exact h j
def sb_cat (t : Nat → Nat) (n : Nat) (s : Nat → Nat) : Nat → Nat := fun j => if j < n then t j else s (j - n)
theorem sb_cat_lo {t s : Nat → Nat} {n j : Nat} (h : j < n) : sb_cat t n s j = t j := if_pos h
theorem sb_cat_hi {t s : Nat → Nat} {n j : Nat} : sb_cat t n s (n + j) = s j := by
  show (if n + j < n then t (n + j) else s (n + j - n)) = s j
  rw [if_neg (by omega), Nat.add_sub_cancel_left]
theorem sb_latPut {t s : Nat → Nat} {n w : Nat} {a a' : Nat → Int32} (h : sb_Lat t n a) (hk : ∀ j, j < n → a' j = a j) (hs : ∀ i, i < w → s i < 256 ∧ a' (n + i) = sb_b (s i)) : sb_Lat (sb_cat t n s) (n + w) a' := by
  intro j hj
  by_cases e : j < n
  · rw [sb_cat_lo e, hk j e]
    exact h j e
  · obtain ⟨i, rfl⟩ : ∃ i, j = n + i := ⟨j - n, by omega⟩
    rw [sb_cat_hi]
    exact hs i (by omega)
theorem sb_latKeep {t : Nat → Nat} {n : Nat} {a a' : Nat → Int32} (h : sb_Lat t n a) (hk : ∀ j, j < n → a' j = a j) : sb_Lat t n a' := fun j hj => by
  rw [hk j hj]
  exact h j hj
def sb_cap (q m : Nat) : Nat := if q ≤ m then m else if 2 * m + 2 < q then q else 2 * m + 2
def sb_Room (q m mc ms : Nat) : Prop := q ≤ m ∨ (1 ≤ mc ∧ sb_cap q m ≤ ms ∧ sb_cap q m ≤ 65536)
theorem sb_cap_ge (q m : Nat) : q ≤ sb_cap q m := by
  unfold sb_cap
  split
  · omega
  · split <;> omega
theorem sb_cap_gem (q m : Nat) : m ≤ sb_cap q m := by
  unfold sb_cap
  split
  · omega
  · split <;> omega
theorem sb_cap_le {q m mc ms : Nat} (hm : m ≤ 65536) (hr : sb_Room q m mc ms) : sb_cap q m ≤ 65536 := by
  rcases hr with h | h
  · rw [sb_cap, if_pos h]
    exact hm
  · exact h.2.2
theorem sb_at {P : Int32 → Prop} {x y : Int32} (e : x = y) (h : P y) : P x := e ▸ h
def sb_dg (w : Nat) : Nat := if w < 10 then 1 else if w < 100 then 2 else if w < 1000 then 3 else if w < 10000 then 4 else if w < 100000 then 5 else if w < 1000000 then 6 else if w < 10000000 then 7 else if w < 100000000 then 8 else if w < 1000000000 then 9 else 10
def sb_dec (v : Nat) : Nat → Nat := fun i => 48 + v / 10 ^ (sb_dg v - 1 - i) % 10
theorem sb_dg_in (w : Nat) : 1 ≤ sb_dg w ∧ sb_dg w ≤ 10 := by
  unfold sb_dg
  constructor <;> (repeat' split) <;> omega
theorem sb_dg100 {w : Nat} (h : 100 ≤ w) (hw : w < 2 ^ 31) : sb_dg w = sb_dg (w / 100) + 2 := by
  rw [sb_dg, sb_dg, if_neg (show ¬ w < 10 by omega), if_neg (show ¬ w < 100 by omega)]
  by_cases h3 : w < 1000
  · rw [if_pos h3, if_pos (show w / 100 < 10 by omega)]
  rw [if_neg h3, if_neg (show ¬ w / 100 < 10 by omega)]
  by_cases h4 : w < 10000
  · rw [if_pos h4, if_pos (show w / 100 < 100 by omega)]
  rw [if_neg h4, if_neg (show ¬ w / 100 < 100 by omega)]
  by_cases h5 : w < 100000
  · rw [if_pos h5, if_pos (show w / 100 < 1000 by omega)]
  rw [if_neg h5, if_neg (show ¬ w / 100 < 1000 by omega)]
  by_cases h6 : w < 1000000
  · rw [if_pos h6, if_pos (show w / 100 < 10000 by omega)]
  rw [if_neg h6, if_neg (show ¬ w / 100 < 10000 by omega)]
  by_cases h7 : w < 10000000
  · rw [if_pos h7, if_pos (show w / 100 < 100000 by omega)]
  rw [if_neg h7, if_neg (show ¬ w / 100 < 100000 by omega)]
  by_cases h8 : w < 100000000
  · rw [if_pos h8, if_pos (show w / 100 < 1000000 by omega)]
  rw [if_neg h8, if_neg (show ¬ w / 100 < 1000000 by omega)]
  by_cases h9 : w < 1000000000
  · rw [if_pos h9, if_pos (show w / 100 < 10000000 by omega)]
  rw [if_neg h9, if_neg (show ¬ w / 100 < 10000000 by omega)]
  rw [if_pos (show w / 100 < 100000000 by omega)]
theorem sb_negT {w : Nat} (h : w < 2 ^ 31) : (-nI w).toInt = -(w : Int) := by
  rw [Int32.toInt_neg, nI_toInt h]
  exact Int.bmod_eq_of_le (by omega) (by omega)
theorem sb_nle {a b : Nat} (ha : a < 2 ^ 31) (hb : b < 2 ^ 31) : -nI a ≤ -nI b ↔ b ≤ a := by
  rw [Int32.le_iff_toInt_le, sb_negT ha, sb_negT hb]
  omega
theorem sb_nlt {a b : Nat} (ha : a < 2 ^ 31) (hb : b < 2 ^ 31) : -nI a < -nI b ↔ b < a := by
  rw [Int32.lt_iff_toInt_lt, sb_negT ha, sb_negT hb]
  omega
theorem sb_cmp {A B : Prop} {x : Int32} (v c : Nat) (f : c ≤ v → A) (g : v < c → B) (hv : v < 2 ^ 31) (hx : x = -nI c := by rfl) (hc : c < 2 ^ 31 := by omega) : (-nI v ≤ x → A) ∧ (¬ -nI v ≤ x → B) := by
  subst hx
  rw [sb_nle hv hc]
  exact ⟨f, fun z => g (by omega)⟩
theorem sb_ndiv {w : Nat} (hw : w < 2 ^ 31) : (-nI w) / 100 = -nI (w / 100) := by
  apply Int32.toInt_inj.mp
  have h100 : (100 : Int32).toInt = 100 := by decide
  rw [Int32.toInt_div, sb_negT hw, h100, sb_negT (by omega), Int.neg_tdiv, Int.tdiv_eq_ediv_of_nonneg (by omega), Int.bmod_eq_of_le (by omega) (by omega)]
  omega
theorem sb_nrem {w : Nat} (hw : w < 2 ^ 31) : (-nI (w / 100)) * 100 - (-nI w) = nI (w % 100) := by
  have h := pk_rem (a := w) (d := 100) hw (by decide) (by decide)
  rw [pk_div hw (by decide) (by decide)] at h
  rw [← h]
  show (-nI (w / 100)) * nI 100 - (-nI w) = nI w - nI (w / 100) * nI 100
  rw [Int32.neg_mul, Int32.sub_neg, Int32.add_comm, ← Int32.sub_eq_add_neg]
end
section
/-! 02: numbers, sums, bits, the crossing -/
theorem cb_n0 : (0 : Int32) = nI 0 := by decide
theorem cb_us {f : Nat → Int32} {k : Nat} {x : Int32} : upd f k x k = x := if_pos rfl
theorem cb_un {f : Nat → Int32} {k j : Nat} {x : Int32} (h : j ≠ k) : upd f k x j = f j := if_neg h
theorem cb_vb0 : vp_nar .boolean 0 = 0 := by decide
theorem cb_vb1 : vp_nar .boolean 1 = 1 := by decide
theorem cb_eq0 {a : Nat} (h : a < 2 ^ 31) : nI a = 0 ↔ a = 0 := by
  rw [← nI_0, nI_eq h (by omega)]
theorem cb_neg {a : Nat} (h0 : 0 < a) (h : a < 64) : -nI a < 0 ∧ ¬ (0 : Int32) ≤ -nI a ∧ -(-nI a) = nI a := by
  have h1 : ∀ a, a < 64 → 0 < a → (-nI a < 0 ∧ ¬ (0 : Int32) ≤ -nI a ∧ -(-nI a) = nI a) := by decide +kernel
  exact h1 a h h0
theorem cb_negne {a b : Nat} (h0 : 0 < a) (h : a < 64) (hb : b < 64) : ¬ -nI a = nI b := by
  have h1 : ∀ a, a < 64 → ∀ b, b < 64 → 0 < a → ¬ -nI a = nI b := by decide +kernel
  exact h1 a h b hb h0
/-! sums -/
def cb_sm (f : Nat → Nat) : Nat → Nat
  | 0 => 0
  | n + 1 => cb_sm f n + f n
theorem cb_sm_congr {f g : Nat → Nat} : ∀ {n : Nat}, (∀ j, j < n → f j = g j) → cb_sm f n = cb_sm g n
  | 0, _ => rfl
  | n + 1, h => by
    unfold cb_sm
    rw [cb_sm_congr (fun j hj => h j (by omega)), h n (by omega)]
theorem cb_sm_le {f : Nat → Nat} {c : Nat} : ∀ {n : Nat}, (∀ j, j < n → f j ≤ c) → cb_sm f n ≤ n * c
  | 0, _ => Nat.zero_le _
  | n + 1, h => by
    have a := cb_sm_le (n := n) (fun j hj => h j (by omega))
    have b := h n (by omega)
    unfold cb_sm
    rw [Nat.succ_mul]
    omega
theorem cb_sm_mono {f g : Nat → Nat} : ∀ {n : Nat}, (∀ j, j < n → f j ≤ g j) → cb_sm f n ≤ cb_sm g n
  | 0, _ => Nat.le_refl _
  | n + 1, h => by
    have a := cb_sm_mono (n := n) (fun j hj => h j (by omega))
    have b := h n (by omega)
    unfold cb_sm
    omega
theorem cb_sm_upd {f g : Nat → Nat} {p : Nat} (h : ∀ j, j ≠ p → g j = f j) : ∀ {n : Nat}, p < n → cb_sm g n + f p = cb_sm f n + g p
  | 0, hp => absurd hp (Nat.not_lt_zero _)
  | n + 1, hp => by
    unfold cb_sm
    by_cases e : p = n
    · subst e
      rw [cb_sm_congr (f := g) (g := f) (fun j hj => h j (by omega))]
      omega
    · have a := cb_sm_upd h (n := n) (by omega)
      have b := h n (by omega)
      omega
theorem cb_sm_item {f : Nat → Nat} {p : Nat} : ∀ {n : Nat}, p < n → f p ≤ cb_sm f n
  | 0, hp => absurd hp (Nat.not_lt_zero _)
  | n + 1, hp => by
    unfold cb_sm
    by_cases e : p = n
    · subst e; omega
    · have a := cb_sm_item (f := f) (n := n) (p := p) (by omega)
      omega
theorem cb_sm_pre {f : Nat → Nat} {p : Nat} : ∀ {n : Nat}, p < n → cb_sm f p + f p ≤ cb_sm f n
  | 0, hp => absurd hp (Nat.not_lt_zero _)
  | n + 1, hp => by
    by_cases e : p = n
    · subst e; exact Nat.le_refl _
    · have a := cb_sm_pre (f := f) (n := n) (p := p) (by omega)
      show _ ≤ cb_sm f n + f n
      omega
theorem cb_sm_le_n {f : Nat → Nat} {p n : Nat} (h : p ≤ n) : cb_sm f p ≤ cb_sm f n := by
  by_cases e : p = n
  · rw [e]; exact Nat.le_refl _
  · have := cb_sm_pre (f := f) (p := p) (n := n) (by omega)
    omega
/-- a number below the sum lies in one item -/
theorem cb_sm_find {f : Nat → Nat} {c : Nat} : ∀ {n : Nat}, c < cb_sm f n → ∃ j, j < n ∧ ∃ x, x < f j ∧ c = cb_sm f j + x
  | 0, h => absurd h (Nat.not_lt_zero _)
  | n + 1, h => by
    by_cases e : c < cb_sm f n
    · obtain ⟨j, hj, x, hx, hc⟩ := cb_sm_find e
      exact ⟨j, by omega, x, hx, hc⟩
    · have h2 : c < cb_sm f n + f n := h
      exact ⟨n, by omega, c - cb_sm f n, by omega, by omega⟩
/-- marks: an array of booleans as 0 or 1 -/
def cb_id (a : Nat → Int32) (p : Nat) : Nat := if a p = 0 then 0 else 1
theorem cb_id_le (a : Nat → Int32) (p : Nat) : cb_id a p ≤ 1 := by unfold cb_id; split <;> omega
theorem cb_id_0 {a : Nat → Int32} {p : Nat} (h : a p = 0) : cb_id a p = 0 := if_pos h
theorem cb_id_1 {a : Nat → Int32} {p : Nat} (h : ¬ a p = 0) : cb_id a p = 1 := if_neg h
theorem cb_sm_id (a : Nat → Int32) (n : Nat) : cb_sm (cb_id a) n ≤ n := by
  have := cb_sm_le (f := cb_id a) (c := 1) (n := n) (fun j _ => cb_id_le a j)
  omega
/-- marking a new one -/
theorem cb_sm_mark {a : Nat → Int32} {n p : Nat} (hp : p < n) (h : a p = 0) : cb_sm (cb_id (upd a p 1)) n = cb_sm (cb_id a) n + 1 := by
  have e := cb_sm_upd (f := cb_id a) (g := cb_id (upd a p 1)) (p := p) (fun j hj => by unfold cb_id; rw [cb_un hj]) hp
  rw [cb_id_0 h, cb_id_1 (a := upd a p 1) (p := p) (by rw [cb_us]; decide)] at e
  omega
theorem cb_sm_unmark {a : Nat → Int32} {n p : Nat} (hp : p < n) (h : ¬ a p = 0) : cb_sm (cb_id (upd a p 0)) n + 1 = cb_sm (cb_id a) n := by
  have e := cb_sm_upd (f := cb_id a) (g := cb_id (upd a p 0)) (p := p) (fun j hj => by unfold cb_id; rw [cb_un hj]) hp
  rw [cb_id_1 h, cb_id_0 (a := upd a p 0) (p := p) cb_us] at e
  omega
theorem cb_sm_free {a : Nat → Int32} {n p : Nat} (hp : p < n) (h : a p = 0) : cb_sm (cb_id a) n < n := by
  have e := cb_sm_mark hp h
  have := cb_sm_id (upd a p 1) n
  omega
/-! sets of answers -/
def cb_mb (s a : Nat) : Bool := (s &&& a) != 0
def cb_pop (s : Nat) : Nat := s % 2 + s / 2 % 2 + s / 4 % 2
def cb_A (a : Nat) : Prop := a = 1 ∨ a = 2 ∨ a = 4
theorem cb_A8 {a : Nat} (h : cb_A a) : a < 8 ∧ 0 < a := by rcases h with h | h | h <;> omega
theorem cb_pop3 (s : Nat) : cb_pop s ≤ 3 := by unfold cb_pop; omega
theorem cb_or8 : ∀ s, s < 8 → ∀ x, x < 8 → s ||| x < 8 := by decide +kernel
theorem cb_orI : ∀ s, s < 8 → ∀ x, x < 8 → nI s ||| nI x = nI (s ||| x) := by decide +kernel
theorem cb_mbor : ∀ s, s < 8 → ∀ x, x < 8 → ∀ a, a < 8 → cb_mb (s ||| x) a = (cb_mb s a || cb_mb x a) := by decide +kernel
theorem cb_popor : ∀ s, s < 8 → ∀ x, x < 8 → s ||| x ≠ s → cb_pop s < cb_pop (s ||| x) := by decide +kernel
theorem cb_ext8 : ∀ s, s < 8 → ∀ t, t < 8 → cb_mb s 1 = cb_mb t 1 → cb_mb s 2 = cb_mb t 2 → cb_mb s 4 = cb_mb t 4 → s = t := by decide +kernel
theorem cb_mb0 (a : Nat) : cb_mb 0 a = false := by unfold cb_mb; rw [Nat.zero_and]; rfl
theorem cb_mbself {a : Nat} (h : cb_A a) : cb_mb a a = true := by rcases h with h | h | h <;> subst h <;> rfl
theorem cb_mbA' {a b : Nat} (ha : cb_A a) (hb : cb_A b) (h : cb_mb a b = true) : b = a := by
  rcases ha with e | e | e <;> subst e <;> rcases hb with e | e | e <;> subst e <;> first | rfl | exact absurd h (by decide)
theorem cb_ext {s t : Nat} (hs : s < 8) (ht : t < 8) (h : ∀ a, cb_A a → (cb_mb s a = true ↔ cb_mb t a = true)) : s = t := by
  have k : ∀ a, cb_A a → cb_mb s a = cb_mb t a := fun a ha => Bool.eq_iff_iff.mpr (h a ha)
  exact cb_ext8 s hs t ht (k 1 (.inl rfl)) (k 2 (.inr (.inl rfl))) (k 4 (.inr (.inr rfl)))
theorem cb_mb_or {s x a : Nat} (hs : s < 8) (hx : x < 8) (ha : cb_A a) : cb_mb (s ||| x) a = true ↔ cb_mb s a = true ∨ cb_mb x a = true := by
  rw [cb_mbor s hs x hx a (cb_A8 ha).1, Bool.or_eq_true]
/-- the size -/
theorem cb_size : ∀ s, s < 8 → ((nI s &&& 1) + ((nI s >>> ((1 : Int32) &&& 31)) &&& 1)) + ((nI s >>> ((2 : Int32) &&& 31)) &&& 1) = nI (cb_pop s) := by decide +kernel
def cb_rk (s a : Nat) : Nat := cb_pop (s &&& (a - 1))
def cb_me (s r : Nat) : Nat :=
  if cb_mb s 1 then (if r = 0 then 1 else if cb_mb s 2 then (if r = 1 then 2 else 4) else 4) else if cb_mb s 2 then (if r = 0 then 2 else 4) else 4
theorem cb_rkI : ∀ s, s < 8 → ∀ a, a < 8 → (a = 1 ∨ a = 2 ∨ a = 4) → nI s &&& (nI a - 1) = nI (s &&& (a - 1)) ∧ s &&& (a - 1) < 8 := by decide +kernel
theorem cb_merk0 : ∀ s, s < 8 → ∀ a, a < 8 → (a = 1 ∨ a = 2 ∨ a = 4) → cb_mb s a = true → cb_me s (cb_rk s a) = a ∧ cb_rk s a < cb_pop s := by decide +kernel
theorem cb_merk {s a : Nat} (hs : s < 8) (ha : cb_A a) (h : cb_mb s a = true) : cb_me s (cb_rk s a) = a ∧ cb_rk s a < cb_pop s := cb_merk0 s hs a (cb_A8 ha).1 ha h
theorem cb_meA0 : ∀ s, s < 8 → ∀ r, r < 3 → r < cb_pop s → (cb_me s r = 1 ∨ cb_me s r = 2 ∨ cb_me s r = 4) ∧ cb_mb s (cb_me s r) = true := by decide +kernel
theorem cb_meA {s r : Nat} (hs : s < 8) (h : r < cb_pop s) : cb_A (cb_me s r) ∧ cb_mb s (cb_me s r) = true := cb_meA0 s hs r (by have := cb_pop3 s; omega) h
theorem cb_me4 : ∀ s, s < 8 → cb_mb s 4 = true → cb_me s (cb_pop s - 1) = 4 := by decide +kernel
theorem cb_poppos : ∀ s, s < 8 → ∀ a, a < 8 → (a = 1 ∨ a = 2 ∨ a = 4) → cb_mb s a = true → 0 < cb_pop s := by decide +kernel
/-- the two tests of member -/
theorem cb_me_1 : ∀ s, s < 8 → (nI s &&& 1 = 0 ↔ cb_mb s 1 = false) ∧ (nI s &&& 2 = 0 ↔ cb_mb s 2 = false) := by decide +kernel
/-! the test of a node, the crossing -/
def cb_hd (k b x : Nat) : Bool := if k = 6 then decide (x = b) else decide (x < b)
def cb_ev (km bm kd bd s k : Nat) : Nat → Bool
  | 0 => true
  | i + 1 => cb_ev km bm kd bd s k i && (if cb_hd km bm i = (s == 0) then cb_hd kd bd ((i + k) % 8) else true)
def cb_no (km bm kd bd s k : Nat) : Nat → Bool
  | 0 => true
  | i + 1 => cb_no km bm kd bd s k i && (if cb_hd km bm i = (s == 0) then !cb_hd kd bd ((i + k) % 8) else true)
def cb_cr (g : Nat → Nat → Nat) (d m s q : Nat) : Nat :=
  if g 0 m ≤ 1 then q else if g 1 m = q / 8 then
    (if g 0 m = 2 then (if cb_hd (g 0 d) (g 2 d) ((g 2 m + q % 8) % 8) then 33 else 34)
     else if g 0 m = 3 then g 2 m * 8 + q % 8
     else if g 0 m = 4 then g 1 m * 8 + (q % 8 + g 2 m) % 8
     else if g 0 m = 5 then 36
     else if cb_ev (g 0 m) (g 2 m) (g 0 d) (g 2 d) s (q % 8) 8 then 33
     else if cb_no (g 0 m) (g 2 m) (g 0 d) (g 2 d) s (q % 8) 8 then 34 else q)
  else q
def cb_ci (c : Nat) : Int32 := if c < 32 then nI c else -nI (c - 32)
def cb_tg (g : Nat → Nat → Nat) (m s : Nat) : Nat := if s = 0 then (if g 0 m = 0 then 99 else g 3 m) else (if g 0 m < 6 then 99 else g 4 m)
def cb_ti (t : Nat) : Int32 := if t < 12 then nI t else -1
def cb_tm (k b : Nat) : Nat := if k = 6 then 2 ^ b else 2 ^ b - 1
/-- the graph: its numbers are within -/
def cb_G (N : Nat) (g : Nat → Nat → Nat) : Prop := 2 ≤ N ∧ N ≤ 12 ∧ ∀ j, g 0 j < 8 ∧ g 1 j < 4 ∧ g 2 j < 8 ∧ g 3 j < N ∧ g 4 j < N ∧ (g 0 j = 3 → g 2 j < 4)
/-- the five arrays hold the graph -/
def cb_Ar (g : Nat → Nat → Nat) (k a b y n : Nat → Int32) : Prop := ∀ j, k j = nI (g 0 j) ∧ a j = nI (g 1 j) ∧ b j = nI (g 2 j) ∧ y j = nI (g 3 j) ∧ n j = nI (g 4 j)
theorem cb_tg12 {N : Nat} {g : Nat → Nat → Nat} (hG : cb_G N g) (m s : Nat) : cb_tg g m s < N ∨ cb_tg g m s = 99 := by
  have h := hG.2.2 m
  unfold cb_tg
  split <;> split <;> omega
theorem cb_tgN {N : Nat} {g : Nat → Nat → Nat} (hG : cb_G N g) {m s : Nat} (h : cb_tg g m s < 12) : cb_tg g m s < N := by
  rcases cb_tg12 hG m s with e | e <;> omega
/-- a crossing gives a question or one of three answers -/
theorem cb_cr_r {N : Nat} {g : Nat → Nat → Nat} (hG : cb_G N g) (d m s : Nat) {q : Nat} (hq : q < 32) : cb_cr g d m s q < 32 ∨ ∃ a, cb_A a ∧ cb_cr g d m s q = 32 + a := by
  have h := hG.2.2 m
  unfold cb_cr
  split
  · exact .inl hq
  · split
    · split
      · split
        · exact .inr ⟨1, .inl rfl, rfl⟩
        · exact .inr ⟨2, .inr (.inl rfl), rfl⟩
      · split
        · left; omega
        · split
          · left; omega
          · split
            · exact .inr ⟨4, .inr (.inr rfl), rfl⟩
            · split
              · exact .inr ⟨1, .inl rfl, rfl⟩
              · split
                · exact .inr ⟨2, .inr (.inl rfl), rfl⟩
                · exact .inl hq
    · exact .inl hq
theorem cb_ci_q {c : Nat} (h : c < 32) : cb_ci c = nI c := if_pos h
theorem cb_ci_a {a : Nat} : cb_ci (32 + a) = -nI a := by unfold cb_ci; rw [if_neg (by omega)]; congr 2; omega
theorem cb_ti_t {t : Nat} (h : t < 12) : cb_ti t = nI t := if_pos h
theorem cb_ti_n {t : Nat} (h : ¬ t < 12) : cb_ti t = -1 := if_neg h
/-! the numbers of testMask and of the crossing -/
theorem cb_sh1 : ∀ b, b < 8 → (1 : Int32) <<< (nI b &&& 31) = nI (2 ^ b) ∧ nI (2 ^ b) - 1 = nI (2 ^ b - 1) := by decide +kernel
theorem cb_set : ∀ e, e < 2 → ∀ b, b < 8 → ∀ x, x < 8 → ((nI (cb_tm (6 + e) b) >>> (nI x &&& 31)) &&& 1 = 0 ↔ cb_hd (6 + e) b x = false) := by decide +kernel
/-- the range of side s -/
def cb_rg (k b s : Nat) : Int32 := if s = 0 then nI (cb_tm k b) else (nI (cb_tm k b) ^^^ (-1)) &&& 255
def cb_wt (k b x : Nat) : Int32 := ((nI (cb_tm k b) >>> (nI x &&& 31)) ||| (nI (cb_tm k b) <<< ((8 - nI x) &&& 31))) &&& 255
def cb_tabP (s e f b c x : Nat) : Bool :=
  (decide ((cb_rg (6 + e) b s &&& (cb_wt (6 + f) c x ^^^ (-1))) = 0) == cb_ev (6 + e) b (6 + f) c s x 8) && (decide ((cb_rg (6 + e) b s &&& cb_wt (6 + f) c x) = 0) == cb_no (6 + e) b (6 + f) c s x 8)
theorem cb_tab0 : ∀ i, i < 2048 → cb_tabP 0 (i / 1024) (i / 512 % 2) (i / 64 % 8) (i / 8 % 8) (i % 8) = true := by decide +kernel
theorem cb_tab1 : ∀ i, i < 2048 → cb_tabP 1 (i / 1024) (i / 512 % 2) (i / 64 % 8) (i / 8 % 8) (i % 8) = true := by decide +kernel
theorem cb_tabI {s e f b c x : Nat} (hs : s < 2) (he : e < 2) (hf : f < 2) (hb : b < 8) (hc : c < 8) (hx : x < 8) : cb_tabP s e f b c x = true := by
  have e1 : (e * 1024 + f * 512 + b * 64 + c * 8 + x) / 1024 = e := by omega
  have e2 : (e * 1024 + f * 512 + b * 64 + c * 8 + x) / 512 % 2 = f := by omega
  have e3 : (e * 1024 + f * 512 + b * 64 + c * 8 + x) / 64 % 8 = b := by omega
  have e4 : (e * 1024 + f * 512 + b * 64 + c * 8 + x) / 8 % 8 = c := by omega
  have e5 : (e * 1024 + f * 512 + b * 64 + c * 8 + x) % 8 = x := by omega
  obtain rfl | rfl : s = 0 ∨ s = 1 := by omega
  · have k := cb_tab0 (e * 1024 + f * 512 + b * 64 + c * 8 + x) (by omega)
    rw [e1, e2, e3, e4, e5] at k
    exact k
  · have k := cb_tab1 (e * 1024 + f * 512 + b * 64 + c * 8 + x) (by omega)
    rw [e1, e2, e3, e4, e5] at k
    exact k
theorem cb_tab {k c b e x s : Nat} (hk : k = 6 ∨ k = 7) (hc : c = 6 ∨ c = 7) (hb : b < 8) (he : e < 8) (hx : x < 8) (hs : s < 2) :
    ((cb_rg k b s &&& (cb_wt c e x ^^^ (-1))) = 0 ↔ cb_ev k b c e s x 8 = true) ∧ ((cb_rg k b s &&& cb_wt c e x) = 0 ↔ cb_no k b c e s x 8 = true) := by
  obtain ⟨i, hi, rfl⟩ : ∃ i, i < 2 ∧ k = 6 + i := ⟨k - 6, by omega, by omega⟩
  obtain ⟨j, hj, rfl⟩ : ∃ j, j < 2 ∧ c = 6 + j := ⟨c - 6, by omega, by omega⟩
  have k := cb_tabI hs hi hj hb he hx
  unfold cb_tabP at k
  rw [Bool.and_eq_true, beq_iff_eq, beq_iff_eq] at k
  rw [← k.1, ← k.2, decide_eq_true_iff, decide_eq_true_iff]
  exact ⟨Iff.rfl, Iff.rfl⟩
end
section
/-! 03: least sets; mixed radix -/
section cbLeast
variable {N d : Nat} {g : Nat → Nat → Nat}
def cb_Rc (g : Nat → Nat → Nat) (n : Nat) : Prop := ∀ S : Nat → Prop, S 0 → (∀ m s, S m → s < 2 → cb_tg g m s < 12 → S (cb_tg g m s)) → S n
def cb_Rq (g : Nat → Nat → Nat) (d n q : Nat) : Prop := ∀ S : Nat → Nat → Prop, S d (g 1 d * 8) →
  (∀ m s q, cb_Rc g m → s < 2 → cb_tg g m s < 12 → q < 32 → S (cb_tg g m s) q → cb_cr g d m s q < 32 → S m (cb_cr g d m s q)) → S n q
def cb_Lf (g : Nat → Nat → Nat) (d n q a : Nat) : Prop := ∀ S : Nat → Nat → Nat → Prop, (∀ q, q < 32 → S 0 q 4) →
  (∀ m s q a, cb_Rc g m → s < 2 → cb_tg g m s < 12 → q < 32 → cb_cr g d m s q = 32 + a → S (cb_tg g m s) q a) →
  (∀ m s q a, cb_Rc g m → s < 2 → cb_tg g m s < 12 → q < 32 → cb_cr g d m s q < 32 → S m (cb_cr g d m s q) a → S (cb_tg g m s) q a) → S n q a
theorem cb_Rc_0 : cb_Rc g 0 := fun _ h _ => h
theorem cb_Rc_s {m s : Nat} (h : cb_Rc g m) (hs : s < 2) (ht : cb_tg g m s < 12) : cb_Rc g (cb_tg g m s) := fun S h0 h1 => h1 m s (h S h0 h1) hs ht
theorem cb_Rc_N (hG : cb_G N g) {n : Nat} (h : cb_Rc g n) : n < N := h (fun n => n < N) (by have := hG.1; omega) fun _ _ _ _ ht => cb_tgN hG ht
theorem cb_Rc_12 (hG : cb_G N g) {n : Nat} (h : cb_Rc g n) : n < 12 := by
  have := cb_Rc_N hG h
  have := hG.2.1
  omega
theorem cb_Rq_0 : cb_Rq g d d (g 1 d * 8) := fun _ h _ => h
theorem cb_Rq_s {m s q : Nat} (hm : cb_Rc g m) (hs : s < 2) (ht : cb_tg g m s < 12) (hq : q < 32) (h : cb_Rq g d (cb_tg g m s) q) (hc : cb_cr g d m s q < 32) : cb_Rq g d m (cb_cr g d m s q) :=
  fun S h0 h1 => h1 m s q hm hs ht hq (h S h0 h1) hc
theorem cb_Rq_R (hG : cb_G N g) (hd : cb_Rc g d) {n q : Nat} (h : cb_Rq g d n q) : cb_Rc g n ∧ q < 32 :=
  h (fun n q => cb_Rc g n ∧ q < 32) ⟨hd, by have := (hG.2.2 d).2.1; omega⟩ fun _ _ _ hm _ _ _ _ hc => ⟨hm, hc⟩
theorem cb_Lf_0 {q : Nat} (hq : q < 32) : cb_Lf g d 0 q 4 := fun _ h _ _ => h q hq
theorem cb_Lf_a {m s q a : Nat} (hm : cb_Rc g m) (hs : s < 2) (ht : cb_tg g m s < 12) (hq : q < 32) (hc : cb_cr g d m s q = 32 + a) : cb_Lf g d (cb_tg g m s) q a :=
  fun _ _ h _ => h m s q a hm hs ht hq hc
theorem cb_Lf_s {m s q a : Nat} (hm : cb_Rc g m) (hs : s < 2) (ht : cb_tg g m s < 12) (hq : q < 32) (hc : cb_cr g d m s q < 32) (h : cb_Lf g d m (cb_cr g d m s q) a) : cb_Lf g d (cb_tg g m s) q a :=
  fun S h0 h1 h2 => h2 m s q a hm hs ht hq hc (h S h0 h1 h2)
/-- every question at a reached node has an answer -/
theorem cb_Lf_ne (hG : cb_G N g) {n : Nat} (h : cb_Rc g n) : ∀ q, q < 32 → ∃ a, cb_A a ∧ cb_Lf g d n q a := by
  have k : cb_Rc g n ∧ ∀ q, q < 32 → ∃ a, cb_A a ∧ cb_Lf g d n q a := by
    refine h (fun n => cb_Rc g n ∧ ∀ q, q < 32 → ∃ a, cb_A a ∧ cb_Lf g d n q a) ⟨cb_Rc_0, fun q hq => ⟨4, .inr (.inr rfl), cb_Lf_0 hq⟩⟩ ?_
    intro m s hm hs ht
    refine ⟨cb_Rc_s hm.1 hs ht, fun q hq => ?_⟩
    rcases cb_cr_r hG d m s hq with hc | ⟨a, ha, hc⟩
    · obtain ⟨a, ha, hl⟩ := hm.2 _ hc
      exact ⟨a, ha, cb_Lf_s hm.1 hs ht hq hc hl⟩
    · exact ⟨a, ha, cb_Lf_a hm.1 hs ht hq hc⟩
  exact k.2
/-! the set as a number -/
noncomputable def cb_b (P : Prop) : Nat := @ite Nat P (Classical.propDecidable P) 1 0
theorem cb_b_t {P : Prop} (h : P) : cb_b P = 1 := by unfold cb_b; rw [if_pos h]
theorem cb_b_f {P : Prop} (h : ¬ P) : cb_b P = 0 := by unfold cb_b; rw [if_neg h]
theorem cb_b_le (P : Prop) : cb_b P ≤ 1 := by
  rcases Classical.em P with h | h
  · rw [cb_b_t h]; omega
  · rw [cb_b_f h]; omega
theorem cb_b_1 {P : Prop} : cb_b P = 1 ↔ P := by
  rcases Classical.em P with h | h
  · rw [cb_b_t h]; exact ⟨fun _ => h, fun _ => rfl⟩
  · rw [cb_b_f h]; exact ⟨fun e => absurd e (by decide), fun z => absurd z h⟩
noncomputable def cb_S (g : Nat → Nat → Nat) (d n q : Nat) : Nat := cb_b (cb_Lf g d n q 1) + 2 * cb_b (cb_Lf g d n q 2) + 4 * cb_b (cb_Lf g d n q 4)
theorem cb_bits : ∀ a, a < 2 → ∀ b, b < 2 → ∀ c, c < 2 → (cb_mb (a + 2 * b + 4 * c) 1 = true ↔ a = 1) ∧ (cb_mb (a + 2 * b + 4 * c) 2 = true ↔ b = 1) ∧ (cb_mb (a + 2 * b + 4 * c) 4 = true ↔ c = 1) := by decide +kernel
theorem cb_S8 (g : Nat → Nat → Nat) (d n q : Nat) : cb_S g d n q < 8 := by
  have h1 := cb_b_le (cb_Lf g d n q 1)
  have h2 := cb_b_le (cb_Lf g d n q 2)
  have h3 := cb_b_le (cb_Lf g d n q 4)
  unfold cb_S
  omega
theorem cb_S_m {n q a : Nat} (ha : cb_A a) : cb_mb (cb_S g d n q) a = true ↔ cb_Lf g d n q a := by
  have h1 := cb_b_le (cb_Lf g d n q 1)
  have h2 := cb_b_le (cb_Lf g d n q 2)
  have h3 := cb_b_le (cb_Lf g d n q 4)
  have k := cb_bits (cb_b (cb_Lf g d n q 1)) (by omega) (cb_b (cb_Lf g d n q 2)) (by omega) (cb_b (cb_Lf g d n q 4)) (by omega)
  rcases ha with e | e | e <;> subst e
  · exact k.1.trans cb_b_1
  · exact k.2.1.trans cb_b_1
  · exact k.2.2.trans cb_b_1
/-- a set with the right members is the set -/
theorem cb_S_u {n q s : Nat} (hs : s < 8) (h : ∀ a, cb_A a → (cb_mb s a = true ↔ cb_Lf g d n q a)) : s = cb_S g d n q :=
  cb_ext hs (cb_S8 g d n q) fun a ha => (h a ha).trans (cb_S_m ha).symm
theorem cb_S_pos (hG : cb_G N g) {n q : Nat} (h : cb_Rc g n) (hq : q < 32) : 0 < cb_pop (cb_S g d n q) := by
  obtain ⟨a, ha, hl⟩ := cb_Lf_ne (d := d) hG h q hq
  exact cb_poppos _ (cb_S8 g d n q) a (cb_A8 ha).1 ha ((cb_S_m ha).mpr hl)
/-! mixed radix -/
def cb_pr (z : Nat → Nat) : Nat → Nat
  | 0 => 1
  | q + 1 => cb_pr z q * z q
def cb_vl (z e : Nat → Nat) : Nat → Nat
  | 0 => 0
  | q + 1 => cb_vl z e q + cb_pr z q * e q
theorem cb_pr_pos {z : Nat → Nat} : ∀ {n : Nat}, (∀ q, q < n → 0 < z q) → 0 < cb_pr z n
  | 0, _ => Nat.one_pos
  | n + 1, h => Nat.mul_pos (cb_pr_pos fun q hq => h q (by omega)) (h n (by omega))
theorem cb_pr_dvd {z : Nat → Nat} {q : Nat} : ∀ {n : Nat}, q < n → ∃ c, cb_pr z n = cb_pr z q * (z q * c)
  | 0, h => absurd h (Nat.not_lt_zero _)
  | n + 1, h => by
    by_cases e : q = n
    · subst e; exact ⟨1, by rw [Nat.mul_one]; rfl⟩
    · obtain ⟨c, hc⟩ := cb_pr_dvd (z := z) (q := q) (n := n) (by omega)
      exact ⟨c * z n, by show cb_pr z n * z n = _; rw [hc]; simp only [Nat.mul_assoc]⟩
theorem cb_pr_le {z : Nat → Nat} {q n : Nat} (hz : ∀ q, q < n → 0 < z q) (h : q ≤ n) : cb_pr z q ≤ cb_pr z n := by
  by_cases e : q = n
  · rw [e]; exact Nat.le_refl _
  · obtain ⟨c, hc⟩ := cb_pr_dvd (z := z) (q := q) (n := n) (by omega)
    have hp := cb_pr_pos hz
    rw [hc] at hp ⊢
    have : 0 < z q * c := Nat.pos_of_mul_pos_left hp
    exact Nat.le_mul_of_pos_right _ this
theorem cb_vl_lt {z e : Nat → Nat} : ∀ {n : Nat}, (∀ q, q < n → e q < z q) → cb_vl z e n < cb_pr z n
  | 0, _ => Nat.one_pos
  | n + 1, h => by
    have a := cb_vl_lt (z := z) (e := e) (n := n) fun q hq => h q (by omega)
    have b := h n (by omega)
    show cb_vl z e n + cb_pr z n * e n < cb_pr z n * z n
    have c : cb_pr z n * (e n + 1) ≤ cb_pr z n * z n := Nat.mul_le_mul_left _ b
    rw [Nat.mul_succ] at c
    omega
theorem cb_vl_dig {z e : Nat → Nat} {q : Nat} : ∀ {n : Nat}, (∀ q, q < n → e q < z q) → q < n → cb_vl z e n / cb_pr z q % z q = e q
  | 0, _, h => absurd h (Nat.not_lt_zero _)
  | n + 1, he, h => by
    show (cb_vl z e n + cb_pr z n * e n) / cb_pr z q % z q = e q
    have hpos : ∀ q, q < n + 1 → 0 < z q := fun q hq => Nat.lt_of_le_of_lt (Nat.zero_le _) (he q hq)
    by_cases e' : q = n
    · subst e'
      have l := cb_vl_lt (z := z) (e := e) (n := q) fun q hq => he q (by omega)
      have p : 0 < cb_pr z q := cb_pr_pos fun q hq => hpos q (by omega)
      rw [Nat.add_mul_div_left _ _ p, Nat.div_eq_of_lt l, Nat.zero_add, Nat.mod_eq_of_lt (he q (by omega))]
    · have hq : q < n := by omega
      obtain ⟨c, hc⟩ := cb_pr_dvd (z := z) (q := q) (n := n) hq
      have p : 0 < cb_pr z q := cb_pr_pos fun q hq => hpos q (by omega)
      have ih := cb_vl_dig (z := z) (e := e) (q := q) (n := n) (fun q hq => he q (by omega)) hq
      rw [hc, Nat.mul_assoc, Nat.add_mul_div_left _ _ p, Nat.mul_assoc, Nat.add_mul_mod_self_left, ih]
theorem cb_vl_top {z : Nat → Nat} : ∀ {n : Nat}, (∀ q, q < n → 0 < z q) → cb_vl z (fun q => z q - 1) n + 1 = cb_pr z n
  | 0, _ => rfl
  | n + 1, h => by
    have a := cb_vl_top (z := z) (n := n) fun q hq => h q (by omega)
    obtain ⟨w, hw⟩ : ∃ w, z n = w + 1 := ⟨z n - 1, by have := h n (by omega); omega⟩
    show cb_vl z (fun q => z q - 1) n + cb_pr z n * (z n - 1) + 1 = cb_pr z n * z n
    rw [hw, Nat.add_sub_cancel, Nat.mul_succ]
    omega
theorem cb_pr_top {z : Nat → Nat} {q n : Nat} (h : ∀ q, q < n → 0 < z q) (hq : q < n) : (cb_pr z n - 1) / cb_pr z q % z q = z q - 1 := by
  have a := cb_vl_top h
  have b : cb_pr z n - 1 = cb_vl z (fun q => z q - 1) n := by omega
  rw [b]
  exact cb_vl_dig (z := z) (e := fun q => z q - 1) (fun q hq => by have := h q hq; show z q - 1 < z q; omega) hq
/-! sizes, weights, bases -/
noncomputable def cb_z (g : Nat → Nat → Nat) (d n q : Nat) : Nat := @ite Nat (cb_Rq g d n q) (Classical.propDecidable _) (cb_pop (cb_S g d n q)) 1
theorem cb_z_t {n q : Nat} (h : cb_Rq g d n q) : cb_z g d n q = cb_pop (cb_S g d n q) := by unfold cb_z; rw [if_pos h]
theorem cb_z_f {n q : Nat} (h : ¬ cb_Rq g d n q) : cb_z g d n q = 1 := by unfold cb_z; rw [if_neg h]
theorem cb_z_pos (hG : cb_G N g) {n q : Nat} (h : cb_Rc g n) (hq : q < 32) : 0 < cb_z g d n q := by
  rcases Classical.em (cb_Rq g d n q) with k | k
  · rw [cb_z_t k]; exact cb_S_pos hG h hq
  · rw [cb_z_f k]; exact Nat.one_pos
theorem cb_z_3 (g : Nat → Nat → Nat) (d n q : Nat) : cb_z g d n q ≤ 3 := by
  rcases Classical.em (cb_Rq g d n q) with k | k
  · rw [cb_z_t k]; exact cb_pop3 _
  · rw [cb_z_f k]; omega
noncomputable def cb_wt' (g : Nat → Nat → Nat) (d n : Nat) : Nat := @ite Nat (cb_Rc g n) (Classical.propDecidable _) (cb_pr (cb_z g d n) 32) 0
theorem cb_wt_t {n : Nat} (h : cb_Rc g n) : cb_wt' g d n = cb_pr (cb_z g d n) 32 := by unfold cb_wt'; rw [if_pos h]
theorem cb_wt_f {n : Nat} (h : ¬ cb_Rc g n) : cb_wt' g d n = 0 := by unfold cb_wt'; rw [if_neg h]
def cb_cap (x : Nat) : Nat := if x ≤ 64 then x else 65
theorem cb_cap_lo {x : Nat} (h : x ≤ 64) : cb_cap x = x := if_pos h
theorem cb_cap_hi {x : Nat} (h : ¬ x ≤ 64) : cb_cap x = 65 := if_neg h
theorem cb_cap_le (x : Nat) : cb_cap x ≤ 65 := by unfold cb_cap; split <;> omega
theorem cb_cap_le' (x : Nat) : cb_cap x ≤ x := by unfold cb_cap; split <;> omega
theorem cb_cap_mul {x z : Nat} (hz : 0 < z) : cb_cap (cb_cap x * z) = cb_cap (x * z) := by
  by_cases h : x ≤ 64
  · rw [cb_cap_lo h]
  · have a : x ≤ x * z := Nat.le_mul_of_pos_right _ hz
    have b : 65 ≤ 65 * z := Nat.le_mul_of_pos_right _ hz
    rw [cb_cap_hi h, cb_cap_hi (x := x * z) (by omega), cb_cap_hi (by omega)]
/-- the sum of the cut weights is within the budget exactly if that of the weights is -/
theorem cb_cap_sm {f : Nat → Nat} {n b : Nat} (hb : b ≤ 64) : cb_sm (fun j => cb_cap (f j)) n ≤ b ↔ cb_sm f n ≤ b := by
  constructor
  · intro h
    have e : cb_sm (fun j => cb_cap (f j)) n = cb_sm f n := cb_sm_congr fun j hj => by
      have k := cb_sm_item (f := fun j => cb_cap (f j)) (p := j) hj
      have k2 : cb_cap (f j) ≤ 64 := by have : cb_cap (f j) ≤ cb_sm (fun j => cb_cap (f j)) n := k; omega
      by_cases h' : f j ≤ 64
      · exact cb_cap_lo h'
      · rw [cb_cap_hi h'] at k2; omega
    omega
  · intro h
    exact Nat.le_trans (cb_sm_mono fun j _ => cb_cap_le' (f j)) h
theorem cb_pr3 {z : Nat → Nat} : ∀ {n : Nat}, (∀ q, z q ≤ 3) → cb_pr z n ≤ 3 ^ n
  | 0, _ => Nat.le_refl _
  | n + 1, h => by
    have a := cb_pr3 (n := n) h
    have b := Nat.mul_le_mul a (h n)
    rw [Nat.pow_succ]
    exact b
theorem cb_wt_le (g : Nat → Nat → Nat) (d n : Nat) : cb_wt' g d n ≤ 3 ^ 32 := by
  rcases Classical.em (cb_Rc g n) with h | h
  · rw [cb_wt_t h]; exact cb_pr3 fun q => cb_z_3 g d n q
  · rw [cb_wt_f h]; omega
/-- the base of node n -/
noncomputable def cb_bo (g : Nat → Nat → Nat) (d n : Nat) : Nat := cb_sm (cb_wt' g d) n
/-- the answer that copy x of node n stands for -/
noncomputable def cb_an (g : Nat → Nat → Nat) (d n q x : Nat) : Nat := cb_me (cb_S g d n q) (x / cb_pr (cb_z g d n) q % cb_z g d n q)
theorem cb_an_A (hG : cb_G N g) (hd : cb_Rc g d) {n q x : Nat} (h : cb_Rq g d n q) : cb_A (cb_an g d n q x) ∧ cb_Lf g d n q (cb_an g d n q x) := by
  obtain ⟨hn, hq⟩ := cb_Rq_R hG hd h
  have p := cb_S_pos (d := d) hG hn hq
  have k : x / cb_pr (cb_z g d n) q % cb_z g d n q < cb_pop (cb_S g d n q) := by
    rw [cb_z_t h]; exact Nat.mod_lt _ p
  obtain ⟨h1, h2⟩ := cb_meA (cb_S8 g d n q) k
  exact ⟨h1, (cb_S_m h1).mp h2⟩
/-- at the entry the last copy answers UNKNOWN -/
theorem cb_an_0 (hG : cb_G N g) (hd : cb_Rc g d) {q : Nat} (h : cb_Rq g d 0 q) : cb_an g d 0 q (cb_wt' g d 0 - 1) = 4 := by
  obtain ⟨hn, hq⟩ := cb_Rq_R hG hd h
  unfold cb_an
  rw [cb_wt_t hn, cb_pr_top (fun q hq => cb_z_pos hG hn hq) hq, cb_z_t h]
  exact cb_me4 _ (cb_S8 g d 0 q) ((cb_S_m (.inr (.inr rfl))).mpr (cb_Lf_0 hq))
/-- the answer behind an edge of m, from copy x of m -/
noncomputable def cb_nx (g : Nat → Nat → Nat) (d m s q x : Nat) : Nat := if cb_cr g d m s q < 32 then cb_an g d m (cb_cr g d m s q) x else cb_cr g d m s q - 32
theorem cb_nx_A (hG : cb_G N g) (hd : cb_Rc g d) {m s q x : Nat} (hm : cb_Rc g m) (hs : s < 2) (ht : cb_tg g m s < 12) (h : cb_Rq g d (cb_tg g m s) q) : cb_A (cb_nx g d m s q x) ∧ cb_Lf g d (cb_tg g m s) q (cb_nx g d m s q x) := by
  obtain ⟨_, hq⟩ := cb_Rq_R hG hd h
  unfold cb_nx
  rcases cb_cr_r hG d m s hq with hc | ⟨a, ha, hc⟩
  · rw [if_pos hc]
    obtain ⟨h1, h2⟩ := cb_an_A hG hd (x := x) (cb_Rq_s hm hs ht hq h hc)
    exact ⟨h1, cb_Lf_s hm hs ht hq hc h2⟩
  · rw [if_neg (by omega), hc, Nat.add_sub_cancel_left]
    exact ⟨ha, cb_Lf_a hm hs ht hq hc⟩
/-- the digits of the copy behind the edge -/
noncomputable def cb_e (g : Nat → Nat → Nat) (d m s x q : Nat) : Nat := @ite Nat (cb_Rq g d (cb_tg g m s) q) (Classical.propDecidable _) (cb_rk (cb_S g d (cb_tg g m s) q) (cb_nx g d m s q x)) 0
theorem cb_e_t {m s q x : Nat} (h : cb_Rq g d (cb_tg g m s) q) : cb_e g d m s x q = cb_rk (cb_S g d (cb_tg g m s) q) (cb_nx g d m s q x) := by unfold cb_e; rw [if_pos h]
theorem cb_e_f {m s q x : Nat} (h : ¬ cb_Rq g d (cb_tg g m s) q) : cb_e g d m s x q = 0 := by unfold cb_e; rw [if_neg h]
theorem cb_e_lt (hG : cb_G N g) (hd : cb_Rc g d) {m s x : Nat} (hm : cb_Rc g m) (hs : s < 2) (ht : cb_tg g m s < 12) : ∀ q, q < 32 → cb_e g d m s x q < cb_z g d (cb_tg g m s) q := by
  intro q hq
  rcases Classical.em (cb_Rq g d (cb_tg g m s) q) with h | h
  · rw [cb_e_t h, cb_z_t h]
    obtain ⟨h1, h2⟩ := cb_nx_A hG hd (x := x) hm hs ht h
    exact (cb_merk (cb_S8 g d _ q) h1 ((cb_S_m h1).mpr h2)).2
  · rw [cb_e_f h, cb_z_f h]; exact Nat.one_pos
theorem cb_e_an (hG : cb_G N g) (hd : cb_Rc g d) {m s x : Nat} (hm : cb_Rc g m) (hs : s < 2) (ht : cb_tg g m s < 12) {q : Nat} (h : cb_Rq g d (cb_tg g m s) q) :
    cb_an g d (cb_tg g m s) q (cb_vl (cb_z g d (cb_tg g m s)) (cb_e g d m s x) 32) = cb_nx g d m s q x := by
  obtain ⟨_, hq⟩ := cb_Rq_R hG hd h
  unfold cb_an
  rw [cb_vl_dig (cb_e_lt hG hd hm hs ht) hq, cb_e_t h]
  obtain ⟨h1, h2⟩ := cb_nx_A hG hd (x := x) hm hs ht h
  exact (cb_merk (cb_S8 g d _ q) h1 ((cb_S_m h1).mpr h2)).1
theorem cb_e_wt (hG : cb_G N g) (hd : cb_Rc g d) {m s x : Nat} (hm : cb_Rc g m) (hs : s < 2) (ht : cb_tg g m s < 12) : cb_vl (cb_z g d (cb_tg g m s)) (cb_e g d m s x) 32 < cb_wt' g d (cb_tg g m s) := by
  rw [cb_wt_t (cb_Rc_s hm hs ht)]
  exact cb_vl_lt (cb_e_lt hG hd hm hs ht)
end cbLeast
end
section
/-! 04: the component: small methods -/
section xwBase
variable {N d : Nat} {g : Nat → Nat → Nat}
variable {f_nodes f_budget f_printed f_tests f_jumps f_present f_copy f_chosen f_truth f_queued f_pending : Int32} {a_kinds a_as a_bs a_yesTo a_noTo a_start a_values a_log a_reached a_raised a_sets a_strides a_queue a_stack a_waiting a_base a_weights a_origin a_nextYes a_nextNo a_decided : Nat → Int32}
theorem cb_ix (n q : Nat) : nI n * 32 + nI q = nI (n * 32 + q) := by
  rw [show (32 : Int32) = nI 32 from rfl, pk_mul, nI_add]
theorem cb_and7 {q : Nat} (h : q < 2 ^ 31) : nI q &&& 7 = nI (q % 8) := pk_andN (by omega) 3 (by decide)
theorem cb_and31 {q : Nat} (h : q < 2 ^ 31) : nI q &&& 31 = nI (q % 32) := pk_andN (by omega) 5 (by decide)
theorem cb_and1 {q : Nat} (h : q < 2 ^ 31) : nI q &&& 1 = nI (q % 2) := pk_andN (by omega) 1 (by decide)
theorem cb_sh3 {q : Nat} (h : q < 2 ^ 31) : nI q >>> ((3 : Int32) &&& 31) = nI (q / 8) := pk_shrN h _ 3 (by decide)
theorem cb_sh5 {q : Nat} (h : q < 2 ^ 31) : nI q >>> ((5 : Int32) &&& 31) = nI (q / 32) := pk_shrN h _ 5 (by decide)
theorem cb_shr1 {q : Nat} (h : q < 2 ^ 31) : nI q >>> ((1 : Int32) &&& 31) = nI (q / 2) := pk_shrN h _ 1 (by decide)
theorem cb_cl {n : Nat} (h : n < 4096) : (nI n).toNatClampNeg = n := nI_clamp (by omega)
theorem cb_in {n M : Nat} (h : n < M) (hM : M < 4096) : vp_in (nI n) M := vp_in_nI h (by omega)
def cb_cp (v s : Nat → Int32) : Nat → (Nat → Int32)
  | 0 => v
  | i + 1 => upd (cb_cp v s i) i (s i)
theorem cb_cp_r {v s : Nat → Int32} (hv : ∀ j, ∃ x, x < 8 ∧ v j = nI x) (hs : ∀ j, ∃ x, x < 8 ∧ s j = nI x) : ∀ i j, ∃ x, x < 8 ∧ cb_cp v s i j = nI x
  | 0, j => hv j
  | i + 1, j => by
    show ∃ x, x < 8 ∧ upd (cb_cp v s i) i (s i) j = nI x
    by_cases e : j = i
    · rw [e, cb_us]; exact hs i
    · rw [cb_un e]; exact cb_cp_r hv hs i j
theorem xw_restart_l (post : SX → Prop) (h : post (f_nodes, f_budget, 0, 0, 0, f_present, f_copy, f_chosen, f_truth, f_queued, f_pending, a_kinds, a_as, a_bs, a_yesTo, a_noTo, a_start, cb_cp a_values a_start 4, a_log, a_reached, a_raised, a_sets, a_strides, a_queue, a_stack, a_waiting, a_base, a_weights, a_origin, a_nextYes, a_nextNo, a_decided)) :
    ∀ k i, i + k = 4 → wX_restart_37 post f_nodes f_budget f_printed f_tests f_jumps f_present f_copy f_chosen f_truth f_queued f_pending (k + 1) (nI i) a_kinds a_as a_bs a_yesTo a_noTo a_start (cb_cp a_values a_start i) a_log a_reached a_raised a_sets a_strides a_queue a_stack a_waiting a_base a_weights a_origin a_nextYes a_nextNo a_decided := by
  intro k
  induction k with
  | zero =>
    intro i hi
    obtain rfl : i = 4 := by omega
    exact br_t (by decide) h
  | succ k ih =>
    intro i hi
    have hin : vp_in (nI i) 4 := cb_in (by omega) (by omega)
    have hc : (nI i).toNatClampNeg = i := cb_cl (by omega)
    refine br_f (nI_ge (b := 4) (by omega) (by decide)) (And.intro hin (And.intro hin (nm_r (e' := cb_cp a_values a_start (i + 1)) ?_ (nm_r (nI_1 i) (ih (i + 1) (by omega))))))
    rw [hc]; rfl
theorem xw_restart_p (hc : ¬ 0 ≤ f_chosen) (post : SX → Prop) (h : post (f_nodes, f_budget, 0, 0, 0, 0, 0, f_chosen, f_truth, f_queued, f_pending, a_kinds, a_as, a_bs, a_yesTo, a_noTo, a_start, cb_cp a_values a_start 4, a_log, a_reached, a_raised, a_sets, a_strides, a_queue, a_stack, a_waiting, a_base, a_weights, a_origin, a_nextYes, a_nextNo, a_decided)) : wpX_restart post (f_nodes, f_budget, f_printed, f_tests, f_jumps, f_present, f_copy, f_chosen, f_truth, f_queued, f_pending, a_kinds, a_as, a_bs, a_yesTo, a_noTo, a_start, a_values, a_log, a_reached, a_raised, a_sets, a_strides, a_queue, a_stack, a_waiting, a_base, a_weights, a_origin, a_nextYes, a_nextNo, a_decided) :=
  br_f hc ⟨5, xw_restart_l (f_present := 0) (f_copy := 0) post h 4 0 rfl⟩
theorem xw_restart_o (hc : 0 ≤ f_chosen) (post : SX → Prop) (h : post (f_nodes, f_budget, 0, 0, 0, 0, ((a_base 0) + (a_weights 0)) - 1, f_chosen, f_truth, f_queued, f_pending, a_kinds, a_as, a_bs, a_yesTo, a_noTo, a_start, cb_cp a_values a_start 4, a_log, a_reached, a_raised, a_sets, a_strides, a_queue, a_stack, a_waiting, a_base, a_weights, a_origin, a_nextYes, a_nextNo, a_decided)) : wpX_restart post (f_nodes, f_budget, f_printed, f_tests, f_jumps, f_present, f_copy, f_chosen, f_truth, f_queued, f_pending, a_kinds, a_as, a_bs, a_yesTo, a_noTo, a_start, a_values, a_log, a_reached, a_raised, a_sets, a_strides, a_queue, a_stack, a_waiting, a_base, a_weights, a_origin, a_nextYes, a_nextNo, a_decided) :=
  br_t hc (nm_e ⟨5, xw_restart_l (f_present := 0) (f_copy := ((a_base 0) + (a_weights 0)) - 1) post h 4 0 rfl⟩)
theorem xw_target (hG : cb_G N g) (hA : cb_Ar g a_kinds a_as a_bs a_yesTo a_noTo) {m s : Nat} (hm : m < 12) (hs : s < 2) (post : Int32 → Prop) (h : post (cb_ti (cb_tg g m s))) : wpX_target post (f_nodes, f_budget, f_printed, f_tests, f_jumps, f_present, f_copy, f_chosen, f_truth, f_queued, f_pending, a_kinds, a_as, a_bs, a_yesTo, a_noTo, a_start, a_values, a_log, a_reached, a_raised, a_sets, a_strides, a_queue, a_stack, a_waiting, a_base, a_weights, a_origin, a_nextYes, a_nextNo, a_decided) (nI m) (nI s) := by
  have hi : vp_in (nI m) 12 := cb_in hm (by omega)
  have hc : (nI m).toNatClampNeg = m := cb_cl (by omega)
  obtain ⟨h0, h1, h2, h3, h4⟩ := hA m
  have hg := hG.2.2 m
  have hN := hG.2.1
  refine pk_eq s 0 (fun e => And.intro hi ?_) (fun e => And.intro hi ?_)
  · unfold cb_tg at h
    rw [if_pos e] at h
    rw [hc, h0, h3]
    refine pk_eq (g 0 m) 0 (fun z => ?_) (fun z => And.intro hi ?_)
    · rw [if_pos z, cb_ti_n (by omega)] at h; exact h
    · rw [if_neg z, cb_ti_t (by omega)] at h; exact h
  · unfold cb_tg at h
    rw [if_neg e] at h
    rw [hc, h0, h4]
    refine pk_lt (g 0 m) 6 (fun z => ?_) (fun z => And.intro hi ?_)
    · rw [if_pos z, cb_ti_n (by omega)] at h; exact h
    · rw [if_neg (by omega), cb_ti_t (by omega)] at h; exact h
theorem xw_testMask (hG : cb_G N g) (hA : cb_Ar g a_kinds a_as a_bs a_yesTo a_noTo) {m : Nat} (hm : m < 12) (post : Int32 → Prop) (h : post (nI (cb_tm (g 0 m) (g 2 m)))) : wpX_testMask post (f_nodes, f_budget, f_printed, f_tests, f_jumps, f_present, f_copy, f_chosen, f_truth, f_queued, f_pending, a_kinds, a_as, a_bs, a_yesTo, a_noTo, a_start, a_values, a_log, a_reached, a_raised, a_sets, a_strides, a_queue, a_stack, a_waiting, a_base, a_weights, a_origin, a_nextYes, a_nextNo, a_decided) (nI m) := by
  have hi : vp_in (nI m) 12 := cb_in hm (by omega)
  have hc : (nI m).toNatClampNeg = m := cb_cl (by omega)
  obtain ⟨h0, h1, h2, h3, h4⟩ := hA m
  have hg := hG.2.2 m
  obtain ⟨e1, e2⟩ := cb_sh1 (g 2 m) hg.2.2.1
  refine And.intro hi (nm_r (e' := nI (2 ^ g 2 m)) (by rw [hc, h2, e1]) (And.intro hi ?_))
  rw [hc, h0]
  unfold cb_tm at h
  refine pk_eq (g 0 m) 6 (fun z => ?_) (fun z => ?_)
  · rw [if_pos z] at h; exact h
  · rw [if_neg z] at h; rw [e2]; exact h
theorem xw_crossTest_27 (hG : cb_G N g) (hd : g 0 d = 6 ∨ g 0 d = 7) {m s q : Nat} (hm : g 0 m = 6 ∨ g 0 m = 7) (ha : g 1 m = q / 8) (hs : s < 2) (hq : q < 32) (post : Int32 → Prop) (h : post (cb_ci (cb_cr g d m s q))) {x5 : Int32} (h5 : x5 = cb_rg (g 0 m) (g 2 m) s) :
    wX_crossTest_27 post (nI q) (nI (q % 8)) x5 f_nodes f_budget f_printed f_tests f_jumps f_present f_copy f_chosen (nI (cb_tm (g 0 d) (g 2 d))) f_queued f_pending a_kinds a_as a_bs a_yesTo a_noTo a_start a_values a_log a_reached a_raised a_sets a_strides a_queue a_stack a_waiting a_base a_weights a_origin a_nextYes a_nextNo a_decided := by
  have hg := hG.2.2 m
  have hg2 := hG.2.2 d
  obtain ⟨t1, t2⟩ := cb_tab (s := s) (x := q % 8) hm hd hg.2.2.1 hg2.2.2.1 (by omega) hs
  rw [cb_cr, if_neg (by omega), if_pos ha, if_neg (by omega), if_neg (by omega), if_neg (by omega), if_neg (by omega)] at h
  rw [← h5] at t1 t2
  refine nm_r (e' := cb_wt (g 0 d) (g 2 d) (q % 8)) rfl ?_
  refine ek_if t1 (fun z => ?_) (fun z => ek_if t2 (fun y => ?_) (fun y => ?_))
  · rw [if_pos z] at h; exact h
  · rw [if_neg z, if_pos y] at h; exact h
  · rw [if_neg z, if_neg y, cb_ci_q hq] at h; exact h
theorem xw_crossTest (hG : cb_G N g) (hA : cb_Ar g a_kinds a_as a_bs a_yesTo a_noTo) (hd : g 0 d = 6 ∨ g 0 d = 7) {m s q : Nat} (hm : m < 12) (hk : g 0 m = 6 ∨ g 0 m = 7) (ha : g 1 m = q / 8) (hs : s < 2) (hq : q < 32) (post : Int32 → Prop) (h : post (cb_ci (cb_cr g d m s q))) :
    wpX_crossTest post (f_nodes, f_budget, f_printed, f_tests, f_jumps, f_present, f_copy, f_chosen, nI (cb_tm (g 0 d) (g 2 d)), f_queued, f_pending, a_kinds, a_as, a_bs, a_yesTo, a_noTo, a_start, a_values, a_log, a_reached, a_raised, a_sets, a_strides, a_queue, a_stack, a_waiting, a_base, a_weights, a_origin, a_nextYes, a_nextNo, a_decided) (nI m) (nI s) (nI q) := by
  refine nm_r (cb_and7 (by omega)) (xw_testMask hG hA hm _ ?_)
  refine pk_eq s 0 (fun e => ?_) (fun e => nm_e ?_)
  · exact xw_crossTest_27 (s := s) hG hd hk ha hs hq post h (by rw [cb_rg, if_pos e])
  · exact xw_crossTest_27 (s := s) hG hd hk ha hs hq post h (by rw [cb_rg, if_neg e])
theorem xw_cross (hG : cb_G N g) (hA : cb_Ar g a_kinds a_as a_bs a_yesTo a_noTo) (hd : g 0 d = 6 ∨ g 0 d = 7) {m s q : Nat} (hm : m < 12) (hs : s < 2) (hq : q < 32) (post : Int32 → Prop) (h : post (cb_ci (cb_cr g d m s q))) :
    wpX_cross post (f_nodes, f_budget, f_printed, f_tests, f_jumps, f_present, f_copy, f_chosen, nI (cb_tm (g 0 d) (g 2 d)), f_queued, f_pending, a_kinds, a_as, a_bs, a_yesTo, a_noTo, a_start, a_values, a_log, a_reached, a_raised, a_sets, a_strides, a_queue, a_stack, a_waiting, a_base, a_weights, a_origin, a_nextYes, a_nextNo, a_decided) (nI m) (nI s) (nI q) := by
  have hi : vp_in (nI m) 12 := cb_in hm (by omega)
  have hc : (nI m).toNatClampNeg = m := cb_cl (by omega)
  obtain ⟨h0, h1, h2, h3, h4⟩ := hA m
  have hg := hG.2.2 m
  have hg2 := hG.2.2 d
  have h' := h
  refine And.intro hi (nm_r (e' := nI (g 0 m)) (by rw [hc, h0]) (nm_r (cb_and7 (by omega)) ?_))
  rw [cb_cr] at h
  refine pk_le (g 0 m) 1 (fun z => ?_) (fun z => And.intro hi ?_)
  · rw [if_pos z, cb_ci_q hq] at h; exact h
  rw [if_neg (by omega)] at h
  rw [hc, h1, h2, cb_sh3 (by omega)]
  refine pk_eq (g 1 m) (q / 8) (fun z1 => ?_) (fun z1 => ?_)
  rotate_left
  · rw [if_neg z1, cb_ci_q hq] at h; exact h
  rw [if_pos z1] at h
  refine pk_lt (g 0 m) 2 (fun z2 => absurd z2 (by omega)) (fun z2 => ?_)
  refine pk_lt 5 (g 0 m) (fun z3 => ?_) (fun z3 => ?_)
  · exact xw_crossTest hG hA hd hm (by omega) z1 hs hq _ h'
  refine pk_eq (g 0 m) 2 (fun z4 => And.intro hi ?_) (fun z4 => ?_)
  · rw [if_pos z4] at h
    rw [nI_add, cb_and7 (by omega)]
    obtain ⟨i, hi, e⟩ : ∃ i, i < 2 ∧ g 0 d = 6 + i := ⟨g 0 d - 6, by omega, by omega⟩
    refine ek_if (d := cb_hd (g 0 d) (g 2 d) ((g 2 m + q % 8) % 8) = false) (by rw [e]; exact cb_set i hi _ hg2.2.2.1 _ (by omega)) (fun y => ?_) (fun y => ?_)
    · rw [if_neg (by rw [y]; decide)] at h; exact h
    · rw [if_pos (by revert y; cases cb_hd (g 0 d) (g 2 d) ((g 2 m + q % 8) % 8) <;> simp)] at h; exact h
  rw [if_neg z4] at h
  refine pk_eq (g 0 m) 3 (fun z5 => And.intro hi ?_) (fun z5 => ?_)
  · have := hg.2.2.2.2.2 z5
    rw [if_pos z5, cb_ci_q (by omega)] at h
    rw [show (8 : Int32) = nI 8 from rfl, pk_mul, nI_add]
    exact h
  rw [if_neg z5] at h
  refine pk_eq (g 0 m) 4 (fun z6 => And.intro hi (And.intro hi ?_)) (fun z6 => ?_)
  · rw [if_pos z6, cb_ci_q (by omega)] at h
    rw [nI_add, cb_and7 (by omega), show (8 : Int32) = nI 8 from rfl, pk_mul, nI_add]
    exact h
  rw [if_neg z6] at h
  refine pk_eq (g 0 m) 5 (fun z7 => ?_) (fun z7 => trivial)
  rw [if_pos z7] at h
  exact h
end xwBase
end
section
/-! 05: the component's markReached -/
section xwReach
variable {N : Nat} {g : Nat → Nat → Nat}
variable {f_nodes f_budget f_printed f_tests f_jumps f_present f_copy f_chosen f_truth f_queued f_pending : Int32} {a_kinds a_as a_bs a_yesTo a_noTo a_start a_values a_log a_reached a_raised a_sets a_strides a_queue a_stack a_waiting a_base a_weights a_origin a_nextYes a_nextNo a_decided : Nat → Int32}
theorem cb_sm_0 {f : Nat → Nat} {n : Nat} (h : ∀ j, j < n → f j = 0) : cb_sm f n = 0 := by
  have := cb_sm_le (f := f) (c := 0) (n := n) (fun j hj => by rw [h j hj]; exact Nat.le_refl _)
  omega
def cb_RI (g : Nat → Nat → Nat) (Ex : Nat → Prop) (c Pn : Nat) (re st : Nat → Int32) : Prop :=
  (∀ n, n < 12 → ¬ re n = 0 → cb_Rc g n) ∧ c + Pn = cb_sm (cb_id re) 12 ∧
  (∀ i, i < Pn → ∃ n, n < 12 ∧ st i = nI n ∧ ¬ re n = 0) ∧
  (∀ n, n < 12 → ¬ re n = 0 → (∃ i, i < Pn ∧ st i = nI n) ∨ Ex n ∨ ∀ s, s < 2 → cb_tg g n s < 12 → ¬ re (cb_tg g n s) = 0)
theorem cb_RI_push {Ex : Nat → Prop} {c Pn : Nat} {re st : Nat → Int32} (h : cb_RI g Ex c Pn re st) {t : Nat} (ht : t < 12) (hr : cb_Rc g t) (h0 : re t = 0) : cb_RI g Ex c (Pn + 1) (upd re t 1) (upd st Pn (nI t)) := by
  obtain ⟨a, b, e, f⟩ := h
  have mono : ∀ n, ¬ re n = 0 → ¬ upd re t 1 n = 0 := by
    intro n hn
    by_cases z : n = t
    · rw [z, cb_us]; decide
    · rw [cb_un z]; exact hn
  refine ⟨?_, ?_, ?_, ?_⟩
  · intro n hn hz
    by_cases z : n = t
    · rw [z]; exact hr
    · rw [cb_un z] at hz; exact a n hn hz
  · rw [cb_sm_mark ht h0]; omega
  · intro i hi
    by_cases z : i = Pn
    · rw [z, cb_us]; exact ⟨t, ht, rfl, by rw [cb_us]; decide⟩
    · obtain ⟨n, hn, h1, h2⟩ := e i (by omega)
      exact ⟨n, hn, by rw [cb_un z]; exact h1, mono n h2⟩
  · intro n hn hz
    by_cases z : n = t
    · exact .inl ⟨Pn, by omega, by rw [cb_us, z]⟩
    · rw [cb_un z] at hz
      rcases f n hn hz with ⟨i, hi, h1⟩ | h1 | h1
      · exact .inl ⟨i, by omega, by rw [cb_un (by omega)]; exact h1⟩
      · exact .inr (.inl h1)
      · exact .inr (.inr fun s hs ht' => mono _ (h1 s hs ht'))
theorem xw_visit {Ex : Nat → Prop} {c Pn : Nat} (h : cb_RI g Ex c Pn a_reached a_stack) {t : Nat} (hr : t < 12 → cb_Rc g t) (post : SX → Prop)
    (hk : ∀ Pn' re' st', cb_RI g Ex c Pn' re' st' → (t < 12 → ¬ re' t = 0) → (∀ n, ¬ a_reached n = 0 → ¬ re' n = 0) → post (f_nodes, f_budget, f_printed, f_tests, f_jumps, f_present, f_copy, f_chosen, f_truth, f_queued, nI Pn', a_kinds, a_as, a_bs, a_yesTo, a_noTo, a_start, a_values, a_log, re', a_raised, a_sets, a_strides, a_queue, st', a_waiting, a_base, a_weights, a_origin, a_nextYes, a_nextNo, a_decided)) :
    wpX_visit post (f_nodes, f_budget, f_printed, f_tests, f_jumps, f_present, f_copy, f_chosen, f_truth, f_queued, nI Pn, a_kinds, a_as, a_bs, a_yesTo, a_noTo, a_start, a_values, a_log, a_reached, a_raised, a_sets, a_strides, a_queue, a_stack, a_waiting, a_base, a_weights, a_origin, a_nextYes, a_nextNo, a_decided) (cb_ti t) := by
  by_cases ht : t < 12
  · rw [cb_ti_t ht]
    have hi : vp_in (nI t) 12 := cb_in ht (by omega)
    have hc : (nI t).toNatClampNeg = t := cb_cl (by omega)
    have hP : Pn ≤ 12 := by have := h.2.1; have := cb_sm_id a_reached 12; omega
    have hi2 : vp_in (nI Pn) 384 := cb_in (by omega) (by omega)
    have hc2 : (nI Pn).toNatClampNeg = Pn := cb_cl (by omega)
    refine br_f (nI_pos (by omega)) (And.intro hi (br_c (fun z => ?_) (fun z => ?_)))
    · rw [hc] at z
      refine And.intro hi (nm_r (e' := upd a_reached t 1) (by rw [hc, cb_vb1]) (And.intro hi2 (nm_r (e' := upd a_stack Pn (nI t)) (by rw [hc2]) (nm_r (nI_1 Pn) ?_))))
      refine hk _ _ _ (cb_RI_push h ht (hr ht) z) (fun _ => by rw [cb_us]; decide) fun n hn => ?_
      by_cases y : n = t
      · rw [y, cb_us]; decide
      · rw [cb_un y]; exact hn
    · rw [hc] at z
      exact hk _ _ _ h (fun _ => z) fun n hn => hn
  · rw [cb_ti_n ht]
    exact br_t (by decide) (hk _ _ _ h (fun z => absurd z ht) fun n hn => hn)
/-- nothing waits: the marks are the reached nodes -/
theorem cb_RI_end {c : Nat} {re st : Nat → Int32} (hG : cb_G N g) (h : cb_RI g (fun _ => False) c 0 re st) (h0 : ¬ re 0 = 0) : ∀ n, n < 12 → (¬ re n = 0 ↔ cb_Rc g n) := by
  intro n hn
  refine ⟨h.1 n hn, fun hr => ?_⟩
  refine (hr (fun n => n < 12 ∧ ¬ re n = 0) ⟨by omega, h0⟩ ?_).2
  intro m s hm hs ht
  refine ⟨ht, ?_⟩
  rcases h.2.2.2 m hm.1 hm.2 with ⟨i, hi, _⟩ | z | z
  · omega
  · exact absurd z id
  · exact z s hs ht
theorem xw_mark_l (hG : cb_G N g) (hA : cb_Ar g a_kinds a_as a_bs a_yesTo a_noTo) (post : SX → Prop)
    (hk : ∀ Pn re st, (∀ n, n < 12 → (¬ re n = 0 ↔ cb_Rc g n)) → post (f_nodes, f_budget, f_printed, f_tests, f_jumps, f_present, f_copy, f_chosen, f_truth, f_queued, Pn, a_kinds, a_as, a_bs, a_yesTo, a_noTo, a_start, a_values, a_log, re, a_raised, a_sets, a_strides, a_queue, st, a_waiting, a_base, a_weights, a_origin, a_nextYes, a_nextNo, a_decided)) :
    ∀ k c Pn re st, c + k = 12 → cb_RI g (fun _ => False) c Pn re st → ¬ re 0 = 0 → wX_markReached_33 post (k + 1) (nI c) f_nodes f_budget f_printed f_tests f_jumps f_present f_copy f_chosen f_truth f_queued (nI Pn) a_kinds a_as a_bs a_yesTo a_noTo a_start a_values a_log re a_raised a_sets a_strides a_queue st a_waiting a_base a_weights a_origin a_nextYes a_nextNo a_decided := by
  intro k
  induction k with
  | zero =>
    intro c Pn re st hc h h0
    obtain rfl : c = 12 := by omega
    have hP : Pn = 0 := by have := h.2.1; have := cb_sm_id re 12; omega
    subst hP
    exact br_t (by decide) (hk _ _ _ (cb_RI_end hG h h0))
  | succ k ih =>
    intro c Pn re st hc h h0
    refine br_f (nI_ge (b := 12) (by omega) (by decide)) ?_
    have hP : Pn ≤ 12 := by have := h.2.1; have := cb_sm_id re 12; omega
    refine pk_le Pn 0 (fun z => ?_) (fun z => ?_)
    · obtain rfl : Pn = 0 := by omega
      exact hk _ _ _ (cb_RI_end hG h h0)
    · obtain ⟨P, rfl⟩ : ∃ P, Pn = P + 1 := ⟨Pn - 1, by omega⟩
      obtain ⟨n, hn, hst, hre⟩ := h.2.2.1 P (by omega)
      have hR := h.1 n hn hre
      refine nm_r (nI_pred P) (And.intro (cb_in (by omega) (by omega)) (nm_r (e' := nI n) (by rw [cb_cl (by omega)]; exact hst) ?_))
      refine xw_target (s := 0) hG hA hn (by omega) _ ?_
      refine xw_target (s := 1) hG hA hn (by omega) _ ?_
      have h2 : cb_RI g (fun x => x = n) (c + 1) P re st := by
        refine ⟨h.1, by have := h.2.1; omega, fun i hi => h.2.2.1 i (by omega), fun n' hn' hz => ?_⟩
        rcases h.2.2.2 n' hn' hz with ⟨i, hi, e⟩ | e | e
        · by_cases y : i = P
          · rw [y, hst, nI_eq (by omega) (by omega)] at e
            exact .inr (.inl e.symm)
          · exact .inl ⟨i, by omega, e⟩
        · exact absurd e id
        · exact .inr (.inr e)
      refine xw_visit h2 (fun ht => cb_Rc_s hR (by omega) ht) _ ?_
      intro P1 re1 st1 h3 hm1 mo1
      refine xw_visit h3 (fun ht => cb_Rc_s hR (by omega) ht) _ ?_
      intro P2 re2 st2 h4 hm2 mo2
      refine nm_r (nI_1 c) (ih (c + 1) P2 re2 st2 (by omega) ?_ (mo2 _ (mo1 _ h0)))
      refine ⟨h4.1, h4.2.1, h4.2.2.1, fun n' hn' hz => ?_⟩
      rcases h4.2.2.2 n' hn' hz with e | e | e
      · exact .inl e
      · refine .inr (.inr fun s hs ht => ?_)
        subst e
        obtain rfl | rfl : s = 0 ∨ s = 1 := by omega
        · exact mo2 _ (hm1 ht)
        · exact hm2 ht
      · exact .inr (.inr e)
theorem xw_mark_2 (hG : cb_G N g) (hA : cb_Ar g a_kinds a_as a_bs a_yesTo a_noTo) (post : SX → Prop)
    (hk : ∀ Pn re st, (∀ n, n < 12 → (¬ re n = 0 ↔ cb_Rc g n)) → post (f_nodes, f_budget, f_printed, f_tests, f_jumps, f_present, f_copy, f_chosen, f_truth, f_queued, Pn, a_kinds, a_as, a_bs, a_yesTo, a_noTo, a_start, a_values, a_log, re, a_raised, a_sets, a_strides, a_queue, st, a_waiting, a_base, a_weights, a_origin, a_nextYes, a_nextNo, a_decided)) :
    ∀ k c re, c + k = 12 → (∀ n, n < c → re n = 0) → wX_markReached_2 post f_nodes f_budget f_printed f_tests f_jumps f_present f_copy f_chosen f_truth f_queued f_pending (k + 1) (nI c) a_kinds a_as a_bs a_yesTo a_noTo a_start a_values a_log re a_raised a_sets a_strides a_queue a_stack a_waiting a_base a_weights a_origin a_nextYes a_nextNo a_decided := by
  intro k
  induction k with
  | zero =>
    intro c re hc h
    obtain rfl : c = 12 := by omega
    refine br_t (by decide) ?_
    have h1 : cb_RI g (fun _ => False) 0 0 re a_stack := by
      refine ⟨fun n hn hz => absurd (h n hn) hz, ?_, fun i hi => absurd hi (Nat.not_lt_zero _), fun n hn hz => absurd (h n hn) hz⟩
      rw [cb_sm_0 fun j hj => cb_id_0 (h j hj)]
    refine xw_visit (t := 0) h1 (fun _ => cb_Rc_0) _ ?_
    intro P1 re1 st1 h3 hm1 mo1
    exact ⟨13, xw_mark_l hG hA post hk 12 0 P1 re1 st1 rfl h3 (hm1 (by omega))⟩
  | succ k ih =>
    intro c re hc h
    refine br_f (nI_ge (b := 12) (by omega) (by decide)) (And.intro (cb_in (by omega) (by omega)) (nm_r (e' := upd re c 0) (by rw [cb_cl (by omega), cb_vb0]) (nm_r (nI_1 c) (ih (c + 1) _ (by omega) fun n hn => ?_))))
    by_cases z : n = c
    · rw [z, cb_us]
    · rw [cb_un z]; exact h n (by omega)
theorem xw_mark (hG : cb_G N g) (hA : cb_Ar g a_kinds a_as a_bs a_yesTo a_noTo) (post : SX → Prop)
    (hk : ∀ Pn re st, (∀ n, n < 12 → (¬ re n = 0 ↔ cb_Rc g n)) → post (f_nodes, f_budget, f_printed, f_tests, f_jumps, f_present, f_copy, f_chosen, f_truth, f_queued, Pn, a_kinds, a_as, a_bs, a_yesTo, a_noTo, a_start, a_values, a_log, re, a_raised, a_sets, a_strides, a_queue, st, a_waiting, a_base, a_weights, a_origin, a_nextYes, a_nextNo, a_decided)) : wpX_markReached post (f_nodes, f_budget, f_printed, f_tests, f_jumps, f_present, f_copy, f_chosen, f_truth, f_queued, f_pending, a_kinds, a_as, a_bs, a_yesTo, a_noTo, a_start, a_values, a_log, a_reached, a_raised, a_sets, a_strides, a_queue, a_stack, a_waiting, a_base, a_weights, a_origin, a_nextYes, a_nextNo, a_decided) :=
  ⟨13, xw_mark_2 hG hA post hk 12 0 a_reached rfl fun n hn => absurd hn (Nat.not_lt_zero _)⟩
end xwReach
end
section
/-! 06: the component's questions: give, raise, lookBack, raiseAll -/
section xwGive
variable {N d : Nat} {g : Nat → Nat → Nat}
variable {f_nodes f_budget f_printed f_tests f_jumps f_present f_copy f_chosen f_truth f_queued f_pending : Int32} {a_kinds a_as a_bs a_yesTo a_noTo a_start a_values a_log a_reached a_raised a_sets a_strides a_queue a_stack a_waiting a_base a_weights a_origin a_nextYes a_nextNo a_decided : Nat → Int32}
def cb_has (x : Int32) (a : Nat) : Prop := cb_mb x.toNatClampNeg a = true
theorem cb_has_n {s a : Nat} (hs : s < 8) : cb_has (nI s) a ↔ cb_mb s a = true := by
  unfold cb_has; rw [cb_cl (by omega)]
def cb_pp (x : Int32) : Nat := cb_pop x.toNatClampNeg
theorem cb_pp_n {s : Nat} (hs : s < 8) : cb_pp (nI s) = cb_pop s := by
  unfold cb_pp; rw [cb_cl (by omega)]
/-- what give keeps -/
def cb_GI (g : Nat → Nat → Nat) (d c Pn : Nat) (ra se st wa : Nat → Int32) : Prop :=
  Pn = cb_sm (cb_id wa) 384 ∧
  (∀ i, i < Pn → ∃ p, p < 384 ∧ st i = nI p ∧ ¬ wa p = 0) ∧
  (∀ i j, i < Pn → j < Pn → st i = st j → i = j) ∧
  (∀ p, p < 384 → ¬ wa p = 0 → ¬ ra p = 0) ∧
  (∀ p, p < 384 → ∃ s, s < 8 ∧ se p = nI s ∧ ∀ a, cb_A a → cb_mb s a = true → cb_Lf g d (p / 32) (p % 32) a) ∧
  c + Pn + cb_sm (fun p => 3 - cb_pp (se p)) 384 ≤ 1152
/-- what give does at p with x -/
def cb_GV (p x : Nat) (se wa se' wa' : Nat → Int32) : Prop :=
  (∀ p', p' ≠ p → se' p' = se p') ∧ (∀ s, s < 8 → se p = nI s → se' p = nI (s ||| x)) ∧ (∀ p', ¬ wa p' = 0 → ¬ wa' p' = 0) ∧ (¬ se' p = se p → ¬ wa' p = 0)
theorem cb_GI_sum {c Pn : Nat} {ra se st wa : Nat → Int32} {p s x : Nat} (h : cb_GI g d c Pn ra se st wa) (hp : p < 384) (hs : s < 8) (hx : x < 8) (e : se p = nI s) (hn : s ||| x ≠ s) :
    c + (Pn + 1) + cb_sm (fun j => 3 - cb_pp (upd se p (nI (s ||| x)) j)) 384 ≤ 1152 := by
  have k := cb_sm_upd (f := fun j => 3 - cb_pp (se j)) (g := fun j => 3 - cb_pp (upd se p (nI (s ||| x)) j)) (p := p) (fun j hj => by show 3 - cb_pp (upd se p (nI (s ||| x)) j) = 3 - cb_pp (se j); rw [cb_un hj]) hp
  have e1 : cb_pp (se p) = cb_pop s := by rw [e, cb_pp_n hs]
  have e2 : cb_pp (upd se p (nI (s ||| x)) p) = cb_pop (s ||| x) := by rw [cb_us, cb_pp_n (cb_or8 s hs x hx)]
  rw [e1, e2] at k
  have l := cb_popor s hs x hx hn
  have l3 := cb_pop3 (s ||| x)
  have l4 := h.2.2.2.2.2
  omega
theorem cb_GI_sets {c Pn : Nat} {ra se st wa : Nat → Int32} {p s x : Nat} (h : cb_GI g d c Pn ra se st wa) (hs : s < 8) (hx : x < 8) (e : se p = nI s) (hp : p < 384)
    (hl : ∀ a, cb_A a → cb_mb x a = true → cb_Lf g d (p / 32) (p % 32) a) : ∀ j, j < 384 → ∃ t, t < 8 ∧ upd se p (nI (s ||| x)) j = nI t ∧ ∀ a, cb_A a → cb_mb t a = true → cb_Lf g d (j / 32) (j % 32) a := by
  intro j hj
  by_cases z : j = p
  · subst z
    refine ⟨s ||| x, cb_or8 s hs x hx, cb_us, fun a ha hm => ?_⟩
    rcases (cb_mb_or hs hx ha).mp hm with q | q
    · obtain ⟨t, ht, e2, h2⟩ := h.2.2.2.2.1 j hj
      rw [e, nI_eq (by omega) (by omega)] at e2
      subst e2
      exact h2 a ha q
    · exact hl a ha q
  · rw [cb_un z]; exact h.2.2.2.2.1 j hj
theorem xw_give {c Pn : Nat} (h : cb_GI g d c Pn a_raised a_sets a_stack a_waiting) {p x : Nat} (hp : p < 384) (hr : ¬ a_raised p = 0) (hx : x < 8)
    (hl : ∀ a, cb_A a → cb_mb x a = true → cb_Lf g d (p / 32) (p % 32) a) (post : SX → Prop)
    (hk : ∀ Pn' se' st' wa', cb_GI g d c Pn' a_raised se' st' wa' → cb_GV p x a_sets a_waiting se' wa' → post (f_nodes, f_budget, f_printed, f_tests, f_jumps, f_present, f_copy, f_chosen, f_truth, f_queued, nI Pn', a_kinds, a_as, a_bs, a_yesTo, a_noTo, a_start, a_values, a_log, a_reached, a_raised, se', a_strides, a_queue, st', wa', a_base, a_weights, a_origin, a_nextYes, a_nextNo, a_decided)) :
    wpX_give post (f_nodes, f_budget, f_printed, f_tests, f_jumps, f_present, f_copy, f_chosen, f_truth, f_queued, nI Pn, a_kinds, a_as, a_bs, a_yesTo, a_noTo, a_start, a_values, a_log, a_reached, a_raised, a_sets, a_strides, a_queue, a_stack, a_waiting, a_base, a_weights, a_origin, a_nextYes, a_nextNo, a_decided) (nI p) (nI x) := by
  have hi : vp_in (nI p) 384 := cb_in hp (by omega)
  have hc : (nI p).toNatClampNeg = p := cb_cl (by omega)
  obtain ⟨s, hs, e, hsl⟩ := h.2.2.2.2.1 p hp
  have h8 := cb_or8 s hs x hx
  have su : ∀ t, t < 8 → a_sets p = nI t → t = s := fun t ht et => by rw [e, nI_eq (by omega) (by omega)] at et; exact et.symm
  have hPn : Pn ≤ 384 := by have := h.1; have := cb_sm_id a_waiting 384; omega
  refine And.intro hi (nm_r (e' := nI (s ||| x)) (by rw [hc, e, cb_orI s hs x hx]) (And.intro hi ?_))
  rw [hc, e]
  refine pk_eq (s ||| x) s (fun z => ?_) (fun z => And.intro hi (nm_e (And.intro hi ?_)))
  · refine hk _ _ _ _ h ⟨fun _ _ => rfl, fun t ht et => ?_, fun _ q => q, fun q => absurd rfl q⟩
    rw [su t ht et, z, e]
  · have gs := cb_GI_sets h hs hx e hp hl
    have gu := cb_GI_sum h hp hs hx e z
    refine br_c (fun w => ?_) (fun w => ?_)
    · have hf := cb_sm_free hp w
      have h1 := h.1
      refine br_f (nI_ge (b := 384) (by omega) (by decide)) (And.intro hi (nm_r (e' := upd a_waiting p 1) (by rw [cb_vb1]) (And.intro (cb_in (by omega) (by omega)) (nm_r (e' := upd a_stack Pn (nI p)) (by rw [cb_cl (by omega)]) (nm_r (nI_1 Pn) ?_)))))
      refine hk _ _ _ _ ⟨?_, ?_, ?_, ?_, gs, gu⟩ ⟨fun p' hp' => cb_un hp', fun t ht et => ?_, fun p' q => ?_, fun _ => ?_⟩
      · rw [cb_sm_mark hp w]; omega
      · intro i hi'
        by_cases y : i = Pn
        · rw [y, cb_us]; exact ⟨p, hp, rfl, by rw [cb_us]; decide⟩
        · obtain ⟨p', hp', e1, e2⟩ := h.2.1 i (by omega)
          refine ⟨p', hp', by rw [cb_un y]; exact e1, ?_⟩
          rw [cb_un (fun q => e2 (by rw [q]; exact w))]; exact e2
      · intro i j hi' hj' hij
        have nin : ∀ i, i < Pn → ¬ a_stack i = nI p := by
          intro i hi' q
          obtain ⟨p', hp', e1, e2⟩ := h.2.1 i hi'
          rw [q, nI_eq (by omega) (by omega)] at e1
          exact e2 (by rw [← e1]; exact w)
        by_cases y : i = Pn
        · by_cases y2 : j = Pn
          · omega
          · rw [y, cb_us, cb_un y2] at hij
            exact absurd hij.symm (nin j (by omega))
        · by_cases y2 : j = Pn
          · rw [y2, cb_us, cb_un y] at hij
            exact absurd hij (nin i (by omega))
          · rw [cb_un y, cb_un y2] at hij
            exact h.2.2.1 i j (by omega) (by omega) hij
      · intro p' hp' q
        by_cases y : p' = p
        · rw [y]; exact hr
        · rw [cb_un y] at q; exact h.2.2.2.1 p' hp' q
      · rw [su t ht et, cb_us]
      · by_cases y : p' = p
        · rw [y, cb_us]; decide
        · rw [cb_un y]; exact q
      · rw [cb_us]; decide
    · refine hk _ _ _ _ ⟨h.1, h.2.1, h.2.2.1, h.2.2.2.1, gs, by omega⟩ ⟨fun p' hp' => cb_un hp', fun t ht et => ?_, fun p' q => q, fun _ => w⟩
      rw [su t ht et, cb_us]
/-- what follows of give -/
theorem cb_GV_mono {c Pn : Nat} {ra se st wa se' wa' : Nat → Int32} {p x : Nat} (h : cb_GI g d c Pn ra se st wa) (hp : p < 384) (hx : x < 8) (v : cb_GV p x se wa se' wa') :
    (∀ j, j < 384 → ∀ a, cb_A a → cb_has (se j) a → cb_has (se' j) a) ∧ (∀ a, cb_A a → cb_mb x a = true → cb_has (se' p) a) ∧ (∀ j, ¬ se' j = se j → ¬ wa' j = 0) := by
  obtain ⟨s, hs, e, _⟩ := h.2.2.2.2.1 p hp
  have e' := v.2.1 s hs e
  have h8 := cb_or8 s hs x hx
  refine ⟨fun j hj a ha q => ?_, fun a ha q => ?_, fun j q => ?_⟩
  · by_cases y : j = p
    · subst y
      rw [e, cb_has_n hs] at q
      rw [e', cb_has_n h8, cb_mb_or hs hx ha]
      exact .inl q
    · rw [v.1 j y]; exact q
  · rw [e', cb_has_n h8, cb_mb_or hs hx ha]
    exact .inr q
  · by_cases y : j = p
    · subst y; exact v.2.2.2 q
    · exact absurd (v.1 j y) q
/-- the questions raised so far -/
def cb_QI (g : Nat → Nat → Nat) (d Qn Pn : Nat) (ra se qu st wa : Nat → Int32) : Prop :=
  cb_GI g d 0 Pn ra se st wa ∧ Qn = cb_sm (cb_id ra) 384 ∧
  (∀ i, i < Qn → ∃ p, p < 384 ∧ qu i = nI p ∧ ¬ ra p = 0) ∧
  (∀ p, p < 384 → ¬ ra p = 0 → ∃ i, i < Qn ∧ qu i = nI p) ∧
  (∀ p, p < 384 → ¬ ra p = 0 → cb_Rq g d (p / 32) (p % 32)) ∧
  (∀ p, p < 384 → ¬ se p = 0 → ¬ wa p = 0) ∧
  (∀ q, q < 32 → ¬ ra q = 0 → cb_has (se q) 4)
/-- the state has only grown -/
def cb_QX (Qn Qn' : Nat) (ra se qu ra' se' qu' : Nat → Int32) : Prop :=
  Qn ≤ Qn' ∧ (∀ i, i < Qn → qu' i = qu i) ∧ (∀ p, ¬ ra p = 0 → ¬ ra' p = 0) ∧ (∀ p, p < 384 → ∀ a, cb_A a → cb_has (se p) a → cb_has (se' p) a)
theorem cb_QX_r {Qn : Nat} {ra se qu : Nat → Int32} : cb_QX Qn Qn ra se qu ra se qu := ⟨Nat.le_refl _, fun _ _ => rfl, fun _ h => h, fun _ _ _ _ h => h⟩
theorem cb_QX_t {Q1 Q2 Q3 : Nat} {r1 s1 q1 r2 s2 q2 r3 s3 q3 : Nat → Int32} (h : cb_QX Q1 Q2 r1 s1 q1 r2 s2 q2) (k : cb_QX Q2 Q3 r2 s2 q2 r3 s3 q3) : cb_QX Q1 Q3 r1 s1 q1 r3 s3 q3 :=
  ⟨Nat.le_trans h.1 k.1, fun i hi => (k.2.1 i (Nat.lt_of_lt_of_le hi h.1)).trans (h.2.1 i hi), fun p z => k.2.2.1 p (h.2.2.1 p z), fun p hp a ha z => k.2.2.2 p hp a ha (h.2.2.2 p hp a ha z)⟩
theorem xw_giveA {Qn Pn : Nat} (h : cb_QI g d Qn Pn a_raised a_sets a_queue a_stack a_waiting) {p x : Nat} (hp : p < 384) (hr : ¬ a_raised p = 0) (hx : x < 8)
    (hl : ∀ a, cb_A a → cb_mb x a = true → cb_Lf g d (p / 32) (p % 32) a) (post : SX → Prop)
    (hk : ∀ Pn' se' st' wa', cb_QI g d Qn Pn' a_raised se' a_queue st' wa' → cb_QX Qn Qn a_raised a_sets a_queue a_raised se' a_queue → (∀ a, cb_A a → cb_mb x a = true → cb_has (se' p) a) → post (f_nodes, f_budget, f_printed, f_tests, f_jumps, f_present, f_copy, f_chosen, f_truth, f_queued, nI Pn', a_kinds, a_as, a_bs, a_yesTo, a_noTo, a_start, a_values, a_log, a_reached, a_raised, se', a_strides, a_queue, st', wa', a_base, a_weights, a_origin, a_nextYes, a_nextNo, a_decided)) :
    wpX_give post (f_nodes, f_budget, f_printed, f_tests, f_jumps, f_present, f_copy, f_chosen, f_truth, f_queued, nI Pn, a_kinds, a_as, a_bs, a_yesTo, a_noTo, a_start, a_values, a_log, a_reached, a_raised, a_sets, a_strides, a_queue, a_stack, a_waiting, a_base, a_weights, a_origin, a_nextYes, a_nextNo, a_decided) (nI p) (nI x) := by
  refine xw_give h.1 hp hr hx hl post ?_
  intro Pn' se' st' wa' h' v
  obtain ⟨m1, m2, m3⟩ := cb_GV_mono h.1 hp hx v
  refine hk _ _ _ _ ⟨h', h.2.1, h.2.2.1, h.2.2.2.1, h.2.2.2.2.1, fun j hj z => ?_, fun q hq z => m1 q (by omega) 4 (.inr (.inr rfl)) (h.2.2.2.2.2.2 q hq z)⟩ ⟨Nat.le_refl _, fun _ _ => rfl, fun _ z => z, m1⟩ m2
  by_cases y : se' j = a_sets j
  · rw [y] at z; exact v.2.2.1 j (h.2.2.2.2.2.1 j hj z)
  · exact m3 j y
theorem cb_QI_add {Qn Pn : Nat} {ra se qu st wa : Nat → Int32} (h : cb_QI g d Qn Pn ra se qu st wa) {p : Nat} (hp : p < 384) (h0 : ra p = 0) (hr : cb_Rq g d (p / 32) (p % 32)) :
    cb_GI g d 0 Pn (upd ra p 1) se st wa ∧ Qn + 1 = cb_sm (cb_id (upd ra p 1)) 384 ∧
    (∀ i, i < Qn + 1 → ∃ j, j < 384 ∧ upd qu Qn (nI p) i = nI j ∧ ¬ upd ra p 1 j = 0) ∧
    (∀ j, j < 384 → ¬ upd ra p 1 j = 0 → ∃ i, i < Qn + 1 ∧ upd qu Qn (nI p) i = nI j) ∧
    (∀ j, j < 384 → ¬ upd ra p 1 j = 0 → cb_Rq g d (j / 32) (j % 32)) ∧
    cb_QX Qn (Qn + 1) ra se qu (upd ra p 1) se (upd qu Qn (nI p)) := by
  have mono : ∀ n, ¬ ra n = 0 → ¬ upd ra p 1 n = 0 := by
    intro n hn
    by_cases z : n = p
    · rw [z, cb_us]; decide
    · rw [cb_un z]; exact hn
  obtain ⟨⟨a1, a2, a3, a4, a5, a6⟩, b, e, f, k, l⟩ := h
  refine ⟨⟨a1, a2, a3, fun j hj z => mono j (a4 j hj z), a5, a6⟩, ?_, ?_, ?_, ?_, Nat.le_succ _, fun i hi => cb_un (by omega), mono, fun _ _ _ _ z => z⟩
  · rw [cb_sm_mark hp h0]; omega
  · intro i hi
    by_cases z : i = Qn
    · rw [z, cb_us]; exact ⟨p, hp, rfl, by rw [cb_us]; decide⟩
    · obtain ⟨j, hj, e1, e2⟩ := e i (by omega)
      exact ⟨j, hj, by rw [cb_un z]; exact e1, mono j e2⟩
  · intro j hj z
    by_cases y : j = p
    · exact ⟨Qn, by omega, by rw [cb_us, y]⟩
    · rw [cb_un y] at z
      obtain ⟨i, hi, e1⟩ := f j hj z
      exact ⟨i, by omega, by rw [cb_un (by omega)]; exact e1⟩
  · intro j hj z
    by_cases y : j = p
    · rw [y]; exact hr
    · rw [cb_un y] at z; exact k j hj z
theorem xw_raise (hG : cb_G N g) {Qn Pn : Nat} (h : cb_QI g d Qn Pn a_raised a_sets a_queue a_stack a_waiting) {n q : Nat} (hn : n < 12) (hq : q < 32) (hr : cb_Rq g d n q) (post : SX → Prop)
    (hk : ∀ Qn' Pn' ra' se' qu' st' wa', cb_QI g d Qn' Pn' ra' se' qu' st' wa' → cb_QX Qn Qn' a_raised a_sets a_queue ra' se' qu' → ¬ ra' (n * 32 + q) = 0 → post (f_nodes, f_budget, f_printed, f_tests, f_jumps, f_present, f_copy, f_chosen, f_truth, nI Qn', nI Pn', a_kinds, a_as, a_bs, a_yesTo, a_noTo, a_start, a_values, a_log, a_reached, ra', se', a_strides, qu', st', wa', a_base, a_weights, a_origin, a_nextYes, a_nextNo, a_decided)) :
    wpX_raise post (f_nodes, f_budget, f_printed, f_tests, f_jumps, f_present, f_copy, f_chosen, f_truth, nI Qn, nI Pn, a_kinds, a_as, a_bs, a_yesTo, a_noTo, a_start, a_values, a_log, a_reached, a_raised, a_sets, a_strides, a_queue, a_stack, a_waiting, a_base, a_weights, a_origin, a_nextYes, a_nextNo, a_decided) (nI n) (nI q) := by
  have hp : n * 32 + q < 384 := by omega
  have hi : vp_in (nI (n * 32 + q)) 384 := cb_in hp (by omega)
  have hc : (nI (n * 32 + q)).toNatClampNeg = n * 32 + q := cb_cl (by omega)
  have hQ : Qn ≤ 384 := by have := h.2.1; have := cb_sm_id a_raised 384; omega
  refine nm_r (cb_ix n q) (And.intro hi (br_c (fun z => ?_) (fun z => ?_)))
  · rw [hc] at z
    have hr' : cb_Rq g d ((n * 32 + q) / 32) ((n * 32 + q) % 32) := by
      rw [show (n * 32 + q) / 32 = n by omega, show (n * 32 + q) % 32 = q by omega]; exact hr
    have hf := cb_sm_free hp z
    have hq1 := h.2.1
    obtain ⟨k1, k2, k3, k4, k5, k6⟩ := cb_QI_add h hp z hr'
    refine br_t (nI_lt (b := 384) (by omega) (by decide)) (And.intro hi (nm_r (e' := upd a_raised (n * 32 + q) 1) (by rw [hc, cb_vb1]) (And.intro (cb_in (by omega) (by omega)) (nm_r (e' := upd a_queue Qn (nI (n * 32 + q))) (by rw [cb_cl (by omega)]) (nm_r (nI_1 Qn) ?_)))))
    refine pk_eq n 0 (fun w => ?_) (fun w => ?_)
    · subst w
      refine xw_give (x := 4) k1 hp (by rw [cb_us]; decide) (by omega) (fun a ha m => ?_) _ ?_
      · rw [cb_mbA' (.inr (.inr rfl)) ha m, show (0 * 32 + q) / 32 = 0 by omega, show (0 * 32 + q) % 32 = q by omega]
        exact cb_Lf_0 hq
      · intro Pn' se' st' wa' h' v
        obtain ⟨m1, m2, m3⟩ := cb_GV_mono k1 hp (by omega) v
        refine hk _ _ _ _ _ _ _ ⟨h', k2, k3, k4, k5, fun j hj y => ?_, fun q' hq' y => ?_⟩ (cb_QX_t k6 ⟨Nat.le_refl _, fun _ _ => rfl, fun _ y => y, m1⟩) (by rw [cb_us]; decide)
        · by_cases y2 : se' j = a_sets j
          · rw [y2] at y; exact v.2.2.1 j (h.2.2.2.2.2.1 j hj y)
          · exact m3 j y2
        · by_cases y2 : q' = 0 * 32 + q
          · rw [y2]; exact m2 4 (.inr (.inr rfl)) (by decide)
          · rw [cb_un y2] at y
            exact m1 q' (by omega) 4 (.inr (.inr rfl)) (h.2.2.2.2.2.2 q' hq' y)
    · refine hk _ _ _ _ _ _ _ ⟨k1, k2, k3, k4, k5, h.2.2.2.2.2.1, fun q' hq' y => ?_⟩ k6 (by rw [cb_us]; decide)
      rw [cb_un (by omega)] at y
      exact h.2.2.2.2.2.2 q' hq' y
  · rw [hc] at z
    exact hk _ _ _ _ _ _ _ h cb_QX_r z
/-- the edges below e into p's node are crossed -/
def cb_PC (g : Nat → Nat → Nat) (d : Nat) (ra se : Nat → Int32) (p e : Nat) : Prop := ∀ m s, cb_Rc g m → s < 2 → m * 2 + s < e → cb_tg g m s = p / 32 →
  (cb_cr g d m s (p % 32) < 32 → ¬ ra (m * 32 + cb_cr g d m s (p % 32)) = 0) ∧ (∀ a, cb_cr g d m s (p % 32) = 32 + a → cb_has (se p) a)
theorem cb_PC_x (hG : cb_G N g) {Q1 Q2 p e : Nat} {r1 s1 q1 r2 s2 q2 : Nat → Int32} (hp : p < 384) (h : cb_PC g d r1 s1 p e) (x : cb_QX Q1 Q2 r1 s1 q1 r2 s2 q2) : cb_PC g d r2 s2 p e := by
  intro m s hm hs he ht
  obtain ⟨a, b⟩ := h m s hm hs he ht
  refine ⟨fun z => x.2.2.1 _ (a z), fun a' z => ?_⟩
  rcases cb_cr_r hG d m s (q := p % 32) (by omega) with y | ⟨c, hc, y⟩
  · omega
  · obtain rfl : a' = c := by omega
    exact x.2.2.2 p hp a' hc (b a' z)
theorem xw_look_l (hG : cb_G N g) (hA : cb_Ar g a_kinds a_as a_bs a_yesTo a_noTo) (hd : g 0 d = 6 ∨ g 0 d = 7) (hre : ∀ n, n < 12 → (¬ a_reached n = 0 ↔ cb_Rc g n)) {p : Nat} (hp : p < 384) (hRp : cb_Rq g d (p / 32) (p % 32)) (post : SX → Prop)
    {Q0 : Nat} {ra0 se0 qu0 : Nat → Int32}
    (hk : ∀ Qn' Pn' ra' se' qu' st' wa', cb_QI g d Qn' Pn' ra' se' qu' st' wa' → cb_QX Q0 Qn' ra0 se0 qu0 ra' se' qu' → cb_PC g d ra' se' p (N * 2) → post (nI N, f_budget, f_printed, f_tests, f_jumps, f_present, f_copy, f_chosen, nI (cb_tm (g 0 d) (g 2 d)), nI Qn', nI Pn', a_kinds, a_as, a_bs, a_yesTo, a_noTo, a_start, a_values, a_log, a_reached, ra', se', a_strides, qu', st', wa', a_base, a_weights, a_origin, a_nextYes, a_nextNo, a_decided)) :
    ∀ k e Qn Pn ra se qu st wa, e + k = N * 2 → cb_QI g d Qn Pn ra se qu st wa → cb_QX Q0 Qn ra0 se0 qu0 ra se qu → ¬ ra p = 0 → cb_PC g d ra se p e →
      wX_lookBack_6 post (nI p) (nI (p / 32)) (k + 1) (nI e) (nI N) f_budget f_printed f_tests f_jumps f_present f_copy f_chosen (nI (cb_tm (g 0 d) (g 2 d))) (nI Qn) (nI Pn) a_kinds a_as a_bs a_yesTo a_noTo a_start a_values a_log a_reached ra se a_strides qu st wa a_base a_weights a_origin a_nextYes a_nextNo a_decided := by
  have hN := hG.2.1
  have hN2 : nI N * 2 = nI (N * 2) := by rw [show (2 : Int32) = nI 2 from rfl, pk_mul]
  intro k
  induction k with
  | zero =>
    intro e Qn Pn ra se qu st wa he hQ hX hr hP
    obtain rfl : e = N * 2 := by omega
    refine br_t (by rw [hN2]; exact nI_le (Nat.le_refl _) (by omega)) (hk _ _ _ _ _ _ _ hQ hX hP)
  | succ k ih =>
    intro e Qn Pn ra se qu st wa he hQ hX hr hP
    have hm : e / 2 < 12 := by omega
    have hi : vp_in (nI (e / 2)) 12 := cb_in hm (by omega)
    have hc : (nI (e / 2)).toNatClampNeg = e / 2 := cb_cl (by omega)
    refine br_f (by rw [hN2]; exact nI_ge (by omega) (by omega)) (nm_r (cb_shr1 (by omega)) (nm_r (cb_and1 (by omega)) (And.intro hi ?_)))
    rw [hc]
    -- a step that leaves PC at e + 1
    have next : ∀ Qn Pn ra se qu st wa, cb_QI g d Qn Pn ra se qu st wa → cb_QX Q0 Qn ra0 se0 qu0 ra se qu → ¬ ra p = 0 → cb_PC g d ra se p e →
        (cb_Rc g (e / 2) → cb_tg g (e / 2) (e % 2) = p / 32 → (cb_cr g d (e / 2) (e % 2) (p % 32) < 32 → ¬ ra (e / 2 * 32 + cb_cr g d (e / 2) (e % 2) (p % 32)) = 0) ∧ (∀ a, cb_cr g d (e / 2) (e % 2) (p % 32) = 32 + a → cb_has (se p) a)) →
        wX_lookBack_6 post (nI p) (nI (p / 32)) (k + 1) (nI (e + 1)) (nI N) f_budget f_printed f_tests f_jumps f_present f_copy f_chosen (nI (cb_tm (g 0 d) (g 2 d))) (nI Qn) (nI Pn) a_kinds a_as a_bs a_yesTo a_noTo a_start a_values a_log a_reached ra se a_strides qu st wa a_base a_weights a_origin a_nextYes a_nextNo a_decided := by
      intro Qn Pn ra se qu st wa hQ hX hr hP hE
      refine ih (e + 1) Qn Pn ra se qu st wa (by omega) hQ hX hr ?_
      intro m s hm hs hlt ht
      by_cases y : m * 2 + s < e
      · exact hP m s hm hs y ht
      · obtain rfl : m = e / 2 := by omega
        obtain rfl : s = e % 2 := by omega
        exact hE hm ht
    refine br_c (fun z => nm_r (nI_1 e) ?_) (fun z => ?_)
    · exact next _ _ _ _ _ _ _ hQ hX hr hP fun hR _ => absurd z ((hre _ hm).mpr hR)
    · have hR := (hre _ hm).mp z
      refine xw_target hG hA hm (by omega) _ ?_
      by_cases ht : cb_tg g (e / 2) (e % 2) = p / 32
      · have ht12 : cb_tg g (e / 2) (e % 2) < 12 := by omega
        refine br_t (by rw [cb_ti_t ht12, ht]) ?_
        rw [cb_and31 (by omega)]
        refine xw_cross hG hA hd hm (by omega) (by omega) _ ?_
        have hRt : cb_Rq g d (cb_tg g (e / 2) (e % 2)) (p % 32) := by rw [ht]; exact hRp
        rcases cb_cr_r hG d (e / 2) (e % 2) (q := p % 32) (by omega) with hcr | ⟨a, ha, hcr⟩
        · rw [cb_ci_q hcr]
          refine br_t (nI_pos' (by omega)) ?_
          refine xw_raise hG hQ hm hcr (cb_Rq_s hR (by omega) ht12 (by omega) hRt hcr) _ ?_
          intro Qn' Pn' ra' se' qu' st' wa' hQ' hX' hr'
          refine nm_r (nI_1 e) (next _ _ _ _ _ _ _ hQ' (cb_QX_t hX hX') (hX'.2.2.1 _ hr) (cb_PC_x hG hp hP hX') fun _ _ => ⟨fun _ => hr', fun a h => by omega⟩)
        · have ha8 := cb_A8 ha
          obtain ⟨n1, n2, n3⟩ := cb_neg ha8.2 (by omega : a < 64)
          rw [hcr, cb_ci_a]
          refine br_f n2 ?_
          rw [n3]
          refine xw_giveA hQ hp hr ha8.1 (fun b hb mb => ?_) _ ?_
          · rw [cb_mbA' ha hb mb, ← ht]
            exact cb_Lf_a hR (by omega) ht12 (by omega) hcr
          · intro Pn' se' st' wa' hQ' hX' hs'
            refine nm_r (nI_1 e) (next _ _ _ _ _ _ _ hQ' (cb_QX_t hX hX') (hX'.2.2.1 _ hr) (cb_PC_x hG hp hP hX') fun _ _ => ⟨fun y => by omega, fun b y => ?_⟩)
            obtain rfl : b = a := by omega
            exact hs' b ha (cb_mbself ha)
      · refine br_f ?_ (nm_r (nI_1 e) (next _ _ _ _ _ _ _ hQ hX hr hP fun _ y => absurd y ht))
        by_cases y : cb_tg g (e / 2) (e % 2) < 12
        · rw [cb_ti_t y, nI_eq (by omega) (by omega)]; exact ht
        · rw [cb_ti_n y]
          intro w
          have := nI_pos (n := p / 32) (by omega)
          rw [← w] at this
          exact this (by decide)
theorem xw_look (hG : cb_G N g) (hA : cb_Ar g a_kinds a_as a_bs a_yesTo a_noTo) (hd : g 0 d = 6 ∨ g 0 d = 7) (hre : ∀ n, n < 12 → (¬ a_reached n = 0 ↔ cb_Rc g n)) {Qn Pn p : Nat} (hp : p < 384) (hQ : cb_QI g d Qn Pn a_raised a_sets a_queue a_stack a_waiting) (hr : ¬ a_raised p = 0) (post : SX → Prop)
    (hk : ∀ Qn' Pn' ra' se' qu' st' wa', cb_QI g d Qn' Pn' ra' se' qu' st' wa' → cb_QX Qn Qn' a_raised a_sets a_queue ra' se' qu' → cb_PC g d ra' se' p (N * 2) → post (nI N, f_budget, f_printed, f_tests, f_jumps, f_present, f_copy, f_chosen, nI (cb_tm (g 0 d) (g 2 d)), nI Qn', nI Pn', a_kinds, a_as, a_bs, a_yesTo, a_noTo, a_start, a_values, a_log, a_reached, ra', se', a_strides, qu', st', wa', a_base, a_weights, a_origin, a_nextYes, a_nextNo, a_decided)) :
    wpX_lookBack post (nI N, f_budget, f_printed, f_tests, f_jumps, f_present, f_copy, f_chosen, nI (cb_tm (g 0 d) (g 2 d)), nI Qn, nI Pn, a_kinds, a_as, a_bs, a_yesTo, a_noTo, a_start, a_values, a_log, a_reached, a_raised, a_sets, a_strides, a_queue, a_stack, a_waiting, a_base, a_weights, a_origin, a_nextYes, a_nextNo, a_decided) (nI p) := by
  refine nm_r (cb_sh5 (by omega)) ⟨N * 2 + 1, ?_⟩
  exact xw_look_l hG hA hd hre hp (hQ.2.2.2.2.1 p hp hr) post hk (N * 2) 0 Qn Pn _ _ _ _ _ (by omega) hQ cb_QX_r hr fun m s _ _ z => absurd z (Nat.not_lt_zero _)
/-- all raised: every entry of the queue is looked at -/
theorem xw_all_l (hG : cb_G N g) (hA : cb_Ar g a_kinds a_as a_bs a_yesTo a_noTo) (hd : g 0 d = 6 ∨ g 0 d = 7) (hre : ∀ n, n < 12 → (¬ a_reached n = 0 ↔ cb_Rc g n)) (post : SX → Prop) {o : Nat}
    (hk : ∀ Qn Pn ra se qu st wa, cb_QI g d Qn Pn ra se qu st wa → ¬ ra o = 0 → (∀ p, p < 384 → ¬ ra p = 0 → cb_PC g d ra se p (N * 2)) → post (nI N, f_budget, f_printed, f_tests, f_jumps, f_present, f_copy, f_chosen, nI (cb_tm (g 0 d) (g 2 d)), nI Qn, nI Pn, a_kinds, a_as, a_bs, a_yesTo, a_noTo, a_start, a_values, a_log, a_reached, ra, se, a_strides, qu, st, wa, a_base, a_weights, a_origin, a_nextYes, a_nextNo, a_decided)) :
    ∀ k h Qn Pn ra se qu st wa, h + k = 384 → h ≤ Qn → cb_QI g d Qn Pn ra se qu st wa → ¬ ra o = 0 → (∀ i p, i < h → p < 384 → qu i = nI p → cb_PC g d ra se p (N * 2)) →
      wX_raiseAll_2 post (k + 1) (nI h) (nI N) f_budget f_printed f_tests f_jumps f_present f_copy f_chosen (nI (cb_tm (g 0 d) (g 2 d))) (nI Qn) (nI Pn) a_kinds a_as a_bs a_yesTo a_noTo a_start a_values a_log a_reached ra se a_strides qu st wa a_base a_weights a_origin a_nextYes a_nextNo a_decided := by
  have fin : ∀ Qn Pn ra se qu st wa, cb_QI g d Qn Pn ra se qu st wa → ¬ ra o = 0 → (∀ i p, i < Qn → p < 384 → qu i = nI p → cb_PC g d ra se p (N * 2)) → post (nI N, f_budget, f_printed, f_tests, f_jumps, f_present, f_copy, f_chosen, nI (cb_tm (g 0 d) (g 2 d)), nI Qn, nI Pn, a_kinds, a_as, a_bs, a_yesTo, a_noTo, a_start, a_values, a_log, a_reached, ra, se, a_strides, qu, st, wa, a_base, a_weights, a_origin, a_nextYes, a_nextNo, a_decided) := by
    intro Qn Pn ra se qu st wa hQ ho hP
    refine hk _ _ _ _ _ _ _ hQ ho fun p hp hr => ?_
    obtain ⟨i, hi, e⟩ := hQ.2.2.2.1 p hp hr
    exact hP i p hi hp e
  intro k
  induction k with
  | zero =>
    intro h Qn Pn ra se qu st wa hh hle hQ ho hP
    obtain rfl : h = 384 := by omega
    have hQ4 : Qn ≤ 384 := by have := hQ.2.1; have := cb_sm_id ra 384; omega
    exact br_t (by decide) (fin _ _ _ _ _ _ _ hQ ho fun i p hi => hP i p (by omega))
  | succ k ih =>
    intro h Qn Pn ra se qu st wa hh hle hQ ho hP
    have hQ4 : Qn ≤ 384 := by have := hQ.2.1; have := cb_sm_id ra 384; omega
    refine br_f (nI_ge (b := 384) (by omega) (by decide)) ?_
    refine pk_le Qn h (fun z => ?_) (fun z => And.intro (cb_in (by omega) (by omega)) ?_)
    · exact fin _ _ _ _ _ _ _ hQ ho fun i p hi => hP i p (by omega)
    · obtain ⟨p, hp, e, hr⟩ := hQ.2.2.1 h z
      rw [cb_cl (by omega), e]
      refine xw_look hG hA hd hre hp hQ hr _ ?_
      intro Qn' Pn' ra' se' qu' st' wa' hQ' hX' hP'
      refine nm_r (nI_1 h) (ih (h + 1) _ _ _ _ _ _ _ (by omega) (Nat.le_trans z hX'.1) hQ' (hX'.2.2.1 _ ho) ?_)
      intro i p' hi hp' e'
      by_cases y : i = h
      · subst y
        rw [hX'.2.1 i z, e, nI_eq (by omega) (by omega)] at e'
        rw [← e']; exact hP'
      · rw [hX'.2.1 i (by omega)] at e'
        exact cb_PC_x hG hp' (hP i p' (by omega) hp' e') hX'
end xwGive
end
section
/-! 07: the component's clearQuestions, spread, settleAnswers -/
section xwSettle
variable {N d : Nat} {g : Nat → Nat → Nat}
variable {f_nodes f_budget f_printed f_tests f_jumps f_present f_copy f_chosen f_truth f_queued f_pending : Int32} {a_kinds a_as a_bs a_yesTo a_noTo a_start a_values a_log a_reached a_raised a_sets a_strides a_queue a_stack a_waiting a_base a_weights a_origin a_nextYes a_nextNo a_decided : Nat → Int32}
theorem xw_clear_l (post : SX → Prop)
    (hk : ∀ ra se sr wa, (∀ p, p < 384 → ra p = 0 ∧ wa p = 0 ∧ se p = 0 ∧ sr p = 1) → post (f_nodes, f_budget, f_printed, f_tests, f_jumps, f_present, f_copy, f_chosen, f_truth, 0, 0, a_kinds, a_as, a_bs, a_yesTo, a_noTo, a_start, a_values, a_log, a_reached, ra, se, sr, a_queue, a_stack, wa, a_base, a_weights, a_origin, a_nextYes, a_nextNo, a_decided)) :
    ∀ k c ra se sr wa, c + k = 384 → (∀ p, p < c → ra p = 0 ∧ wa p = 0 ∧ se p = 0 ∧ sr p = 1) → wX_clearQuestions_2 post f_nodes f_budget f_printed f_tests f_jumps f_present f_copy f_chosen f_truth f_queued f_pending (k + 1) (nI c) a_kinds a_as a_bs a_yesTo a_noTo a_start a_values a_log a_reached ra se sr a_queue a_stack wa a_base a_weights a_origin a_nextYes a_nextNo a_decided := by
  intro k
  induction k with
  | zero =>
    intro c ra se sr wa hc h
    obtain rfl : c = 384 := by omega
    exact br_t (by decide) (hk _ _ _ _ h)
  | succ k ih =>
    intro c ra se sr wa hc h
    have hi : vp_in (nI c) 384 := cb_in (by omega) (by omega)
    have hl : (nI c).toNatClampNeg = c := cb_cl (by omega)
    refine br_f (nI_ge (b := 384) (by omega) (by decide)) (And.intro hi (nm_r (e' := upd ra c 0) (by rw [hl, cb_vb0]) (And.intro hi (nm_r (e' := upd wa c 0) (by rw [hl, cb_vb0]) (And.intro hi (nm_r (e' := upd se c 0) (by rw [hl]) (And.intro hi (nm_r (e' := upd sr c 1) (by rw [hl]) (nm_r (nI_1 c) (ih (c + 1) _ _ _ _ (by omega) fun p hp => ?_))))))))))
    by_cases z : p = c
    · rw [z, cb_us, cb_us, cb_us, cb_us]; exact ⟨rfl, rfl, rfl, rfl⟩
    · rw [cb_un z, cb_un z, cb_un z, cb_un z]; exact h p (by omega)
theorem xw_clear (post : SX → Prop)
    (hk : ∀ ra se sr wa, (∀ p, p < 384 → ra p = 0 ∧ wa p = 0 ∧ se p = 0 ∧ sr p = 1) → post (f_nodes, f_budget, f_printed, f_tests, f_jumps, f_present, f_copy, f_chosen, f_truth, 0, 0, a_kinds, a_as, a_bs, a_yesTo, a_noTo, a_start, a_values, a_log, a_reached, ra, se, sr, a_queue, a_stack, wa, a_base, a_weights, a_origin, a_nextYes, a_nextNo, a_decided)) : wpX_clearQuestions post (f_nodes, f_budget, f_printed, f_tests, f_jumps, f_present, f_copy, f_chosen, f_truth, f_queued, f_pending, a_kinds, a_as, a_bs, a_yesTo, a_noTo, a_start, a_values, a_log, a_reached, a_raised, a_sets, a_strides, a_queue, a_stack, a_waiting, a_base, a_weights, a_origin, a_nextYes, a_nextNo, a_decided) :=
  ⟨385, xw_clear_l post hk 384 0 _ _ _ _ rfl fun p hp => absurd hp (Nat.not_lt_zero _)⟩
/-- nothing raised yet -/
theorem cb_QI_0 {ra se qu st wa : Nat → Int32} (h : ∀ p, p < 384 → ra p = 0 ∧ wa p = 0 ∧ se p = 0) : cb_QI g d 0 0 ra se qu st wa := by
  refine ⟨⟨?_, fun i hi => absurd hi (Nat.not_lt_zero _), fun i j hi => absurd hi (Nat.not_lt_zero _), fun p hp z => absurd (h p hp).2.1 z, fun p hp => ⟨0, by omega, by rw [(h p hp).2.2]; rfl, fun a _ m => by rw [cb_mb0] at m; exact absurd m (by decide)⟩, ?_⟩, ?_, fun i hi => absurd hi (Nat.not_lt_zero _), fun p hp z => absurd (h p hp).1 z, fun p hp z => absurd (h p hp).1 z, fun p hp z => absurd (h p hp).2.2 z, fun q hq z => absurd (h q (by omega)).1 z⟩
  · exact (cb_sm_0 fun j hj => cb_id_0 (h j hj).2.1).symm
  · have := cb_sm_le (f := fun p => 3 - cb_pp (se p)) (c := 3) (n := 384) (fun j _ => by show 3 - cb_pp (se j) ≤ 3; omega)
    omega
  · exact (cb_sm_0 fun j hj => cb_id_0 (h j hj).1).symm
/-- p's answers have reached its followers by side s, questions below e -/
def cb_SQ (g : Nat → Nat → Nat) (d : Nat) (ra se : Nat → Int32) (p s e : Nat) : Prop := cb_tg g (p / 32) s < 12 → ∀ q, q < e → ¬ ra (cb_tg g (p / 32) s * 32 + q) = 0 → cb_cr g d (p / 32) s q = p % 32 →
  ∀ a, cb_A a → cb_has (se p) a → cb_has (se (cb_tg g (p / 32) s * 32 + q)) a
def cb_SP (g : Nat → Nat → Nat) (d : Nat) (ra se : Nat → Int32) (p : Nat) : Prop := ∀ s, s < 2 → cb_SQ g d ra se p s 32
/-- what settling keeps: Ex is the pair that is being spread -/
def cb_SI (g : Nat → Nat → Nat) (d : Nat) (Ex : Nat → Prop) (c Pn : Nat) (ra se st wa : Nat → Int32) : Prop :=
  cb_GI g d c Pn ra se st wa ∧ ∀ p, p < 384 → ¬ ra p = 0 → ¬ wa p = 0 ∨ Ex p ∨ cb_SP g d ra se p
theorem cb_SQ_m {ra se se' : Nat → Int32} {p s e : Nat} (hp : p < 384) (he : e ≤ 32) (h : cb_SQ g d ra se p s e) (e1 : se' p = se p) (m : ∀ j, j < 384 → ∀ a, cb_A a → cb_has (se j) a → cb_has (se' j) a) : cb_SQ g d ra se' p s e := by
  intro ht q hq hr hc a ha hh
  rw [e1] at hh
  exact m _ (by omega) a ha (h ht q hq hr hc a ha hh)
theorem xw_giveB {Ex : Nat → Prop} {c Pn : Nat} (h : cb_SI g d Ex c Pn a_raised a_sets a_stack a_waiting) {p x : Nat} (hp : p < 384) (hr : ¬ a_raised p = 0) (hx : x < 8)
    (hl : ∀ a, cb_A a → cb_mb x a = true → cb_Lf g d (p / 32) (p % 32) a) (post : SX → Prop)
    (hk : ∀ Pn' se' st' wa', cb_SI g d Ex c Pn' a_raised se' st' wa' → cb_GV p x a_sets a_waiting se' wa' → (∀ j, j < 384 → ∀ a, cb_A a → cb_has (a_sets j) a → cb_has (se' j) a) → (∀ a, cb_A a → cb_mb x a = true → cb_has (se' p) a) → post (f_nodes, f_budget, f_printed, f_tests, f_jumps, f_present, f_copy, f_chosen, f_truth, f_queued, nI Pn', a_kinds, a_as, a_bs, a_yesTo, a_noTo, a_start, a_values, a_log, a_reached, a_raised, se', a_strides, a_queue, st', wa', a_base, a_weights, a_origin, a_nextYes, a_nextNo, a_decided)) :
    wpX_give post (f_nodes, f_budget, f_printed, f_tests, f_jumps, f_present, f_copy, f_chosen, f_truth, f_queued, nI Pn, a_kinds, a_as, a_bs, a_yesTo, a_noTo, a_start, a_values, a_log, a_reached, a_raised, a_sets, a_strides, a_queue, a_stack, a_waiting, a_base, a_weights, a_origin, a_nextYes, a_nextNo, a_decided) (nI p) (nI x) := by
  refine xw_give h.1 hp hr hx hl post ?_
  intro Pn' se' st' wa' h' v
  obtain ⟨m1, m2, m3⟩ := cb_GV_mono h.1 hp hx v
  refine hk _ _ _ _ ⟨h', fun j hj z => ?_⟩ v m1 m2
  rcases h.2 j hj z with y | y | y
  · exact .inl (v.2.2.1 j y)
  · exact .inr (.inl y)
  · by_cases w : se' j = a_sets j
    · exact .inr (.inr fun s hs => cb_SQ_m hj (Nat.le_refl _) (y s hs) w m1)
    · exact .inl (m3 j w)
theorem xw_spread_l (hG : cb_G N g) (hA : cb_Ar g a_kinds a_as a_bs a_yesTo a_noTo) (hd : g 0 d = 6 ∨ g 0 d = 7) (hraS : ∀ p, p < 384 → ¬ a_raised p = 0 → cb_Rq g d (p / 32) (p % 32)) {p s v c : Nat} (hp : p < 384) (hR : cb_Rc g (p / 32)) (hs : s < 2) (ht : cb_tg g (p / 32) s < 12) (hv : v < 8) {Ex : Nat → Prop} (post : SX → Prop) {se0 : Nat → Int32}
    (hk : ∀ Pn' se' st' wa', cb_SI g d Ex c Pn' a_raised se' st' wa' → se' p = nI v → (∀ j, j < 384 → ∀ a, cb_A a → cb_has (se0 j) a → cb_has (se' j) a) → cb_SQ g d a_raised se' p s 32 → post (f_nodes, f_budget, f_printed, f_tests, f_jumps, f_present, f_copy, f_chosen, nI (cb_tm (g 0 d) (g 2 d)), f_queued, nI Pn', a_kinds, a_as, a_bs, a_yesTo, a_noTo, a_start, a_values, a_log, a_reached, a_raised, se', a_strides, a_queue, st', wa', a_base, a_weights, a_origin, a_nextYes, a_nextNo, a_decided)) :
    ∀ k e Pn se st wa, e + k = 32 → cb_SI g d Ex c Pn a_raised se st wa → se p = nI v → (∀ j, j < 384 → ∀ a, cb_A a → cb_has (se0 j) a → cb_has (se j) a) → cb_SQ g d a_raised se p s e →
      wX_spread_21 post (nI p) (nI s) (nI (p / 32)) (nI (cb_tg g (p / 32) s)) (k + 1) (nI e) f_nodes f_budget f_printed f_tests f_jumps f_present f_copy f_chosen (nI (cb_tm (g 0 d) (g 2 d))) f_queued (nI Pn) a_kinds a_as a_bs a_yesTo a_noTo a_start a_values a_log a_reached a_raised se a_strides a_queue st wa a_base a_weights a_origin a_nextYes a_nextNo a_decided := by
  intro k
  induction k with
  | zero =>
    intro e Pn se st wa he hS hsv hm hq
    obtain rfl : e = 32 := by omega
    exact br_t (by decide) (hk _ _ _ _ hS hsv hm hq)
  | succ k ih =>
    intro e Pn se st wa he hS hsv hm hq
    have hw : cb_tg g (p / 32) s * 32 + e < 384 := by omega
    have hi : vp_in (nI (cb_tg g (p / 32) s * 32 + e)) 384 := cb_in hw (by omega)
    refine br_f (nI_ge (b := 32) (by omega) (by decide)) (nm_r (cb_ix _ e) (And.intro hi ?_))
    rw [cb_cl (by omega)]
    have next : ∀ Pn se st wa, cb_SI g d Ex c Pn a_raised se st wa → se p = nI v → (∀ j, j < 384 → ∀ a, cb_A a → cb_has (se0 j) a → cb_has (se j) a) → cb_SQ g d a_raised se p s e →
        (¬ a_raised (cb_tg g (p / 32) s * 32 + e) = 0 → cb_cr g d (p / 32) s e = p % 32 → ∀ a, cb_A a → cb_has (se p) a → cb_has (se (cb_tg g (p / 32) s * 32 + e)) a) →
        wX_spread_21 post (nI p) (nI s) (nI (p / 32)) (nI (cb_tg g (p / 32) s)) (k + 1) (nI (e + 1)) f_nodes f_budget f_printed f_tests f_jumps f_present f_copy f_chosen (nI (cb_tm (g 0 d) (g 2 d))) f_queued (nI Pn) a_kinds a_as a_bs a_yesTo a_noTo a_start a_values a_log a_reached a_raised se a_strides a_queue st wa a_base a_weights a_origin a_nextYes a_nextNo a_decided := by
      intro Pn se st wa hS hsv hm hq hE
      refine ih (e + 1) Pn se st wa (by omega) hS hsv hm ?_
      intro ht' q hq' hr hc a ha hh
      by_cases y : q = e
      · subst y; exact hE hr hc a ha hh
      · exact hq ht' q (by omega) hr hc a ha hh
    refine br_c (fun z => nm_r (nI_1 e) (next _ _ _ _ hS hsv hm hq fun y => absurd z y)) (fun z => ?_)
    refine xw_cross hG hA hd (by omega) hs (by omega) _ ?_
    rw [cb_and31 (by omega)]
    by_cases hc : cb_cr g d (p / 32) s e = p % 32
    · refine br_t (by rw [cb_ci_q (by omega), hc]) (And.intro (cb_in hp (by omega)) ?_)
      rw [cb_cl (n := p) (by omega), hsv]
      refine xw_giveB hS hw z hv ?_ _ ?_
      · intro a ha hh
        rw [show (cb_tg g (p / 32) s * 32 + e) / 32 = cb_tg g (p / 32) s by omega, show (cb_tg g (p / 32) s * 32 + e) % 32 = e by omega]
        obtain ⟨s', hs', e', hl'⟩ := hS.1.2.2.2.2.1 p hp
        rw [hsv, nI_eq (by omega) (by omega)] at e'
        subst e'
        exact cb_Lf_s hR hs ht (by omega) (by omega) (by rw [hc]; exact hl' a ha hh)
      · intro Pn' se' st' wa' hS' hv' m1 m2
        have hp' : se' p = nI v := by
          by_cases y : p = cb_tg g (p / 32) s * 32 + e
          · have := hv'.2.1 v hv (by rw [← y]; exact hsv)
            rw [← y, Nat.or_self] at this
            exact this
          · rw [hv'.1 p y]; exact hsv
        refine nm_r (nI_1 e) (next _ _ _ _ hS' hp' (fun j hj a ha y => m1 j hj a ha (hm j hj a ha y)) (cb_SQ_m hp (by omega) hq (by rw [hp', hsv]) m1) fun _ _ a ha y => m2 a ha ?_)
        rw [hp', cb_has_n hv] at y
        exact y
    · refine br_f ?_ (nm_r (nI_1 e) (next _ _ _ _ hS hsv hm hq fun _ y => absurd y hc))
      rcases cb_cr_r hG d (p / 32) s (q := e) (by omega) with y | ⟨a, ha, y⟩
      · rw [cb_ci_q y, nI_eq (by omega) (by omega)]; exact hc
      · rw [y, cb_ci_a]
        have := cb_A8 ha
        exact cb_negne this.2 (by omega) (by omega)
theorem xw_spread (hG : cb_G N g) (hA : cb_Ar g a_kinds a_as a_bs a_yesTo a_noTo) (hd : g 0 d = 6 ∨ g 0 d = 7) (hraS : ∀ p, p < 384 → ¬ a_raised p = 0 → cb_Rq g d (p / 32) (p % 32)) {p s v c Pn : Nat} (hp : p < 384) (hR : cb_Rc g (p / 32)) (hs : s < 2) (hv : v < 8) {Ex : Nat → Prop} (post : SX → Prop)
    (hS : cb_SI g d Ex c Pn a_raised a_sets a_stack a_waiting) (hsv : a_sets p = nI v)
    (hk : ∀ Pn' se' st' wa', cb_SI g d Ex c Pn' a_raised se' st' wa' → se' p = nI v → (∀ j, j < 384 → ∀ a, cb_A a → cb_has (a_sets j) a → cb_has (se' j) a) → cb_SQ g d a_raised se' p s 32 → post (f_nodes, f_budget, f_printed, f_tests, f_jumps, f_present, f_copy, f_chosen, nI (cb_tm (g 0 d) (g 2 d)), f_queued, nI Pn', a_kinds, a_as, a_bs, a_yesTo, a_noTo, a_start, a_values, a_log, a_reached, a_raised, se', a_strides, a_queue, st', wa', a_base, a_weights, a_origin, a_nextYes, a_nextNo, a_decided)) :
    wpX_spread post (f_nodes, f_budget, f_printed, f_tests, f_jumps, f_present, f_copy, f_chosen, nI (cb_tm (g 0 d) (g 2 d)), f_queued, nI Pn, a_kinds, a_as, a_bs, a_yesTo, a_noTo, a_start, a_values, a_log, a_reached, a_raised, a_sets, a_strides, a_queue, a_stack, a_waiting, a_base, a_weights, a_origin, a_nextYes, a_nextNo, a_decided) (nI p) (nI s) := by
  refine nm_r (cb_sh5 (by omega)) (xw_target hG hA (by omega) hs _ ?_)
  by_cases ht : cb_tg g (p / 32) s < 12
  · rw [cb_ti_t ht]
    refine br_t (nI_pos' (by omega)) ⟨33, ?_⟩
    exact xw_spread_l hG hA hd hraS hp hR hs ht hv post hk 32 0 Pn _ _ _ rfl hS hsv (fun _ _ _ _ y => y) fun _ q hq => absurd hq (Nat.not_lt_zero _)
  · rw [cb_ti_n ht]
    exact br_f (by decide) (hk _ _ _ _ hS hsv (fun _ _ _ _ y => y) fun y => absurd y ht)
theorem xw_settle_l (hG : cb_G N g) (hA : cb_Ar g a_kinds a_as a_bs a_yesTo a_noTo) (hd : g 0 d = 6 ∨ g 0 d = 7) (hRd : cb_Rc g d) (hraS : ∀ p, p < 384 → ¬ a_raised p = 0 → cb_Rq g d (p / 32) (p % 32)) (post : SX → Prop) {se0 : Nat → Int32}
    (hk : ∀ Pn se st wa, (∀ p, p < 384 → ∃ s, s < 8 ∧ se p = nI s ∧ ∀ a, cb_A a → cb_mb s a = true → cb_Lf g d (p / 32) (p % 32) a) → (∀ p, p < 384 → ¬ a_raised p = 0 → cb_SP g d a_raised se p) → (∀ j, j < 384 → ∀ a, cb_A a → cb_has (se0 j) a → cb_has (se j) a) → post (f_nodes, f_budget, f_printed, f_tests, f_jumps, f_present, f_copy, f_chosen, nI (cb_tm (g 0 d) (g 2 d)), f_queued, Pn, a_kinds, a_as, a_bs, a_yesTo, a_noTo, a_start, a_values, a_log, a_reached, a_raised, se, a_strides, a_queue, st, wa, a_base, a_weights, a_origin, a_nextYes, a_nextNo, a_decided)) :
    ∀ k c Pn se st wa, c + k = 1152 → cb_SI g d (fun _ => False) c Pn a_raised se st wa → (∀ j, j < 384 → ∀ a, cb_A a → cb_has (se0 j) a → cb_has (se j) a) →
      wX_settleAnswers_2 post (k + 1) (nI c) f_nodes f_budget f_printed f_tests f_jumps f_present f_copy f_chosen (nI (cb_tm (g 0 d) (g 2 d))) f_queued (nI Pn) a_kinds a_as a_bs a_yesTo a_noTo a_start a_values a_log a_reached a_raised se a_strides a_queue st wa a_base a_weights a_origin a_nextYes a_nextNo a_decided := by
  have fin : ∀ c se st wa, cb_SI g d (fun _ => False) c 0 a_raised se st wa → (∀ j, j < 384 → ∀ a, cb_A a → cb_has (se0 j) a → cb_has (se j) a) → post (f_nodes, f_budget, f_printed, f_tests, f_jumps, f_present, f_copy, f_chosen, nI (cb_tm (g 0 d) (g 2 d)), f_queued, nI 0, a_kinds, a_as, a_bs, a_yesTo, a_noTo, a_start, a_values, a_log, a_reached, a_raised, se, a_strides, a_queue, st, wa, a_base, a_weights, a_origin, a_nextYes, a_nextNo, a_decided) := by
    intro c se st wa hS hm
    refine hk _ _ _ _ hS.1.2.2.2.2.1 (fun p hp hr => ?_) hm
    rcases hS.2 p hp hr with y | y | y
    · have h1 := hS.1.1
      have h2 := cb_sm_item (f := cb_id wa) hp
      rw [cb_id_1 y] at h2
      omega
    · exact absurd y id
    · exact y
  intro k
  induction k with
  | zero =>
    intro c Pn se st wa hc hS hm
    obtain rfl : c = 1152 := by omega
    obtain rfl : Pn = 0 := by have := hS.1.2.2.2.2.2; omega
    exact br_t (by decide) (fin _ _ _ _ hS hm)
  | succ k ih =>
    intro c Pn se st wa hc hS hm
    have hP4 : Pn ≤ 384 := by have := hS.1.1; have := cb_sm_id wa 384; omega
    refine br_f (nI_ge (b := 1152) (by omega) (by decide)) ?_
    refine pk_le Pn 0 (fun z => ?_) (fun z => ?_)
    · obtain rfl : Pn = 0 := by omega
      exact fin _ _ _ _ hS hm
    · obtain ⟨P, rfl⟩ : ∃ P, Pn = P + 1 := ⟨Pn - 1, by omega⟩
      obtain ⟨⟨a1, a2, a3, a4, a5, a6⟩, b⟩ := hS
      obtain ⟨p, hp, est, hwa⟩ := a2 P (by omega)
      have hra := a4 p hp hwa
      have hR := (cb_Rq_R hG hRd (hraS p hp hra)).1
      obtain ⟨v, hv, ev, hl⟩ := a5 p hp
      have hi : vp_in (nI p) 384 := cb_in hp (by omega)
      refine nm_r (nI_pred P) (And.intro (cb_in (by omega) (by omega)) (nm_r (e' := nI p) (by rw [cb_cl (by omega)]; exact est) (And.intro hi (nm_r (e' := upd wa p 0) (by rw [cb_cl (by omega), cb_vb0]) ?_))))
      have hS1 : cb_SI g d (fun x => x = p) (c + 1) P a_raised se st (upd wa p 0) := by
        refine ⟨⟨?_, ?_, fun i j hi hj => a3 i j (by omega) (by omega), ?_, a5, by omega⟩, ?_⟩
        · have := cb_sm_unmark hp hwa; omega
        · intro i hi'
          obtain ⟨p', hp', e1, e2⟩ := a2 i (by omega)
          refine ⟨p', hp', e1, ?_⟩
          have : p' ≠ p := by
            intro q
            have := a3 i P (by omega) (by omega) (by rw [e1, est, q])
            omega
          rw [cb_un this]; exact e2
        · intro p' hp' y
          by_cases w : p' = p
          · rw [w]; exact hra
          · rw [cb_un w] at y; exact a4 p' hp' y
        · intro p' hp' y
          by_cases w : p' = p
          · exact .inr (.inl w)
          · rw [cb_un w]
            rcases b p' hp' y with q | q | q
            · exact .inl q
            · exact absurd q id
            · exact .inr (.inr q)
      refine xw_spread (s := 0) hG hA hd hraS hp hR (by omega) hv _ hS1 ev ?_
      intro P1 se1 st1 wa1 hS2 ev1 m1 q1
      refine xw_spread (s := 1) hG hA hd hraS hp hR (by omega) hv _ hS2 ev1 ?_
      intro P2 se2 st2 wa2 hS3 ev2 m2 q2
      refine nm_r (nI_1 c) (ih (c + 1) _ _ _ _ (by omega) ⟨hS3.1, fun p' hp' y => ?_⟩ fun j hj a ha y => m2 j hj a ha (m1 j hj a ha (hm j hj a ha y)))
      rcases hS3.2 p' hp' y with w | w | w
      · exact .inl w
      · refine .inr (.inr ?_)
        subst w
        intro s hs
        obtain rfl | rfl : s = 0 ∨ s = 1 := by omega
        · exact cb_SQ_m hp' (Nat.le_refl _) q1 (by rw [ev2, ev1]) m2
        · exact q2
      · exact .inr (.inr w)
/-- questions and answers of the component: what is found -/
def cb_XQ (g : Nat → Nat → Nat) (d : Nat) (ra se : Nat → Int32) : Prop := ∀ n q, n < 12 → q < 32 → (¬ ra (n * 32 + q) = 0 ↔ cb_Rq g d n q) ∧ (cb_Rq g d n q → se (n * 32 + q) = nI (cb_S g d n q))
/-- closed marks and sets are the least ones -/
theorem cb_XQ_of (hG : cb_G N g) (hRd : cb_Rc g d) {ra se0 se : Nat → Int32} (hraS : ∀ p, p < 384 → ¬ ra p = 0 → cb_Rq g d (p / 32) (p % 32)) (ho : ¬ ra (d * 32 + g 1 d * 8) = 0)
    (hP : ∀ p, p < 384 → ¬ ra p = 0 → cb_PC g d ra se0 p (N * 2)) (h4 : ∀ q, q < 32 → ¬ ra q = 0 → cb_has (se0 q) 4)
    (hs : ∀ p, p < 384 → ∃ s, s < 8 ∧ se p = nI s ∧ ∀ a, cb_A a → cb_mb s a = true → cb_Lf g d (p / 32) (p % 32) a) (hSP : ∀ p, p < 384 → ¬ ra p = 0 → cb_SP g d ra se p)
    (hm : ∀ j, j < 384 → ∀ a, cb_A a → cb_has (se0 j) a → cb_has (se j) a) : cb_XQ g d ra se := by
  have R1 : ∀ n q, cb_Rq g d n q → ¬ ra (n * 32 + q) = 0 := by
    intro n q h
    have k : cb_Rq g d n q ∧ ¬ ra (n * 32 + q) = 0 := by
      refine h (fun n q => cb_Rq g d n q ∧ ¬ ra (n * 32 + q) = 0) ⟨cb_Rq_0, ho⟩ ?_
      intro m s q hm hs ht hq hS hc
      refine ⟨cb_Rq_s hm hs ht hq hS.1 hc, ?_⟩
      have hN := cb_Rc_N hG hm
      have k := (hP (cb_tg g m s * 32 + q) (by omega) hS.2 m s hm hs (by omega) (by omega)).1
      rw [show (cb_tg g m s * 32 + q) % 32 = q by omega] at k
      exact k hc
    exact k.2
  have L1 : ∀ n q a, cb_Lf g d n q a → cb_A a ∧ (cb_Rq g d n q → cb_has (se (n * 32 + q)) a) := by
    intro n q a h
    refine h (fun n q a => cb_A a ∧ (cb_Rq g d n q → cb_has (se (n * 32 + q)) a)) ?_ ?_ ?_
    · intro q hq
      refine ⟨.inr (.inr rfl), fun hr => ?_⟩
      have r := R1 0 q hr
      rw [show 0 * 32 + q = q by omega] at r ⊢
      exact hm q (by omega) 4 (.inr (.inr rfl)) (h4 q hq r)
    · intro m s q a hm' hs' ht hq hc
      have ha : cb_A a := by
        rcases cb_cr_r hG d m s hq with y | ⟨b, hb, y⟩
        · omega
        · obtain rfl : a = b := by omega
          exact hb
      refine ⟨ha, fun hr => ?_⟩
      have hN := cb_Rc_N hG hm'
      have k := (hP (cb_tg g m s * 32 + q) (by omega) (R1 _ _ hr) m s hm' hs' (by omega) (by omega)).2 a
      rw [show (cb_tg g m s * 32 + q) % 32 = q by omega] at k
      exact hm _ (by omega) a ha (k hc)
    · intro m s q a hm' hs' ht hq hc hS
      refine ⟨hS.1, fun hr => ?_⟩
      have hq2 := cb_Rq_s hm' hs' ht hq hr hc
      have hN := cb_Rc_12 hG hm'
      have k := hSP (m * 32 + cb_cr g d m s q) (by omega) (R1 _ _ hq2) s hs'
      unfold cb_SQ at k
      rw [show (m * 32 + cb_cr g d m s q) / 32 = m by omega, show (m * 32 + cb_cr g d m s q) % 32 = cb_cr g d m s q by omega] at k
      exact k ht q hq (R1 _ _ hr) rfl a hS.1 (hS.2 hq2)
  intro n q hn hq
  refine ⟨⟨fun h => ?_, R1 n q⟩, fun hr => ?_⟩
  · have k := hraS (n * 32 + q) (by omega) h
    rw [show (n * 32 + q) / 32 = n by omega, show (n * 32 + q) % 32 = q by omega] at k
    exact k
  · obtain ⟨s, hs8, e, hl⟩ := hs (n * 32 + q) (by omega)
    rw [show (n * 32 + q) / 32 = n by omega, show (n * 32 + q) % 32 = q by omega] at hl
    rw [e]
    congr 1
    refine cb_S_u hs8 fun a ha => ⟨hl a ha, fun h => ?_⟩
    have := (L1 n q a h).2 hr
    rw [e, cb_has_n hs8] at this
    exact this
/-- raise, raiseAll, settleAnswers behind clearQuestions -/
theorem xw_facts (hG : cb_G N g) (hA : cb_Ar g a_kinds a_as a_bs a_yesTo a_noTo) (hdN : d < N) (hd : g 0 d = 6 ∨ g 0 d = 7) (hRd : cb_Rc g d) (hre : ∀ n, n < 12 → (¬ a_reached n = 0 ↔ cb_Rc g n)) (h0 : ∀ p, p < 384 → a_raised p = 0 ∧ a_waiting p = 0 ∧ a_sets p = 0) (post : SX → Prop)
    (hk : ∀ Qn Pn ra se qu st wa, cb_XQ g d ra se → post (nI N, f_budget, f_printed, f_tests, f_jumps, f_present, f_copy, f_chosen, nI (cb_tm (g 0 d) (g 2 d)), Qn, Pn, a_kinds, a_as, a_bs, a_yesTo, a_noTo, a_start, a_values, a_log, a_reached, ra, se, a_strides, qu, st, wa, a_base, a_weights, a_origin, a_nextYes, a_nextNo, a_decided)) :
    wpX_raise (fun u => wpX_raiseAll (fun u => wpX_settleAnswers post u) u) (nI N, f_budget, f_printed, f_tests, f_jumps, f_present, f_copy, f_chosen, nI (cb_tm (g 0 d) (g 2 d)), 0, 0, a_kinds, a_as, a_bs, a_yesTo, a_noTo, a_start, a_values, a_log, a_reached, a_raised, a_sets, a_strides, a_queue, a_stack, a_waiting, a_base, a_weights, a_origin, a_nextYes, a_nextNo, a_decided) (nI d) (nI (g 1 d * 8)) := by
  have hN := hG.2.1
  have hg := hG.2.2 d
  refine xw_raise (Qn := 0) (Pn := 0) hG (cb_QI_0 h0) (by omega) (by omega) cb_Rq_0 _ ?_
  intro Qn Pn ra se qu st wa hQ hX ho
  refine ⟨385, ?_⟩
  refine xw_all_l (o := d * 32 + g 1 d * 8) hG hA hd hre _ ?_ 384 0 Qn Pn ra se qu st wa rfl (Nat.zero_le _) hQ ho fun i p hi => absurd hi (Nat.not_lt_zero _)
  intro Qn Pn ra se qu st wa hQ ho hP
  refine ⟨1153, ?_⟩
  refine xw_settle_l (se0 := se) hG hA hd hRd hQ.2.2.2.2.1 post ?_ 1152 0 Pn se st wa rfl ⟨hQ.1, fun p hp hr => ?_⟩ (fun _ _ _ _ y => y)
  · intro Pn' se' st' wa' hs hSP hm
    exact hk _ _ _ _ _ _ _ (cb_XQ_of hG hRd hQ.2.2.2.2.1 ho hP hQ.2.2.2.2.2.2 hs hSP hm)
  · by_cases y : wa p = 0
    · refine .inr (.inr fun s hs ht q hq hr' hc a ha hh => ?_)
      have z : se p = 0 := Classical.byContradiction fun w => hQ.2.2.2.2.2.1 p hp w y
      rw [z, cb_n0, cb_has_n (by omega), cb_mb0] at hh
      exact absurd hh (by decide)
    · exact .inl y
end xwSettle
end
section
/-! 08: the component's layout: weigh, layOut, member, answerAt -/
section xwLay
variable {N d : Nat} {g : Nat → Nat → Nat}
variable {f_nodes f_budget f_printed f_tests f_jumps f_present f_copy f_chosen f_truth f_queued f_pending : Int32} {a_kinds a_as a_bs a_yesTo a_noTo a_start a_values a_log a_reached a_raised a_sets a_strides a_queue a_stack a_waiting a_base a_weights a_origin a_nextYes a_nextNo a_decided : Nat → Int32}
theorem xw_sizeOf {s : Nat} (hs : s < 8) (post : Int32 → Prop) (h : post (nI (cb_pop s))) : wpX_sizeOf post (f_nodes, f_budget, f_printed, f_tests, f_jumps, f_present, f_copy, f_chosen, f_truth, f_queued, f_pending, a_kinds, a_as, a_bs, a_yesTo, a_noTo, a_start, a_values, a_log, a_reached, a_raised, a_sets, a_strides, a_queue, a_stack, a_waiting, a_base, a_weights, a_origin, a_nextYes, a_nextNo, a_decided) (nI s) := by
  have e := cb_size s hs
  show post _
  rw [e]
  exact h
theorem xw_weigh_l (hG : cb_G N g) {n : Nat} (hn : n < 12) (hR : cb_Rc g n) (hQ : cb_XQ g d a_raised a_sets) {sr0 : Nat → Int32} (post : Int32 → SX → Prop)
    (hk : ∀ sr, (∀ q, q < 32 → cb_Rq g d n q → sr (n * 32 + q) = nI (cb_cap (cb_pr (cb_z g d n) q))) → (∀ p, ¬ (n * 32 ≤ p ∧ p < n * 32 + 32) → sr p = sr0 p) → post (nI (cb_cap (cb_pr (cb_z g d n) 32))) (f_nodes, f_budget, f_printed, f_tests, f_jumps, f_present, f_copy, f_chosen, f_truth, f_queued, f_pending, a_kinds, a_as, a_bs, a_yesTo, a_noTo, a_start, a_values, a_log, a_reached, a_raised, a_sets, sr, a_queue, a_stack, a_waiting, a_base, a_weights, a_origin, a_nextYes, a_nextNo, a_decided)) :
    ∀ k q sr, q + k = 32 → (∀ q', q' < q → cb_Rq g d n q' → sr (n * 32 + q') = nI (cb_cap (cb_pr (cb_z g d n) q'))) → (∀ p, ¬ (n * 32 ≤ p ∧ p < n * 32 + 32) → sr p = sr0 p) →
      wX_weigh_4 post (nI n) f_nodes f_budget f_printed f_tests f_jumps f_present f_copy f_chosen f_truth f_queued f_pending (k + 1) (nI (cb_cap (cb_pr (cb_z g d n) q))) (nI q) a_kinds a_as a_bs a_yesTo a_noTo a_start a_values a_log a_reached a_raised a_sets sr a_queue a_stack a_waiting a_base a_weights a_origin a_nextYes a_nextNo a_decided := by
  intro k
  induction k with
  | zero =>
    intro q sr hq h1 h2
    obtain rfl : q = 32 := by omega
    exact br_t (by decide) (hk _ h1 h2)
  | succ k ih =>
    intro q sr hq h1 h2
    have hi : vp_in (nI (n * 32 + q)) 384 := cb_in (by omega) (by omega)
    have hc : (nI (n * 32 + q)).toNatClampNeg = n * 32 + q := cb_cl (by omega)
    obtain ⟨x1, x2⟩ := hQ n q hn (by omega)
    refine br_f (nI_ge (b := 32) (by omega) (by decide)) (nm_r (cb_ix n q) (And.intro hi ?_))
    rw [hc]
    refine br_c (fun z => nm_r (nI_1 q) ?_) (fun z => And.intro hi (nm_e (And.intro hi ?_)))
    · have hnr : ¬ cb_Rq g d n q := fun w => x1.mpr w z
      have e : cb_pr (cb_z g d n) (q + 1) = cb_pr (cb_z g d n) q := by
        show cb_pr (cb_z g d n) q * cb_z g d n q = _
        rw [cb_z_f hnr, Nat.mul_one]
      have := ih (q + 1) sr (by omega) (fun q' hq' hr => ?_) h2
      · rw [e] at this; exact this
      · by_cases y : q' = q
        · rw [y] at hr; exact absurd hr hnr
        · exact h1 q' (by omega) hr
    · have hr := x1.mp z
      have hz := cb_z_pos (d := d) hG hR (q := q) (by omega)
      have hz3 := cb_z_3 g d n q
      have hcp := cb_cap_le (cb_pr (cb_z g d n) q)
      have inv : (∀ q', q' < q + 1 → cb_Rq g d n q' → upd sr (n * 32 + q) (nI (cb_cap (cb_pr (cb_z g d n) q))) (n * 32 + q') = nI (cb_cap (cb_pr (cb_z g d n) q'))) ∧ (∀ p, ¬ (n * 32 ≤ p ∧ p < n * 32 + 32) → upd sr (n * 32 + q) (nI (cb_cap (cb_pr (cb_z g d n) q))) p = sr0 p) := by
        refine ⟨fun q' hq' hr' => ?_, fun p hp => ?_⟩
        · by_cases y : q' = q
          · rw [y, cb_us]
          · rw [cb_un (by omega)]; exact h1 q' (by omega) hr'
        · rw [cb_un (by omega)]; exact h2 p hp
      have ih' := ih (q + 1) _ (by omega) inv.1 inv.2
      have e : cb_cap (cb_cap (cb_pr (cb_z g d n) q) * cb_z g d n q) = cb_cap (cb_pr (cb_z g d n) (q + 1)) := cb_cap_mul hz
      have hb : cb_cap (cb_pr (cb_z g d n) q) * cb_z g d n q ≤ 65 * 3 := Nat.mul_le_mul hcp hz3
      rw [x2 hr]
      refine xw_sizeOf (cb_S8 g d n q) _ ?_
      rw [← cb_z_t hr]
      refine nm_r (pk_mul _ _) ?_
      refine pk_le (cb_cap (cb_pr (cb_z g d n) q) * cb_z g d n q) 64 (fun y => nm_r (nI_1 q) ?_) (fun y => nm_r (nI_1 q) ?_)
      · rw [cb_cap_lo y] at e; rw [e]; exact ih'
      · rw [cb_cap_hi (by omega)] at e
        rw [← e] at ih'
        exact ih'
/-- the tables of layOut below node n, weights cut at 65 -/
def cb_LY (g : Nat → Nat → Nat) (d n : Nat) (sr ba we : Nat → Int32) : Prop := ∀ j, j < n → ba j = nI (cb_sm (fun i => cb_cap (cb_wt' g d i)) j) ∧ we j = nI (cb_cap (cb_wt' g d j)) ∧
  ∀ q, q < 32 → cb_Rq g d j q → sr (j * 32 + q) = nI (cb_cap (cb_pr (cb_z g d j) q))
theorem xw_lay_l (hG : cb_G N g) (hRd : cb_Rc g d) (hQ : cb_XQ g d a_raised a_sets) (hre : ∀ n, n < 12 → (¬ a_reached n = 0 ↔ cb_Rc g n)) (post : Int32 → SX → Prop)
    (hk : ∀ sr ba we, cb_LY g d N sr ba we → post (nI (cb_sm (fun i => cb_cap (cb_wt' g d i)) N)) (nI N, f_budget, f_printed, f_tests, f_jumps, f_present, f_copy, f_chosen, f_truth, f_queued, f_pending, a_kinds, a_as, a_bs, a_yesTo, a_noTo, a_start, a_values, a_log, a_reached, a_raised, a_sets, sr, a_queue, a_stack, a_waiting, ba, we, a_origin, a_nextYes, a_nextNo, a_decided)) :
    ∀ k n sr ba we, n + k = N → cb_LY g d n sr ba we → wX_layOut_4 post (k + 1) (nI (cb_sm (fun i => cb_cap (cb_wt' g d i)) n)) (nI n) (nI N) f_budget f_printed f_tests f_jumps f_present f_copy f_chosen f_truth f_queued f_pending a_kinds a_as a_bs a_yesTo a_noTo a_start a_values a_log a_reached a_raised a_sets sr a_queue a_stack a_waiting ba we a_origin a_nextYes a_nextNo a_decided := by
  have hN := hG.2.1
  intro k
  induction k with
  | zero =>
    intro n sr ba we hn h
    obtain rfl : n = N := by omega
    exact br_t (nI_le (Nat.le_refl _) (by omega)) (hk _ _ _ h)
  | succ k ih =>
    intro n sr ba we hn h
    have hi : vp_in (nI n) 12 := cb_in (by omega) (by omega)
    have hc : (nI n).toNatClampNeg = n := cb_cl (by omega)
    refine br_f (nI_ge (by omega) (by omega)) (And.intro hi (nm_r (e' := upd ba n (nI (cb_sm (fun i => cb_cap (cb_wt' g d i)) n))) (by rw [hc]) (And.intro hi ?_)))
    rw [hc]
    -- the join
    have join : ∀ sr' : Nat → Int32, (∀ j, j < n → ∀ q, q < 32 → cb_Rq g d j q → sr' (j * 32 + q) = sr (j * 32 + q)) → (∀ q, q < 32 → cb_Rq g d n q → sr' (n * 32 + q) = nI (cb_cap (cb_pr (cb_z g d n) q))) →
        wX_layOut_42 post (wX_layOut_4 post (k + 1)) (nI (cb_sm (fun i => cb_cap (cb_wt' g d i)) n)) (nI n) (nI (cb_cap (cb_wt' g d n))) (nI n) (nI N) f_budget f_printed f_tests f_jumps f_present f_copy f_chosen f_truth f_queued f_pending a_kinds a_as a_bs a_yesTo a_noTo a_start a_values a_log a_reached a_raised a_sets sr' a_queue a_stack a_waiting (upd ba n (nI (cb_sm (fun i => cb_cap (cb_wt' g d i)) n))) we a_origin a_nextYes a_nextNo a_decided := by
      intro sr' k1 k2
      refine And.intro hi (nm_r (e' := upd we n (nI (cb_cap (cb_wt' g d n)))) (by rw [hc]) (And.intro hi (nm_r (e' := nI (cb_sm (fun i => cb_cap (cb_wt' g d i)) (n + 1))) (by rw [hc, cb_us, nI_add]; rfl) (nm_r (nI_1 n) (ih (n + 1) _ _ _ (by omega) ?_)))))
      intro j hj
      by_cases y : j = n
      · subst y
        exact ⟨cb_us, cb_us, k2⟩
      · rw [cb_un y, cb_un y]
        obtain ⟨b1, b2, b3⟩ := h j (by omega)
        exact ⟨b1, b2, fun q hq hr => (k1 j (by omega) q hq hr).trans (b3 q hq hr)⟩
    refine br_c (fun z => ?_) (fun z => ?_)
    · have hnR : ¬ cb_Rc g n := fun w => (hre n (by omega)).mpr w z
      have := join sr (fun _ _ _ _ _ => rfl) (fun q hq hr => absurd (cb_Rq_R hG hRd hr).1 hnR)
      rw [cb_wt_f hnR] at this
      exact this
    · have hR := (hre n (by omega)).mp z
      refine ⟨33, ?_⟩
      refine xw_weigh_l (sr0 := sr) hG (by omega) hR hQ _ ?_ 32 0 sr rfl (fun q' hq' => absurd hq' (Nat.not_lt_zero _)) (fun _ _ => rfl)
      intro sr' k1 k2
      have := join sr' (fun j hj q hq hr => k2 _ (by omega)) k1
      rw [cb_wt_t hR] at this
      exact this
theorem xw_lay (hG : cb_G N g) (hRd : cb_Rc g d) (hQ : cb_XQ g d a_raised a_sets) (hre : ∀ n, n < 12 → (¬ a_reached n = 0 ↔ cb_Rc g n)) (post : Int32 → SX → Prop)
    (hk : ∀ sr ba we, cb_LY g d N sr ba we → post (nI (cb_sm (fun i => cb_cap (cb_wt' g d i)) N)) (nI N, f_budget, f_printed, f_tests, f_jumps, f_present, f_copy, f_chosen, f_truth, f_queued, f_pending, a_kinds, a_as, a_bs, a_yesTo, a_noTo, a_start, a_values, a_log, a_reached, a_raised, a_sets, sr, a_queue, a_stack, a_waiting, ba, we, a_origin, a_nextYes, a_nextNo, a_decided)) :
    wpX_layOut post (nI N, f_budget, f_printed, f_tests, f_jumps, f_present, f_copy, f_chosen, f_truth, f_queued, f_pending, a_kinds, a_as, a_bs, a_yesTo, a_noTo, a_start, a_values, a_log, a_reached, a_raised, a_sets, a_strides, a_queue, a_stack, a_waiting, a_base, a_weights, a_origin, a_nextYes, a_nextNo, a_decided) :=
  ⟨N + 1, xw_lay_l hG hRd hQ hre post hk N 0 _ _ _ (by omega) fun j hj => absurd hj (Nat.not_lt_zero _)⟩
/-- the tables within the budget -/
def cb_XL (g : Nat → Nat → Nat) (d N : Nat) (sr ba we : Nat → Int32) : Prop := cb_bo g d N ≤ 64 ∧ ∀ j, j < N → ba j = nI (cb_bo g d j) ∧ we j = nI (cb_wt' g d j) ∧
  ∀ q, q < 32 → cb_Rq g d j q → sr (j * 32 + q) = nI (cb_pr (cb_z g d j) q)
theorem cb_XL_of (hG : cb_G N g) (hRd : cb_Rc g d) {sr ba we : Nat → Int32} (h : cb_LY g d N sr ba we) (hb : cb_bo g d N ≤ 64) : cb_XL g d N sr ba we := by
  have w64 : ∀ j, j < N → cb_wt' g d j ≤ 64 := fun j hj => Nat.le_trans (cb_sm_item (f := cb_wt' g d) hj) hb
  refine ⟨hb, fun j hj => ?_⟩
  obtain ⟨b1, b2, b3⟩ := h j hj
  refine ⟨?_, ?_, fun q hq hr => ?_⟩
  · rw [b1]; congr 1
    exact cb_sm_congr fun i hi => cb_cap_lo (w64 i (by omega))
  · rw [b2, cb_cap_lo (w64 j hj)]
  · rw [b3 q hq hr, cb_cap_lo]
    have hR := (cb_Rq_R hG hRd hr).1
    have := w64 j hj
    rw [cb_wt_t hR] at this
    exact Nat.le_trans (cb_pr_le (fun q hq => cb_z_pos hG hR hq) (by omega)) this
theorem xw_member_2 {s r : Nat} (hs : s < 8) (hr : r < 64) (post : Int32 → Prop) (h : post (nI (if cb_mb s 2 then (if r = 0 then 2 else 4) else 4))) : wX_member_5 post (nI s) f_nodes f_budget f_printed f_tests f_jumps f_present f_copy f_chosen f_truth f_queued f_pending a_kinds a_as a_bs a_yesTo a_noTo a_start a_values a_log a_reached a_raised a_sets a_strides a_queue a_stack a_waiting a_base a_weights a_origin a_nextYes a_nextNo a_decided 2 (nI r) 2 := by
  refine br_f (by decide) (ek_if (cb_me_1 s hs).2 (fun z => nm_r (e' := 4) (by decide) ?_) (fun z => pk_eq r 0 (fun e => ?_) (fun e => nm_r (sb_m1 (by omega)) (nm_r (e' := 4) (by decide) ?_))))
  · rw [if_neg (by rw [z]; decide)] at h
    exact br_t (by decide) h
  · rw [if_pos (by revert z; cases cb_mb s 2 <;> simp), if_pos e] at h
    exact h
  · rw [if_pos (by revert z; cases cb_mb s 2 <;> simp), if_neg e] at h
    exact br_t (by decide) h
theorem xw_member {s r : Nat} (hs : s < 8) (hr : r < 64) (post : Int32 → Prop) (h : post (nI (cb_me s r))) : wpX_member post (f_nodes, f_budget, f_printed, f_tests, f_jumps, f_present, f_copy, f_chosen, f_truth, f_queued, f_pending, a_kinds, a_as, a_bs, a_yesTo, a_noTo, a_start, a_values, a_log, a_reached, a_raised, a_sets, a_strides, a_queue, a_stack, a_waiting, a_base, a_weights, a_origin, a_nextYes, a_nextNo, a_decided) (nI s) (nI r) := by
  refine ⟨3, ?_⟩
  unfold cb_me at h
  refine br_f (by decide) (ek_if (cb_me_1 s hs).1 (fun z => nm_r (e' := 2) (by decide) ?_) (fun z => pk_eq r 0 (fun e => ?_) (fun e => nm_r (sb_m1 (by omega)) (nm_r (e' := 2) (by decide) ?_))))
  · rw [if_neg (by rw [z]; decide)] at h
    exact xw_member_2 hs hr post h
  · rw [if_pos (by revert z; cases cb_mb s 1 <;> simp), if_pos e] at h
    exact h
  · rw [if_pos (by revert z; cases cb_mb s 1 <;> simp), if_neg e] at h
    refine xw_member_2 hs (by omega) post ?_
    by_cases y : r = 1
    · rw [if_pos y] at h; rw [if_pos (by omega : r - 1 = 0)]; exact h
    · rw [if_neg y] at h; rw [if_neg (by omega : ¬ r - 1 = 0)]; exact h
theorem cb_wt64 {j : Nat} (hb : cb_bo g d N ≤ 64) (hj : j < N) : cb_bo g d j + cb_wt' g d j ≤ 64 := Nat.le_trans (cb_sm_pre (f := cb_wt' g d) hj) hb
theorem xw_answerAt (hG : cb_G N g) (hRd : cb_Rc g d) (hQ : cb_XQ g d a_raised a_sets) (hL : cb_XL g d N a_strides a_base a_weights) {n q x : Nat} (hr : cb_Rq g d n q) (hx : x < cb_wt' g d n) (ho : a_origin (cb_bo g d n + x) = nI n) (post : Int32 → Prop) (h : post (nI (cb_an g d n q x))) :
    wpX_answerAt post (f_nodes, f_budget, f_printed, f_tests, f_jumps, f_present, f_copy, f_chosen, f_truth, f_queued, f_pending, a_kinds, a_as, a_bs, a_yesTo, a_noTo, a_start, a_values, a_log, a_reached, a_raised, a_sets, a_strides, a_queue, a_stack, a_waiting, a_base, a_weights, a_origin, a_nextYes, a_nextNo, a_decided) (nI (cb_bo g d n + x)) (nI q) := by
  obtain ⟨hR, hq⟩ := cb_Rq_R hG hRd hr
  have hN := cb_Rc_N hG hR
  have h12 := hG.2.1
  have w64 := cb_wt64 hL.1 hN
  obtain ⟨b1, b2, b3⟩ := hL.2 n hN
  have hse := (hQ n q (by omega) hq).2 hr
  have hp := cb_S_pos (d := d) hG hR hq
  have hp3 := cb_pop3 (cb_S g d n q)
  have hpr : 0 < cb_pr (cb_z g d n) q := cb_pr_pos fun q' hq' => cb_z_pos hG hR (by omega)
  have hpr2 : cb_pr (cb_z g d n) q ≤ 64 := by
    have := cb_pr_le (z := cb_z g d n) (q := q) (n := 32) (fun q hq => cb_z_pos hG hR hq) (by omega)
    rw [← cb_wt_t hR] at this
    omega
  have hi : vp_in (nI (n * 32 + q)) 384 := cb_in (by omega) (by omega)
  have hc : (nI (n * 32 + q)).toNatClampNeg = n * 32 + q := cb_cl (by omega)
  refine And.intro (cb_in (by omega) (by omega)) (nm_r (e' := nI n) (by rw [cb_cl (by omega)]; exact ho) (nm_r (cb_ix n q) (And.intro hi ?_)))
  rw [hc, hse]
  refine xw_sizeOf (cb_S8 g d n q) _ (And.intro hi (nm_r (e' := nI (cb_pr (cb_z g d n) q)) (b3 q hq hr) ?_))
  refine br_f (nI_nlt (b := 1) (by omega) (by omega)) (br_t (nI_le (a := 1) (by omega) (by omega)) (And.intro (cb_in (by omega) (by omega)) (And.intro (nI_ne0 hpr (by omega)) (And.intro (nI_ne0 hp (by omega)) ?_))))
  have hdiv : x / cb_pr (cb_z g d n) q ≤ x := Nat.div_le_self _ _
  have hmod := Nat.mod_lt (x / cb_pr (cb_z g d n) q) hp
  refine nm_r (e' := nI (x / cb_pr (cb_z g d n) q % cb_pop (cb_S g d n q))) ?_ (And.intro hi ?_)
  · rw [cb_cl (n := n) (by omega), b1, pk_sub (by omega), Nat.add_sub_cancel_left, pk_div (by omega) hpr (by omega), pk_rem (by omega) hp (by omega)]
  · refine xw_member (cb_S8 g d n q) (by omega) _ ?_
    unfold cb_an at h
    rw [cb_z_t hr] at h
    exact h
end xwLay
end
section
/-! 09: the component's link and split -/
section xwSplit
variable {N d : Nat} {g : Nat → Nat → Nat}
variable {f_nodes f_budget f_printed f_tests f_jumps f_present f_copy f_chosen f_truth f_queued f_pending : Int32} {a_kinds a_as a_bs a_yesTo a_noTo a_start a_values a_log a_reached a_raised a_sets a_strides a_queue a_stack a_waiting a_base a_weights a_origin a_nextYes a_nextNo a_decided : Nat → Int32}
/-- the copy at which side s of copy x of m ends -/
noncomputable def cb_lk (g : Nat → Nat → Nat) (d m s x : Nat) : Nat := if cb_tg g m s < 12 then cb_bo g d (cb_tg g m s) + cb_vl (cb_z g d (cb_tg g m s)) (cb_e g d m s x) 32 else cb_bo g d m + x
theorem xw_link_89 (hQ : cb_XQ g d a_raised a_sets) (hL : cb_XL g d N a_strides a_base a_weights) {t q a v : Nat} (ht : t < 12) (htN : t < N) (hq : q < 32) (hr : cb_Rq g d t q) (ha : cb_A a) (post : Int32 → Prop) (J : Int32 → Int32 → Prop) {x1 x2 x3 x4 : Int32}
    (h : J (nI (v + cb_pr (cb_z g d t) q * cb_rk (cb_S g d t q) a)) (nI (q + 1))) : wX_link_89 post J x1 x2 x3 x4 (nI v) (nI q) (nI (t * 32 + q)) (nI a) f_nodes f_budget f_printed f_tests f_jumps f_present f_copy f_chosen f_truth f_queued f_pending a_kinds a_as a_bs a_yesTo a_noTo a_start a_values a_log a_reached a_raised a_sets a_strides a_queue a_stack a_waiting a_base a_weights a_origin a_nextYes a_nextNo a_decided := by
  have hi : vp_in (nI (t * 32 + q)) 384 := cb_in (by omega) (by omega)
  have hc : (nI (t * 32 + q)).toNatClampNeg = t * 32 + q := cb_cl (by omega)
  have hse := (hQ t q ht hq).2 hr
  have hsr := (hL.2 t htN).2.2 q hq hr
  obtain ⟨r1, r2⟩ := cb_rkI (cb_S g d t q) (cb_S8 g d t q) a (cb_A8 ha).1 ha
  refine And.intro hi (And.intro hi ?_)
  rw [hc, hse, hsr, r1]
  refine xw_sizeOf r2 _ (nm_r (e' := nI (v + cb_pr (cb_z g d t) q * cb_rk (cb_S g d t q) a)) ?_ (nm_r (nI_1 q) h))
  rw [pk_mul, nI_add]; rfl
theorem xw_link_l (hG : cb_G N g) (hA : cb_Ar g a_kinds a_as a_bs a_yesTo a_noTo) (hd : g 0 d = 6 ∨ g 0 d = 7) (hRd : cb_Rc g d) (hQ : cb_XQ g d a_raised a_sets) (hL : cb_XL g d N a_strides a_base a_weights) {m s x : Nat} (hm : cb_Rc g m) (hs : s < 2) (ht : cb_tg g m s < 12) (hx : x < cb_wt' g d m) (ho : a_origin (cb_bo g d m + x) = nI m) (post : Int32 → Prop) {b : Nat}
    (h : post (nI (b + cb_vl (cb_z g d (cb_tg g m s)) (cb_e g d m s x) 32))) :
    ∀ k q, q + k = 32 → wX_link_34 post (nI (cb_bo g d m + x)) (nI s) (nI m) (nI (cb_tg g m s)) f_nodes f_budget f_printed f_tests f_jumps f_present f_copy f_chosen (nI (cb_tm (g 0 d) (g 2 d))) f_queued f_pending a_kinds a_as a_bs a_yesTo a_noTo a_start a_values a_log a_reached a_raised a_sets a_strides a_queue a_stack a_waiting a_base a_weights a_origin a_nextYes a_nextNo a_decided (k + 1) (nI (b + cb_vl (cb_z g d (cb_tg g m s)) (cb_e g d m s x) q)) (nI q) := by
  have hN := cb_Rc_12 hG hm
  have htN := cb_tgN hG ht
  intro k
  induction k with
  | zero =>
    intro q hq
    obtain rfl : q = 32 := by omega
    exact br_t (by decide) h
  | succ k ih =>
    intro q hq
    have hi : vp_in (nI (cb_tg g m s * 32 + q)) 384 := cb_in (by omega) (by omega)
    have hc : (nI (cb_tg g m s * 32 + q)).toNatClampNeg = cb_tg g m s * 32 + q := cb_cl (by omega)
    obtain ⟨x1, x2⟩ := hQ (cb_tg g m s) q ht (by omega)
    refine br_f (nI_ge (b := 32) (by omega) (by decide)) (nm_r (cb_ix _ q) (And.intro hi ?_))
    rw [hc]
    have ih' := ih (q + 1) (by omega)
    have e0 : cb_vl (cb_z g d (cb_tg g m s)) (cb_e g d m s x) (q + 1) = cb_vl (cb_z g d (cb_tg g m s)) (cb_e g d m s x) q + cb_pr (cb_z g d (cb_tg g m s)) q * cb_e g d m s x q := rfl
    refine br_c (fun z => nm_r (nI_1 q) ?_) (fun z => ?_)
    · have hnr : ¬ cb_Rq g d (cb_tg g m s) q := fun w => x1.mpr w z
      rw [e0, cb_e_f hnr, Nat.mul_zero, Nat.add_zero] at ih'
      exact ih'
    · have hr := x1.mp z
      obtain ⟨hA1, hA2⟩ := cb_nx_A hG hRd (x := x) hm hs ht hr
      rw [e0, cb_e_t hr, ← Nat.add_assoc] at ih'
      refine xw_cross hG hA hd hN hs (by omega) _ ?_
      rcases cb_cr_r hG d m s (q := q) (by omega) with hcr | ⟨a, ha, hcr⟩
      · rw [cb_ci_q hcr]
        refine br_t (nI_pos' (by omega)) ?_
        refine xw_answerAt hG hRd hQ hL (cb_Rq_s hm hs ht (by omega) hr hcr) hx ho _ ?_
        have e1 : cb_nx g d m s q x = cb_an g d m (cb_cr g d m s q) x := if_pos hcr
        rw [e1] at ih' hA1
        exact xw_link_89 hQ hL ht htN (by omega) hr hA1 _ _ ih'
      · have ha8 := cb_A8 ha
        obtain ⟨n1, n2, n3⟩ := cb_neg ha8.2 (by omega : a < 64)
        rw [hcr, cb_ci_a]
        refine br_f n2 ?_
        rw [n3]
        have e1 : cb_nx g d m s q x = a := by unfold cb_nx; rw [if_neg (by omega), hcr, Nat.add_sub_cancel_left]
        rw [e1] at ih' hA1
        exact xw_link_89 hQ hL ht htN (by omega) hr hA1 _ _ ih'
theorem xw_link (hG : cb_G N g) (hA : cb_Ar g a_kinds a_as a_bs a_yesTo a_noTo) (hd : g 0 d = 6 ∨ g 0 d = 7) (hRd : cb_Rc g d) (hQ : cb_XQ g d a_raised a_sets) (hL : cb_XL g d N a_strides a_base a_weights) {m s x : Nat} (hm : cb_Rc g m) (hs : s < 2) (hx : x < cb_wt' g d m) (ho : a_origin (cb_bo g d m + x) = nI m) (post : Int32 → Prop)
    (h : post (nI (cb_lk g d m s x))) : wpX_link post (f_nodes, f_budget, f_printed, f_tests, f_jumps, f_present, f_copy, f_chosen, nI (cb_tm (g 0 d) (g 2 d)), f_queued, f_pending, a_kinds, a_as, a_bs, a_yesTo, a_noTo, a_start, a_values, a_log, a_reached, a_raised, a_sets, a_strides, a_queue, a_stack, a_waiting, a_base, a_weights, a_origin, a_nextYes, a_nextNo, a_decided) (nI (cb_bo g d m + x)) (nI s) := by
  have hN := cb_Rc_N hG hm
  have hN12 := hG.2.1
  have w64 := cb_wt64 hL.1 hN
  refine And.intro (cb_in (by omega) (by omega)) (nm_r (e' := nI m) (by rw [cb_cl (by omega)]; exact ho) (xw_target hG hA (by omega) hs _ ?_))
  unfold cb_lk at h
  by_cases ht : cb_tg g m s < 12
  · rw [cb_ti_t ht]
    rw [if_pos ht] at h
    refine br_t (nI_pos' (by omega)) (And.intro (cb_in ht (by omega)) (nm_r (e' := nI (cb_bo g d (cb_tg g m s))) (by rw [cb_cl (by omega)]; exact (hL.2 _ (cb_tgN hG ht)).1) ⟨33, ?_⟩))
    exact xw_link_l hG hA hd hRd hQ hL hm hs ht hx ho post h 32 0 rfl
  · rw [cb_ti_n ht]
    rw [if_neg ht] at h
    exact br_f (by decide) h
def cb_XO (g : Nat → Nat → Nat) (d n : Nat) (or : Nat → Int32) : Prop := ∀ j, j < n → ∀ x, x < cb_wt' g d j → or (cb_bo g d j + x) = nI j
theorem xw_split_33 {n : Nat} (hL : cb_bo g d n + cb_wt' g d n ≤ 64) (hn : n < 12) (post : SX → Prop) (J : Int32 → (Nat → Int32) → (Nat → Int32) → (Nat → Int32) → (Nat → Int32) → (Nat → Int32) → (Nat → Int32) → (Nat → Int32) → (Nat → Int32) → (Nat → Int32) → (Nat → Int32) → (Nat → Int32) → (Nat → Int32) → (Nat → Int32) → (Nat → Int32) → (Nat → Int32) → (Nat → Int32) → (Nat → Int32) → (Nat → Int32) → (Nat → Int32) → (Nat → Int32) → (Nat → Int32) → Prop) {x1 x2 : Int32}
    (hJ : ∀ or, cb_XO g d (n + 1) or → J (nI (n + 1)) a_kinds a_as a_bs a_yesTo a_noTo a_start a_values a_log a_reached a_raised a_sets a_strides a_queue a_stack a_waiting a_base a_weights or a_nextYes a_nextNo a_decided) :
    ∀ k x or, x + k = cb_wt' g d n → cb_XO g d n or → (∀ y, y < x → or (cb_bo g d n + y) = nI n) → wX_split_33 post J x1 x2 (nI n) (nI (cb_bo g d n + cb_wt' g d n)) f_nodes f_budget f_printed f_tests f_jumps f_present f_copy f_chosen f_truth f_queued f_pending (k + 1) (nI (cb_bo g d n + x)) a_kinds a_as a_bs a_yesTo a_noTo a_start a_values a_log a_reached a_raised a_sets a_strides a_queue a_stack a_waiting a_base a_weights or a_nextYes a_nextNo a_decided := by
  intro k
  induction k with
  | zero =>
    intro x or hx h1 h2
    obtain rfl : x = cb_wt' g d n := by omega
    refine br_t (nI_le (Nat.le_refl _) (by omega)) (nm_r (nI_1 n) (hJ _ fun j hj y hy => ?_))
    by_cases z : j = n
    · subst z; exact h2 y hy
    · exact h1 j (by omega) y hy
  | succ k ih =>
    intro x or hx h1 h2
    have hc : (nI (cb_bo g d n + x)).toNatClampNeg = cb_bo g d n + x := cb_cl (by omega)
    refine br_f (nI_ge (by omega) (by omega)) (br_f (nI_ge (b := 64) (by omega) (by decide)) (And.intro (cb_in (by omega) (by omega)) (nm_r (e' := upd or (cb_bo g d n + x) (nI n)) (by rw [hc]) (nm_r (nI_1 (cb_bo g d n + x)) (ih (x + 1) _ (by omega) (fun j hj y hy => ?_) (fun y hy => ?_))))))
    · have := cb_sm_pre (f := cb_wt' g d) hj
      have e : cb_bo g d j + cb_wt' g d j ≤ cb_bo g d n := this
      rw [cb_un (by omega)]
      exact h1 j hj y hy
    · by_cases z : y = x
      · rw [z, cb_us]
      · rw [cb_un (by omega)]; exact h2 y (by omega)
/-- the copies' tables below c -/
def cb_XN (g : Nat → Nat → Nat) (d N c : Nat) (ny nn de : Nat → Int32) : Prop := ∀ j, j < N → ∀ x, x < cb_wt' g d j → cb_bo g d j + x < c →
  ny (cb_bo g d j + x) = nI (cb_lk g d j 0 x) ∧ nn (cb_bo g d j + x) = nI (cb_lk g d j 1 x) ∧ de (cb_bo g d j + x) = nI (if j = d then cb_an g d d (g 1 d * 8) x else 4)
theorem cb_bo_u {i j x y : Nat} (hx : x < cb_wt' g d i) (hy : y < cb_wt' g d j) (h : cb_bo g d i + x = cb_bo g d j + y) : i = j ∧ x = y := by
  have k : ∀ i j x y, x < cb_wt' g d i → cb_bo g d i + x = cb_bo g d j + y → ¬ i < j := by
    intro i j x y hx h z
    have : cb_bo g d i + cb_wt' g d i ≤ cb_bo g d j := cb_sm_pre (f := cb_wt' g d) z
    omega
  have a := k i j x y hx h
  have b := k j i y x hy h.symm
  obtain rfl : i = j := by omega
  exact ⟨rfl, by omega⟩
theorem xw_split_69 (hG : cb_G N g) (hA : cb_Ar g a_kinds a_as a_bs a_yesTo a_noTo) (hdN : d < N) (hd : g 0 d = 6 ∨ g 0 d = 7) (hRd : cb_Rc g d) (hQ : cb_XQ g d a_raised a_sets) (hL : cb_XL g d N a_strides a_base a_weights) (hO : cb_XO g d N a_origin) (post : SX → Prop)
    (hk : ∀ ny nn de, cb_XN g d N (cb_bo g d N) ny nn de → post (f_nodes, f_budget, f_printed, f_tests, f_jumps, f_present, f_copy, nI d, nI (cb_tm (g 0 d) (g 2 d)), f_queued, f_pending, a_kinds, a_as, a_bs, a_yesTo, a_noTo, a_start, a_values, a_log, a_reached, a_raised, a_sets, a_strides, a_queue, a_stack, a_waiting, a_base, a_weights, a_origin, ny, nn, de)) :
    ∀ k c ny nn de, c + k = cb_bo g d N → cb_XN g d N c ny nn de → wX_split_69 post (nI (cb_bo g d N)) (nI (g 1 d * 8)) f_nodes f_budget f_printed f_tests f_jumps f_present f_copy (nI d) (nI (cb_tm (g 0 d) (g 2 d))) f_queued f_pending (k + 1) (nI c) a_kinds a_as a_bs a_yesTo a_noTo a_start a_values a_log a_reached a_raised a_sets a_strides a_queue a_stack a_waiting a_base a_weights a_origin ny nn de := by
  have hb := hL.1
  have hN12 := hG.2.1
  intro k
  induction k with
  | zero =>
    intro c ny nn de hc h
    obtain rfl : c = cb_bo g d N := by omega
    exact br_t (nI_le (Nat.le_refl _) (by omega)) (hk _ _ _ h)
  | succ k ih =>
    intro c ny nn de hc h
    obtain ⟨j, hj, x, hx, e⟩ := cb_sm_find (f := cb_wt' g d) (n := N) (c := c) (by show c < cb_bo g d N; omega)
    have e' : c = cb_bo g d j + x := e
    have ho : a_origin (cb_bo g d j + x) = nI j := hO j hj x hx
    have hR : cb_Rc g j := Classical.byContradiction fun z => by rw [cb_wt_f z] at hx; omega
    have hi : vp_in (nI (cb_bo g d j + x)) 64 := cb_in (by omega) (by omega)
    have hcl : (nI (cb_bo g d j + x)).toNatClampNeg = cb_bo g d j + x := cb_cl (by omega)
    subst e'
    refine br_f (nI_ge (by omega) (by omega)) (br_f (nI_ge (b := 64) (by omega) (by decide)) ?_)
    refine xw_link (s := 0) hG hA hd hRd hQ hL hR (by omega) hx ho _ (And.intro hi (nm_r (e' := upd ny (cb_bo g d j + x) (nI (cb_lk g d j 0 x))) (by rw [hcl]) ?_))
    refine xw_link (s := 1) hG hA hd hRd hQ hL hR (by omega) hx ho _ (And.intro hi (nm_r (e' := upd nn (cb_bo g d j + x) (nI (cb_lk g d j 1 x))) (by rw [hcl]) (And.intro hi ?_)))
    rw [hcl, ho]
    have step : cb_XN g d N (cb_bo g d j + x + 1) (upd ny (cb_bo g d j + x) (nI (cb_lk g d j 0 x))) (upd nn (cb_bo g d j + x) (nI (cb_lk g d j 1 x))) (upd de (cb_bo g d j + x) (nI (if j = d then cb_an g d d (g 1 d * 8) x else 4))) := by
      intro i hi' y hy hlt
      by_cases z : cb_bo g d i + y = cb_bo g d j + x
      · obtain ⟨rfl, rfl⟩ := cb_bo_u hy hx z
        exact ⟨cb_us, cb_us, cb_us⟩
      · rw [cb_un z, cb_un z, cb_un z]
        exact h i hi' y hy (by omega)
    refine pk_eq j d (fun z => ?_) (fun z => ?_)
    · subst z
      rw [if_pos rfl] at step
      refine xw_answerAt hG hRd hQ hL cb_Rq_0 hx ho _ (And.intro hi (nm_r (e' := upd de (cb_bo g j j + x) (nI (cb_an g j j (g 1 j * 8) x))) rfl (nm_r (nI_1 _) ?_)))
      exact ih _ _ _ _ (by omega) step
    · rw [if_neg z] at step
      refine And.intro hi (nm_r (e' := upd de (cb_bo g d j + x) (nI 4)) rfl (nm_r (nI_1 _) ?_))
      exact ih _ _ _ _ (by omega) step
theorem xw_split_2 (hG : cb_G N g) (hA : cb_Ar g a_kinds a_as a_bs a_yesTo a_noTo) (hdN : d < N) (hd : g 0 d = 6 ∨ g 0 d = 7) (hRd : cb_Rc g d) (hQ : cb_XQ g d a_raised a_sets) (hL : cb_XL g d N a_strides a_base a_weights) (post : SX → Prop)
    (hk : ∀ or ny nn de, cb_XO g d N or → cb_XN g d N (cb_bo g d N) ny nn de → post (nI N, f_budget, f_printed, f_tests, f_jumps, f_present, f_copy, nI d, nI (cb_tm (g 0 d) (g 2 d)), f_queued, f_pending, a_kinds, a_as, a_bs, a_yesTo, a_noTo, a_start, a_values, a_log, a_reached, a_raised, a_sets, a_strides, a_queue, a_stack, a_waiting, a_base, a_weights, or, ny, nn, de)) :
    ∀ k n or, n + k = N → cb_XO g d n or → wX_split_2 post (nI (cb_bo g d N)) (nI (g 1 d * 8)) (nI N) f_budget f_printed f_tests f_jumps f_present f_copy (nI d) (nI (cb_tm (g 0 d) (g 2 d))) f_queued f_pending (k + 1) (nI n) a_kinds a_as a_bs a_yesTo a_noTo a_start a_values a_log a_reached a_raised a_sets a_strides a_queue a_stack a_waiting a_base a_weights or a_nextYes a_nextNo a_decided := by
  have hb := hL.1
  have hN12 := hG.2.1
  intro k
  induction k with
  | zero =>
    intro n or hn h
    obtain rfl : n = N := by omega
    refine br_t (nI_le (Nat.le_refl _) (by omega)) ⟨cb_bo g d n + 1, ?_⟩
    exact xw_split_69 hG hA hdN hd hRd hQ hL h post (fun ny nn de hn => hk _ _ _ _ h hn) (cb_bo g d n) 0 _ _ _ (by omega) fun j _ x _ z => absurd z (Nat.not_lt_zero _)
  | succ k ih =>
    intro n or hn h
    have hi : vp_in (nI n) 12 := cb_in (by omega) (by omega)
    have hcl : (nI n).toNatClampNeg = n := cb_cl (by omega)
    obtain ⟨b1, b2, b3⟩ := hL.2 n (by omega)
    refine br_f (nI_ge (by omega) (by omega)) (And.intro hi (And.intro hi (nm_r (e' := nI (cb_bo g d n + cb_wt' g d n)) (by rw [hcl, b1, b2, nI_add]) (And.intro hi (nm_r (e' := nI (cb_bo g d n)) (by rw [hcl, b1]) ⟨cb_wt' g d n + 1, ?_⟩)))))
    exact xw_split_33 (cb_wt64 hb (by omega)) (by omega) post _ (fun or' h' => ih (n + 1) or' (by omega) h') (cb_wt' g d n) 0 or (by omega) h fun y hy => absurd hy (Nat.not_lt_zero _)
end xwSplit
end
section
/-! 10: the reference: small methods, cross -/
section ywBase
variable {N d : Nat} {g : Nat → Nat → Nat}
variable {f_nodes f_budget f_branch f_present f_printed f_tests f_jumps : Int32} {a_kinds a_as a_bs a_yesTo a_noTo a_start a_values a_log a_path a_next a_reached a_raised a_sets : Nat → Int32}
def cb_bi (b : Bool) : Int32 := if b then 1 else 0
theorem cb_bi_0 {b : Bool} : cb_bi b = 0 ↔ b = false := by cases b <;> decide
theorem cb_bi_e {a b : Bool} : cb_bi a = cb_bi b ↔ a = b := by cases a <;> cases b <;> decide
theorem yw_restart_47 (post : SY → Prop) (hk : ∀ pa, (∀ q, q < 32 → pa q = 4) → post (f_nodes, f_budget, f_branch, f_present, f_printed, f_tests, f_jumps, a_kinds, a_as, a_bs, a_yesTo, a_noTo, a_start, a_values, a_log, pa, a_next, a_reached, a_raised, a_sets)) :
    ∀ k i pa, i + k = 32 → (∀ q, q < i → pa q = 4) → wY_restart_47 post f_nodes f_budget f_branch f_present f_printed f_tests f_jumps (k + 1) (nI i) a_kinds a_as a_bs a_yesTo a_noTo a_start a_values a_log pa a_next a_reached a_raised a_sets := by
  intro k
  induction k with
  | zero =>
    intro i pa hi h
    obtain rfl : i = 32 := by omega
    exact br_t (by decide) (hk _ h)
  | succ k ih =>
    intro i pa hi h
    refine br_f (nI_ge (b := 32) (by omega) (by decide)) (And.intro (cb_in (by omega) (by omega)) (nm_r (e' := upd pa i 4) (by rw [cb_cl (by omega)]) (nm_r (nI_1 i) (ih (i + 1) _ (by omega) fun q hq => ?_))))
    by_cases z : q = i
    · rw [z, cb_us]
    · rw [cb_un z]; exact h q (by omega)
theorem yw_restart_22 (post : SY → Prop) (hk : ∀ pa, (∀ q, q < 32 → pa q = 4) → post (f_nodes, f_budget, f_branch, f_present, f_printed, f_tests, f_jumps, a_kinds, a_as, a_bs, a_yesTo, a_noTo, a_start, cb_cp a_values a_start 4, a_log, pa, a_next, a_reached, a_raised, a_sets)) :
    ∀ k i, i + k = 4 → wY_restart_22 post f_nodes f_budget f_branch f_present f_printed f_tests f_jumps (k + 1) (nI i) a_kinds a_as a_bs a_yesTo a_noTo a_start (cb_cp a_values a_start i) a_log a_path a_next a_reached a_raised a_sets := by
  intro k
  induction k with
  | zero =>
    intro i hi
    obtain rfl : i = 4 := by omega
    exact br_t (by decide) ⟨33, yw_restart_47 (a_values := cb_cp a_values a_start 4) post hk 32 0 _ rfl fun q hq => absurd hq (Nat.not_lt_zero _)⟩
  | succ k ih =>
    intro i hi
    have hin : vp_in (nI i) 4 := cb_in (by omega) (by omega)
    have hc : (nI i).toNatClampNeg = i := cb_cl (by omega)
    refine br_f (nI_ge (b := 4) (by omega) (by decide)) (And.intro hin (And.intro hin (nm_r (e' := cb_cp a_values a_start (i + 1)) ?_ (nm_r (nI_1 i) (ih (i + 1) (by omega))))))
    rw [hc]; rfl
theorem yw_restart (post : SY → Prop) (hk : ∀ pa, (∀ q, q < 32 → pa q = 4) → post (f_nodes, f_budget, f_branch, 0, 0, 0, 0, a_kinds, a_as, a_bs, a_yesTo, a_noTo, a_start, cb_cp a_values a_start 4, a_log, pa, a_next, a_reached, a_raised, a_sets)) : wpY_restart post (f_nodes, f_budget, f_branch, f_present, f_printed, f_tests, f_jumps, a_kinds, a_as, a_bs, a_yesTo, a_noTo, a_start, a_values, a_log, a_path, a_next, a_reached, a_raised, a_sets) :=
  ⟨5, yw_restart_22 (f_present := 0) (f_printed := 0) (f_tests := 0) (f_jumps := 0) post hk 4 0 rfl⟩
theorem yw_isTest (hG : cb_G N g) (hA : cb_Ar g a_kinds a_as a_bs a_yesTo a_noTo) {m : Nat} (hm : m < 12) (post : Int32 → Prop) (h : post (cb_bi (decide (6 ≤ g 0 m)))) : wpY_isTest post (f_nodes, f_budget, f_branch, f_present, f_printed, f_tests, f_jumps, a_kinds, a_as, a_bs, a_yesTo, a_noTo, a_start, a_values, a_log, a_path, a_next, a_reached, a_raised, a_sets) (nI m) := by
  have hi : vp_in (nI m) 12 := cb_in hm (by omega)
  have hc : (nI m).toNatClampNeg = m := cb_cl (by omega)
  obtain ⟨h0, h1, h2, h3, h4⟩ := hA m
  have hg := hG.2.2 m
  refine And.intro hi ?_
  rw [hc, h0]
  refine pk_eq (g 0 m) 6 (fun z => ?_) (fun z => And.intro hi (pk_eq (g 0 m) 7 (fun y => ?_) (fun y => ?_)))
  · rw [decide_eq_true (by omega)] at h; exact h
  · rw [decide_eq_true (by omega)] at h; exact h
  · rw [decide_eq_false (by omega)] at h; exact h
theorem yw_holds (hG : cb_G N g) (hA : cb_Ar g a_kinds a_as a_bs a_yesTo a_noTo) {m x : Nat} (hm : m < 12) (hx : x < 64) (post : Int32 → Prop) (h : post (cb_bi (cb_hd (g 0 m) (g 2 m) x))) : wpY_holds post (f_nodes, f_budget, f_branch, f_present, f_printed, f_tests, f_jumps, a_kinds, a_as, a_bs, a_yesTo, a_noTo, a_start, a_values, a_log, a_path, a_next, a_reached, a_raised, a_sets) (nI m) (nI x) := by
  have hi : vp_in (nI m) 12 := cb_in hm (by omega)
  have hc : (nI m).toNatClampNeg = m := cb_cl (by omega)
  obtain ⟨h0, h1, h2, h3, h4⟩ := hA m
  have hg := hG.2.2 m
  refine And.intro hi ?_
  rw [hc, h0, h2]
  unfold cb_hd at h
  refine pk_eq (g 0 m) 6 (fun z => And.intro hi ?_) (fun z => And.intro hi ?_)
  · rw [if_pos z] at h
    refine pk_eq x (g 2 m) (fun y => ?_) (fun y => ?_)
    · rw [decide_eq_true y] at h; exact h
    · rw [decide_eq_false y] at h; exact h
  · rw [if_neg z] at h
    refine pk_le (g 2 m) x (fun y => ?_) (fun y => ?_)
    · rw [decide_eq_false (by omega)] at h; exact h
    · rw [decide_eq_true y] at h; exact h
theorem yw_cross_l (hG : cb_G N g) (hA : cb_Ar g a_kinds a_as a_bs a_yesTo a_noTo) {m s k v : Nat} (hm : m < 12) (hd12 : d < 12) (hk : k < 8) (post : Int32 → Prop)
    (h : post (if cb_ev (g 0 m) (g 2 m) (g 0 d) (g 2 d) s k 8 then -1 else if cb_no (g 0 m) (g 2 m) (g 0 d) (g 2 d) s k 8 then -2 else nI v)) :
    ∀ n i, i + n = 8 → wY_cross_138 post (nI d) (nI m) (cb_bi (s == 0)) (nI k) (nI v) f_nodes f_budget f_branch f_present f_printed f_tests f_jumps a_kinds a_as a_bs a_yesTo a_noTo a_start a_values a_log a_path a_next a_reached a_raised a_sets (n + 1) (cb_bi (cb_ev (g 0 m) (g 2 m) (g 0 d) (g 2 d) s k i)) (cb_bi (cb_no (g 0 m) (g 2 m) (g 0 d) (g 2 d) s k i)) (nI i) := by
  intro n
  induction n with
  | zero =>
    intro i hi
    obtain rfl : i = 8 := by omega
    refine br_t (by decide) (ek_if cb_bi_0 (fun z => ek_if cb_bi_0 (fun y => ?_) (fun y => ?_)) (fun z => ?_))
    · rw [z, y] at h; exact h
    · rw [z, if_neg (by decide), if_pos (Bool.not_eq_false _ ▸ y)] at h; exact h
    · rw [if_pos (Bool.not_eq_false _ ▸ z)] at h; exact h
  | succ n ih =>
    intro i hi
    have ih' := ih (i + 1) (by omega)
    have e1 : cb_ev (g 0 m) (g 2 m) (g 0 d) (g 2 d) s k (i + 1) = (cb_ev (g 0 m) (g 2 m) (g 0 d) (g 2 d) s k i && (if cb_hd (g 0 m) (g 2 m) i = (s == 0) then cb_hd (g 0 d) (g 2 d) ((i + k) % 8) else true)) := rfl
    have e2 : cb_no (g 0 m) (g 2 m) (g 0 d) (g 2 d) s k (i + 1) = (cb_no (g 0 m) (g 2 m) (g 0 d) (g 2 d) s k i && (if cb_hd (g 0 m) (g 2 m) i = (s == 0) then !cb_hd (g 0 d) (g 2 d) ((i + k) % 8) else true)) := rfl
    rw [e1, e2] at ih'
    refine br_f (nI_ge (b := 8) (by omega) (by decide)) (yw_holds hG hA hm (by omega) _ (ek_if cb_bi_e (fun z => ?_) (fun z => nm_r (nI_1 i) ?_)))
    · rw [if_pos z, if_pos z] at ih'
      rw [nI_add, cb_and7 (by omega)]
      refine yw_holds hG hA hd12 (by omega) _ (ek_if cb_bi_0 (fun y => nm_r (nI_1 i) ?_) (fun y => nm_r (nI_1 i) ?_))
      · rw [y, Bool.and_false, Bool.not_false, Bool.and_true] at ih'
        exact ih'
      · have y' : cb_hd (g 0 d) (g 2 d) ((i + k) % 8) = true := Bool.not_eq_false _ ▸ y
        rw [y', Bool.and_true, Bool.not_true, Bool.and_false] at ih'
        exact ih'
    · rw [if_neg z, if_neg z, Bool.and_true, Bool.and_true] at ih'
      exact ih'
theorem yw_cross (hG : cb_G N g) (hA : cb_Ar g a_kinds a_as a_bs a_yesTo a_noTo) {m s q : Nat} (hm : m < 12) (hd12 : d < 12) (hq : q < 32) (post : Int32 → Prop) (h : post (cb_ci (cb_cr g d m s q))) :
    wpY_cross post (f_nodes, f_budget, f_branch, f_present, f_printed, f_tests, f_jumps, a_kinds, a_as, a_bs, a_yesTo, a_noTo, a_start, a_values, a_log, a_path, a_next, a_reached, a_raised, a_sets) (nI d) (nI m) (cb_bi (s == 0)) (nI (q / 8)) (nI (q % 8)) := by
  have hi : vp_in (nI m) 12 := cb_in hm (by omega)
  have hc : (nI m).toNatClampNeg = m := cb_cl (by omega)
  obtain ⟨h0, h1, h2, h3, h4⟩ := hA m
  have hg := hG.2.2 m
  have hg2 := hG.2.2 d
  have e8 : ∀ x y : Nat, nI x * 8 + nI y = nI (x * 8 + y) := fun x y => by rw [show (8 : Int32) = nI 8 from rfl, pk_mul, nI_add]
  refine And.intro hi (nm_r (e' := nI (g 0 m)) (by rw [hc, h0]) (nm_r (e' := nI q) (by rw [e8]; congr 1; omega) ?_))
  rw [cb_cr] at h
  refine pk_eq (g 0 m) 0 (fun z => ?_) (fun z => pk_eq (g 0 m) 1 (fun y => ?_) (fun y => And.intro hi ?_))
  · rw [if_pos (by omega), cb_ci_q hq] at h; exact h
  · rw [if_pos (by omega), cb_ci_q hq] at h; exact h
  rw [if_neg (by omega)] at h
  rw [hc, h1, h2]
  refine pk_eq (g 1 m) (q / 8) (fun z1 => ?_) (fun z1 => ?_)
  rotate_left
  · rw [if_neg z1, cb_ci_q hq] at h; exact h
  rw [if_pos z1] at h
  refine pk_eq (g 0 m) 2 (fun z4 => And.intro hi ?_) (fun z4 => ?_)
  · rw [if_pos z4] at h
    rw [nI_add, cb_and7 (by omega)]
    refine yw_holds hG hA hd12 (by omega) _ (ek_if cb_bi_0 (fun y => ?_) (fun y => ?_))
    · rw [if_neg (by rw [y]; decide)] at h; exact h
    · rw [if_pos (Bool.not_eq_false _ ▸ y)] at h; exact h
  rw [if_neg z4] at h
  refine pk_eq (g 0 m) 3 (fun z5 => And.intro hi ?_) (fun z5 => ?_)
  · have := hg.2.2.2.2.2 z5
    rw [if_pos z5, cb_ci_q (by omega)] at h
    rw [e8]; exact h
  rw [if_neg z5] at h
  refine pk_eq (g 0 m) 4 (fun z6 => And.intro hi ?_) (fun z6 => ?_)
  · rw [if_pos z6, cb_ci_q (by omega)] at h
    rw [nI_add, cb_and7 (by omega), e8, ← z1]; exact h
  rw [if_neg z6] at h
  refine pk_eq (g 0 m) 5 (fun z7 => ?_) (fun z7 => ⟨9, ?_⟩)
  · rw [if_pos z7] at h; exact h
  rw [if_neg z7] at h
  refine yw_cross_l (s := s) (k := q % 8) (v := q) hG hA hm hd12 (by omega) post ?_ 8 0 rfl
  by_cases y : cb_ev (g 0 m) (g 2 m) (g 0 d) (g 2 d) s (q % 8) 8 = true
  · rw [if_pos y] at h ⊢; exact h
  · rw [if_neg y] at h ⊢
    by_cases y2 : cb_no (g 0 m) (g 2 m) (g 0 d) (g 2 d) s (q % 8) 8 = true
    · rw [if_pos y2] at h ⊢; exact h
    · rw [if_neg y2, cb_ci_q hq] at h
      rw [if_neg y2]; exact h
end ywBase
end
section
/-! 11: the reference's findReached -/
section ywReach
variable {N : Nat} {g : Nat → Nat → Nat}
variable {f_nodes f_budget f_branch f_present f_printed f_tests f_jumps : Int32} {a_kinds a_as a_bs a_yesTo a_noTo a_start a_values a_log a_path a_next a_reached a_raised a_sets : Nat → Int32}
theorem cb_sm_strict {f h : Nat → Nat} {p : Nat} : ∀ {n : Nat}, (∀ j, j < n → f j ≤ h j) → p < n → f p < h p → cb_sm f n < cb_sm h n
  | 0, _, hp, _ => absurd hp (Nat.not_lt_zero _)
  | n + 1, hm, hp, hl => by
    show cb_sm f n + f n < cb_sm h n + h n
    have b := hm n (by omega)
    by_cases e : p = n
    · subst e
      have a := cb_sm_mono (f := f) (g := h) (n := p) fun j hj => hm j (by omega)
      omega
    · have a := cb_sm_strict (f := f) (h := h) (p := p) (n := n) (fun j hj => hm j (by omega)) (by omega) hl
      omega
theorem cb_sm_cut {f : Nat → Nat} {M : Nat} : ∀ {n : Nat}, (∀ j, M ≤ j → j < n → f j = 0) → cb_sm f n ≤ cb_sm f M
  | 0, _ => Nat.zero_le _
  | n + 1, h => by
    have a := cb_sm_cut (f := f) (M := M) (n := n) fun j h1 h2 => h j h1 (by omega)
    by_cases e : M ≤ n
    · have b := h n e (by omega)
      show cb_sm f n + f n ≤ _
      omega
    · exact cb_sm_le_n (by omega)
theorem cb_id_mono {a b : Nat → Int32} {n : Nat} (h : ∀ j, ¬ a j = 0 → ¬ b j = 0) : ∀ j, j < n → cb_id a j ≤ cb_id b j := by
  intro j _
  by_cases z : a j = 0
  · rw [cb_id_0 z]; exact Nat.zero_le _
  · rw [cb_id_1 z, cb_id_1 (h j z)]; exact Nat.le_refl _
theorem cb_up1 {a : Nat → Int32} {p : Nat} : ∀ n, ¬ a n = 0 → ¬ upd a p 1 n = 0 := by
  intro n hn
  by_cases z : n = p
  · rw [z, cb_us]; decide
  · rw [cb_un z]; exact hn
/-- one round over the nodes -/
theorem yw_reach_41 (hG : cb_G N g) (hA : cb_Ar g a_kinds a_as a_bs a_yesTo a_noTo) {r : Nat} {re0 : Nat → Int32} (post : SY → Prop) (J : Int32 → (Nat → Int32) → (Nat → Int32) → (Nat → Int32) → (Nat → Int32) → (Nat → Int32) → (Nat → Int32) → (Nat → Int32) → (Nat → Int32) → (Nat → Int32) → (Nat → Int32) → (Nat → Int32) → (Nat → Int32) → (Nat → Int32) → Prop)
    (hJ : ∀ re, (∀ n, ¬ re0 n = 0 → ¬ re n = 0) → (∀ n, n < 12 → ¬ re n = 0 → cb_Rc g n) → (∀ m, m < N → ¬ re0 m = 0 → ∀ s, s < 2 → cb_tg g m s < 12 → ¬ re (cb_tg g m s) = 0) → J (nI (r + 1)) a_kinds a_as a_bs a_yesTo a_noTo a_start a_values a_log a_path a_next re a_raised a_sets) :
    ∀ k m re, m + k = N → (∀ n, ¬ re0 n = 0 → ¬ re n = 0) → (∀ n, n < 12 → ¬ re n = 0 → cb_Rc g n) → (∀ m', m' < m → ¬ re0 m' = 0 → ∀ s, s < 2 → cb_tg g m' s < 12 → ¬ re (cb_tg g m' s) = 0) →
      wY_findReached_41 post J (nI r) (nI N) f_budget f_branch f_present f_printed f_tests f_jumps (k + 1) (nI m) a_kinds a_as a_bs a_yesTo a_noTo a_start a_values a_log a_path a_next re a_raised a_sets := by
  have hN := hG.2.1
  intro k
  induction k with
  | zero =>
    intro m re hm h1 h2 h3
    obtain rfl : m = N := by omega
    exact br_t (nI_le (Nat.le_refl _) (by omega)) (nm_r (nI_1 r) (hJ re h1 h2 h3))
  | succ k ih =>
    intro m re hm h1 h2 h3
    have hi : vp_in (nI m) 12 := cb_in (by omega) (by omega)
    have hc : (nI m).toNatClampNeg = m := cb_cl (by omega)
    obtain ⟨a0, a1, a2, a3, a4⟩ := hA m
    have hg := hG.2.2 m
    refine br_f (nI_ge (by omega) (by omega)) (And.intro hi ?_)
    rw [hc]
    have ext : ∀ re' : Nat → Int32, (∀ n, ¬ re n = 0 → ¬ re' n = 0) → (∀ n, n < 12 → ¬ re' n = 0 → cb_Rc g n) → (¬ re0 m = 0 → ∀ s, s < 2 → cb_tg g m s < 12 → ¬ re' (cb_tg g m s) = 0) → wY_findReached_41 post J (nI r) (nI N) f_budget f_branch f_present f_printed f_tests f_jumps (k + 1) (nI (m + 1)) a_kinds a_as a_bs a_yesTo a_noTo a_start a_values a_log a_path a_next re' a_raised a_sets := by
      intro re' k1 k2 k3
      refine ih (m + 1) re' (by omega) (fun n hn => k1 n (h1 n hn)) k2 fun m' hm' z s hs ht => ?_
      by_cases y : m' = m
      · subst y; exact k3 z s hs ht
      · exact k1 _ (h3 m' (by omega) z s hs ht)
    refine br_c (fun z => nm_r (nI_1 m) (ext re (fun _ w => w) h2 fun w => absurd z (h1 m w))) (fun z => And.intro hi ?_)
    have hR := h2 m (by omega) z
    rw [a0]
    refine pk_eq (g 0 m) 0 (fun y => nm_r (nI_1 m) (ext re (fun _ w => w) h2 fun w s hs ht => ?_)) (fun y => And.intro hi ?_)
    · unfold cb_tg at ht
      rw [if_pos y] at ht
      split at ht
      · omega
      · rw [if_pos (by omega)] at ht; omega
    rw [a3]
    have t0 : cb_tg g m 0 = g 3 m := by unfold cb_tg; rw [if_pos rfl, if_neg y]
    have hr3 : cb_Rc g (g 3 m) := by have := cb_Rc_s (s := 0) hR (by omega) (by omega); rw [t0] at this; exact this
    refine And.intro (cb_in (by omega) (by omega)) (nm_r (e' := upd re (g 3 m) 1) (by rw [cb_cl (by omega), cb_vb1]) (yw_isTest hG hA (by omega) _ (ek_if cb_bi_0 (fun w => nm_r (nI_1 m) ?_) (fun w => And.intro hi ?_))))
    · refine ext _ cb_up1 (fun n hn q => ?_) fun _ s hs ht => ?_
      · by_cases e : n = g 3 m
        · rw [e]; exact hr3
        · rw [cb_un e] at q; exact h2 n hn q
      · have w' : ¬ 6 ≤ g 0 m := of_decide_eq_false w
        obtain rfl | rfl : s = 0 ∨ s = 1 := by omega
        · rw [t0, cb_us]; decide
        · unfold cb_tg at ht
          rw [if_neg (by omega), if_pos (by omega)] at ht
          omega
    · have w' : 6 ≤ g 0 m := of_decide_eq_true (by revert w; cases decide (6 ≤ g 0 m) <;> simp)
      have t1 : cb_tg g m 1 = g 4 m := by unfold cb_tg; rw [if_neg (by omega), if_neg (by omega)]
      have hr4 : cb_Rc g (g 4 m) := by have := cb_Rc_s (s := 1) hR (by omega) (by omega); rw [t1] at this; exact this
      rw [a4]
      refine And.intro (cb_in (by omega) (by omega)) (nm_r (e' := upd (upd re (g 3 m) 1) (g 4 m) 1) (by rw [cb_cl (by omega), cb_vb1]) (nm_r (nI_1 m) ?_))
      refine ext _ (fun n q => cb_up1 n (cb_up1 n q)) (fun n hn q => ?_) fun _ s hs ht => ?_
      · by_cases e : n = g 4 m
        · rw [e]; exact hr4
        · rw [cb_un e] at q
          by_cases e' : n = g 3 m
          · rw [e']; exact hr3
          · rw [cb_un e'] at q; exact h2 n hn q
      · obtain rfl | rfl : s = 0 ∨ s = 1 := by omega
        · rw [t0]; exact cb_up1 _ (by rw [cb_us]; decide)
        · rw [t1, cb_us]; decide
def cb_Cl (g : Nat → Nat → Nat) (re : Nat → Int32) : Prop := ∀ n, n < 12 → ¬ re n = 0 → ∀ s, s < 2 → cb_tg g n s < 12 → ¬ re (cb_tg g n s) = 0
theorem cb_Cl_R {re : Nat → Int32} (h : cb_Cl g re) (h0 : ¬ re 0 = 0) {n : Nat} (hr : cb_Rc g n) : ¬ re n = 0 :=
  (hr (fun n => n < 12 ∧ ¬ re n = 0) ⟨by omega, h0⟩ fun m s hm hs ht => ⟨ht, h m hm.1 hm.2 s hs ht⟩).2
theorem yw_reach_31 (hG : cb_G N g) (hA : cb_Ar g a_kinds a_as a_bs a_yesTo a_noTo) (post : SY → Prop)
    (hk : ∀ re, (∀ n, n < 12 → (¬ re n = 0 ↔ cb_Rc g n)) → post (nI N, f_budget, f_branch, f_present, f_printed, f_tests, f_jumps, a_kinds, a_as, a_bs, a_yesTo, a_noTo, a_start, a_values, a_log, a_path, a_next, re, a_raised, a_sets)) :
    ∀ k r re, r + k = N → ¬ re 0 = 0 → (∀ n, n < 12 → ¬ re n = 0 → cb_Rc g n) → (cb_Cl g re ∨ r + 1 ≤ cb_sm (cb_id re) 12) → wY_findReached_31 post (nI N) f_budget f_branch f_present f_printed f_tests f_jumps (k + 1) (nI r) a_kinds a_as a_bs a_yesTo a_noTo a_start a_values a_log a_path a_next re a_raised a_sets := by
  have hN := hG.2.1
  intro k
  induction k with
  | zero =>
    intro r re hr h0 h1 h2
    obtain rfl : r = N := by omega
    refine br_t (nI_le (Nat.le_refl _) (by omega)) (hk re fun n hn => ⟨h1 n hn, fun z => ?_⟩)
    rcases h2 with c | c
    · exact cb_Cl_R c h0 z
    · have a := cb_sm_cut (f := cb_id re) (M := r) (n := 12) fun j hj hj2 => by
        by_cases y : re j = 0
        · exact cb_id_0 y
        · have := cb_Rc_N hG (h1 j hj2 y); omega
      have b := cb_sm_id re r
      omega
  | succ k ih =>
    intro r re hr h0 h1 h2
    refine br_f (nI_ge (by omega) (by omega)) ⟨N + 1, ?_⟩
    refine yw_reach_41 (re0 := re) hG hA post _ ?_ N 0 re (by omega) (fun _ z => z) h1 fun m' z => absurd z (Nat.not_lt_zero _)
    intro re' k1 k2 k3
    refine ih (r + 1) re' (by omega) (k1 0 h0) k2 ?_
    by_cases y : ∃ n, n < 12 ∧ re n = 0 ∧ ¬ re' n = 0
    · obtain ⟨n, hn, y1, y2⟩ := y
      rcases h2 with c | c
      · exact absurd y1 (cb_Cl_R c h0 (k2 n hn y2))
      · have l := cb_sm_strict (f := cb_id re) (h := cb_id re') (p := n) (n := 12) (cb_id_mono k1) hn (by rw [cb_id_0 y1, cb_id_1 y2]; omega)
        exact .inr (by omega)
    · refine .inl fun n hn z s hs ht => ?_
      have z0 : ¬ re n = 0 := fun w => y ⟨n, hn, w, z⟩
      exact k3 n (cb_Rc_N hG (h1 n hn z0)) z0 s hs ht
theorem yw_reach_2 (hG : cb_G N g) (hA : cb_Ar g a_kinds a_as a_bs a_yesTo a_noTo) (post : SY → Prop)
    (hk : ∀ re, (∀ n, n < 12 → (¬ re n = 0 ↔ cb_Rc g n)) → post (nI N, f_budget, f_branch, f_present, f_printed, f_tests, f_jumps, a_kinds, a_as, a_bs, a_yesTo, a_noTo, a_start, a_values, a_log, a_path, a_next, re, a_raised, a_sets)) :
    ∀ k i re, i + k = 12 → (∀ n, n < i → (¬ re n = 0 ↔ n = 0)) → wY_findReached_2 post (nI N) f_budget f_branch f_present f_printed f_tests f_jumps (k + 1) (nI i) a_kinds a_as a_bs a_yesTo a_noTo a_start a_values a_log a_path a_next re a_raised a_sets := by
  intro k
  induction k with
  | zero =>
    intro i re hi h
    obtain rfl : i = 12 := by omega
    have h0 : ¬ re 0 = 0 := (h 0 (by omega)).mpr rfl
    refine br_t (by decide) ⟨N + 1, ?_⟩
    refine yw_reach_31 hG hA post hk N 0 re (by omega) h0 (fun n hn z => ?_) (.inr ?_)
    · rw [(h n hn).mp z]; exact cb_Rc_0
    · have := cb_sm_item (f := cb_id re) (p := 0) (n := 12) (by omega)
      rw [cb_id_1 h0] at this
      omega
  | succ k ih =>
    intro i re hi h
    have hin : vp_in (nI i) 12 := cb_in (by omega) (by omega)
    have hc : (nI i).toNatClampNeg = i := cb_cl (by omega)
    refine br_f (nI_ge (b := 12) (by omega) (by decide)) (pk_eq i 0 (fun z => And.intro hin (nm_r (e' := upd re i 1) (by rw [hc, cb_vb1]) (nm_r (nI_1 i) (ih (i + 1) _ (by omega) fun n hn => ?_)))) (fun z => And.intro hin (nm_r (e' := upd re i 0) (by rw [hc, cb_vb0]) (nm_r (nI_1 i) (ih (i + 1) _ (by omega) fun n hn => ?_)))))
    · obtain rfl : n = i := by omega
      rw [cb_us]
      exact ⟨fun _ => z, fun _ => by decide⟩
    · by_cases y : n = i
      · rw [y, cb_us]; exact ⟨fun q => absurd rfl q, fun q => absurd q z⟩
      · rw [cb_un y]; exact h n (by omega)
theorem yw_reach (hG : cb_G N g) (hA : cb_Ar g a_kinds a_as a_bs a_yesTo a_noTo) (post : SY → Prop)
    (hk : ∀ re, (∀ n, n < 12 → (¬ re n = 0 ↔ cb_Rc g n)) → post (nI N, f_budget, f_branch, f_present, f_printed, f_tests, f_jumps, a_kinds, a_as, a_bs, a_yesTo, a_noTo, a_start, a_values, a_log, a_path, a_next, re, a_raised, a_sets)) : wpY_findReached post (nI N, f_budget, f_branch, f_present, f_printed, f_tests, f_jumps, a_kinds, a_as, a_bs, a_yesTo, a_noTo, a_start, a_values, a_log, a_path, a_next, a_reached, a_raised, a_sets) :=
  ⟨13, yw_reach_2 hG hA post hk 12 0 _ rfl fun n hn => absurd hn (Nat.not_lt_zero _)⟩
end ywReach
end
section
/-! 12: the reference's findFacts -/
section ywFacts
variable {N d : Nat} {g : Nat → Nat → Nat}
variable {f_nodes f_budget f_branch f_present f_printed f_tests f_jumps : Int32} {a_kinds a_as a_bs a_yesTo a_noTo a_start a_values a_log a_path a_next a_reached a_raised a_sets : Nat → Int32}
/-- what the facts so far keep -/
def cb_YI (g : Nat → Nat → Nat) (d : Nat) (ra se : Nat → Int32) : Prop :=
  (∀ p, p < 384 → ¬ ra p = 0 → cb_Rq g d (p / 32) (p % 32)) ∧
  (∀ p, p < 384 → ∃ s, s < 8 ∧ se p = nI s ∧ ∀ a, cb_A a → cb_mb s a = true → cb_Lf g d (p / 32) (p % 32) a) ∧
  ¬ ra (d * 32 + g 1 d * 8) = 0 ∧ (∀ q, q < 32 → cb_has (se q) 4)
/-- the number of facts -/
def cb_fc (ra se : Nat → Int32) : Nat := cb_sm (cb_id ra) 384 + cb_sm (fun p => cb_pp (se p)) 384
theorem cb_fc_le (ra se : Nat → Int32) : cb_fc ra se ≤ 1536 := by
  have a := cb_sm_id ra 384
  have b := cb_sm_le (f := fun p => cb_pp (se p)) (c := 3) (n := 384) fun j _ => cb_pop3 _
  unfold cb_fc
  omega
theorem cb_fc_ra {ra se : Nat → Int32} {p : Nat} (hp : p < 384) (h : ra p = 0) : cb_fc ra se < cb_fc (upd ra p 1) se := by
  unfold cb_fc
  rw [cb_sm_mark hp h]
  omega
theorem cb_fc_se {ra se : Nat → Int32} {p s v : Nat} (hp : p < 384) (hs : s < 8) (hv : v < 8) (e : se p = nI s) (h : s ||| v ≠ s) : cb_fc ra se < cb_fc ra (upd se p (nI (s ||| v))) := by
  have k := cb_sm_upd (f := fun j => cb_pp (se j)) (g := fun j => cb_pp (upd se p (nI (s ||| v)) j)) (p := p) (fun j hj => by show cb_pp (upd se p (nI (s ||| v)) j) = cb_pp (se j); rw [cb_un hj]) hp
  have e1 : cb_pp (se p) = cb_pop s := by rw [e, cb_pp_n hs]
  have e2 : cb_pp (upd se p (nI (s ||| v)) p) = cb_pop (s ||| v) := by rw [cb_us, cb_pp_n (cb_or8 s hs v hv)]
  rw [e1, e2] at k
  have l := cb_popor s hs v hv h
  unfold cb_fc
  omega
/-- the rule of edge s of m at question q holds: sets, questions -/
def cb_C1 (g : Nat → Nat → Nat) (d : Nat) (se : Nat → Int32) (m s q : Nat) : Prop :=
  (∀ a, cb_cr g d m s q = 32 + a → cb_has (se (cb_tg g m s * 32 + q)) a) ∧
  (cb_cr g d m s q < 32 → ∀ a, cb_A a → cb_has (se (m * 32 + cb_cr g d m s q)) a → cb_has (se (cb_tg g m s * 32 + q)) a)
def cb_C2 (g : Nat → Nat → Nat) (d : Nat) (ra : Nat → Int32) (m s q : Nat) : Prop :=
  cb_cr g d m s q < 32 → ¬ ra (cb_tg g m s * 32 + q) = 0 → ¬ ra (m * 32 + cb_cr g d m s q) = 0
/-- grown or not -/
def cb_ST (x : Int32) (P : (Nat → Int32) → (Nat → Int32) → Prop) (ra0 se0 ra se : Nat → Int32) : Prop :=
  (x = 0 ∧ ra = ra0 ∧ se = se0 ∧ P ra0 se0) ∨ (x = 1 ∧ cb_fc ra0 se0 < cb_fc ra se)
theorem cb_ST_c {x r : Int32} {P Q : (Nat → Int32) → (Nat → Int32) → Prop} {ra0 se0 ra se ra' se' : Nat → Int32} (h : cb_ST x P ra0 se0 ra se) (k : cb_ST r Q ra se ra' se') :
    (r = 0 → cb_ST x (fun a b => P a b ∧ Q a b) ra0 se0 ra' se') ∧ (¬ r = 0 → cb_ST 1 (fun a b => P a b ∧ Q a b) ra0 se0 ra' se') := by
  refine ⟨fun e => ?_, fun e => ?_⟩
  · rcases k with ⟨_, k1, k2, k3⟩ | ⟨k1, _⟩
    · subst k1; subst k2
      rcases h with ⟨h0, h1, h2, h3⟩ | h
      · subst h1; subst h2
        exact .inl ⟨h0, rfl, rfl, h3, k3⟩
      · exact .inr h
    · rw [e] at k1; exact absurd k1 (by decide)
  · rcases k with ⟨k1, _⟩ | ⟨_, k2⟩
    · exact absurd k1 e
    · refine .inr ⟨rfl, ?_⟩
      rcases h with ⟨h0, h1, h2, h3⟩ | ⟨_, h⟩
      · subst h1; subst h2; exact k2
      · omega
theorem cb_YI_ra {ra se : Nat → Int32} (h : cb_YI g d ra se) {p : Nat} (hr : cb_Rq g d (p / 32) (p % 32)) : cb_YI g d (upd ra p 1) se := by
  refine ⟨fun j hj z => ?_, h.2.1, cb_up1 _ h.2.2.1, h.2.2.2⟩
  by_cases y : j = p
  · rw [y]; exact hr
  · rw [cb_un y] at z; exact h.1 j hj z
theorem cb_YI_se {ra se : Nat → Int32} (h : cb_YI g d ra se) {p s v : Nat} (hp : p < 384) (hs : s < 8) (hv : v < 8) (e : se p = nI s) (hl : ∀ a, cb_A a → cb_mb v a = true → cb_Lf g d (p / 32) (p % 32) a) : cb_YI g d ra (upd se p (nI (s ||| v))) := by
  have h8 := cb_or8 s hs v hv
  refine ⟨h.1, fun j hj => ?_, h.2.2.1, fun q hq => ?_⟩
  · by_cases z : j = p
    · subst z
      refine ⟨s ||| v, h8, cb_us, fun a ha hm => ?_⟩
      rcases (cb_mb_or hs hv ha).mp hm with w | w
      · obtain ⟨t, ht, e2, h2⟩ := h.2.1 j hj
        rw [e, nI_eq (by omega) (by omega)] at e2
        subst e2
        exact h2 a ha w
      · exact hl a ha w
    · rw [cb_un z]; exact h.2.1 j hj
  · have h4 := h.2.2.2 q hq
    by_cases z : q = p
    · subst z
      rw [e, cb_has_n hs] at h4
      rw [cb_us, cb_has_n h8, cb_mb_or hs hv (.inr (.inr rfl))]
      exact .inl h4
    · rw [cb_un z]; exact h4
theorem yw_spread_120 (hG : cb_G N g) {m s q : Nat} (hm : cb_Rc g m) (hs : s < 2) (ht : cb_tg g m s < 12) (hq : q < 32) (post : Int32 → SY → Prop) (J : Int32 → Int32 → (Nat → Int32) → (Nat → Int32) → (Nat → Int32) → (Nat → Int32) → (Nat → Int32) → (Nat → Int32) → (Nat → Int32) → (Nat → Int32) → (Nat → Int32) → (Nat → Int32) → (Nat → Int32) → (Nat → Int32) → (Nat → Int32) → Prop)
    {x1 x3 x5 : Int32} {P : (Nat → Int32) → (Nat → Int32) → Prop} {ra0 se0 : Nat → Int32} (hI : cb_YI g d a_raised a_sets) (hS : cb_ST x5 P ra0 se0 a_raised a_sets)
    (hJ : ∀ x5' ra', cb_YI g d ra' a_sets → cb_ST x5' (fun a b => P a b ∧ cb_C2 g d a m s q) ra0 se0 ra' a_sets → J x5' (nI (q + 1)) a_kinds a_as a_bs a_yesTo a_noTo a_start a_values a_log a_path a_next a_reached ra' a_sets) :
    wY_spread_120 post J x1 (nI m) x3 (nI (cb_tg g m s)) x5 (nI q) (cb_ci (cb_cr g d m s q)) f_nodes f_budget f_branch f_present f_printed f_tests f_jumps a_kinds a_as a_bs a_yesTo a_noTo a_start a_values a_log a_path a_next a_reached a_raised a_sets := by
  have hN := cb_Rc_12 hG hm
  have same : (cb_C2 g d a_raised m s q) → J x5 (nI (q + 1)) a_kinds a_as a_bs a_yesTo a_noTo a_start a_values a_log a_path a_next a_reached a_raised a_sets := by
    intro hc
    refine hJ _ _ hI ?_
    rcases hS with ⟨h0, h1, h2, h3⟩ | h
    · subst h1; subst h2; exact .inl ⟨h0, rfl, rfl, h3, hc⟩
    · exact .inr h
  rcases cb_cr_r hG d m s hq with hc | ⟨a, ha, hc⟩
  · rw [cb_ci_q hc]
    have hi1 : vp_in (nI (cb_tg g m s * 32 + q)) 384 := cb_in (by omega) (by omega)
    have hi2 : vp_in (nI (m * 32 + cb_cr g d m s q)) 384 := cb_in (by omega) (by omega)
    refine br_f (nI_pos (by omega)) ?_
    rw [cb_ix, cb_ix, cb_cl (n := cb_tg g m s * 32 + q) (by omega), cb_cl (n := m * 32 + cb_cr g d m s q) (by omega)]
    refine And.intro hi1 (br_c (fun z => nm_r (nI_1 q) (same fun _ w => absurd z w)) (fun z => And.intro hi2 (br_c (fun y => And.intro hi2 (nm_r (e' := upd a_raised (m * 32 + cb_cr g d m s q) 1) (by rw [cb_vb1]) (nm_r (nI_1 q) ?_))) (fun y => nm_r (nI_1 q) (same fun _ _ => y)))))
    have hr := hI.1 _ (by omega) z
    rw [show (cb_tg g m s * 32 + q) / 32 = cb_tg g m s by omega, show (cb_tg g m s * 32 + q) % 32 = q by omega] at hr
    refine hJ _ _ (cb_YI_ra hI ?_) (.inr ⟨rfl, ?_⟩)
    · rw [show (m * 32 + cb_cr g d m s q) / 32 = m by omega, show (m * 32 + cb_cr g d m s q) % 32 = cb_cr g d m s q by omega]
      exact cb_Rq_s hm hs ht hq hr hc
    · have l := cb_fc_ra (ra := a_raised) (se := a_sets) (p := m * 32 + cb_cr g d m s q) (by omega) y
      rcases hS with ⟨h0, h1, h2, h3⟩ | ⟨_, h⟩
      · subst h1; subst h2; exact l
      · omega
  · have n1 := (cb_neg (cb_A8 ha).2 (by have := cb_A8 ha; omega : a < 64)).1
    have e : cb_ci (cb_cr g d m s q) = -nI a := by rw [hc, cb_ci_a]
    rw [e]
    exact br_t n1 (nm_r (nI_1 q) (same fun w => by omega))
theorem yw_spread_92 (hG : cb_G N g) {m s q o v : Nat} (hm : cb_Rc g m) (hs : s < 2) (ht : cb_tg g m s < 12) (hq : q < 32) (post : Int32 → SY → Prop) (J : Int32 → Int32 → (Nat → Int32) → (Nat → Int32) → (Nat → Int32) → (Nat → Int32) → (Nat → Int32) → (Nat → Int32) → (Nat → Int32) → (Nat → Int32) → (Nat → Int32) → (Nat → Int32) → (Nat → Int32) → (Nat → Int32) → (Nat → Int32) → Prop)
    {x1 x3 x5 : Int32} {P : (Nat → Int32) → (Nat → Int32) → Prop} {ra0 se0 : Nat → Int32} (hI : cb_YI g d a_raised a_sets) (hS : cb_ST x5 P ra0 se0 a_raised a_sets)
    (ho8 : o < 8) (ho : a_sets (cb_tg g m s * 32 + q) = nI o) (hv : v < 8) (hl : ∀ a, cb_A a → cb_mb v a = true → cb_Lf g d (cb_tg g m s) q a) (hC1 : (∀ a, cb_A a → cb_mb v a = true → cb_has (a_sets (cb_tg g m s * 32 + q)) a) → cb_C1 g d a_sets m s q)
    (hJ : ∀ x5' ra' se', cb_YI g d ra' se' → cb_ST x5' (fun a b => (P a b ∧ cb_C1 g d b m s q) ∧ cb_C2 g d a m s q) ra0 se0 ra' se' → J x5' (nI (q + 1)) a_kinds a_as a_bs a_yesTo a_noTo a_start a_values a_log a_path a_next a_reached ra' se') :
    wY_spread_92 post J x1 (nI m) x3 (nI (cb_tg g m s)) x5 (nI q) (cb_ci (cb_cr g d m s q)) (nI o) (nI v) (nI o) f_nodes f_budget f_branch f_present f_printed f_tests f_jumps a_kinds a_as a_bs a_yesTo a_noTo a_start a_values a_log a_path a_next a_reached a_raised a_sets := by
  have h8 := cb_or8 o ho8 v hv
  refine nm_r (cb_orI o ho8 v hv) (pk_eq (o ||| v) o (fun z => ?_) (fun z => ?_))
  · refine yw_spread_120 (P := fun a b => P a b ∧ cb_C1 g d b m s q) hG hm hs ht hq post J hI ?_ fun x5' ra' k1 k2 => hJ _ _ _ k1 k2
    rcases hS with ⟨h0, h1, h2, h3⟩ | h
    · subst h1; subst h2
      refine .inl ⟨h0, rfl, rfl, h3, hC1 fun a ha w => ?_⟩
      rw [ho, cb_has_n ho8]
      have := (cb_mb_or ho8 hv ha).mpr (.inr w)
      rw [z] at this
      exact this
    · exact .inr h
  · rw [cb_ix, cb_cl (by omega)]
    refine And.intro (cb_in (by omega) (by omega)) (nm_e ?_)
    refine yw_spread_120 (P := fun a b => P a b ∧ cb_C1 g d b m s q) hG hm hs ht hq post J (cb_YI_se hI (by omega) ho8 hv ho ?_) (.inr ⟨rfl, ?_⟩) fun x5' ra' k1 k2 => hJ _ _ _ k1 k2
    · rw [show (cb_tg g m s * 32 + q) / 32 = cb_tg g m s by omega, show (cb_tg g m s * 32 + q) % 32 = q by omega]; exact hl
    · have l := cb_fc_se (ra := a_raised) (se := a_sets) (p := cb_tg g m s * 32 + q) (by omega) ho8 hv ho z
      rcases hS with ⟨h0, h1, h2, h3⟩ | ⟨_, h⟩
      · subst h1; subst h2; exact l
      · omega
theorem cb_ST_w {x : Int32} {P Q : (Nat → Int32) → (Nat → Int32) → Prop} {ra0 se0 ra se : Nat → Int32} (h : cb_ST x P ra0 se0 ra se) (k : P ra0 se0 → Q ra0 se0) : cb_ST x Q ra0 se0 ra se := by
  rcases h with ⟨h0, h1, h2, h3⟩ | h
  · exact .inl ⟨h0, h1, h2, k h3⟩
  · exact .inr h
theorem cb_ST_01 {x : Int32} {P : (Nat → Int32) → (Nat → Int32) → Prop} {ra0 se0 ra se : Nat → Int32} (h : cb_ST x P ra0 se0 ra se) : narrow .boolean (.int x) = .int x := by
  rcases h with ⟨h, _⟩ | ⟨h, _⟩ <;> subst h <;> rfl
/-- the rules of edge s of m -/
def cb_CE (g : Nat → Nat → Nat) (d m s e : Nat) (ra se : Nat → Int32) : Prop := ∀ q, q < e → cb_C1 g d se m s q ∧ cb_C2 g d ra m s q
theorem yw_spread_27 (hG : cb_G N g) (hA : cb_Ar g a_kinds a_as a_bs a_yesTo a_noTo) (hd12 : d < 12) {m s : Nat} (hm : cb_Rc g m) (hs : s < 2) (ht : cb_tg g m s < 12) {ra0 se0 : Nat → Int32} (post : Int32 → SY → Prop)
    (hk : ∀ x ra se, cb_YI g d ra se → cb_ST x (cb_CE g d m s 32) ra0 se0 ra se → post x (f_nodes, f_budget, f_branch, f_present, f_printed, f_tests, f_jumps, a_kinds, a_as, a_bs, a_yesTo, a_noTo, a_start, a_values, a_log, a_path, a_next, a_reached, ra, se)) :
    ∀ k q x ra se, q + k = 32 → cb_YI g d ra se → cb_ST x (cb_CE g d m s q) ra0 se0 ra se → wY_spread_27 post (nI d) (nI m) (cb_bi (s == 0)) (nI (cb_tg g m s)) f_nodes f_budget f_branch f_present f_printed f_tests f_jumps (k + 1) x (nI q) a_kinds a_as a_bs a_yesTo a_noTo a_start a_values a_log a_path a_next a_reached ra se := by
  have hN := cb_Rc_12 hG hm
  intro k
  induction k with
  | zero =>
    intro q x ra se hq hI hS
    obtain rfl : q = 32 := by omega
    exact br_t (by decide) (And.intro (cb_ST_01 hS) (hk _ _ _ hI hS))
  | succ k ih =>
    intro q x ra se hq hI hS
    refine br_f (nI_ge (b := 32) (by omega) (by decide)) ?_
    rw [cb_sh3 (by omega), cb_and7 (by omega)]
    refine yw_cross hG hA hN hd12 (by omega) _ ?_
    obtain ⟨o, ho8, ho, hol⟩ := hI.2.1 (cb_tg g m s * 32 + q) (by omega)
    rw [cb_ix, cb_cl (n := cb_tg g m s * 32 + q) (by omega)]
    refine And.intro (cb_in (by omega) (by omega)) (nm_r (e' := nI o) ho ?_)
    have next : ∀ x5' ra' se', cb_YI g d ra' se' → cb_ST x5' (fun a b => (cb_CE g d m s q a b ∧ cb_C1 g d b m s q) ∧ cb_C2 g d a m s q) ra0 se0 ra' se' → wY_spread_27 post (nI d) (nI m) (cb_bi (s == 0)) (nI (cb_tg g m s)) f_nodes f_budget f_branch f_present f_printed f_tests f_jumps (k + 1) x5' (nI (q + 1)) a_kinds a_as a_bs a_yesTo a_noTo a_start a_values a_log a_path a_next a_reached ra' se' := by
      intro x5' ra' se' k1 k2
      refine ih (q + 1) x5' ra' se' (by omega) k1 (cb_ST_w k2 fun c q' hq' => ?_)
      by_cases y : q' = q
      · subst y; exact ⟨c.1.2, c.2⟩
      · exact c.1.1 q' (by omega)
    rcases cb_cr_r hG d m s (q := q) (by omega) with hc | ⟨a, ha, hc⟩
    · have hci := cb_ci_q hc
      obtain ⟨v, hv, ev, hvl⟩ := hI.2.1 (m * 32 + cb_cr g d m s q) (by omega)
      rw [show (m * 32 + cb_cr g d m s q) / 32 = m by omega, show (m * 32 + cb_cr g d m s q) % 32 = cb_cr g d m s q by omega] at hvl
      refine br_t (by rw [hci]; exact nI_pos' (by omega)) ?_
      have e1 : nI m * 32 + cb_ci (cb_cr g d m s q) = nI (m * 32 + cb_cr g d m s q) := by rw [hci, cb_ix]
      rw [e1, cb_cl (n := m * 32 + cb_cr g d m s q) (by omega), ev]
      refine And.intro (cb_in (by omega) (by omega)) (yw_spread_92 (P := cb_CE g d m s q) hG hm hs ht (by omega) post _ hI hS ho8 ho hv (fun b hb w => cb_Lf_s hm hs ht (by omega) hc (hvl b hb w)) (fun w => ⟨fun b y => by omega, fun _ b hb y => ?_⟩) next)
      rw [ev, cb_has_n hv] at y
      exact w b hb y
    · have ha8 := cb_A8 ha
      obtain ⟨n1, n2, n3⟩ := cb_neg ha8.2 (by omega : a < 64)
      have hci : cb_ci (cb_cr g d m s q) = -nI a := by rw [hc, cb_ci_a]
      have hci2 : -cb_ci (cb_cr g d m s q) = nI a := by rw [hci, n3]
      refine br_f (by rw [hci]; exact n2) ?_
      rw [hci2]
      refine yw_spread_92 (P := cb_CE g d m s q) hG hm hs ht (by omega) post _ hI hS ho8 ho ha8.1 (fun b hb w => ?_) (fun w => ⟨fun b y => ?_, fun y => by omega⟩) next
      · rw [cb_mbA' ha hb w]; exact cb_Lf_a hm hs ht (by omega) hc
      · obtain rfl : b = a := by omega
        exact w b ha (cb_mbself ha)
theorem yw_spread (hG : cb_G N g) (hA : cb_Ar g a_kinds a_as a_bs a_yesTo a_noTo) (hd12 : d < 12) {m s : Nat} (hm : cb_Rc g m) (hs : s < 2) (ht : cb_tg g m s < 12) (post : Int32 → SY → Prop) (hI : cb_YI g d a_raised a_sets)
    (hk : ∀ x ra se, cb_YI g d ra se → cb_ST x (cb_CE g d m s 32) a_raised a_sets ra se → post x (f_nodes, f_budget, f_branch, f_present, f_printed, f_tests, f_jumps, a_kinds, a_as, a_bs, a_yesTo, a_noTo, a_start, a_values, a_log, a_path, a_next, a_reached, ra, se)) : wpY_spread post (f_nodes, f_budget, f_branch, f_present, f_printed, f_tests, f_jumps, a_kinds, a_as, a_bs, a_yesTo, a_noTo, a_start, a_values, a_log, a_path, a_next, a_reached, a_raised, a_sets) (nI d) (nI m) (cb_bi (s == 0)) := by
  have hN := cb_Rc_12 hG hm
  have hi : vp_in (nI m) 12 := cb_in hN (by omega)
  have hc : (nI m).toNatClampNeg = m := cb_cl (by omega)
  obtain ⟨a0, a1, a2, a3, a4⟩ := hA m
  have base := yw_spread_27 (ra0 := a_raised) (se0 := a_sets) hG hA hd12 hm hs ht post hk 32 0 0 a_raised a_sets rfl hI (.inl ⟨rfl, rfl, rfl, fun q hq => absurd hq (Nat.not_lt_zero _)⟩)
  obtain rfl | rfl : s = 0 ∨ s = 1 := by omega
  · have t0 : cb_tg g m 0 = g 3 m := by
      unfold cb_tg at ht ⊢
      rw [if_pos rfl] at ht ⊢
      split at ht
      · omega
      · rw [if_neg (by assumption)]
    refine br_f (by decide) (And.intro hi (nm_r (e' := nI (cb_tg g m 0)) (by rw [hc, a3, t0]) ⟨33, base⟩))
  · have t0 : cb_tg g m 1 = g 4 m := by
      unfold cb_tg at ht ⊢
      rw [if_neg (by omega)] at ht ⊢
      split at ht
      · omega
      · rw [if_neg (by assumption)]
    refine br_t (by decide) (And.intro hi (nm_r (e' := nI (cb_tg g m 1)) (by rw [hc, a4, t0]) ⟨33, base⟩))
/-- the rules of all edges of the nodes below n -/
def cb_CN (g : Nat → Nat → Nat) (d n : Nat) (ra se : Nat → Int32) : Prop := ∀ m, m < n → cb_Rc g m → ∀ s, s < 2 → cb_tg g m s < 12 → cb_CE g d m s 32 ra se
theorem yw_facts_79 (hG : cb_G N g) (hA : cb_Ar g a_kinds a_as a_bs a_yesTo a_noTo) (hd12 : d < 12) (hre : ∀ n, n < 12 → (¬ a_reached n = 0 ↔ cb_Rc g n)) {ra0 se0 : Nat → Int32} {r : Nat} (post : SY → Prop) (J : Int32 → Int32 → Int32 → Int32 → Int32 → Int32 → Int32 → Int32 → Int32 → (Nat → Int32) → (Nat → Int32) → (Nat → Int32) → (Nat → Int32) → (Nat → Int32) → (Nat → Int32) → (Nat → Int32) → (Nat → Int32) → (Nat → Int32) → (Nat → Int32) → (Nat → Int32) → (Nat → Int32) → (Nat → Int32) → Prop)
    (hJ : ∀ x ra se, cb_YI g d ra se → cb_ST x (cb_CN g d N) ra0 se0 ra se → J x (nI (r + 1)) (nI N) f_budget f_branch f_present f_printed f_tests f_jumps a_kinds a_as a_bs a_yesTo a_noTo a_start a_values a_log a_path a_next a_reached ra se) :
    ∀ k m x ra se, m + k = N → cb_YI g d ra se → cb_ST x (cb_CN g d m) ra0 se0 ra se → wY_findFacts_79 post J (nI d) (nI r) (k + 1) x (nI m) (nI N) f_budget f_branch f_present f_printed f_tests f_jumps a_kinds a_as a_bs a_yesTo a_noTo a_start a_values a_log a_path a_next a_reached ra se := by
  have hN := hG.2.1
  intro k
  induction k with
  | zero =>
    intro m x ra se hm hI hS
    obtain rfl : m = N := by omega
    exact br_t (nI_le (Nat.le_refl _) (by omega)) (nm_r (nI_1 r) (hJ _ _ _ hI hS))
  | succ k ih =>
    intro m x ra se hm hI hS
    have hi : vp_in (nI m) 12 := cb_in (by omega) (by omega)
    have hc : (nI m).toNatClampNeg = m := cb_cl (by omega)
    obtain ⟨a0, a1, a2, a3, a4⟩ := hA m
    have hg := hG.2.2 m
    refine br_f (nI_ge (by omega) (by omega)) (And.intro hi ?_)
    rw [hc]
    have next : ∀ x ra se, cb_YI g d ra se → cb_ST x (fun a b => cb_CN g d m a b ∧ (cb_Rc g m → ∀ s, s < 2 → cb_tg g m s < 12 → cb_CE g d m s 32 a b)) ra0 se0 ra se → wY_findFacts_79 post J (nI d) (nI r) (k + 1) x (nI (m + 1)) (nI N) f_budget f_branch f_present f_printed f_tests f_jumps a_kinds a_as a_bs a_yesTo a_noTo a_start a_values a_log a_path a_next a_reached ra se := by
      intro x ra se k1 k2
      refine ih (m + 1) x ra se (by omega) k1 (cb_ST_w k2 fun c m' hm' hR s hs ht => ?_)
      by_cases y : m' = m
      · subst y; exact c.2 hR s hs ht
      · exact c.1 m' (by omega) hR s hs ht
    refine br_c (fun z => nm_r (nI_1 m) (next _ _ _ hI (cb_ST_w hS fun c => ⟨c, fun hR => absurd z ((hre m (by omega)).mpr hR)⟩))) (fun z => And.intro hi ?_)
    have hR := (hre m (by omega)).mp z
    rw [a0]
    refine pk_eq (g 0 m) 0 (fun y => nm_r (nI_1 m) (next _ _ _ hI (cb_ST_w hS fun c => ⟨c, fun _ s hs ht => ?_⟩))) (fun y => ?_)
    · unfold cb_tg at ht
      rw [if_pos y] at ht
      split at ht
      · omega
      · rw [if_pos (by omega)] at ht; omega
    have t0 : cb_tg g m 0 = g 3 m := by unfold cb_tg; rw [if_pos rfl, if_neg y]
    -- behind the true edge
    have behind : ∀ x ra se, cb_YI g d ra se → cb_ST x (fun a b => cb_CN g d m a b ∧ cb_CE g d m 0 32 a b) ra0 se0 ra se → wY_findFacts_121 post J (wY_findFacts_79 post J (nI d) (nI r) (k + 1)) (nI d) x (nI r) (nI m) (nI N) f_budget f_branch f_present f_printed f_tests f_jumps a_kinds a_as a_bs a_yesTo a_noTo a_start a_values a_log a_path a_next a_reached ra se := by
      intro x ra se k1 k2
      refine yw_isTest hG hA (by omega) _ (ek_if cb_bi_0 (fun w => nm_r (nI_1 m) (next _ _ _ k1 (cb_ST_w k2 fun c => ⟨c.1, fun _ s hs ht => ?_⟩))) (fun w => ?_))
      · have w' : ¬ 6 ≤ g 0 m := of_decide_eq_false w
        obtain rfl | rfl : s = 0 ∨ s = 1 := by omega
        · exact c.2
        · unfold cb_tg at ht
          rw [if_neg (by omega), if_pos (by omega)] at ht
          omega
      · have w' : 6 ≤ g 0 m := of_decide_eq_true (by revert w; cases decide (6 ≤ g 0 m) <;> simp)
        have t1 : cb_tg g m 1 = g 4 m := by unfold cb_tg; rw [if_neg (by omega), if_neg (by omega)]
        refine yw_spread (s := 1) hG hA hd12 hR (by omega) (by omega) _ k1 ?_
        intro x' ra' se' k3 k4
        obtain ⟨c1, c2⟩ := cb_ST_c k2 k4
        refine br_c (fun v => nm_r (nI_1 m) (next _ _ _ k3 (cb_ST_w (c1 v) fun c => ⟨c.1.1, fun _ s hs ht => ?_⟩))) (fun v => nm_r (nI_1 m) (next _ _ _ k3 (cb_ST_w (c2 v) fun c => ⟨c.1.1, fun _ s hs ht => ?_⟩)))
        · obtain rfl | rfl : s = 0 ∨ s = 1 := by omega
          · exact c.1.2
          · exact c.2
        · obtain rfl | rfl : s = 0 ∨ s = 1 := by omega
          · exact c.1.2
          · exact c.2
    refine yw_spread (s := 0) hG hA hd12 hR (by omega) (by omega) _ hI ?_
    intro x' ra' se' k3 k4
    obtain ⟨c1, c2⟩ := cb_ST_c hS k4
    exact br_c (fun v => behind _ _ _ k3 (c1 v)) (fun v => behind _ _ _ k3 (c2 v))
/-- questions and answers of the reference: what is found -/
def cb_YQ (g : Nat → Nat → Nat) (d : Nat) (ra se : Nat → Int32) : Prop := ∀ n q, n < 12 → q < 32 → (¬ ra (n * 32 + q) = 0 ↔ cb_Rq g d n q) ∧ se (n * 32 + q) = nI (cb_S g d n q)
theorem cb_YQ_of (hG : cb_G N g) {ra se : Nat → Int32} (hI : cb_YI g d ra se) (hC : cb_CN g d N ra se) : cb_YQ g d ra se := by
  have R1 : ∀ n q, cb_Rq g d n q → ¬ ra (n * 32 + q) = 0 := by
    intro n q h
    refine h (fun n q => ¬ ra (n * 32 + q) = 0) hI.2.2.1 ?_
    intro m s q hm hs ht hq hS hc
    exact (hC m (cb_Rc_N hG hm) hm s hs ht q hq).2 hc hS
  have L1 : ∀ n q a, cb_Lf g d n q a → cb_A a ∧ cb_has (se (n * 32 + q)) a := by
    intro n q a h
    refine h (fun n q a => cb_A a ∧ cb_has (se (n * 32 + q)) a) ?_ ?_ ?_
    · intro q hq
      refine ⟨.inr (.inr rfl), ?_⟩
      rw [show 0 * 32 + q = q by omega]
      exact hI.2.2.2 q hq
    · intro m s q a hm hs ht hq hc
      have ha : cb_A a := by
        rcases cb_cr_r hG d m s hq with y | ⟨b, hb, y⟩
        · omega
        · obtain rfl : a = b := by omega
          exact hb
      exact ⟨ha, (hC m (cb_Rc_N hG hm) hm s hs ht q hq).1.1 a hc⟩
    · intro m s q a hm hs ht hq hc hS
      exact ⟨hS.1, (hC m (cb_Rc_N hG hm) hm s hs ht q hq).1.2 hc a hS.1 hS.2⟩
  intro n q hn hq
  refine ⟨⟨fun h => ?_, R1 n q⟩, ?_⟩
  · have k := hI.1 (n * 32 + q) (by omega) h
    rw [show (n * 32 + q) / 32 = n by omega, show (n * 32 + q) % 32 = q by omega] at k
    exact k
  · obtain ⟨s, hs8, e, hl⟩ := hI.2.1 (n * 32 + q) (by omega)
    rw [show (n * 32 + q) / 32 = n by omega, show (n * 32 + q) % 32 = q by omega] at hl
    rw [e]
    congr 1
    refine cb_S_u hs8 fun a ha => ⟨hl a ha, fun h => ?_⟩
    have := (L1 n q a h).2
    rw [e, cb_has_n hs8] at this
    exact this
theorem yw_facts_63 (hG : cb_G N g) (hA : cb_Ar g a_kinds a_as a_bs a_yesTo a_noTo) (hd12 : d < 12) (hre : ∀ n, n < 12 → (¬ a_reached n = 0 ↔ cb_Rc g n)) (post : SY → Prop)
    (hk : ∀ ra se, cb_YQ g d ra se → post (nI N, f_budget, f_branch, f_present, f_printed, f_tests, f_jumps, a_kinds, a_as, a_bs, a_yesTo, a_noTo, a_start, a_values, a_log, a_path, a_next, a_reached, ra, se)) :
    ∀ k r x ra se, r + k = 1537 → cb_YI g d ra se → ((x = 0 ∧ cb_CN g d N ra se) ∨ (x = 1 ∧ r ≤ cb_fc ra se)) → wY_findFacts_63 post (nI d) (k + 1) x (nI r) (nI N) f_budget f_branch f_present f_printed f_tests f_jumps a_kinds a_as a_bs a_yesTo a_noTo a_start a_values a_log a_path a_next a_reached ra se := by
  intro k
  induction k with
  | zero =>
    intro r x ra se hr hI h
    rcases h with ⟨h0, h1⟩ | ⟨h0, h1⟩
    · exact br_t h0 (hk _ _ (cb_YQ_of hG hI h1))
    · have := cb_fc_le ra se
      omega
  | succ k ih =>
    intro r x ra se hr hI h
    rcases h with ⟨h0, h1⟩ | ⟨h0, h1⟩
    · exact br_t h0 (hk _ _ (cb_YQ_of hG hI h1))
    · refine br_f (by rw [h0]; decide) (br_f (nI_ge (b := 1537) (by omega) (by decide)) ⟨N + 1, ?_⟩)
      refine yw_facts_79 (ra0 := ra) (se0 := se) hG hA hd12 hre post _ ?_ N 0 0 ra se (by omega) hI (.inl ⟨rfl, rfl, rfl, fun m hm => absurd hm (Nat.not_lt_zero _)⟩)
      intro x' ra' se' k1 k2
      refine ih (r + 1) x' ra' se' (by omega) k1 ?_
      rcases k2 with ⟨e0, e1, e2, e3⟩ | ⟨e0, e1⟩
      · subst e1; subst e2; exact .inl ⟨e0, e3⟩
      · exact .inr ⟨e0, by omega⟩
theorem yw_facts_2 (hG : cb_G N g) (hA : cb_Ar g a_kinds a_as a_bs a_yesTo a_noTo) (hd12 : d < 12) (hre : ∀ n, n < 12 → (¬ a_reached n = 0 ↔ cb_Rc g n)) (post : SY → Prop)
    (hk : ∀ ra se, cb_YQ g d ra se → post (nI N, f_budget, f_branch, f_present, f_printed, f_tests, f_jumps, a_kinds, a_as, a_bs, a_yesTo, a_noTo, a_start, a_values, a_log, a_path, a_next, a_reached, ra, se)) :
    ∀ k i ra se, i + k = 384 → (∀ p, p < i → ra p = 0 ∧ se p = nI (if p < 32 then 4 else 0)) → wY_findFacts_2 post (nI d) (nI N) f_budget f_branch f_present f_printed f_tests f_jumps (k + 1) (nI i) a_kinds a_as a_bs a_yesTo a_noTo a_start a_values a_log a_path a_next a_reached ra se := by
  intro k
  induction k with
  | zero =>
    intro i ra se hi h
    obtain rfl : i = 384 := by omega
    obtain ⟨a0, a1, a2, a3, a4⟩ := hA d
    have hg := hG.2.2 d
    have e : nI d * 32 + (a_as (nI d).toNatClampNeg) * 8 = nI (d * 32 + g 1 d * 8) := by
      rw [cb_cl (by omega), a1, show (8 : Int32) = nI 8 from rfl, pk_mul, cb_ix]
    refine br_t (by decide) (And.intro (cb_in hd12 (by omega)) ?_)
    rw [e, cb_cl (n := d * 32 + g 1 d * 8) (by omega)]
    refine And.intro (cb_in (by omega) (by omega)) (nm_r (e' := upd ra (d * 32 + g 1 d * 8) 1) (by rw [cb_vb1]) ⟨1538, ?_⟩)
    refine yw_facts_63 hG hA hd12 hre post hk 1537 0 1 _ se rfl ⟨fun p hp z => ?_, fun p hp => ?_, by rw [cb_us]; decide, fun q hq => ?_⟩ (.inr ⟨rfl, Nat.zero_le _⟩)
    · by_cases y : p = d * 32 + g 1 d * 8
      · subst y
        rw [show (d * 32 + g 1 d * 8) / 32 = d by omega, show (d * 32 + g 1 d * 8) % 32 = g 1 d * 8 by omega]
        exact cb_Rq_0
      · rw [cb_un y] at z; exact absurd (h p hp).1 z
    · refine ⟨if p < 32 then 4 else 0, by split <;> omega, (h p hp).2, fun a ha w => ?_⟩
      by_cases y : p < 32
      · rw [if_pos y] at w
        rw [cb_mbA' (.inr (.inr rfl)) ha w, show p / 32 = 0 by omega]
        exact cb_Lf_0 (by omega)
      · rw [if_neg y, cb_mb0] at w
        exact absurd w (by decide)
    · rw [(h q (by omega)).2, if_pos hq, cb_has_n (by omega)]
      rfl
  | succ k ih =>
    intro i ra se hi h
    have hin : vp_in (nI i) 384 := cb_in (by omega) (by omega)
    have hc : (nI i).toNatClampNeg = i := cb_cl (by omega)
    have step : ∀ v, v = (if i < 32 then 4 else 0) → wY_findFacts_2 post (nI d) (nI N) f_budget f_branch f_present f_printed f_tests f_jumps (k + 1) (nI (i + 1)) a_kinds a_as a_bs a_yesTo a_noTo a_start a_values a_log a_path a_next a_reached (upd ra i 0) (upd se i (nI v)) := by
      intro v hv
      refine ih (i + 1) _ _ (by omega) fun p hp => ?_
      by_cases y : p = i
      · rw [y, cb_us, cb_us, hv]; exact ⟨rfl, rfl⟩
      · rw [cb_un y, cb_un y]; exact h p (by omega)
    refine br_f (nI_ge (b := 384) (by omega) (by decide)) (And.intro hin (nm_r (e' := upd ra i 0) (by rw [hc, cb_vb0]) (pk_le 32 i (fun z => And.intro hin (nm_r (e' := upd se i (nI 0)) (by rw [hc]; rfl) (nm_r (nI_1 i) (step 0 ?_)))) (fun z => And.intro hin (nm_r (e' := upd se i (nI 4)) (by rw [hc]; rfl) (nm_r (nI_1 i) (step 4 ?_)))))))
    · rw [if_neg (by omega)]
    · rw [if_pos z]
theorem yw_facts (hG : cb_G N g) (hA : cb_Ar g a_kinds a_as a_bs a_yesTo a_noTo) (hd12 : d < 12) (hre : ∀ n, n < 12 → (¬ a_reached n = 0 ↔ cb_Rc g n)) (post : SY → Prop)
    (hk : ∀ ra se, cb_YQ g d ra se → post (nI N, f_budget, f_branch, f_present, f_printed, f_tests, f_jumps, a_kinds, a_as, a_bs, a_yesTo, a_noTo, a_start, a_values, a_log, a_path, a_next, a_reached, ra, se)) : wpY_findFacts post (nI N, f_budget, f_branch, f_present, f_printed, f_tests, f_jumps, a_kinds, a_as, a_bs, a_yesTo, a_noTo, a_start, a_values, a_log, a_path, a_next, a_reached, a_raised, a_sets) (nI d) :=
  ⟨385, yw_facts_2 hG hA hd12 hre post hk 384 0 _ _ rfl fun p hp => absurd hp (Nat.not_lt_zero _)⟩
end ywFacts
end
section
/-! 13: optimize, on both sides -/
section xwOpt
variable {N d Bu : Nat} {g : Nat → Nat → Nat}
variable {f_nodes f_budget f_printed f_tests f_jumps f_present f_copy f_chosen f_truth f_queued f_pending : Int32} {a_kinds a_as a_bs a_yesTo a_noTo a_start a_values a_log a_reached a_raised a_sets a_strides a_queue a_stack a_waiting a_base a_weights a_origin a_nextYes a_nextNo a_decided : Nat → Int32}
theorem cb_cap_eq {f : Nat → Nat} {n : Nat} (h : cb_sm f n ≤ 64) : cb_sm (fun j => cb_cap (f j)) n = cb_sm f n :=
  cb_sm_congr fun _ hj => cb_cap_lo (Nat.le_trans (cb_sm_item (f := f) hj) h)
theorem cb_wt0 (hG : cb_G N g) (d : Nat) : 0 < cb_wt' g d 0 := by
  rw [cb_wt_t cb_Rc_0]
  exact cb_pr_pos fun q hq => cb_z_pos hG cb_Rc_0 hq
theorem xw_optimize (hG : cb_G N g) (hA : cb_Ar g a_kinds a_as a_bs a_yesTo a_noTo) (hdN : d < N) (hB : Bu ≤ 64) (post : Int32 → SX → Prop)
    (h0 : ¬ 6 ≤ g 0 d → post 0 (nI N, nI Bu, f_printed, f_tests, f_jumps, f_present, f_copy, -1, f_truth, f_queued, f_pending, a_kinds, a_as, a_bs, a_yesTo, a_noTo, a_start, a_values, a_log, a_reached, a_raised, a_sets, a_strides, a_queue, a_stack, a_waiting, a_base, a_weights, a_origin, a_nextYes, a_nextNo, a_decided))
    (h2 : 6 ≤ g 0 d → ¬ cb_Rc g d → ∀ f_pending a_reached a_stack, post 2 (nI N, nI Bu, f_printed, f_tests, f_jumps, f_present, f_copy, -1, f_truth, f_queued, f_pending, a_kinds, a_as, a_bs, a_yesTo, a_noTo, a_start, a_values, a_log, a_reached, a_raised, a_sets, a_strides, a_queue, a_stack, a_waiting, a_base, a_weights, a_origin, a_nextYes, a_nextNo, a_decided))
    (h3 : 6 ≤ g 0 d → cb_Rc g d → cb_S g d d (g 1 d * 8) = 4 → ∀ f_truth f_queued f_pending a_reached a_raised a_sets a_strides a_queue a_stack a_waiting, post 3 (nI N, nI Bu, f_printed, f_tests, f_jumps, f_present, f_copy, -1, f_truth, f_queued, f_pending, a_kinds, a_as, a_bs, a_yesTo, a_noTo, a_start, a_values, a_log, a_reached, a_raised, a_sets, a_strides, a_queue, a_stack, a_waiting, a_base, a_weights, a_origin, a_nextYes, a_nextNo, a_decided))
    (h4 : 6 ≤ g 0 d → cb_Rc g d → ¬ cb_S g d d (g 1 d * 8) = 4 → ¬ cb_bo g d N ≤ Bu → ∀ f_truth f_queued f_pending a_reached a_raised a_sets a_strides a_queue a_stack a_waiting a_base a_weights, post 4 (nI N, nI Bu, f_printed, f_tests, f_jumps, f_present, f_copy, -1, f_truth, f_queued, f_pending, a_kinds, a_as, a_bs, a_yesTo, a_noTo, a_start, a_values, a_log, a_reached, a_raised, a_sets, a_strides, a_queue, a_stack, a_waiting, a_base, a_weights, a_origin, a_nextYes, a_nextNo, a_decided))
    (h1 : 6 ≤ g 0 d → cb_Rc g d → ¬ cb_S g d d (g 1 d * 8) = 4 → cb_bo g d N ≤ Bu → ∀ f_truth f_queued f_pending a_reached a_raised a_sets a_strides a_queue a_stack a_waiting a_base a_weights a_origin a_nextYes a_nextNo a_decided,
      cb_XQ g d a_raised a_sets → cb_XL g d N a_strides a_base a_weights → cb_XO g d N a_origin → cb_XN g d N (cb_bo g d N) a_nextYes a_nextNo a_decided → post 1 (nI N, nI Bu, 0, 0, 0, 0, nI (cb_bo g d 0 + (cb_wt' g d 0 - 1)), nI d, f_truth, f_queued, f_pending, a_kinds, a_as, a_bs, a_yesTo, a_noTo, a_start, cb_cp a_values a_start 4, a_log, a_reached, a_raised, a_sets, a_strides, a_queue, a_stack, a_waiting, a_base, a_weights, a_origin, a_nextYes, a_nextNo, a_decided)) :
    wpX_optimize post (nI N, nI Bu, f_printed, f_tests, f_jumps, f_present, f_copy, -1, f_truth, f_queued, f_pending, a_kinds, a_as, a_bs, a_yesTo, a_noTo, a_start, a_values, a_log, a_reached, a_raised, a_sets, a_strides, a_queue, a_stack, a_waiting, a_base, a_weights, a_origin, a_nextYes, a_nextNo, a_decided) (nI d) := by
  have hN12 := hG.2.1
  have hi : vp_in (nI d) 12 := cb_in (by omega) (by omega)
  have hcl : (nI d).toNatClampNeg = d := cb_cl (by omega)
  obtain ⟨a0, a1, a2, a3, a4⟩ := hA d
  have hg := hG.2.2 d
  refine br_f (by decide) (br_f (nI_pos (by omega)) (br_f (nI_ge (by omega) (by omega)) (br_f (by decide) (And.intro hi ?_))))
  rw [hcl, a0]
  refine pk_le 6 (g 0 d) (fun z => ?_) (fun z => h0 (by omega))
  have hd : g 0 d = 6 ∨ g 0 d = 7 := by omega
  refine xw_mark hG hA _ ?_
  intro Pn re st hre
  refine And.intro hi ?_
  rw [a1]
  refine br_c (fun y => h2 z (fun w => (hre d (by omega)).mpr w y) _ _ _) (fun y => And.intro hi (nm_r (e' := nI (g 1 d * 8)) (by rw [show (8 : Int32) = nI 8 from rfl, pk_mul]) (xw_testMask hG hA (by omega) _ (xw_clear _ ?_))))
  have hRd := (hre d (by omega)).mp y
  intro ra se sr wa hz
  refine xw_raise (Qn := 0) (Pn := 0) hG (cb_QI_0 fun p hp => ⟨(hz p hp).1, (hz p hp).2.1, (hz p hp).2.2.1⟩) (by omega) (by omega) cb_Rq_0 _ ?_
  intro Qn1 Pn1 ra1 se1 qu1 st1 wa1 hQ1 hX1 ho1
  refine ⟨385, ?_⟩
  refine xw_all_l (o := d * 32 + g 1 d * 8) hG hA hd hre _ ?_ 384 0 Qn1 Pn1 ra1 se1 qu1 st1 wa1 rfl (Nat.zero_le _) hQ1 ho1 fun i p hi => absurd hi (Nat.not_lt_zero _)
  intro Qn2 Pn2 ra2 se2 qu2 st2 wa2 hQ2 ho2 hP2
  refine ⟨1153, ?_⟩
  refine xw_settle_l (se0 := se2) hG hA hd hRd hQ2.2.2.2.2.1 _ ?_ 1152 0 Pn2 se2 st2 wa2 rfl ⟨hQ2.1, fun p hp hr => ?_⟩ (fun _ _ _ _ y => y)
  rotate_left
  · by_cases y : wa2 p = 0
    · refine .inr (.inr fun s hs ht q hq hr' hc a ha hh => ?_)
      have z : se2 p = 0 := Classical.byContradiction fun w => hQ2.2.2.2.2.2.1 p hp w y
      rw [z, cb_n0, cb_has_n (by omega), cb_mb0] at hh
      exact absurd hh (by decide)
    · exact .inl y
  intro Pn3 se3 st3 wa3 hs3 hSP3 hm3
  have hQ := cb_XQ_of hG hRd hQ2.2.2.2.2.1 ho2 hP2 hQ2.2.2.2.2.2.2 hs3 hSP3 hm3
  have hown := (hQ d (g 1 d * 8) (by omega) (by omega)).2 cb_Rq_0
  have hS8 := cb_S8 g d d (g 1 d * 8)
  dsimp only
  rw [cb_ix, cb_cl (n := d * 32 + g 1 d * 8) (by omega), hown]
  refine And.intro (cb_in (by omega) (by omega)) (pk_eq (cb_S g d d (g 1 d * 8)) 4 (fun w => h3 z hRd w _ _ _ _ _ _ _ _ _ _) (fun w => ?_))
  refine xw_lay hG hRd hQ hre _ ?_
  intro sr4 ba4 we4 hLY
  have hle := cb_cap_sm (f := cb_wt' g d) (n := N) (b := Bu) hB
  have hcap : cb_sm (fun i => cb_cap (cb_wt' g d i)) N ≤ N * 65 := cb_sm_le fun j _ => cb_cap_le _
  refine pk_le (cb_sm (fun i => cb_cap (cb_wt' g d i)) N) Bu (fun v => ?_) (fun v => h4 z hRd w (fun v' => by have := hle.mpr v'; omega) _ _ _ _ _ _ _ _ _ _ _ _)
  have hbo : cb_bo g d N ≤ Bu := hle.mp v
  have hXL := cb_XL_of hG hRd hLY (Nat.le_trans hbo hB)
  rw [cb_cap_eq (f := cb_wt' g d) (n := N) (Nat.le_trans hbo hB)]
  refine ⟨N + 1, ?_⟩
  refine xw_split_2 hG hA hdN hd hRd hQ hXL _ ?_ N 0 a_origin (by omega) fun j hj => absurd hj (Nat.not_lt_zero _)
  intro or5 ny5 nn5 de5 hO hXN
  have hw0 := cb_wt0 hG d
  have ecopy : (ba4 0 + we4 0) - 1 = nI (cb_bo g d 0 + (cb_wt' g d 0 - 1)) := by
    obtain ⟨b1, b2, _⟩ := hXL.2 0 (by omega)
    rw [b1, b2, nI_add, show (1 : Int32) = nI 1 from rfl, pk_sub (by omega)]
    congr 1; omega
  refine xw_restart_o (nI_pos' (by omega)) _ ?_
  rw [ecopy]
  exact h1 z hRd w hbo _ _ _ _ _ _ _ _ _ _ _ _ _ _ _ _ hQ hXL hO hXN
end xwOpt
section ywOpt
variable {N d Bu : Nat} {g : Nat → Nat → Nat}
variable {f_nodes f_budget f_branch f_present f_printed f_tests f_jumps : Int32} {a_kinds a_as a_bs a_yesTo a_noTo a_start a_values a_log a_path a_next a_reached a_raised a_sets : Nat → Int32}
theorem yw_weightOf_16 {n : Nat} (hn : n < 12) (hQ : cb_YQ g d a_raised a_sets) (post : Int64 → Prop) (h : post (lN (cb_pr (cb_z g d n) 32))) :
    ∀ k q, q + k = 32 → wY_weightOf_16 post (nI n) f_nodes f_budget f_branch f_present f_printed f_tests f_jumps a_kinds a_as a_bs a_yesTo a_noTo a_start a_values a_log a_path a_next a_reached a_raised a_sets (k + 1) (lN (cb_pr (cb_z g d n) q)) (nI q) := by
  intro k
  induction k with
  | zero =>
    intro q hq
    obtain rfl : q = 32 := by omega
    exact br_t (by decide) h
  | succ k ih =>
    intro q hq
    have hi : vp_in (nI (n * 32 + q)) 384 := cb_in (by omega) (by omega)
    obtain ⟨x1, x2⟩ := hQ n q hn (by omega)
    have ih' := ih (q + 1) (by omega)
    have e0 : cb_pr (cb_z g d n) (q + 1) = cb_pr (cb_z g d n) q * cb_z g d n q := rfl
    refine br_f (nI_ge (b := 32) (by omega) (by decide)) ?_
    rw [cb_ix, cb_cl (n := n * 32 + q) (by omega), x2]
    refine And.intro hi (nm_e (And.intro hi (br_c (fun z => nm_r (nI_1 q) ?_) (fun z => ?_))))
    · have hnr : ¬ cb_Rq g d n q := fun w => x1.mpr w z
      rw [e0, cb_z_f hnr, Nat.mul_one] at ih'
      exact ih'
    · have hr := x1.mp z
      rw [e0, cb_z_t hr] at ih'
      refine nm_r (e' := lN (cb_pr (cb_z g d n) q * cb_pop (cb_S g d n q))) ?_ (nm_r (nI_1 q) ih')
      have := cb_pop3 (cb_S g d n q)
      rw [cb_size _ (cb_S8 g d n q), nI_l (by omega), lN_mul]
theorem yw_weightOf (hre : ∀ n, n < 12 → (¬ a_reached n = 0 ↔ cb_Rc g n)) (hQ : cb_YQ g d a_raised a_sets) {n : Nat} (hn : n < 12) (post : Int64 → Prop) (h : post (lN (cb_wt' g d n))) : wpY_weightOf post (f_nodes, f_budget, f_branch, f_present, f_printed, f_tests, f_jumps, a_kinds, a_as, a_bs, a_yesTo, a_noTo, a_start, a_values, a_log, a_path, a_next, a_reached, a_raised, a_sets) (nI n) := by
  refine And.intro (cb_in hn (by omega)) ?_
  rw [cb_cl (by omega)]
  refine br_c (fun z => ?_) (fun z => ⟨33, ?_⟩)
  · rw [cb_wt_f fun w => (hre n hn).mpr w z] at h
    exact h
  · rw [cb_wt_t ((hre n hn).mp z)] at h
    exact yw_weightOf_16 hn hQ post h 32 0 rfl
theorem yw_opt_77 (hG : cb_G N g) (hre : ∀ n, n < 12 → (¬ a_reached n = 0 ↔ cb_Rc g n)) (hQ : cb_YQ g d a_raised a_sets) (hB : Bu ≤ 64) (post : Int32 → SY → Prop)
    (h4 : ¬ cb_bo g d N ≤ Bu → post 4 (nI N, nI Bu, f_branch, f_present, f_printed, f_tests, f_jumps, a_kinds, a_as, a_bs, a_yesTo, a_noTo, a_start, a_values, a_log, a_path, a_next, a_reached, a_raised, a_sets))
    (h1 : cb_bo g d N ≤ Bu → ∀ pa, (∀ q, q < 32 → pa q = 4) → post 1 (nI N, nI Bu, nI d, 0, 0, 0, 0, a_kinds, a_as, a_bs, a_yesTo, a_noTo, a_start, cb_cp a_values a_start 4, a_log, pa, a_next, a_reached, a_raised, a_sets)) :
    ∀ k n, n + k = N → wY_optimize_77 post (nI d) (nI N) (nI Bu) f_branch f_present f_printed f_tests f_jumps a_kinds a_as a_bs a_yesTo a_noTo a_start a_values a_log a_path a_next a_reached a_raised a_sets (k + 1) (lN (cb_bo g d n)) (nI n) := by
  have hN12 := hG.2.1
  have hsum : cb_bo g d N < 2 ^ 63 := by
    have a : cb_bo g d N ≤ N * 3 ^ 32 := cb_sm_le fun j _ => cb_wt_le g d j
    have b : N * 3 ^ 32 ≤ 12 * 3 ^ 32 := Nat.mul_le_mul_right _ hN12
    have c : 12 * 3 ^ 32 < 2 ^ 63 := by decide
    omega
  intro k
  induction k with
  | zero =>
    intro n hn
    obtain rfl : n = N := by omega
    refine br_t (nI_le (Nat.le_refl _) (by omega)) ?_
    rw [nI_l (n := Bu) (by omega)]
    refine ek_if (pk_lLE hsum (by omega)) (fun z => yw_restart _ fun pa hp => h1 z pa hp) (fun z => h4 z)
  | succ k ih =>
    intro n hn
    refine br_f (nI_ge (by omega) (by omega)) (yw_weightOf hre hQ (by omega) _ (nm_r (e' := lN (cb_bo g d (n + 1))) ?_ (nm_r (nI_1 n) (ih (n + 1) (by omega)))))
    rw [lN_add]; rfl
theorem yw_optimize (hG : cb_G N g) (hA : cb_Ar g a_kinds a_as a_bs a_yesTo a_noTo) (hdN : d < N) (hB : Bu ≤ 64) (post : Int32 → SY → Prop)
    (h0 : ¬ 6 ≤ g 0 d → post 0 (nI N, nI Bu, -1, f_present, f_printed, f_tests, f_jumps, a_kinds, a_as, a_bs, a_yesTo, a_noTo, a_start, a_values, a_log, a_path, a_next, a_reached, a_raised, a_sets))
    (h2 : 6 ≤ g 0 d → ¬ cb_Rc g d → ∀ a_reached, post 2 (nI N, nI Bu, -1, f_present, f_printed, f_tests, f_jumps, a_kinds, a_as, a_bs, a_yesTo, a_noTo, a_start, a_values, a_log, a_path, a_next, a_reached, a_raised, a_sets))
    (h3 : 6 ≤ g 0 d → cb_Rc g d → cb_S g d d (g 1 d * 8) = 4 → ∀ a_reached a_raised a_sets, post 3 (nI N, nI Bu, -1, f_present, f_printed, f_tests, f_jumps, a_kinds, a_as, a_bs, a_yesTo, a_noTo, a_start, a_values, a_log, a_path, a_next, a_reached, a_raised, a_sets))
    (h4 : 6 ≤ g 0 d → cb_Rc g d → ¬ cb_S g d d (g 1 d * 8) = 4 → ¬ cb_bo g d N ≤ Bu → ∀ a_reached a_raised a_sets, post 4 (nI N, nI Bu, -1, f_present, f_printed, f_tests, f_jumps, a_kinds, a_as, a_bs, a_yesTo, a_noTo, a_start, a_values, a_log, a_path, a_next, a_reached, a_raised, a_sets))
    (h1 : 6 ≤ g 0 d → cb_Rc g d → ¬ cb_S g d d (g 1 d * 8) = 4 → cb_bo g d N ≤ Bu → ∀ a_path a_reached a_raised a_sets, (∀ q, q < 32 → a_path q = 4) → (∀ n, n < 12 → (¬ a_reached n = 0 ↔ cb_Rc g n)) → cb_YQ g d a_raised a_sets →
      post 1 (nI N, nI Bu, nI d, 0, 0, 0, 0, a_kinds, a_as, a_bs, a_yesTo, a_noTo, a_start, cb_cp a_values a_start 4, a_log, a_path, a_next, a_reached, a_raised, a_sets)) :
    wpY_optimize post (nI N, nI Bu, -1, f_present, f_printed, f_tests, f_jumps, a_kinds, a_as, a_bs, a_yesTo, a_noTo, a_start, a_values, a_log, a_path, a_next, a_reached, a_raised, a_sets) (nI d) := by
  have hN12 := hG.2.1
  have hi : vp_in (nI d) 12 := cb_in (by omega) (by omega)
  have hcl : (nI d).toNatClampNeg = d := cb_cl (by omega)
  obtain ⟨a0, a1, a2, a3, a4⟩ := hA d
  have hg := hG.2.2 d
  refine br_f (by decide) (br_f (nI_pos (by omega)) (br_f (nI_ge (by omega) (by omega)) (br_f (by decide) (yw_isTest hG hA (by omega) _ (ek_if cb_bi_0 (fun w => h0 (of_decide_eq_false w)) (fun w => ?_))))))
  have z : 6 ≤ g 0 d := of_decide_eq_true (by revert w; cases decide (6 ≤ g 0 d) <;> simp)
  refine yw_reach hG hA _ ?_
  intro re hre
  refine And.intro hi ?_
  rw [hcl]
  refine br_c (fun y => h2 z (fun w => (hre d (by omega)).mpr w y) _) (fun y => yw_facts hG hA (by omega) hre _ ?_)
  have hRd := (hre d (by omega)).mp y
  intro ra se hQ
  have hown := (hQ d (g 1 d * 8) (by omega) (by omega)).2
  have hS8 := cb_S8 g d d (g 1 d * 8)
  refine And.intro hi ?_
  have e : nI d * 32 + (a_as d) * 8 = nI (d * 32 + g 1 d * 8) := by
    rw [a1, show (8 : Int32) = nI 8 from rfl, pk_mul, cb_ix]
  rw [e, cb_cl (n := d * 32 + g 1 d * 8) (by omega), hown]
  refine And.intro (cb_in (by omega) (by omega)) (pk_eq (cb_S g d d (g 1 d * 8)) 4 (fun w => h3 z hRd w _ _ _) (fun w => ⟨N + 1, ?_⟩))
  exact yw_opt_77 hG hre hQ hB post (fun v => h4 z hRd w v _ _ _) (fun v pa hp => h1 z hRd w v _ _ _ _ hp hre hQ) N 0 (by omega)
end ywOpt
end
section
/-! 14: the relation -/
section zwRel
/-- the graph and the machine, alike on both sides -/
def cb_Bs (N Bu P pr : Nat) (g : Nat → Nat → Nat) (a_kinds a_as a_bs a_yesTo a_noTo a_start a_values : Nat → Int32) : Prop :=
  cb_G N g ∧ cb_Ar g a_kinds a_as a_bs a_yesTo a_noTo ∧ Bu ≤ 64 ∧ P ≤ 32 ∧ pr < N ∧ (∀ j, ∃ x, x < 8 ∧ a_start j = nI x) ∧ (∀ j, ∃ x, x < 8 ∧ a_values j = nI x)
/-- the tables for the chosen branch d -/
def cb_O (N d : Nat) (g : Nat → Nat → Nat) (a_raised a_sets a_strides a_base a_weights a_origin a_nextYes a_nextNo a_decided b_reached b_raised b_sets : Nat → Int32) : Prop :=
  d < N ∧ (g 0 d = 6 ∨ g 0 d = 7) ∧ cb_Rc g d ∧ cb_XQ g d a_raised a_sets ∧ cb_XL g d N a_strides a_base a_weights ∧ cb_XO g d N a_origin ∧ cb_XN g d N (cb_bo g d N) a_nextYes a_nextNo a_decided ∧
  (∀ n, n < 12 → (¬ b_reached n = 0 ↔ cb_Rc g n)) ∧ cb_YQ g d b_raised b_sets
/-- the copy stands for the answers of the path -/
def cb_P (d pr x : Nat) (g : Nat → Nat → Nat) (f_copy : Int32) (a_path : Nat → Int32) : Prop :=
  f_copy = nI (cb_bo g d pr + x) ∧ x < cb_wt' g d pr ∧ ∀ q, cb_Rq g d pr q → a_path q = nI (cb_an g d pr q x)
def cb_M (N pr : Nat) (g : Nat → Nat → Nat) (f_copy f_chosen : Int32) (a_raised a_sets a_strides a_base a_weights a_origin a_nextYes a_nextNo a_decided a_path b_reached b_raised b_sets : Nat → Int32) : Prop :=
  f_chosen = -1 ∨ ∃ d x, f_chosen = nI d ∧ cb_O N d g a_raised a_sets a_strides a_base a_weights a_origin a_nextYes a_nextNo a_decided b_reached b_raised b_sets ∧ cb_P d pr x g f_copy a_path
def i_Rel (k : Nat) (u : SX) (v : SY) : Prop := match u with
  | (f_nodes, f_budget, f_printed, f_tests, f_jumps, f_present, f_copy, f_chosen, f_truth, f_queued, f_pending, a_kinds, a_as, a_bs, a_yesTo, a_noTo, a_start, a_values, a_log, a_reached, a_raised, a_sets, a_strides, a_queue, a_stack, a_waiting, a_base, a_weights, a_origin, a_nextYes, a_nextNo, a_decided) => ∃ (N Bu P pr : Nat) (g : Nat → Nat → Nat) (a_path a_next b_reached b_raised b_sets : Nat → Int32), f_nodes = nI N ∧ f_budget = nI Bu ∧ f_printed = nI P ∧ f_present = nI pr ∧ v = (f_nodes, f_budget, f_chosen, f_present, f_printed, f_tests, f_jumps, a_kinds, a_as, a_bs, a_yesTo, a_noTo, a_start, a_values, a_log, a_path, a_next, b_reached, b_raised, b_sets) ∧
    cb_Bs N Bu P pr g a_kinds a_as a_bs a_yesTo a_noTo a_start a_values ∧ cb_M N pr g f_copy f_chosen a_raised a_sets a_strides a_base a_weights a_origin a_nextYes a_nextNo a_decided a_path b_reached b_raised b_sets
theorem i_up {k : Nat} {u : SX} {v : SY} (h : i_Rel k u v) : i_Rel (k + 5) u v := h
theorem cb_el {k : Nat} {u : SX} {v : SY} {Q : SX → SY → Prop}
    (h : ∀ (N Bu P pr : Nat) (g : Nat → Nat → Nat) (f_tests f_jumps f_copy f_chosen f_truth f_queued f_pending : Int32) (a_kinds a_as a_bs a_yesTo a_noTo a_start a_values a_log a_reached a_raised a_sets a_strides a_queue a_stack a_waiting a_base a_weights a_origin a_nextYes a_nextNo a_decided a_path a_next b_reached b_raised b_sets : Nat → Int32),
      cb_Bs N Bu P pr g a_kinds a_as a_bs a_yesTo a_noTo a_start a_values → cb_M N pr g f_copy f_chosen a_raised a_sets a_strides a_base a_weights a_origin a_nextYes a_nextNo a_decided a_path b_reached b_raised b_sets →
      Q (nI N, nI Bu, nI P, f_tests, f_jumps, nI pr, f_copy, f_chosen, f_truth, f_queued, f_pending, a_kinds, a_as, a_bs, a_yesTo, a_noTo, a_start, a_values, a_log, a_reached, a_raised, a_sets, a_strides, a_queue, a_stack, a_waiting, a_base, a_weights, a_origin, a_nextYes, a_nextNo, a_decided) (nI N, nI Bu, f_chosen, nI pr, nI P, f_tests, f_jumps, a_kinds, a_as, a_bs, a_yesTo, a_noTo, a_start, a_values, a_log, a_path, a_next, b_reached, b_raised, b_sets))
    (I : i_Rel k u v) : Q u v := by
  obtain ⟨f_nodes, f_budget, f_printed, f_tests, f_jumps, f_present, f_copy, f_chosen, f_truth, f_queued, f_pending, a_kinds, a_as, a_bs, a_yesTo, a_noTo, a_start, a_values, a_log, a_reached, a_raised, a_sets, a_strides, a_queue, a_stack, a_waiting, a_base, a_weights, a_origin, a_nextYes, a_nextNo, a_decided⟩ := u
  obtain ⟨N, Bu, P, pr, g, pa, ne, br, bra, bs, rfl, rfl, rfl, rfl, rfl, hB, hM⟩ := I
  exact h _ _ _ _ _ _ _ _ _ _ _ _ _ _ _ _ _ _ _ _ _ _ _ _ _ _ _ _ _ _ _ _ _ _ _ _ _ _ hB hM
variable {f_nodes f_budget f_printed f_tests f_jumps f_present f_copy f_chosen f_truth f_queued f_pending : Int32} {a_kinds a_as a_bs a_yesTo a_noTo a_start a_values a_log a_reached a_raised a_sets a_strides a_queue a_stack a_waiting a_base a_weights a_origin a_nextYes a_nextNo a_decided a_path a_next b_reached b_raised b_sets : Nat → Int32}
theorem cb_mk {k N Bu P pr : Nat} {g : Nat → Nat → Nat} (hB : cb_Bs N Bu P pr g a_kinds a_as a_bs a_yesTo a_noTo a_start a_values) (hM : cb_M N pr g f_copy f_chosen a_raised a_sets a_strides a_base a_weights a_origin a_nextYes a_nextNo a_decided a_path b_reached b_raised b_sets) :
    i_Rel k (nI N, nI Bu, nI P, f_tests, f_jumps, nI pr, f_copy, f_chosen, f_truth, f_queued, f_pending, a_kinds, a_as, a_bs, a_yesTo, a_noTo, a_start, a_values, a_log, a_reached, a_raised, a_sets, a_strides, a_queue, a_stack, a_waiting, a_base, a_weights, a_origin, a_nextYes, a_nextNo, a_decided) (nI N, nI Bu, f_chosen, nI pr, nI P, f_tests, f_jumps, a_kinds, a_as, a_bs, a_yesTo, a_noTo, a_start, a_values, a_log, a_path, a_next, b_reached, b_raised, b_sets) :=
  ⟨N, Bu, P, pr, g, a_path, a_next, b_reached, b_raised, b_sets, rfl, rfl, rfl, rfl, rfl, hB, hM⟩
end zwRel
end
section
/-! 15: one step of the machine -/
section ywLen
variable {N d : Nat} {g : Nat → Nat → Nat}
variable {f_nodes f_budget f_branch f_present f_printed f_tests f_jumps : Int32} {a_kinds a_as a_bs a_yesTo a_noTo a_start a_values a_log a_path a_next a_reached a_raised a_sets : Nat → Int32}
theorem cb_cp_lt {v s : Nat → Int32} : ∀ {i j : Nat}, j < i → cb_cp v s i j = s j
  | 0, _, h => absurd h (Nat.not_lt_zero _)
  | i + 1, j, h => by
    show upd (cb_cp v s i) i (s i) j = s j
    by_cases e : j = i
    · rw [e, cb_us]
    · rw [cb_un e]; exact cb_cp_lt (by omega)
/-- the path's answer behind the edge -/
def cb_nl (g : Nat → Nat → Nat) (d m s : Nat) (pa : Nat → Int32) (q : Nat) : Int32 := if cb_cr g d m s q < 32 then pa (cb_cr g d m s q) else nI (cb_cr g d m s q - 32)
theorem yw_len_59 (post : SY → Prop) (h : post (f_nodes, f_budget, f_branch, f_present, f_printed, f_tests, f_jumps, a_kinds, a_as, a_bs, a_yesTo, a_noTo, a_start, a_values, a_log, cb_cp a_path a_next 32, a_next, a_reached, a_raised, a_sets)) : ∀ k i, i + k = 32 → wY_lengthen_59 post f_nodes f_budget f_branch f_present f_printed f_tests f_jumps (k + 1) (nI i) a_kinds a_as a_bs a_yesTo a_noTo a_start a_values a_log (cb_cp a_path a_next i) a_next a_reached a_raised a_sets := by
  intro k
  induction k with
  | zero =>
    intro i hi
    obtain rfl : i = 32 := by omega
    exact br_t (by decide) h
  | succ k ih =>
    intro i hi
    have hin : vp_in (nI i) 32 := cb_in (by omega) (by omega)
    have hc : (nI i).toNatClampNeg = i := cb_cl (by omega)
    refine br_f (nI_ge (b := 32) (by omega) (by decide)) (And.intro hin (And.intro hin (nm_r (e' := cb_cp a_path a_next (i + 1)) ?_ (nm_r (nI_1 i) (ih (i + 1) (by omega))))))
    rw [hc]; rfl
theorem yw_len_2 (hG : cb_G N g) (hA : cb_Ar g a_kinds a_as a_bs a_yesTo a_noTo) (hd12 : d < 12) {m s : Nat} (hm : m < 12) (post : SY → Prop)
    (h : post (f_nodes, f_budget, nI d, f_present, f_printed, f_tests, f_jumps, a_kinds, a_as, a_bs, a_yesTo, a_noTo, a_start, a_values, a_log, cb_cp a_path (cb_cp a_next (cb_nl g d m s a_path) 32) 32, cb_cp a_next (cb_nl g d m s a_path) 32, a_reached, a_raised, a_sets)) :
    ∀ k i, i + k = 32 → wY_lengthen_2 post (nI m) (cb_bi (s == 0)) f_nodes f_budget (nI d) f_present f_printed f_tests f_jumps (k + 1) (nI i) a_kinds a_as a_bs a_yesTo a_noTo a_start a_values a_log a_path (cb_cp a_next (cb_nl g d m s a_path) i) a_reached a_raised a_sets := by
  intro k
  induction k with
  | zero =>
    intro i hi
    obtain rfl : i = 32 := by omega
    exact br_t (by decide) ⟨33, yw_len_59 (a_next := cb_cp a_next (cb_nl g d m s a_path) 32) post h 32 0 rfl⟩
  | succ k ih =>
    intro i hi
    have hin : vp_in (nI i) 32 := cb_in (by omega) (by omega)
    have hc : (nI i).toNatClampNeg = i := cb_cl (by omega)
    have ih' := ih (i + 1) (by omega)
    refine br_f (nI_ge (b := 32) (by omega) (by decide)) ?_
    rw [cb_sh3 (by omega), cb_and7 (by omega)]
    refine yw_cross hG hA hm hd12 (by omega) _ ?_
    rcases cb_cr_r hG d m s (q := i) (by omega) with hcr | ⟨a, ha, hcr⟩
    · have e : cb_nl g d m s a_path i = a_path (cb_cr g d m s i) := if_pos hcr
      rw [cb_ci_q hcr]
      refine br_t (nI_pos' (by omega)) (And.intro (cb_in hcr (by omega)) (And.intro hin (nm_r (e' := cb_cp a_next (cb_nl g d m s a_path) (i + 1)) ?_ (nm_r (nI_1 i) ih'))))
      rw [hc, cb_cl (n := cb_cr g d m s i) (by omega), ← e]; rfl
    · have ha8 := cb_A8 ha
      obtain ⟨n1, n2, n3⟩ := cb_neg ha8.2 (by omega : a < 64)
      have e : cb_nl g d m s a_path i = nI a := by unfold cb_nl; rw [if_neg (by omega), hcr, Nat.add_sub_cancel_left]
      rw [hcr, cb_ci_a]
      refine br_f n2 (And.intro hin (nm_r (e' := cb_cp a_next (cb_nl g d m s a_path) (i + 1)) ?_ (nm_r (nI_1 i) ih')))
      rw [hc, n3, ← e]; rfl
theorem yw_len (hG : cb_G N g) (hA : cb_Ar g a_kinds a_as a_bs a_yesTo a_noTo) (hd12 : d < 12) {m s : Nat} (hm : m < 12) (post : SY → Prop)
    (h : post (f_nodes, f_budget, nI d, f_present, f_printed, f_tests, f_jumps, a_kinds, a_as, a_bs, a_yesTo, a_noTo, a_start, a_values, a_log, cb_cp a_path (cb_cp a_next (cb_nl g d m s a_path) 32) 32, cb_cp a_next (cb_nl g d m s a_path) 32, a_reached, a_raised, a_sets)) : wpY_lengthen post (f_nodes, f_budget, nI d, f_present, f_printed, f_tests, f_jumps, a_kinds, a_as, a_bs, a_yesTo, a_noTo, a_start, a_values, a_log, a_path, a_next, a_reached, a_raised, a_sets) (nI m) (cb_bi (s == 0)) :=
  ⟨33, yw_len_2 hG hA hd12 hm post h 32 0 rfl⟩
/-- behind the edge: present -/
theorem yw_255 (hG : cb_G N g) (hA : cb_Ar g a_kinds a_as a_bs a_yesTo a_noTo) {m s : Nat} (hm : m < 12) (hs : s < 2) (ht : cb_tg g m s < 12) (post : SY → Prop) (h : post (f_nodes, f_budget, f_branch, nI (cb_tg g m s), f_printed, f_tests, f_jumps, a_kinds, a_as, a_bs, a_yesTo, a_noTo, a_start, a_values, a_log, a_path, a_next, a_reached, a_raised, a_sets)) : wY_step_255 post (nI m) (cb_bi (s == 0)) f_nodes f_budget f_branch f_present f_printed f_tests f_jumps a_kinds a_as a_bs a_yesTo a_noTo a_start a_values a_log a_path a_next a_reached a_raised a_sets := by
  have hi : vp_in (nI m) 12 := cb_in hm (by omega)
  have hc : (nI m).toNatClampNeg = m := cb_cl (by omega)
  obtain ⟨a0, a1, a2, a3, a4⟩ := hA m
  obtain rfl | rfl : s = 0 ∨ s = 1 := by omega
  · have t0 : cb_tg g m 0 = g 3 m := by
      unfold cb_tg at ht ⊢
      rw [if_pos rfl] at ht ⊢
      split at ht
      · omega
      · rw [if_neg (by assumption)]
    exact br_f (by decide) (And.intro hi (nm_r (e' := nI (cb_tg g m 0)) (by rw [hc, a3, t0]) h))
  · have t0 : cb_tg g m 1 = g 4 m := by
      unfold cb_tg at ht ⊢
      rw [if_neg (by omega)] at ht ⊢
      split at ht
      · omega
      · rw [if_neg (by assumption)]
    exact br_t (by decide) (And.intro hi (nm_r (e' := nI (cb_tg g m 1)) (by rw [hc, a4, t0]) h))
end ywLen
section xwFollow
variable {N d : Nat} {g : Nat → Nat → Nat}
variable {f_nodes f_budget f_printed f_tests f_jumps f_present f_copy f_chosen f_truth f_queued f_pending : Int32} {a_kinds a_as a_bs a_yesTo a_noTo a_start a_values a_log a_reached a_raised a_sets a_strides a_queue a_stack a_waiting a_base a_weights a_origin a_nextYes a_nextNo a_decided : Nat → Int32}
theorem xw_follow_p (hA : cb_Ar g a_kinds a_as a_bs a_yesTo a_noTo) {m s : Nat} (hm : m < 12) (hs : s < 2) (ht : cb_tg g m s < 12) (post : SX → Prop) (h : post (f_nodes, f_budget, f_printed, f_tests, f_jumps, nI (cb_tg g m s), f_copy, -1, f_truth, f_queued, f_pending, a_kinds, a_as, a_bs, a_yesTo, a_noTo, a_start, a_values, a_log, a_reached, a_raised, a_sets, a_strides, a_queue, a_stack, a_waiting, a_base, a_weights, a_origin, a_nextYes, a_nextNo, a_decided)) : wpX_follow post (f_nodes, f_budget, f_printed, f_tests, f_jumps, nI m, f_copy, -1, f_truth, f_queued, f_pending, a_kinds, a_as, a_bs, a_yesTo, a_noTo, a_start, a_values, a_log, a_reached, a_raised, a_sets, a_strides, a_queue, a_stack, a_waiting, a_base, a_weights, a_origin, a_nextYes, a_nextNo, a_decided) (nI s) := by
  have hi : vp_in (nI m) 12 := cb_in hm (by omega)
  have hc : (nI m).toNatClampNeg = m := cb_cl (by omega)
  obtain ⟨a0, a1, a2, a3, a4⟩ := hA m
  refine br_f (by decide) ?_
  obtain rfl | rfl : s = 0 ∨ s = 1 := by omega
  · have t0 : cb_tg g m 0 = g 3 m := by
      unfold cb_tg at ht ⊢
      rw [if_pos rfl] at ht ⊢
      split at ht
      · omega
      · rw [if_neg (by assumption)]
    exact br_t (by decide) (And.intro hi (nm_r (e' := nI (cb_tg g m 0)) (by rw [hc, a3, t0]) h))
  · have t0 : cb_tg g m 1 = g 4 m := by
      unfold cb_tg at ht ⊢
      rw [if_neg (by omega)] at ht ⊢
      split at ht
      · omega
      · rw [if_neg (by assumption)]
    exact br_f (by decide) (And.intro hi (nm_r (e' := nI (cb_tg g m 1)) (by rw [hc, a4, t0]) h))
theorem xw_follow_o (hG : cb_G N g) (hRd : cb_Rc g d) (hL : cb_bo g d N ≤ 64) (hO : cb_XO g d N a_origin) (hXN : cb_XN g d N (cb_bo g d N) a_nextYes a_nextNo a_decided) {m s x : Nat} (hm : cb_Rc g m) (hs : s < 2) (ht : cb_tg g m s < 12) (hx : x < cb_wt' g d m) (post : SX → Prop)
    (h : post (f_nodes, f_budget, f_printed, f_tests, f_jumps, nI (cb_tg g m s), nI (cb_bo g d (cb_tg g m s) + cb_vl (cb_z g d (cb_tg g m s)) (cb_e g d m s x) 32), nI d, f_truth, f_queued, f_pending, a_kinds, a_as, a_bs, a_yesTo, a_noTo, a_start, a_values, a_log, a_reached, a_raised, a_sets, a_strides, a_queue, a_stack, a_waiting, a_base, a_weights, a_origin, a_nextYes, a_nextNo, a_decided)) : wpX_follow post (f_nodes, f_budget, f_printed, f_tests, f_jumps, nI m, nI (cb_bo g d m + x), nI d, f_truth, f_queued, f_pending, a_kinds, a_as, a_bs, a_yesTo, a_noTo, a_start, a_values, a_log, a_reached, a_raised, a_sets, a_strides, a_queue, a_stack, a_waiting, a_base, a_weights, a_origin, a_nextYes, a_nextNo, a_decided) (nI s) := by
  have hN12 := hG.2.1
  have hmN := cb_Rc_N hG hm
  have hdN := cb_Rc_N hG hRd
  have w1 := cb_wt64 hL hmN
  have htN := cb_tgN hG ht
  have w2 := cb_wt64 hL htN
  have hx' := cb_e_wt (x := x) hG hRd hm hs ht
  have hlk : cb_lk g d m s x = cb_bo g d (cb_tg g m s) + cb_vl (cb_z g d (cb_tg g m s)) (cb_e g d m s x) 32 := if_pos ht
  have hbo : cb_bo g d m + cb_wt' g d m ≤ cb_bo g d N := cb_sm_pre (f := cb_wt' g d) hmN
  obtain ⟨n1, n2, n3⟩ := hXN m hmN x hx (by omega)
  have ho := hO _ htN _ hx'
  have hi : vp_in (nI (cb_bo g d m + x)) 64 := cb_in (by omega) (by omega)
  have hc : (nI (cb_bo g d m + x)).toNatClampNeg = cb_bo g d m + x := cb_cl (by omega)
  refine br_t (nI_pos' (by omega)) ?_
  have tail : wX_follow_65 post (nI (cb_lk g d m s x)) f_nodes f_budget f_printed f_tests f_jumps (nI m) (nI (cb_bo g d m + x)) (nI d) f_truth f_queued f_pending a_kinds a_as a_bs a_yesTo a_noTo a_start a_values a_log a_reached a_raised a_sets a_strides a_queue a_stack a_waiting a_base a_weights a_origin a_nextYes a_nextNo a_decided := by
    rw [hlk]
    exact And.intro (cb_in (by omega) (by omega)) (nm_r (e' := nI (cb_tg g m s)) (by rw [cb_cl (by omega)]; exact ho) h)
  obtain rfl | rfl : s = 0 ∨ s = 1 := by omega
  · refine br_t (by decide) (And.intro hi ?_)
    rw [hc, n1]; exact tail
  · refine br_f (by decide) (And.intro hi ?_)
    rw [hc, n2]; exact tail
end xwFollow
section zwTail
variable {N Bu P pr : Nat} {g : Nat → Nat → Nat}
variable {f_nodes f_budget f_printed f_tests f_jumps f_present f_copy f_chosen f_truth f_queued f_pending : Int32} {a_kinds a_as a_bs a_yesTo a_noTo a_start a_values a_log a_reached a_raised a_sets a_strides a_queue a_stack a_waiting a_base a_weights a_origin a_nextYes a_nextNo a_decided a_path a_next b_reached b_raised b_sets : Nat → Int32}
/-- the edge of side s is walked on both sides -/
theorem zw_tail (hB : cb_Bs N Bu P pr g a_kinds a_as a_bs a_yesTo a_noTo a_start a_values) (hM : cb_M N pr g f_copy f_chosen a_raised a_sets a_strides a_base a_weights a_origin a_nextYes a_nextNo a_decided a_path b_reached b_raised b_sets) {s : Nat} (hs : s < 2) (ht : cb_tg g pr s < 12) :
    ∃ (u' : SX) (v' : SY), i_Rel 0 u' v' ∧ (∀ post : SX → Prop, post u' → wX_step_62 post (nI s) (nI N) (nI Bu) (nI P) f_tests f_jumps (nI pr) f_copy f_chosen f_truth f_queued f_pending a_kinds a_as a_bs a_yesTo a_noTo a_start a_values a_log a_reached a_raised a_sets a_strides a_queue a_stack a_waiting a_base a_weights a_origin a_nextYes a_nextNo a_decided) ∧ (∀ post : SY → Prop, post v' → wY_step_241 post (nI pr) (cb_bi (s == 0)) (nI N) (nI Bu) f_chosen (nI pr) (nI P) f_tests f_jumps a_kinds a_as a_bs a_yesTo a_noTo a_start a_values a_log a_path a_next b_reached b_raised b_sets) := by
  obtain ⟨hG, hA, hBu, hP, hpr, hst, hva⟩ := hB
  have hN12 := hG.2.1
  have htN := cb_tgN hG ht
  rcases hM with e | ⟨d, x, e, hO, hC⟩
  · subst e
    refine ⟨(nI N, nI Bu, nI P, f_tests, f_jumps, nI (cb_tg g pr s), f_copy, -1, f_truth, f_queued, f_pending, a_kinds, a_as, a_bs, a_yesTo, a_noTo, a_start, a_values, a_log, a_reached, a_raised, a_sets, a_strides, a_queue, a_stack, a_waiting, a_base, a_weights, a_origin, a_nextYes, a_nextNo, a_decided), (nI N, nI Bu, -1, nI (cb_tg g pr s), nI P, f_tests, f_jumps, a_kinds, a_as, a_bs, a_yesTo, a_noTo, a_start, a_values, a_log, a_path, a_next, b_reached, b_raised, b_sets), cb_mk (g := g) ⟨hG, hA, hBu, hP, htN, hst, hva⟩ (.inl rfl), fun post h => ?_, fun post h => ?_⟩
    · exact xw_follow_p hA (by omega) hs ht _ h
    · exact br_t (by decide) (yw_255 hG hA (by omega) hs ht _ h)
  · subst e
    obtain ⟨hdN, hd, hRd, hXQ, hXL, hXO, hXN, hre, hYQ⟩ := hO
    obtain ⟨hc1, hx, hpa⟩ := hC
    subst hc1
    have hR : cb_Rc g pr := Classical.byContradiction fun z => by rw [cb_wt_f z] at hx; omega
    refine ⟨(nI N, nI Bu, nI P, f_tests, f_jumps, nI (cb_tg g pr s), nI (cb_bo g d (cb_tg g pr s) + cb_vl (cb_z g d (cb_tg g pr s)) (cb_e g d pr s x) 32), nI d, f_truth, f_queued, f_pending, a_kinds, a_as, a_bs, a_yesTo, a_noTo, a_start, a_values, a_log, a_reached, a_raised, a_sets, a_strides, a_queue, a_stack, a_waiting, a_base, a_weights, a_origin, a_nextYes, a_nextNo, a_decided), (nI N, nI Bu, nI d, nI (cb_tg g pr s), nI P, f_tests, f_jumps, a_kinds, a_as, a_bs, a_yesTo, a_noTo, a_start, a_values, a_log, cb_cp a_path (cb_cp a_next (cb_nl g d pr s a_path) 32) 32, cb_cp a_next (cb_nl g d pr s a_path) 32, b_reached, b_raised, b_sets), cb_mk (g := g) ⟨hG, hA, hBu, hP, htN, hst, hva⟩ (.inr ⟨d, _, rfl, ⟨hdN, hd, hRd, hXQ, hXL, hXO, hXN, hre, hYQ⟩, rfl, cb_e_wt hG hRd hR hs ht, fun q hq => ?_⟩), fun post h => ?_, fun post h => ?_⟩
    · obtain ⟨_, hq32⟩ := cb_Rq_R hG hRd hq
      rw [cb_cp_lt hq32, cb_cp_lt hq32, cb_e_an hG hRd hR hs ht hq]
      unfold cb_nl cb_nx
      by_cases hcr : cb_cr g d pr s q < 32
      · rw [if_pos hcr, if_pos hcr]
        exact hpa _ (cb_Rq_s hR hs ht hq32 hq hcr)
      · rw [if_neg hcr, if_neg hcr]
    · exact xw_follow_o hG hRd hXL.1 hXO hXN hR hs ht hx _ h
    · exact br_f (nI_pos (by omega)) (yw_len hG hA (by omega) (by omega) _ (yw_255 hG hA (by omega) hs ht _ h))
end zwTail
end
section
/-! 16: the machine: step and run -/
section ywStep
variable {N pr : Nat} {g : Nat → Nat → Nat}
variable {f_nodes f_budget f_branch f_present f_printed f_tests f_jumps : Int32} {a_kinds a_as a_bs a_yesTo a_noTo a_start a_values a_log a_path a_next a_reached a_raised a_sets : Nat → Int32}
theorem yw_155_n (hG : cb_G N g) (hA : cb_Ar g a_kinds a_as a_bs a_yesTo a_noTo) (hpr : pr < 12) (hk : g 0 pr < 6) {x3 x5 : Int32} (post : SY → Prop) (h : wY_step_241 post (nI pr) x5 f_nodes f_budget f_branch f_present f_printed f_tests f_jumps a_kinds a_as a_bs a_yesTo a_noTo a_start a_values a_log a_path a_next a_reached a_raised a_sets) : wY_step_155 post (nI pr) x3 x5 f_nodes f_budget f_branch f_present f_printed f_tests f_jumps a_kinds a_as a_bs a_yesTo a_noTo a_start a_values a_log a_path a_next a_reached a_raised a_sets :=
  yw_isTest hG hA hpr _ (ek_if cb_bi_0 (fun _ => h) (fun w => absurd (decide_eq_false (by omega)) w))
theorem yw_69_n {k : Nat} (hk : k < 8) (h2 : k ≠ 2) (h3 : k ≠ 3) (h4 : k ≠ 4) (h5 : k ≠ 5) {x1 x3 x4 x5 : Int32} (post : SY → Prop) (h : wY_step_155 post x1 x3 x5 f_nodes f_budget f_branch f_present f_printed f_tests f_jumps a_kinds a_as a_bs a_yesTo a_noTo a_start a_values a_log a_path a_next a_reached a_raised a_sets) : wY_step_69 post x1 (nI k) x3 x4 x5 f_nodes f_budget f_branch f_present f_printed f_tests f_jumps a_kinds a_as a_bs a_yesTo a_noTo a_start a_values a_log a_path a_next a_reached a_raised a_sets :=
  pk_eq k 2 (fun z => absurd z h2) fun _ => pk_eq k 3 (fun z => absurd z h3) fun _ => pk_eq k 4 (fun z => absurd z h4) fun _ => pk_eq k 5 (fun z => absurd z h5) fun _ => h
theorem yw_step_0 (hG : cb_G N g) (hA : cb_Ar g a_kinds a_as a_bs a_yesTo a_noTo) (hpr : pr < 12) (hk : g 0 pr ≠ 1) (post : SY → Prop) (h : wY_step_69 post (nI pr) (nI (g 0 pr)) (nI (g 1 pr)) (nI (g 2 pr)) 1 f_nodes f_budget f_branch (nI pr) f_printed f_tests f_jumps a_kinds a_as a_bs a_yesTo a_noTo a_start a_values a_log a_path a_next a_reached a_raised a_sets) : wpY_step post (f_nodes, f_budget, f_branch, nI pr, f_printed, f_tests, f_jumps, a_kinds, a_as, a_bs, a_yesTo, a_noTo, a_start, a_values, a_log, a_path, a_next, a_reached, a_raised, a_sets) := by
  have hi : vp_in (nI pr) 12 := cb_in hpr (by omega)
  have hc : (nI pr).toNatClampNeg = pr := cb_cl (by omega)
  obtain ⟨a0, a1, a2, a3, a4⟩ := hA pr
  have hg := hG.2.2 pr
  exact And.intro hi (nm_r (e' := nI (g 0 pr)) (by rw [hc, a0]) (And.intro hi (nm_r (e' := nI (g 1 pr)) (by rw [hc, a1]) (And.intro hi (nm_r (e' := nI (g 2 pr)) (by rw [hc, a2]) (pk_eq (g 0 pr) 1 (fun z => absurd z hk) fun _ => h))))))
theorem yw_184 (hG : cb_G N g) (hA : cb_Ar g a_kinds a_as a_bs a_yesTo a_noTo) (hpr : pr < 12) {x : Nat} (hx : x < 8) (hv : a_values (g 1 pr) = nI x) (post : SY → Prop) (h : wY_step_241 post (nI pr) (cb_bi (cb_hd (g 0 pr) (g 2 pr) x)) f_nodes f_budget f_branch f_present f_printed (f_tests + 1) f_jumps a_kinds a_as a_bs a_yesTo a_noTo a_start a_values a_log a_path a_next a_reached a_raised a_sets) : wY_step_184 post (nI pr) (nI (g 1 pr)) 4 f_nodes f_budget f_branch f_present f_printed f_tests f_jumps a_kinds a_as a_bs a_yesTo a_noTo a_start a_values a_log a_path a_next a_reached a_raised a_sets := by
  have hg := hG.2.2 pr
  refine br_t rfl (nm_e (And.intro (cb_in hg.2.1 (by omega)) ?_))
  rw [cb_cl (by omega), hv]
  exact yw_holds hG hA hpr (by omega) _ h
end ywStep
section xwStep
variable {N pr : Nat} {g : Nat → Nat → Nat}
variable {f_nodes f_budget f_printed f_tests f_jumps f_present f_copy f_chosen f_truth f_queued f_pending : Int32} {a_kinds a_as a_bs a_yesTo a_noTo a_start a_values a_log a_reached a_raised a_sets a_strides a_queue a_stack a_waiting a_base a_weights a_origin a_nextYes a_nextNo a_decided : Nat → Int32}
theorem xw_53 (hG : cb_G N g) (hA : cb_Ar g a_kinds a_as a_bs a_yesTo a_noTo) (hpr : pr < 12) (hk : 6 ≤ g 0 pr) {x : Nat} (hx : x < 8) (hv : a_values (g 1 pr) = nI x) (post : Int32 → SX → Prop) (h : post (nI (if cb_hd (g 0 pr) (g 2 pr) x then 0 else 1)) (f_nodes, f_budget, f_printed, f_tests + 1, f_jumps, nI pr, f_copy, f_chosen, f_truth, f_queued, f_pending, a_kinds, a_as, a_bs, a_yesTo, a_noTo, a_start, a_values, a_log, a_reached, a_raised, a_sets, a_strides, a_queue, a_stack, a_waiting, a_base, a_weights, a_origin, a_nextYes, a_nextNo, a_decided)) : wX_branch_53 post f_nodes f_budget f_printed f_tests f_jumps (nI pr) f_copy f_chosen f_truth f_queued f_pending a_kinds a_as a_bs a_yesTo a_noTo a_start a_values a_log a_reached a_raised a_sets a_strides a_queue a_stack a_waiting a_base a_weights a_origin a_nextYes a_nextNo a_decided := by
  have hi : vp_in (nI pr) 12 := cb_in hpr (by omega)
  have hc : (nI pr).toNatClampNeg = pr := cb_cl (by omega)
  obtain ⟨a0, a1, a2, a3, a4⟩ := hA pr
  have hg := hG.2.2 pr
  refine nm_e (xw_testMask hG hA hpr _ (And.intro hi ?_))
  rw [hc, a1]
  refine And.intro (cb_in hg.2.1 (by omega)) ?_
  rw [cb_cl (n := g 1 pr) (by omega), hv]
  obtain ⟨i, hi2, e⟩ : ∃ i, i < 2 ∧ g 0 pr = 6 + i := ⟨g 0 pr - 6, by omega, by omega⟩
  refine ek_if (d := cb_hd (g 0 pr) (g 2 pr) x = false) (by rw [e]; exact cb_set i hi2 _ hg.2.2.1 _ hx) (fun y => ?_) (fun y => ?_)
  · rw [if_neg (by rw [y]; decide)] at h; exact h
  · rw [if_pos (Bool.not_eq_false _ ▸ y)] at h; exact h
end xwStep
section zwStep
variable {N Bu P pr : Nat} {g : Nat → Nat → Nat}
variable {f_nodes f_budget f_printed f_tests f_jumps f_present f_copy f_chosen f_truth f_queued f_pending : Int32} {a_kinds a_as a_bs a_yesTo a_noTo a_start a_values a_log a_reached a_raised a_sets a_strides a_queue a_stack a_waiting a_base a_weights a_origin a_nextYes a_nextNo a_decided a_path a_next b_reached b_raised b_sets : Nat → Int32}
theorem cb_vr {v : Nat → Int32} {w : Int32} {i : Nat} (h : ∀ j, ∃ x, x < 8 ∧ v j = nI x) (hw : ∃ x, x < 8 ∧ w = nI x) : ∀ j, ∃ x, x < 8 ∧ upd v i w j = nI x := by
  intro j
  by_cases e : j = i
  · rw [e, cb_us]; exact hw
  · rw [cb_un e]; exact h j
theorem cb_a7 (w : Int32) : ∃ x, x < 8 ∧ w &&& 7 = nI x := pk_andE w 3 (by decide)
theorem cb_and3 {q : Nat} (h : q < 2 ^ 31) : nI q &&& 3 = nI (q % 4) := pk_andN (by omega) 2 (by decide)
theorem cb_tg0 (hG : cb_G N g) (hk : g 0 pr ≠ 0) : cb_tg g pr 0 < 12 := by
  have := hG.2.2 pr
  have := hG.2.1
  unfold cb_tg
  rw [if_pos rfl, if_neg hk]
  omega
theorem cb_tg1 (hG : cb_G N g) (hk : 6 ≤ g 0 pr) : cb_tg g pr 1 < 12 := by
  have := hG.2.2 pr
  have := hG.2.1
  unfold cb_tg
  rw [if_neg (by omega), if_neg (by omega)]
  omega
/-- PRINT -/
theorem zw_step1 (hB : cb_Bs N Bu P pr g a_kinds a_as a_bs a_yesTo a_noTo a_start a_values) (hM : cb_M N pr g f_copy f_chosen a_raised a_sets a_strides a_base a_weights a_origin a_nextYes a_nextNo a_decided a_path b_reached b_raised b_sets) (hk : g 0 pr = 1) (hP : P < 32) :
    ∃ (u' : SX) (v' : SY), i_Rel 0 u' v' ∧ (∀ post : SX → Prop, post u' → wpX_step post (nI N, nI Bu, nI P, f_tests, f_jumps, nI pr, f_copy, f_chosen, f_truth, f_queued, f_pending, a_kinds, a_as, a_bs, a_yesTo, a_noTo, a_start, a_values, a_log, a_reached, a_raised, a_sets, a_strides, a_queue, a_stack, a_waiting, a_base, a_weights, a_origin, a_nextYes, a_nextNo, a_decided)) ∧ (∀ post : SY → Prop, post v' → wpY_step post (nI N, nI Bu, f_chosen, nI pr, nI P, f_tests, f_jumps, a_kinds, a_as, a_bs, a_yesTo, a_noTo, a_start, a_values, a_log, a_path, a_next, b_reached, b_raised, b_sets)) := by
  have hG := hB.1
  have hA := hB.2.1
  have hpr := hB.2.2.2.2.1
  have hN12 := hG.2.1
  have hi : vp_in (nI pr) 12 := cb_in (by omega) (by omega)
  have hc : (nI pr).toNatClampNeg = pr := cb_cl (by omega)
  obtain ⟨a0, a1, a2, a3, a4⟩ := hA pr
  have hg := hG.2.2 pr
  have k0 : a_kinds (nI pr).toNatClampNeg = nI 1 := by rw [hc, a0, hk]
  have k1 : a_as (nI pr).toNatClampNeg = nI (g 1 pr) := by rw [hc, a1]
  have k2 : a_bs (nI pr).toNatClampNeg = nI (g 2 pr) := by rw [hc, a2]
  have l1 : (nI (g 1 pr)).toNatClampNeg = g 1 pr := cb_cl (by omega)
  have lP : (nI P).toNatClampNeg = P := cb_cl (by omega)
  have iP : vp_in (nI P) 32 := cb_in hP (by omega)
  have i1 : vp_in (nI (g 1 pr)) 4 := cb_in hg.2.1 (by omega)
  obtain ⟨u', v', hR, hX, hY⟩ := zw_tail (P := P + 1) (f_tests := f_tests) (f_jumps := f_jumps) (f_truth := f_truth) (f_queued := f_queued) (f_pending := f_pending) (a_log := upd a_log P (a_values (g 1 pr))) (a_reached := a_reached) (a_queue := a_queue) (a_stack := a_stack) (a_waiting := a_waiting) (a_next := a_next) (s := 0) ⟨hG, hA, hB.2.2.1, hP, hpr, hB.2.2.2.2.2⟩ hM (by omega) (cb_tg0 hG (by omega))
  refine ⟨u', v', hR, fun post h => ?_, fun post h => ?_⟩
  · refine And.intro hi (br_t (by rw [k0]; decide) (And.intro hi (br_t k0 (And.intro hi ?_))))
    rw [k1]
    refine And.intro i1 (br_f (nI_ge (b := 32) hP (by decide)) (And.intro iP (nm_r (e' := upd a_log P (a_values (g 1 pr))) (by rw [lP, l1]) (nm_r (nI_1 P) ?_))))
    exact hX post h
  · refine And.intro hi (nm_r k0 (And.intro hi (nm_r k1 (And.intro hi (nm_r k2 (br_t rfl (br_f (nI_ge (b := 32) hP (by decide)) (And.intro i1 (And.intro iP (nm_r (e' := upd a_log P (a_values (g 1 pr))) (by rw [lP, l1]) (nm_r (nI_1 P) ?_)))))))))))
    refine yw_69_n (by omega) (by omega) (by omega) (by omega) (by omega) post (yw_155_n hG hA (by omega) (by omega) post ?_)
    exact hY post h
/-- SET, COPY, ADD, MIX: the new value w -/
theorem zw_step2 (hB : cb_Bs N Bu P pr g a_kinds a_as a_bs a_yesTo a_noTo a_start a_values) (hM : cb_M N pr g f_copy f_chosen a_raised a_sets a_strides a_base a_weights a_origin a_nextYes a_nextNo a_decided a_path b_reached b_raised b_sets) (hk : 2 ≤ g 0 pr ∧ g 0 pr ≤ 5) :
    ∃ (u' : SX) (v' : SY), i_Rel 0 u' v' ∧ (∀ post : SX → Prop, post u' → wpX_step post (nI N, nI Bu, nI P, f_tests, f_jumps, nI pr, f_copy, f_chosen, f_truth, f_queued, f_pending, a_kinds, a_as, a_bs, a_yesTo, a_noTo, a_start, a_values, a_log, a_reached, a_raised, a_sets, a_strides, a_queue, a_stack, a_waiting, a_base, a_weights, a_origin, a_nextYes, a_nextNo, a_decided)) ∧ (∀ post : SY → Prop, post v' → wpY_step post (nI N, nI Bu, f_chosen, nI pr, nI P, f_tests, f_jumps, a_kinds, a_as, a_bs, a_yesTo, a_noTo, a_start, a_values, a_log, a_path, a_next, b_reached, b_raised, b_sets)) := by
  have hG := hB.1
  have hA := hB.2.1
  have hpr := hB.2.2.2.2.1
  have hva := hB.2.2.2.2.2.2
  have hN12 := hG.2.1
  have hi : vp_in (nI pr) 12 := cb_in (by omega) (by omega)
  have hc : (nI pr).toNatClampNeg = pr := cb_cl (by omega)
  obtain ⟨a0, a1, a2, a3, a4⟩ := hA pr
  have hg := hG.2.2 pr
  have k0 : a_kinds (nI pr).toNatClampNeg = nI (g 0 pr) := by rw [hc, a0]
  have k1 : a_as (nI pr).toNatClampNeg = nI (g 1 pr) := by rw [hc, a1]
  have k2 : a_bs (nI pr).toNatClampNeg = nI (g 2 pr) := by rw [hc, a2]
  have l1 : (nI (g 1 pr)).toNatClampNeg = g 1 pr := cb_cl (by omega)
  have i1 : vp_in (nI (g 1 pr)) 4 := cb_in hg.2.1 (by omega)
  have e3 : nI (g 2 pr) &&& 3 = nI (g 2 pr % 4) := cb_and3 (by omega)
  have i3 : vp_in (nI (g 2 pr) &&& 3) 4 := by rw [e3]; exact cb_in (by omega) (by omega)
  have main : ∀ w : Int32, (∃ x, x < 8 ∧ w = nI x) →
      (∀ post : SX → Prop, post (nI N, nI Bu, nI P, f_tests, f_jumps, nI pr, f_copy, f_chosen, f_truth, f_queued, f_pending, a_kinds, a_as, a_bs, a_yesTo, a_noTo, a_start, upd a_values (g 1 pr) w, a_log, a_reached, a_raised, a_sets, a_strides, a_queue, a_stack, a_waiting, a_base, a_weights, a_origin, a_nextYes, a_nextNo, a_decided) → wpX_assign post (nI N, nI Bu, nI P, f_tests, f_jumps, nI pr, f_copy, f_chosen, f_truth, f_queued, f_pending, a_kinds, a_as, a_bs, a_yesTo, a_noTo, a_start, a_values, a_log, a_reached, a_raised, a_sets, a_strides, a_queue, a_stack, a_waiting, a_base, a_weights, a_origin, a_nextYes, a_nextNo, a_decided)) →
      (∀ post : SY → Prop, wY_step_155 post (nI pr) (nI (g 1 pr)) 1 (nI N) (nI Bu) f_chosen (nI pr) (nI P) f_tests f_jumps a_kinds a_as a_bs a_yesTo a_noTo a_start (upd a_values (g 1 pr) w) a_log a_path a_next b_reached b_raised b_sets → wY_step_69 post (nI pr) (nI (g 0 pr)) (nI (g 1 pr)) (nI (g 2 pr)) 1 (nI N) (nI Bu) f_chosen (nI pr) (nI P) f_tests f_jumps a_kinds a_as a_bs a_yesTo a_noTo a_start a_values a_log a_path a_next b_reached b_raised b_sets) →
      ∃ (u' : SX) (v' : SY), i_Rel 0 u' v' ∧ (∀ post : SX → Prop, post u' → wpX_step post (nI N, nI Bu, nI P, f_tests, f_jumps, nI pr, f_copy, f_chosen, f_truth, f_queued, f_pending, a_kinds, a_as, a_bs, a_yesTo, a_noTo, a_start, a_values, a_log, a_reached, a_raised, a_sets, a_strides, a_queue, a_stack, a_waiting, a_base, a_weights, a_origin, a_nextYes, a_nextNo, a_decided)) ∧ (∀ post : SY → Prop, post v' → wpY_step post (nI N, nI Bu, f_chosen, nI pr, nI P, f_tests, f_jumps, a_kinds, a_as, a_bs, a_yesTo, a_noTo, a_start, a_values, a_log, a_path, a_next, b_reached, b_raised, b_sets)) := by
    intro w hw hXa hYa
    obtain ⟨u', v', hR, hX, hY⟩ := zw_tail (P := P) (f_tests := f_tests) (f_jumps := f_jumps) (f_truth := f_truth) (f_queued := f_queued) (f_pending := f_pending) (a_log := a_log) (a_reached := a_reached) (a_queue := a_queue) (a_stack := a_stack) (a_waiting := a_waiting) (a_next := a_next) (a_values := upd a_values (g 1 pr) w) (s := 0) ⟨hG, hA, hB.2.2.1, hB.2.2.2.1, hpr, hB.2.2.2.2.2.1, cb_vr hva hw⟩ hM (by omega) (cb_tg0 hG (by omega))
    refine ⟨u', v', hR, fun post h => ?_, fun post h => ?_⟩
    · refine And.intro hi (br_t (by rw [k0]; exact nI_lt (b := 6) (by omega) (by decide)) (And.intro hi (br_f (by rw [k0]; exact fun z => absurd ((nI_eq (b := 1) (by omega) (by decide)).mp z) (by omega)) (hXa _ ?_))))
      exact hX post h
    · exact yw_step_0 hG hA (by omega) (by omega) post (hYa post (yw_155_n hG hA (by omega) (by omega) post (hY post h)))
  obtain z | z | z | z : g 0 pr = 2 ∨ g 0 pr = 3 ∨ g 0 pr = 4 ∨ g 0 pr = 5 := by omega
  · refine main (nI (g 2 pr)) ⟨_, hg.2.2.1, rfl⟩ (fun post h => ?_) (fun post h => ?_)
    · exact And.intro hi (nm_r k1 (And.intro hi (nm_r k2 (And.intro hi (nm_r k0 (pk_lt (g 0 pr) 2 (fun y => by omega) fun _ => pk_lt 5 (g 0 pr) (fun y => by omega) fun _ => pk_eq (g 0 pr) 2 (fun _ => And.intro i1 (nm_r (e' := upd a_values (g 1 pr) (nI (g 2 pr))) (by rw [l1]) h)) fun y => absurd z y))))))
    · exact pk_eq (g 0 pr) 2 (fun _ => And.intro i1 (nm_r (e' := upd a_values (g 1 pr) (nI (g 2 pr))) (by rw [l1]) (pk_eq (g 0 pr) 3 (fun y => by omega) fun _ => pk_eq (g 0 pr) 4 (fun y => by omega) fun _ => pk_eq (g 0 pr) 5 (fun y => by omega) fun _ => h))) fun y => absurd z y
  · refine main (a_values (nI (g 2 pr) &&& 3).toNatClampNeg) (hva _) (fun post h => ?_) (fun post h => ?_)
    · exact And.intro hi (nm_r k1 (And.intro hi (nm_r k2 (And.intro hi (nm_r k0 (pk_lt (g 0 pr) 2 (fun y => by omega) fun _ => pk_lt 5 (g 0 pr) (fun y => by omega) fun _ => pk_eq (g 0 pr) 2 (fun y => by omega) fun _ => pk_eq (g 0 pr) 3 (fun _ => And.intro i3 (And.intro i1 (nm_r (e' := upd a_values (g 1 pr) (a_values (nI (g 2 pr) &&& 3).toNatClampNeg)) (by rw [l1]) h))) fun y => absurd z y))))))
    · exact pk_eq (g 0 pr) 2 (fun y => by omega) fun _ => pk_eq (g 0 pr) 3 (fun _ => And.intro i3 (And.intro i1 (nm_r (e' := upd a_values (g 1 pr) (a_values (nI (g 2 pr) &&& 3).toNatClampNeg)) (by rw [l1]) (pk_eq (g 0 pr) 4 (fun y => by omega) fun _ => pk_eq (g 0 pr) 5 (fun y => by omega) fun _ => h)))) fun y => absurd z y
  · refine main ((a_values (g 1 pr) + nI (g 2 pr)) &&& 7) (cb_a7 _) (fun post h => ?_) (fun post h => ?_)
    · exact And.intro hi (nm_r k1 (And.intro hi (nm_r k2 (And.intro hi (nm_r k0 (pk_lt (g 0 pr) 2 (fun y => by omega) fun _ => pk_lt 5 (g 0 pr) (fun y => by omega) fun _ => pk_eq (g 0 pr) 2 (fun y => by omega) fun _ => pk_eq (g 0 pr) 3 (fun y => by omega) fun _ => pk_eq (g 0 pr) 4 (fun _ => And.intro i1 (And.intro i1 (nm_r (e' := upd a_values (g 1 pr) ((a_values (g 1 pr) + nI (g 2 pr)) &&& 7)) (by rw [l1]) h))) fun y => absurd z y))))))
    · exact pk_eq (g 0 pr) 2 (fun y => by omega) fun _ => pk_eq (g 0 pr) 3 (fun y => by omega) fun _ => pk_eq (g 0 pr) 4 (fun _ => And.intro i1 (And.intro i1 (nm_r (e' := upd a_values (g 1 pr) ((a_values (g 1 pr) + nI (g 2 pr)) &&& 7)) (by rw [l1]) (pk_eq (g 0 pr) 5 (fun y => by omega) fun _ => h)))) fun y => absurd z y
  · refine main ((a_values (g 1 pr) + a_values (nI (g 2 pr) &&& 3).toNatClampNeg) &&& 7) (cb_a7 _) (fun post h => ?_) (fun post h => ?_)
    · exact And.intro hi (nm_r k1 (And.intro hi (nm_r k2 (And.intro hi (nm_r k0 (pk_lt (g 0 pr) 2 (fun y => by omega) fun _ => pk_lt 5 (g 0 pr) (fun y => by omega) fun _ => pk_eq (g 0 pr) 2 (fun y => by omega) fun _ => pk_eq (g 0 pr) 3 (fun y => by omega) fun _ => pk_eq (g 0 pr) 4 (fun y => by omega) fun _ => pk_eq (g 0 pr) 5 (fun _ => And.intro i1 (And.intro i3 (And.intro i1 (nm_r (e' := upd a_values (g 1 pr) ((a_values (g 1 pr) + a_values (nI (g 2 pr) &&& 3).toNatClampNeg) &&& 7)) (by rw [l1]) h)))) fun y => absurd z y))))))
    · exact pk_eq (g 0 pr) 2 (fun y => by omega) fun _ => pk_eq (g 0 pr) 3 (fun y => by omega) fun _ => pk_eq (g 0 pr) 4 (fun y => by omega) fun _ => pk_eq (g 0 pr) 5 (fun _ => And.intro i1 (And.intro i3 (And.intro i1 (nm_r (e' := upd a_values (g 1 pr) ((a_values (g 1 pr) + a_values (nI (g 2 pr) &&& 3).toNatClampNeg) &&& 7)) (by rw [l1]) h)))) fun y => absurd z y
/-- EQ, LT -/
theorem zw_step6 (hB : cb_Bs N Bu P pr g a_kinds a_as a_bs a_yesTo a_noTo a_start a_values) (hM : cb_M N pr g f_copy f_chosen a_raised a_sets a_strides a_base a_weights a_origin a_nextYes a_nextNo a_decided a_path b_reached b_raised b_sets) (hk : 6 ≤ g 0 pr) :
    ∃ (u' : SX) (v' : SY), i_Rel 0 u' v' ∧ (∀ post : SX → Prop, post u' → wpX_step post (nI N, nI Bu, nI P, f_tests, f_jumps, nI pr, f_copy, f_chosen, f_truth, f_queued, f_pending, a_kinds, a_as, a_bs, a_yesTo, a_noTo, a_start, a_values, a_log, a_reached, a_raised, a_sets, a_strides, a_queue, a_stack, a_waiting, a_base, a_weights, a_origin, a_nextYes, a_nextNo, a_decided)) ∧ (∀ post : SY → Prop, post v' → wpY_step post (nI N, nI Bu, f_chosen, nI pr, nI P, f_tests, f_jumps, a_kinds, a_as, a_bs, a_yesTo, a_noTo, a_start, a_values, a_log, a_path, a_next, b_reached, b_raised, b_sets)) := by
  have hG := hB.1
  have hA := hB.2.1
  have hpr := hB.2.2.2.2.1
  have hva := hB.2.2.2.2.2.2
  have hN12 := hG.2.1
  have hi : vp_in (nI pr) 12 := cb_in (by omega) (by omega)
  have hc : (nI pr).toNatClampNeg = pr := cb_cl (by omega)
  obtain ⟨a0, a1, a2, a3, a4⟩ := hA pr
  have hg := hG.2.2 pr
  have k0 : a_kinds (nI pr).toNatClampNeg = nI (g 0 pr) := by rw [hc, a0]
  have k6 : ¬ a_kinds (nI pr).toNatClampNeg < 6 := by rw [k0]; exact nI_nlt (b := 6) (by omega) (by omega)
  obtain ⟨x, hx, hv⟩ := hva (g 1 pr)
  -- a real test
  have test : (∀ post : Int32 → SX → Prop, wX_branch_53 post (nI N) (nI Bu) (nI P) f_tests f_jumps (nI pr) f_copy f_chosen f_truth f_queued f_pending a_kinds a_as a_bs a_yesTo a_noTo a_start a_values a_log a_reached a_raised a_sets a_strides a_queue a_stack a_waiting a_base a_weights a_origin a_nextYes a_nextNo a_decided → wpX_branch post (nI N, nI Bu, nI P, f_tests, f_jumps, nI pr, f_copy, f_chosen, f_truth, f_queued, f_pending, a_kinds, a_as, a_bs, a_yesTo, a_noTo, a_start, a_values, a_log, a_reached, a_raised, a_sets, a_strides, a_queue, a_stack, a_waiting, a_base, a_weights, a_origin, a_nextYes, a_nextNo, a_decided)) →
      (∀ post : SY → Prop, wY_step_184 post (nI pr) (nI (g 1 pr)) 4 (nI N) (nI Bu) f_chosen (nI pr) (nI P) f_tests f_jumps a_kinds a_as a_bs a_yesTo a_noTo a_start a_values a_log a_path a_next b_reached b_raised b_sets → wY_step_155 post (nI pr) (nI (g 1 pr)) 1 (nI N) (nI Bu) f_chosen (nI pr) (nI P) f_tests f_jumps a_kinds a_as a_bs a_yesTo a_noTo a_start a_values a_log a_path a_next b_reached b_raised b_sets) →
      ∃ (u' : SX) (v' : SY), i_Rel 0 u' v' ∧ (∀ post : SX → Prop, post u' → wpX_step post (nI N, nI Bu, nI P, f_tests, f_jumps, nI pr, f_copy, f_chosen, f_truth, f_queued, f_pending, a_kinds, a_as, a_bs, a_yesTo, a_noTo, a_start, a_values, a_log, a_reached, a_raised, a_sets, a_strides, a_queue, a_stack, a_waiting, a_base, a_weights, a_origin, a_nextYes, a_nextNo, a_decided)) ∧ (∀ post : SY → Prop, post v' → wpY_step post (nI N, nI Bu, f_chosen, nI pr, nI P, f_tests, f_jumps, a_kinds, a_as, a_bs, a_yesTo, a_noTo, a_start, a_values, a_log, a_path, a_next, b_reached, b_raised, b_sets)) := by
    intro hXb hYb
    have tl := fun (s : Nat) (hs : s < 2) (ht : cb_tg g pr s < 12) => zw_tail (P := P) (f_tests := f_tests + 1) (f_jumps := f_jumps) (f_truth := f_truth) (f_queued := f_queued) (f_pending := f_pending) (a_log := a_log) (a_reached := a_reached) (a_queue := a_queue) (a_stack := a_stack) (a_waiting := a_waiting) (a_next := a_next) hB hM hs ht
    cases hh : cb_hd (g 0 pr) (g 2 pr) x with
    | true =>
      obtain ⟨u', v', hR, hX, hY⟩ := tl 0 (by omega) (cb_tg0 hG (by omega))
      refine ⟨u', v', hR, fun post h => ?_, fun post h => ?_⟩
      · refine And.intro hi (br_f k6 (hXb _ (xw_53 hG hA (by omega) hk hx hv _ ?_)))
        rw [hh]
        exact hX post h
      · refine yw_step_0 hG hA (by omega) (by omega) post (yw_69_n (by omega) (by omega) (by omega) (by omega) (by omega) post (hYb post (yw_184 hG hA (by omega) hx hv post ?_)))
        rw [hh]
        exact hY post h
    | false =>
      obtain ⟨u', v', hR, hX, hY⟩ := tl 1 (by omega) (cb_tg1 hG (by omega))
      refine ⟨u', v', hR, fun post h => ?_, fun post h => ?_⟩
      · refine And.intro hi (br_f k6 (hXb _ (xw_53 hG hA (by omega) hk hx hv _ ?_)))
        rw [hh]
        exact hX post h
      · refine yw_step_0 hG hA (by omega) (by omega) post (yw_69_n (by omega) (by omega) (by omega) (by omega) (by omega) post (hYb post (yw_184 hG hA (by omega) hx hv post ?_)))
        rw [hh]
        exact hY post h
  have isT : ∀ post : SY → Prop, ((nI pr = f_chosen → (vp_in (nI (g 1 pr) * 8) 32 ∧ (wY_step_184 post (nI pr) (nI (g 1 pr)) (a_path (nI (g 1 pr) * 8).toNatClampNeg) (nI N) (nI Bu) f_chosen (nI pr) (nI P) f_tests f_jumps a_kinds a_as a_bs a_yesTo a_noTo a_start a_values a_log a_path a_next b_reached b_raised b_sets))) ∧ (¬ nI pr = f_chosen → (wY_step_184 post (nI pr) (nI (g 1 pr)) 4 (nI N) (nI Bu) f_chosen (nI pr) (nI P) f_tests f_jumps a_kinds a_as a_bs a_yesTo a_noTo a_start a_values a_log a_path a_next b_reached b_raised b_sets))) → wY_step_155 post (nI pr) (nI (g 1 pr)) 1 (nI N) (nI Bu) f_chosen (nI pr) (nI P) f_tests f_jumps a_kinds a_as a_bs a_yesTo a_noTo a_start a_values a_log a_path a_next b_reached b_raised b_sets := by
    intro post h
    exact yw_isTest hG hA (by omega) _ (ek_if cb_bi_0 (fun w => absurd hk (of_decide_eq_false w)) (fun _ => h))
  have hM' := hM
  rcases hM with e | ⟨d, y, e, hO, hC⟩
  · have ne : ¬ f_chosen = nI pr := by
      rw [e]; intro w
      have := nI_pos (n := pr) (by omega)
      rw [← w] at this
      exact this (by decide)
    exact test (fun post h => br_f ne h) (fun post h => isT post (br_f (fun w => ne w.symm) h))
  · obtain ⟨hdN, hd, hRd, hXQ, hXL, hXO, hXN, hre, hYQ⟩ := hO
    obtain ⟨hc1, hy, hpa⟩ := hC
    by_cases hdp : d = pr
    · subst hdp
      have w64 := cb_wt64 hXL.1 hdN
      have hbo : cb_bo g d d + cb_wt' g d d ≤ cb_bo g d N := cb_sm_pre (f := cb_wt' g d) hdN
      obtain ⟨_, _, hde⟩ := hXN d hdN y hy (by omega)
      rw [if_pos rfl] at hde
      have hpo := hpa _ cb_Rq_0
      obtain ⟨hAn, _⟩ := cb_an_A hG hRd (x := y) (cb_Rq_0 (g := g) (d := d))
      have hcc : vp_in f_copy 64 := by rw [hc1]; exact cb_in (by omega) (by omega)
      have hde' : a_decided f_copy.toNatClampNeg = nI (cb_an g d d (g 1 d * 8) y) := by rw [hc1, cb_cl (by omega)]; exact hde
      have e8 : nI (g 1 d) * 8 = nI (g 1 d * 8) := by rw [show (8 : Int32) = nI 8 from rfl, pk_mul]
      have i8 : vp_in (nI (g 1 d) * 8) 32 := by rw [e8]; exact cb_in (by omega) (by omega)
      have hpo' : a_path (nI (g 1 d) * 8).toNatClampNeg = nI (cb_an g d d (g 1 d * 8) y) := by rw [e8, cb_cl (by omega)]; exact hpo
      -- a jump
      have jump : ∀ s, s < 2 → cb_tg g d s < 12 → (∀ post : Int32 → SX → Prop, post (nI s) (nI N, nI Bu, nI P, f_tests, f_jumps + 1, nI d, f_copy, f_chosen, f_truth, f_queued, f_pending, a_kinds, a_as, a_bs, a_yesTo, a_noTo, a_start, a_values, a_log, a_reached, a_raised, a_sets, a_strides, a_queue, a_stack, a_waiting, a_base, a_weights, a_origin, a_nextYes, a_nextNo, a_decided) → wpX_branch post (nI N, nI Bu, nI P, f_tests, f_jumps, nI d, f_copy, f_chosen, f_truth, f_queued, f_pending, a_kinds, a_as, a_bs, a_yesTo, a_noTo, a_start, a_values, a_log, a_reached, a_raised, a_sets, a_strides, a_queue, a_stack, a_waiting, a_base, a_weights, a_origin, a_nextYes, a_nextNo, a_decided)) →
          (∀ post : SY → Prop, wY_step_241 post (nI d) (cb_bi (s == 0)) (nI N) (nI Bu) f_chosen (nI d) (nI P) f_tests (f_jumps + 1) a_kinds a_as a_bs a_yesTo a_noTo a_start a_values a_log a_path a_next b_reached b_raised b_sets → wY_step_184 post (nI d) (nI (g 1 d)) (a_path (nI (g 1 d) * 8).toNatClampNeg) (nI N) (nI Bu) f_chosen (nI d) (nI P) f_tests f_jumps a_kinds a_as a_bs a_yesTo a_noTo a_start a_values a_log a_path a_next b_reached b_raised b_sets) →
          ∃ (u' : SX) (v' : SY), i_Rel 0 u' v' ∧ (∀ post : SX → Prop, post u' → wpX_step post (nI N, nI Bu, nI P, f_tests, f_jumps, nI d, f_copy, f_chosen, f_truth, f_queued, f_pending, a_kinds, a_as, a_bs, a_yesTo, a_noTo, a_start, a_values, a_log, a_reached, a_raised, a_sets, a_strides, a_queue, a_stack, a_waiting, a_base, a_weights, a_origin, a_nextYes, a_nextNo, a_decided)) ∧ (∀ post : SY → Prop, post v' → wpY_step post (nI N, nI Bu, f_chosen, nI d, nI P, f_tests, f_jumps, a_kinds, a_as, a_bs, a_yesTo, a_noTo, a_start, a_values, a_log, a_path, a_next, b_reached, b_raised, b_sets)) := by
        intro s hs ht hXb hYb
        obtain ⟨u', v', hR, hX, hY⟩ := zw_tail (P := P) (f_tests := f_tests) (f_jumps := f_jumps + 1) (f_truth := f_truth) (f_queued := f_queued) (f_pending := f_pending) (a_log := a_log) (a_reached := a_reached) (a_queue := a_queue) (a_stack := a_stack) (a_waiting := a_waiting) (a_next := a_next) hB hM' hs ht
        refine ⟨u', v', hR, fun post h => ?_, fun post h => ?_⟩
        · exact And.intro hi (br_f k6 (hXb _ (hX post h)))
        · exact yw_step_0 hG hA (by omega) (by omega) post (yw_69_n (by omega) (by omega) (by omega) (by omega) (by omega) post (isT post (br_t e.symm (And.intro i8 (hYb post (hY post h))))))
      rcases hAn with ha | ha | ha
      · rw [ha] at hde' hpo'
        refine jump 0 (by omega) (cb_tg0 hG (by omega)) (fun post h => ?_) (fun post h => ?_)
        · exact br_t e (And.intro hcc (br_f (by rw [hde']; decide) (nm_e (And.intro hcc (br_t hde' h)))))
        · rw [hpo']
          exact br_f (by decide) (nm_e (br_t rfl h))
      · rw [ha] at hde' hpo'
        refine jump 1 (by omega) (cb_tg1 hG (by omega)) (fun post h => ?_) (fun post h => ?_)
        · exact br_t e (And.intro hcc (br_f (by rw [hde']; decide) (nm_e (And.intro hcc (br_f (by rw [hde']; decide) h)))))
        · rw [hpo']
          exact br_f (by decide) (nm_e (br_f (by decide) h))
      · rw [ha] at hde' hpo'
        refine test (fun post h => br_t e (And.intro hcc (br_t hde' h))) (fun post h => isT post (br_t e.symm (And.intro i8 ?_)))
        rw [hpo']
        exact h
    · have ne : ¬ f_chosen = nI pr := by
        rw [e, nI_eq (by omega) (by omega)]; exact hdp
      exact test (fun post h => br_f ne h) (fun post h => isT post (br_f (fun w => ne w.symm) h))
end zwStep
end
section
/-! 17: run in lockstep -/
section zwRun
def zw_XR (post : Int32 → SX → Prop) (L : Int32) (n : Nat) (i : Int32) (u : SX) : Prop := match u with
  | (f_nodes, f_budget, f_printed, f_tests, f_jumps, f_present, f_copy, f_chosen, f_truth, f_queued, f_pending, a_kinds, a_as, a_bs, a_yesTo, a_noTo, a_start, a_values, a_log, a_reached, a_raised, a_sets, a_strides, a_queue, a_stack, a_waiting, a_base, a_weights, a_origin, a_nextYes, a_nextNo, a_decided) => wX_run_25 post L n i f_nodes f_budget f_printed f_tests f_jumps f_present f_copy f_chosen f_truth f_queued f_pending a_kinds a_as a_bs a_yesTo a_noTo a_start a_values a_log a_reached a_raised a_sets a_strides a_queue a_stack a_waiting a_base a_weights a_origin a_nextYes a_nextNo a_decided
def zw_YR (post : Int32 → SY → Prop) (L : Int32) (n : Nat) (i : Int32) (u : SY) : Prop := match u with
  | (f_nodes, f_budget, f_branch, f_present, f_printed, f_tests, f_jumps, a_kinds, a_as, a_bs, a_yesTo, a_noTo, a_start, a_values, a_log, a_path, a_next, a_reached, a_raised, a_sets) => wY_run_25 post L n i f_nodes f_budget f_branch f_present f_printed f_tests f_jumps a_kinds a_as a_bs a_yesTo a_noTo a_start a_values a_log a_path a_next a_reached a_raised a_sets
theorem zw_run {L : Nat} (hL : L ≤ 200) : ∀ (k i : Nat) (u : SX) (v : SY), i + k = L → i_Rel 0 u v →
    ∃ (r : Int32) (u' : SX) (v' : SY), i_Rel 0 u' v' ∧ (∀ post : Int32 → SX → Prop, post r u' → zw_XR post (nI L) (k + 1) (nI i) u) ∧ (∀ post : Int32 → SY → Prop, post r v' → zw_YR post (nI L) (k + 1) (nI i) v) := by
  intro k
  induction k with
  | zero =>
    intro i u v hi I
    have J := I
    revert J
    refine cb_el (Q := fun u v => i_Rel 0 u v → ∃ (r : Int32) (u' : SX) (v' : SY), i_Rel 0 u' v' ∧ (∀ post : Int32 → SX → Prop, post r u' → zw_XR post (nI L) 1 (nI i) u) ∧ (∀ post : Int32 → SY → Prop, post r v' → zw_YR post (nI L) 1 (nI i) v)) ?_ I
    intro N Bu P pr g f_tests f_jumps f_copy f_chosen f_truth f_queued f_pending a_kinds a_as a_bs a_yesTo a_noTo a_start a_values a_log a_reached a_raised a_sets a_strides a_queue a_stack a_waiting a_base a_weights a_origin a_nextYes a_nextNo a_decided a_path a_next b_reached b_raised b_sets hB hM J
    obtain rfl : i = L := by omega
    have hG := hB.1
    have hpr := hB.2.2.2.2.1
    have hP := hB.2.2.2.1
    have hN12 := hG.2.1
    have hin : vp_in (nI pr) 12 := cb_in (by omega) (by omega)
    have hc : (nI pr).toNatClampNeg = pr := cb_cl (by omega)
    have k0 : a_kinds (nI pr).toNatClampNeg = nI (g 0 pr) := by rw [hc]; exact (hB.2.1 pr).1
    have hg := hG.2.2 pr
    have hle : nI i ≤ nI i := nI_le (Nat.le_refl _) (by omega)
    have hlt : ¬ nI i < nI i := nI_nlt (Nat.le_refl _) (by omega)
    by_cases z0 : g 0 pr = 0
    · refine ⟨2, _, _, J, fun post h => ?_, fun post h => ?_⟩
      · exact br_t hle (And.intro hin (nm_r k0 (pk_eq (g 0 pr) 0 (fun _ => h) fun w => absurd z0 w)))
      · exact br_f hlt (And.intro hin (br_t (by rw [k0, z0]; decide) h))
    · have n0 : ¬ a_kinds (nI pr).toNatClampNeg = 0 := by rw [k0, cb_eq0 (by omega)]; exact z0
      by_cases z1 : g 0 pr = 1
      · have e1 : a_kinds (nI pr).toNatClampNeg = 1 := by rw [k0, z1]; decide
        by_cases zP : P = 32
        · subst zP
          refine ⟨3, _, _, J, fun post h => ?_, fun post h => ?_⟩
          · exact br_t hle (And.intro hin (nm_r k0 (pk_eq (g 0 pr) 0 (fun w => absurd w z0) fun _ => pk_eq (g 0 pr) 1 (fun _ => br_f (by decide) h) fun w => absurd z1 w)))
          · exact br_f hlt (And.intro hin (br_f n0 (And.intro hin (br_t e1 (br_t (by decide) h)))))
        · refine ⟨1, _, _, J, fun post h => ?_, fun post h => ?_⟩
          · exact br_t hle (And.intro hin (nm_r k0 (pk_eq (g 0 pr) 0 (fun w => absurd w z0) fun _ => pk_eq (g 0 pr) 1 (fun _ => br_t (nI_lt (b := 32) (by omega) (by decide)) h) fun w => absurd z1 w)))
          · exact br_f hlt (And.intro hin (br_f n0 (And.intro hin (br_t e1 (pk_eq P 32 (fun w => absurd w zP) fun _ => br_t rfl h)))))
      · have n1 : ¬ a_kinds (nI pr).toNatClampNeg = 1 := by rw [k0]; exact fun w => z1 ((nI_eq (b := 1) (by omega) (by decide)).mp w)
        refine ⟨1, _, _, J, fun post h => ?_, fun post h => ?_⟩
        · exact br_t hle (And.intro hin (nm_r k0 (pk_eq (g 0 pr) 0 (fun w => absurd w z0) fun _ => pk_eq (g 0 pr) 1 (fun w => absurd w z1) fun _ => h)))
        · exact br_f hlt (And.intro hin (br_f n0 (And.intro hin (br_f n1 (br_t rfl h)))))
  | succ k ih =>
    intro i u v hi I
    have J := I
    revert J
    refine cb_el (Q := fun u v => i_Rel 0 u v → ∃ (r : Int32) (u' : SX) (v' : SY), i_Rel 0 u' v' ∧ (∀ post : Int32 → SX → Prop, post r u' → zw_XR post (nI L) (k + 1 + 1) (nI i) u) ∧ (∀ post : Int32 → SY → Prop, post r v' → zw_YR post (nI L) (k + 1 + 1) (nI i) v)) ?_ I
    intro N Bu P pr g f_tests f_jumps f_copy f_chosen f_truth f_queued f_pending a_kinds a_as a_bs a_yesTo a_noTo a_start a_values a_log a_reached a_raised a_sets a_strides a_queue a_stack a_waiting a_base a_weights a_origin a_nextYes a_nextNo a_decided a_path a_next b_reached b_raised b_sets hB hM J
    have hG := hB.1
    have hpr := hB.2.2.2.2.1
    have hP := hB.2.2.2.1
    have hN12 := hG.2.1
    have hin : vp_in (nI pr) 12 := cb_in (by omega) (by omega)
    have hc : (nI pr).toNatClampNeg = pr := cb_cl (by omega)
    have k0 : a_kinds (nI pr).toNatClampNeg = nI (g 0 pr) := by rw [hc]; exact (hB.2.1 pr).1
    have hg := hG.2.2 pr
    have hle : ¬ nI L ≤ nI i := nI_ge (by omega) (by omega)
    have hlt : ¬ nI L < nI i := nI_nlt (by omega) (by omega)
    have hne : ¬ nI i = nI L := fun w => by rw [nI_eq (by omega) (by omega)] at w; omega
    by_cases z0 : g 0 pr = 0
    · refine ⟨2, _, _, J, fun post h => ?_, fun post h => ?_⟩
      · exact br_f hle (And.intro hin (nm_r k0 (pk_eq (g 0 pr) 0 (fun _ => br_f (by decide) h) fun w => absurd z0 w)))
      · exact br_f hlt (And.intro hin (br_t (by rw [k0, z0]; decide) h))
    · have n0 : ¬ a_kinds (nI pr).toNatClampNeg = 0 := by rw [k0, cb_eq0 (by omega)]; exact z0
      by_cases zL : g 0 pr = 1 ∧ P = 32
      · obtain ⟨z1, zP⟩ := zL
        have e1 : a_kinds (nI pr).toNatClampNeg = 1 := by rw [k0, z1]; decide
        subst zP
        refine ⟨3, _, _, J, fun post h => ?_, fun post h => ?_⟩
        · exact br_f hle (And.intro hin (nm_r k0 (pk_eq (g 0 pr) 0 (fun w => absurd w z0) fun _ => pk_eq (g 0 pr) 1 (fun _ => br_f (by decide) (br_f (by decide) h)) fun w => absurd z1 w)))
        · exact br_f hlt (And.intro hin (br_f n0 (And.intro hin (br_t e1 (br_t (by decide) h)))))
      · have st : ∃ (u' : SX) (v' : SY), i_Rel 0 u' v' ∧ (∀ post : SX → Prop, post u' → wpX_step post (nI N, nI Bu, nI P, f_tests, f_jumps, nI pr, f_copy, f_chosen, f_truth, f_queued, f_pending, a_kinds, a_as, a_bs, a_yesTo, a_noTo, a_start, a_values, a_log, a_reached, a_raised, a_sets, a_strides, a_queue, a_stack, a_waiting, a_base, a_weights, a_origin, a_nextYes, a_nextNo, a_decided)) ∧ (∀ post : SY → Prop, post v' → wpY_step post (nI N, nI Bu, f_chosen, nI pr, nI P, f_tests, f_jumps, a_kinds, a_as, a_bs, a_yesTo, a_noTo, a_start, a_values, a_log, a_path, a_next, b_reached, b_raised, b_sets)) := by
          by_cases z1 : g 0 pr = 1
          · exact zw_step1 hB hM z1 (by omega)
          · by_cases z6 : 6 ≤ g 0 pr
            · exact zw_step6 hB hM z6
            · exact zw_step2 hB hM (by omega)
        obtain ⟨⟨x1, x2, x3, x4, x5, x6, x7, x8, x9, x10, x11, x12, x13, x14, x15, x16, x17, x18, x19, x20, x21, x22, x23, x24, x25, x26, x27, x28, x29, x30, x31, x32⟩, ⟨y1, y2, y3, y4, y5, y6, y7, y8, y9, y10, y11, y12, y13, y14, y15, y16, y17, y18, y19, y20⟩, hR, hX, hY⟩ := st
        obtain ⟨r, u', v', hR', hX', hY'⟩ := ih (i + 1) _ _ (by omega) hR
        refine ⟨r, u', v', hR', fun post h => ?_, fun post h => ?_⟩
        · have X2 : wpX_step (fun u => match u with | (f_nodes, f_budget, f_printed, f_tests, f_jumps, f_present, f_copy, f_chosen, f_truth, f_queued, f_pending, a_kinds, a_as, a_bs, a_yesTo, a_noTo, a_start, a_values, a_log, a_reached, a_raised, a_sets, a_strides, a_queue, a_stack, a_waiting, a_base, a_weights, a_origin, a_nextYes, a_nextNo, a_decided) => ∀ x3_104 : Int32, x3_104 = nI i + 1 → wX_run_25 post (nI L) (k + 1) x3_104 f_nodes f_budget f_printed f_tests f_jumps f_present f_copy f_chosen f_truth f_queued f_pending a_kinds a_as a_bs a_yesTo a_noTo a_start a_values a_log a_reached a_raised a_sets a_strides a_queue a_stack a_waiting a_base a_weights a_origin a_nextYes a_nextNo a_decided) (nI N, nI Bu, nI P, f_tests, f_jumps, nI pr, f_copy, f_chosen, f_truth, f_queued, f_pending, a_kinds, a_as, a_bs, a_yesTo, a_noTo, a_start, a_values, a_log, a_reached, a_raised, a_sets, a_strides, a_queue, a_stack, a_waiting, a_base, a_weights, a_origin, a_nextYes, a_nextNo, a_decided) := by
            refine hX _ ?_
            exact nm_r (nI_1 i) (hX' post h)
          by_cases z1 : g 0 pr = 1
          · exact br_f hle (And.intro hin (nm_r k0 (pk_eq (g 0 pr) 0 (fun w => absurd w z0) fun _ => pk_eq (g 0 pr) 1 (fun _ => br_t (nI_lt (b := 32) (by omega) (by decide)) (br_t rfl X2)) fun w => absurd z1 w)))
          · exact br_f hle (And.intro hin (nm_r k0 (pk_eq (g 0 pr) 0 (fun w => absurd w z0) fun _ => pk_eq (g 0 pr) 1 (fun w => absurd w z1) fun _ => br_t rfl X2)))
        · have Y2 : wY_run_68 post (wY_run_25 post (nI L) (k + 1)) (nI L) (nI i) (nI N) (nI Bu) f_chosen (nI pr) (nI P) f_tests f_jumps a_kinds a_as a_bs a_yesTo a_noTo a_start a_values a_log a_path a_next b_reached b_raised b_sets := by
            refine br_f hne (hY _ ?_)
            exact nm_r (nI_1 i) (hY' post h)
          by_cases z1 : g 0 pr = 1
          · have e1 : a_kinds (nI pr).toNatClampNeg = 1 := by rw [k0, z1]; decide
            exact br_f hlt (And.intro hin (br_f n0 (And.intro hin (br_t e1 (pk_eq P 32 (fun w => absurd ⟨z1, w⟩ zL) fun _ => Y2)))))
          · have n1 : ¬ a_kinds (nI pr).toNatClampNeg = 1 := by rw [k0]; exact fun w => z1 ((nI_eq (b := 1) (by omega) (by decide)).mp w)
            exact br_f hlt (And.intro hin (br_f n0 (And.intro hin (br_f n1 Y2))))
end zwRun
end
section
/-! 18: constructors, body, edges, field, store, restart, revert -/
section zwInit
theorem cb_clp (lo hi : Nat) (x : Int32) (hl : lo ≤ hi) (hh : hi < 2 ^ 31) : ∃ n, lo ≤ n ∧ n ≤ hi ∧ ((nI lo ≤ x ∧ x ≤ nI hi ∧ x = nI n) ∨ (nI lo ≤ x ∧ ¬ x ≤ nI hi ∧ n = hi) ∨ (¬ nI lo ≤ x ∧ n = lo)) := by
  by_cases h : nI lo ≤ x
  · by_cases h2 : x ≤ nI hi
    · have h0 : ¬ x < 0 := by
        rw [Int32.le_iff_toInt_le, nI_toInt (by omega)] at h
        rw [Int32.lt_iff_toInt_lt]
        have : (0 : Int32).toInt = 0 := by decide
        omega
      obtain ⟨n, hn, rfl⟩ := nI_of h0
      rw [nI_leI (by omega) hn] at h
      rw [nI_leI hn (by omega)] at h2
      exact ⟨n, h, h2, .inl ⟨(nI_leI (by omega) hn).mpr h, (nI_leI hn (by omega)).mpr h2, rfl⟩⟩
    · exact ⟨hi, hl, Nat.le_refl _, .inr (.inl ⟨h, h2, rfl⟩)⟩
  · exact ⟨lo, Nat.le_refl _, hl, .inr (.inr ⟨h, rfl⟩)⟩
section zwInitX
variable {f_nodes f_budget f_printed f_tests f_jumps f_present f_copy f_chosen f_truth f_queued f_pending : Int32} {a_kinds a_as a_bs a_yesTo a_noTo a_start a_values a_log a_reached a_raised a_sets a_strides a_queue a_stack a_waiting a_base a_weights a_origin a_nextYes a_nextNo a_decided : Nat → Int32}
theorem xw_i198 {x : Int32} {n : Nat} (h : (nI 4 ≤ x ∧ x ≤ nI 64 ∧ x = nI n) ∨ (nI 4 ≤ x ∧ ¬ x ≤ nI 64 ∧ n = 64) ∨ (¬ nI 4 ≤ x ∧ n = 4)) (post : SX → Prop) {z0 : Int32} (hp : post (z0, nI n, f_printed, f_tests, f_jumps, f_present, f_copy, -1, f_truth, f_queued, f_pending, a_kinds, a_as, a_bs, a_yesTo, a_noTo, a_start, a_values, a_log, a_reached, a_raised, a_sets, a_strides, a_queue, a_stack, a_waiting, a_base, a_weights, a_origin, a_nextYes, a_nextNo, a_decided)) : wX_init_198 post x z0 f_nodes f_budget f_printed f_tests f_jumps f_present f_copy f_chosen f_truth f_queued f_pending a_kinds a_as a_bs a_yesTo a_noTo a_start a_values a_log a_reached a_raised a_sets a_strides a_queue a_stack a_waiting a_base a_weights a_origin a_nextYes a_nextNo a_decided := by
  rcases h with ⟨h1, h2, e⟩ | ⟨h1, h2, e⟩ | ⟨h1, e⟩
  · subst e; exact br_t h1 (br_t h2 hp)
  · subst e; exact br_t h1 (br_f h2 hp)
  · subst e; exact br_f h1 hp
theorem xw_init {x y : Int32} {m n : Nat} (hm : (nI 2 ≤ x ∧ x ≤ nI 12 ∧ x = nI m) ∨ (nI 2 ≤ x ∧ ¬ x ≤ nI 12 ∧ m = 12) ∨ (¬ nI 2 ≤ x ∧ m = 2)) (hn : (nI 4 ≤ y ∧ y ≤ nI 64 ∧ y = nI n) ∨ (nI 4 ≤ y ∧ ¬ y ≤ nI 64 ∧ n = 64) ∨ (¬ nI 4 ≤ y ∧ n = 4)) (post : SX → Prop)
    (hp : post (nI m, nI n, 0, 0, 0, 0, 0, -1, 0, 0, 0, (fun _ => 0), (fun _ => 0), (fun _ => 0), (fun _ => 0), (fun _ => 0), (fun _ => 0), (fun _ => 0), (fun _ => 0), (fun _ => 0), (fun _ => 0), (fun _ => 0), (fun _ => 0), (fun _ => 0), (fun _ => 0), (fun _ => 0), (fun _ => 0), (fun _ => 0), (fun _ => 0), (fun _ => 0), (fun _ => 0), (fun _ => 0))) : wpX_init post x y := by
  rcases hm with ⟨h1, h2, e⟩ | ⟨h1, h2, e⟩ | ⟨h1, e⟩
  · subst e; exact br_t h1 (br_t h2 (xw_i198 hn post hp))
  · subst e; exact br_t h1 (br_f h2 (xw_i198 hn post hp))
  · subst e; exact br_f h1 (xw_i198 hn post hp)
end zwInitX
section zwInitY
variable {f_nodes f_budget f_branch f_present f_printed f_tests f_jumps : Int32} {a_kinds a_as a_bs a_yesTo a_noTo a_start a_values a_log a_path a_next a_reached a_raised a_sets : Nat → Int32}
theorem yw_i130 {x : Int32} {n : Nat} (h : (nI 4 ≤ x ∧ x ≤ nI 64 ∧ x = nI n) ∨ (nI 4 ≤ x ∧ ¬ x ≤ nI 64 ∧ n = 64) ∨ (¬ nI 4 ≤ x ∧ n = 4)) (post : SY → Prop) {z0 : Int32} (hp : wY_init_155 post (nI n) z0 f_budget f_branch f_present f_printed f_tests f_jumps a_kinds a_as a_bs a_yesTo a_noTo a_start a_values a_log a_path a_next a_reached a_raised a_sets) : wY_init_130 post x z0 f_nodes f_budget f_branch f_present f_printed f_tests f_jumps a_kinds a_as a_bs a_yesTo a_noTo a_start a_values a_log a_path a_next a_reached a_raised a_sets := by
  rcases h with ⟨h1, h2, e⟩ | ⟨h1, h2, e⟩ | ⟨h1, e⟩
  · subst e; exact br_t h1 (br_t h2 hp)
  · subst e; exact br_t h1 (br_f h2 hp)
  · subst e; exact br_f h1 hp
theorem yw_init {x y : Int32} {m n : Nat} (hm : (nI 2 ≤ x ∧ x ≤ nI 12 ∧ x = nI m) ∨ (nI 2 ≤ x ∧ ¬ x ≤ nI 12 ∧ m = 12) ∨ (¬ nI 2 ≤ x ∧ m = 2)) (hn : (nI 4 ≤ y ∧ y ≤ nI 64 ∧ y = nI n) ∨ (nI 4 ≤ y ∧ ¬ y ≤ nI 64 ∧ n = 64) ∨ (¬ nI 4 ≤ y ∧ n = 4)) (post : SY → Prop)
    (hp : wY_init_155 post (nI n) (nI m) 0 0 0 0 0 0 (fun _ => 0) (fun _ => 0) (fun _ => 0) (fun _ => 0) (fun _ => 0) (fun _ => 0) (fun _ => 0) (fun _ => 0) (fun _ => 0) (fun _ => 0) (fun _ => 0) (fun _ => 0) (fun _ => 0)) : wpY_init post x y := by
  rcases hm with ⟨h1, h2, e⟩ | ⟨h1, h2, e⟩ | ⟨h1, e⟩
  · subst e; exact br_t h1 (br_t h2 (yw_i130 hn post hp))
  · subst e; exact br_t h1 (br_f h2 (yw_i130 hn post hp))
  · subst e; exact br_f h1 (yw_i130 hn post hp)
end zwInitY
theorem cb_cp_s (v : Nat → Int32) : ∀ i, cb_cp v v i = v
  | 0 => rfl
  | i + 1 => by
    show upd (cb_cp v v i) i (v i) = v
    rw [cb_cp_s v i]
    funext j
    by_cases e : j = i
    · rw [e, cb_us]
    · rw [cb_un e]
theorem cb_r0 : ∀ j : Nat, ∃ x, x < 8 ∧ (fun _ => (0 : Int32)) j = nI x := fun _ => ⟨0, by omega, rfl⟩
theorem cb_G0 {N : Nat} (h2 : 2 ≤ N) (h12 : N ≤ 12) : cb_G N (fun _ _ => 0) := by
  refine ⟨h2, h12, fun j => ?_⟩
  show 0 < 8 ∧ 0 < 4 ∧ 0 < 8 ∧ 0 < N ∧ 0 < N ∧ (0 = 3 → 0 < 4)
  omega
theorem i_vc0 (k0 : Int32) (k1 : Int32) : wpX_init (fun u => wpY_init (fun v => i_Rel 2 u v) k0 k1) k0 k1 := by
  obtain ⟨N, hN2, hN12, hN⟩ := cb_clp 2 12 k0 (by omega) (by omega)
  obtain ⟨Bu, hB4, hB64, hB⟩ := cb_clp 4 64 k1 (by omega) (by omega)
  refine xw_init hN hB _ (yw_init hN hB _ (yw_restart _ ?_))
  intro pa hpa
  rw [cb_cp_s]
  exact cb_mk (P := 0) (pr := 0) (g := fun _ _ => 0) ⟨cb_G0 hN2 hN12, fun j => ⟨rfl, rfl, rfl, rfl, rfl⟩, hB64, by omega, by omega, cb_r0, cb_r0⟩ (.inl rfl)
end zwInit
section zwPlain
variable {N Bu P pr k : Nat} {g : Nat → Nat → Nat}
variable {f_nodes f_budget f_printed f_tests f_jumps f_present f_copy f_chosen f_truth f_queued f_pending : Int32} {a_kinds a_as a_bs a_yesTo a_noTo a_start a_values a_log a_reached a_raised a_sets a_strides a_queue a_stack a_waiting a_base a_weights a_origin a_nextYes a_nextNo a_decided a_path a_next b_reached b_raised b_sets : Nat → Int32}
/-- restart where nothing is chosen -/
theorem zw_restart_p (hG : cb_G N g) (hA : cb_Ar g a_kinds a_as a_bs a_yesTo a_noTo) (hBu : Bu ≤ 64) (hst : ∀ j, ∃ x, x < 8 ∧ a_start j = nI x) (hva : ∀ j, ∃ x, x < 8 ∧ a_values j = nI x) (post : SX → Prop) (postY : SX → SY → Prop)
    (h : ∀ u v, i_Rel k u v → postY u v) (hp : ∀ u, wpY_restart (fun v => postY u v) (nI N, nI Bu, -1, f_present, f_printed, f_tests, f_jumps, a_kinds, a_as, a_bs, a_yesTo, a_noTo, a_start, a_values, a_log, a_path, a_next, b_reached, b_raised, b_sets) → post u) : wpX_restart post (nI N, nI Bu, f_printed, f_tests, f_jumps, f_present, f_copy, -1, f_truth, f_queued, f_pending, a_kinds, a_as, a_bs, a_yesTo, a_noTo, a_start, a_values, a_log, a_reached, a_raised, a_sets, a_strides, a_queue, a_stack, a_waiting, a_base, a_weights, a_origin, a_nextYes, a_nextNo, a_decided) := by
  have hN := hG.1
  refine xw_restart_p (by decide) _ (hp _ (yw_restart _ fun pa hpa => h _ _ ?_))
  exact cb_mk (P := 0) (pr := 0) (g := g) ⟨hG, hA, hBu, by omega, by omega, hst, fun j => cb_cp_r hva hst 4 j⟩ (.inl rfl)
/-- a node's body is changed -/
def cb_gb (g : Nat → Nat → Nat) (n kd a b : Nat) : Nat → Nat → Nat := fun i j => if j = n then (if i = 0 then kd else if i = 1 then a else if i = 2 then b else g i j) else g i j
theorem cb_gb_G (hG : cb_G N g) {n kd a b : Nat} (hk : kd < 8) (ha : a < 4) (hb : b < 8) (h3 : kd = 3 → b < 4) : cb_G N (cb_gb g n kd a b) := by
  refine ⟨hG.1, hG.2.1, fun j => ?_⟩
  have h := hG.2.2 j
  unfold cb_gb
  by_cases e : j = n
  · simp only [if_pos e]
    exact ⟨hk, ha, hb, h.2.2.2.1, h.2.2.2.2.1, h3⟩
  · simp only [if_neg e]
    exact h
theorem cb_gb_A (hA : cb_Ar g a_kinds a_as a_bs a_yesTo a_noTo) {n kd a b : Nat} : cb_Ar (cb_gb g n kd a b) (upd a_kinds n (nI kd)) (upd a_as n (nI a)) (upd a_bs n (nI b)) a_yesTo a_noTo := by
  intro j
  have h := hA j
  unfold cb_gb
  by_cases e : j = n
  · simp only [if_pos e]
    rw [e, cb_us, cb_us, cb_us]
    rw [e] at h
    exact ⟨rfl, rfl, rfl, h.2.2.2.1, h.2.2.2.2⟩
  · simp only [if_neg e]
    rw [cb_un e, cb_un e, cb_un e]
    exact h
def cb_ge (g : Nat → Nat → Nat) (n y z : Nat) : Nat → Nat → Nat := fun i j => if j = n then (if i = 3 then y else if i = 4 then z else g i j) else g i j
theorem cb_ge_G (hG : cb_G N g) {n y z : Nat} (hy : y < N) (hz : z < N) : cb_G N (cb_ge g n y z) := by
  refine ⟨hG.1, hG.2.1, fun j => ?_⟩
  have h := hG.2.2 j
  unfold cb_ge
  by_cases e : j = n
  · simp only [if_pos e]
    exact ⟨h.1, h.2.1, h.2.2.1, hy, hz, h.2.2.2.2.2⟩
  · simp only [if_neg e]
    exact h
theorem cb_ge_A (hA : cb_Ar g a_kinds a_as a_bs a_yesTo a_noTo) {n y z : Nat} : cb_Ar (cb_ge g n y z) a_kinds a_as a_bs (upd a_yesTo n (nI y)) (upd a_noTo n (nI z)) := by
  intro j
  have h := hA j
  unfold cb_ge
  by_cases e : j = n
  · simp only [if_pos e]
    rw [e, cb_us, cb_us]
    rw [e] at h
    exact ⟨h.1, h.2.1, h.2.2.1, rfl, rfl⟩
  · simp only [if_neg e]
    rw [cb_un e, cb_un e]
    exact h
def cb_bv (kd : Nat) (x : Int32) : Int32 := if kd = 0 then 0 else if kd = 1 then 0 else if kd = 3 then x &&& 3 else if kd = 5 then x &&& 3 else x &&& 7
theorem cb_bv_r (kd : Nat) (x : Int32) : ∃ b, b < 8 ∧ (kd = 3 → b < 4) ∧ cb_bv kd x = nI b := by
  have h3 : ∃ b, b < 4 ∧ x &&& 3 = nI b := pk_andE x 2 (by decide)
  unfold cb_bv
  split
  · exact ⟨0, by omega, by omega, rfl⟩
  · split
    · exact ⟨0, by omega, by omega, rfl⟩
    · split
      · obtain ⟨b, hb, e⟩ := h3; exact ⟨b, by omega, fun _ => hb, e⟩
      · split
        · obtain ⟨b, hb, e⟩ := h3; exact ⟨b, by omega, fun _ => hb, e⟩
        · obtain ⟨b, hb, e⟩ := cb_a7 x; exact ⟨b, hb, fun z => by omega, e⟩
theorem xw_body_50 {n kd : Nat} (hn : n < 12) (hk : kd < 8) {x z : Int32} (post : Int32 → SX → Prop) (h : wX_body_104 post f_nodes f_budget f_printed f_tests f_jumps f_present f_copy f_chosen f_truth f_queued f_pending a_kinds (upd a_as n z) (upd a_bs n (cb_bv kd x)) a_yesTo a_noTo a_start a_values a_log a_reached a_raised a_sets a_strides a_queue a_stack a_waiting a_base a_weights a_origin a_nextYes a_nextNo a_decided) : wX_body_50 post (nI n) (nI kd) x z (nI n) f_nodes f_budget f_printed f_tests f_jumps f_present f_copy f_chosen f_truth f_queued f_pending a_kinds a_as a_bs a_yesTo a_noTo a_start a_values a_log a_reached a_raised a_sets a_strides a_queue a_stack a_waiting a_base a_weights a_origin a_nextYes a_nextNo a_decided := by
  have hi : vp_in (nI n) 12 := cb_in hn (by omega)
  have hc : (nI n).toNatClampNeg = n := cb_cl (by omega)
  refine And.intro hi (nm_r (e' := upd a_as n z) (by rw [hc]) ?_)
  unfold cb_bv at h
  refine pk_eq kd 0 (fun e => ?_) fun e => pk_eq kd 1 (fun e1 => ?_) fun e1 => pk_eq kd 3 (fun e3 => ?_) fun e3 => pk_eq kd 5 (fun e5 => ?_) fun e5 => ?_
  · rw [if_pos e] at h; exact And.intro hi (nm_r (e' := upd a_bs n 0) (by rw [hc]) h)
  · rw [if_neg e, if_pos e1] at h; exact And.intro hi (nm_r (e' := upd a_bs n 0) (by rw [hc]) h)
  · rw [if_neg e, if_neg e1, if_pos e3] at h; exact And.intro hi (nm_r (e' := upd a_bs n (x &&& 3)) (by rw [hc]) h)
  · rw [if_neg e, if_neg e1, if_neg e3, if_pos e5] at h; exact And.intro hi (nm_r (e' := upd a_bs n (x &&& 3)) (by rw [hc]) h)
  · rw [if_neg e, if_neg e1, if_neg e3, if_neg e5] at h; exact And.intro hi (nm_r (e' := upd a_bs n (x &&& 7)) (by rw [hc]) h)
theorem yw_body_50 {n kd : Nat} (hn : n < 12) (hk : kd < 8) {x z : Int32} (post : Int32 → SY → Prop) (h : wY_body_104 post f_nodes f_budget f_chosen f_present f_printed f_tests f_jumps a_kinds (upd a_as n z) (upd a_bs n (cb_bv kd x)) a_yesTo a_noTo a_start a_values a_log a_path a_next b_reached b_raised b_sets) : wY_body_50 post (nI n) (nI kd) x z (nI n) f_nodes f_budget f_chosen f_present f_printed f_tests f_jumps a_kinds a_as a_bs a_yesTo a_noTo a_start a_values a_log a_path a_next b_reached b_raised b_sets := by
  have hi : vp_in (nI n) 12 := cb_in hn (by omega)
  have hc : (nI n).toNatClampNeg = n := cb_cl (by omega)
  refine And.intro hi (nm_r (e' := upd a_as n z) (by rw [hc]) ?_)
  unfold cb_bv at h
  refine pk_eq kd 0 (fun e => ?_) fun e => pk_eq kd 1 (fun e1 => ?_) fun e1 => pk_eq kd 3 (fun e3 => ?_) fun e3 => pk_eq kd 5 (fun e5 => ?_) fun e5 => ?_
  · rw [if_pos e] at h; exact And.intro hi (nm_r (e' := upd a_bs n 0) (by rw [hc]) h)
  · rw [if_neg e, if_pos e1] at h; exact And.intro hi (nm_r (e' := upd a_bs n 0) (by rw [hc]) h)
  · rw [if_neg e, if_neg e1, if_pos e3] at h; exact And.intro hi (nm_r (e' := upd a_bs n (x &&& 3)) (by rw [hc]) h)
  · rw [if_neg e, if_neg e1, if_neg e3, if_pos e5] at h; exact And.intro hi (nm_r (e' := upd a_bs n (x &&& 3)) (by rw [hc]) h)
  · rw [if_neg e, if_neg e1, if_neg e3, if_neg e5] at h; exact And.intro hi (nm_r (e' := upd a_bs n (x &&& 7)) (by rw [hc]) h)
theorem cb_M_neg (hM : cb_M N pr g f_copy f_chosen a_raised a_sets a_strides a_base a_weights a_origin a_nextYes a_nextNo a_decided a_path b_reached b_raised b_sets) (hN : N ≤ 12) (hc : ¬ 0 ≤ f_chosen) : f_chosen = -1 := by
  rcases hM with e | ⟨d, x, e, hO, _⟩
  · exact e
  · have := hO.1
    rw [e] at hc
    exact absurd (nI_pos' (by omega)) hc
theorem cb_M_pos (hM : cb_M N pr g f_copy f_chosen a_raised a_sets a_strides a_base a_weights a_origin a_nextYes a_nextNo a_decided a_path b_reached b_raised b_sets) (hc : ¬ f_chosen = -1) : ∃ d x, f_chosen = nI d ∧ cb_O N d g a_raised a_sets a_strides a_base a_weights a_origin a_nextYes a_nextNo a_decided b_reached b_raised b_sets ∧ cb_P d pr x g f_copy a_path := by
  rcases hM with e | h
  · exact absurd e hc
  · exact h
end zwPlain
end
section
/-! 19: what is owed -/
section zwOwed
theorem i_vc_body {k : Nat} {u : SX} {v : SY} (I : i_Rel k u v) (hk : k + 5 ≤ 2562) (v1 : Int32) (v2 : Int32) (v3 : Int32) (v4 : Int32) : wpX_body (fun r u' => wpY_body (fun r' v' => r' = r ∧ i_Rel (k + 5) u' v') v v1 v2 v3 v4) u v1 v2 v3 v4 := by
  refine cb_el (Q := fun u v => wpX_body (fun r u' => wpY_body (fun r' v' => r' = r ∧ i_Rel (k + 5) u' v') v v1 v2 v3 v4) u v1 v2 v3 v4) ?_ I
  intro N Bu P pr g f_tests f_jumps f_copy f_chosen f_truth f_queued f_pending a_kinds a_as a_bs a_yesTo a_noTo a_start a_values a_log a_reached a_raised a_sets a_strides a_queue a_stack a_waiting a_base a_weights a_origin a_nextYes a_nextNo a_decided a_path a_next b_reached b_raised b_sets hB hM
  have hN12 := hB.1.2.1
  by_cases hc : 0 ≤ f_chosen
  · exact br_t hc (br_t hc ⟨rfl, cb_mk hB hM⟩)
  have e1 := cb_M_neg hM hN12 hc
  refine br_f hc ?_
  by_cases n0 : v1 < 0
  · exact br_t n0 (br_t rfl (br_f hc (br_t n0 (br_t rfl ⟨rfl, cb_mk hB hM⟩))))
  refine br_f n0 ?_
  by_cases n1 : nI N ≤ v1
  · exact br_t n1 (br_t rfl (br_f hc (br_f n0 (br_t n1 (br_t rfl ⟨rfl, cb_mk hB hM⟩)))))
  refine br_f n1 (br_f (by decide) ?_)
  by_cases n2 : v2 < 0
  · exact br_t n2 (br_f hc (br_f n0 (br_f n1 (br_f (by decide) (br_t n2 ⟨rfl, cb_mk hB hM⟩)))))
  refine br_f n2 ?_
  by_cases n3 : v2 ≤ 7
  · obtain ⟨n, hn, rfl⟩ : ∃ n, n < N ∧ v1 = nI n := by
      rcases pk_ix v1 (n := N) (by omega) with z | z | z
      · exact absurd z n0
      · exact absurd z n1
      · exact z
    obtain ⟨kd, hkd, rfl⟩ := nI_of2 (M := 7) (n := 7) (by decide) n2 n3
    have hi : vp_in (nI n) 12 := cb_in (by omega) (by omega)
    have hcl : (nI n).toNatClampNeg = n := cb_cl (by omega)
    subst e1
    obtain ⟨b, hb8, hb3, eb⟩ := cb_bv_r kd v4
    obtain ⟨a, ha4, ea⟩ : ∃ a, a < 4 ∧ v3 &&& 3 = nI a := pk_andE v3 2 (by decide)
    have hst := hB.2.2.2.2.2.1
    have hva := hB.2.2.2.2.2.2
    have hNpos := hB.1.1
    have rel : ∀ (a : Nat) (pa : Nat → Int32), a < 4 → i_Rel (k + 5) (nI N, nI Bu, 0, 0, 0, 0, 0, -1, f_truth, f_queued, f_pending, upd a_kinds n (nI kd), upd a_as n (nI a), upd a_bs n (cb_bv kd v4), a_yesTo, a_noTo, a_start, cb_cp a_values a_start 4, a_log, a_reached, a_raised, a_sets, a_strides, a_queue, a_stack, a_waiting, a_base, a_weights, a_origin, a_nextYes, a_nextNo, a_decided) (nI N, nI Bu, -1, 0, 0, 0, 0, upd a_kinds n (nI kd), upd a_as n (nI a), upd a_bs n (cb_bv kd v4), a_yesTo, a_noTo, a_start, cb_cp a_values a_start 4, a_log, pa, a_next, b_reached, b_raised, b_sets) := by
      intro a pa ha
      rw [eb]
      exact cb_mk (P := 0) (pr := 0) (g := cb_gb g n kd a b) ⟨cb_gb_G hB.1 (by omega) ha hb8 hb3, cb_gb_A hB.2.1, hB.2.2.1, by omega, by omega, hst, fun j => cb_cp_r hva hst 4 j⟩ (.inl rfl)
    refine br_t n3 (And.intro hi (nm_r (e' := upd a_kinds n (nI kd)) (by rw [hcl]) (pk_eq kd 0 (fun z => ?_) (fun z => ?_))))
    · refine xw_body_50 (by omega) (by omega) _ (xw_restart_p (by decide) _ ?_)
      refine br_f hc (br_f n0 (br_f n1 (br_f (by decide) (br_f n2 (br_t n3 (And.intro hi (nm_r (e' := upd a_kinds n (nI kd)) (by rw [hcl]) (pk_eq kd 0 (fun _ => ?_) (fun y => absurd z y)))))))))
      exact yw_body_50 (by omega) (by omega) _ (yw_restart _ fun pa _ => ⟨rfl, rel 0 pa (by omega)⟩)
    · rw [ea]
      refine xw_body_50 (by omega) (by omega) _ (xw_restart_p (by decide) _ ?_)
      refine br_f hc (br_f n0 (br_f n1 (br_f (by decide) (br_f n2 (br_t n3 (And.intro hi (nm_r (e' := upd a_kinds n (nI kd)) (by rw [hcl]) (pk_eq kd 0 (fun y => absurd y z) (fun _ => ?_)))))))))
      rw [ea]
      exact yw_body_50 (by omega) (by omega) _ (yw_restart _ fun pa _ => ⟨rfl, rel a pa ha4⟩)
  · exact br_f n3 (br_f hc (br_f n0 (br_f n1 (br_f (by decide) (br_f n2 (br_f n3 ⟨rfl, cb_mk hB hM⟩))))))
theorem i_vc_edges {k : Nat} {u : SX} {v : SY} (I : i_Rel k u v) (hk : k + 5 ≤ 2562) (v1 : Int32) (v2 : Int32) (v3 : Int32) : wpX_edges (fun r u' => wpY_edges (fun r' v' => r' = r ∧ i_Rel (k + 5) u' v') v v1 v2 v3) u v1 v2 v3 := by
  refine cb_el (Q := fun u v => wpX_edges (fun r u' => wpY_edges (fun r' v' => r' = r ∧ i_Rel (k + 5) u' v') v v1 v2 v3) u v1 v2 v3) ?_ I
  intro N Bu P pr g f_tests f_jumps f_copy f_chosen f_truth f_queued f_pending a_kinds a_as a_bs a_yesTo a_noTo a_start a_values a_log a_reached a_raised a_sets a_strides a_queue a_stack a_waiting a_base a_weights a_origin a_nextYes a_nextNo a_decided a_path a_next b_reached b_raised b_sets hB hM
  have hN12 := hB.1.2.1
  by_cases hc : 0 ≤ f_chosen
  · exact br_t hc (br_t hc ⟨rfl, cb_mk hB hM⟩)
  have e1 := cb_M_neg hM hN12 hc
  refine br_f hc ?_
  by_cases n0 : v1 < 0
  · exact br_t n0 (br_t rfl (br_f hc (br_t n0 (br_t rfl ⟨rfl, cb_mk hB hM⟩))))
  refine br_f n0 ?_
  by_cases n1 : nI N ≤ v1
  · exact br_t n1 (br_t rfl (br_f hc (br_f n0 (br_t n1 (br_t rfl ⟨rfl, cb_mk hB hM⟩)))))
  refine br_f n1 (br_f (by decide) ?_)
  by_cases m0 : v2 < 0
  · exact br_t m0 (br_t rfl (br_f hc (br_f n0 (br_f n1 (br_f (by decide) (br_t m0 (br_t rfl ⟨rfl, cb_mk hB hM⟩)))))))
  refine br_f m0 ?_
  by_cases m1 : nI N ≤ v2
  · exact br_t m1 (br_t rfl (br_f hc (br_f n0 (br_f n1 (br_f (by decide) (br_f m0 (br_t m1 (br_t rfl ⟨rfl, cb_mk hB hM⟩))))))))
  refine br_f m1 (br_f (by decide) ?_)
  by_cases l0 : v3 < 0
  · exact br_t l0 (br_t rfl (br_f hc (br_f n0 (br_f n1 (br_f (by decide) (br_f m0 (br_f m1 (br_f (by decide) (br_t l0 (br_t rfl ⟨rfl, cb_mk hB hM⟩))))))))))
  refine br_f l0 ?_
  by_cases l1 : nI N ≤ v3
  · exact br_t l1 (br_t rfl (br_f hc (br_f n0 (br_f n1 (br_f (by decide) (br_f m0 (br_f m1 (br_f (by decide) (br_f l0 (br_t l1 (br_t rfl ⟨rfl, cb_mk hB hM⟩)))))))))))
  refine br_f l1 (br_f (by decide) ?_)
  have ix : ∀ x : Int32, ¬ x < 0 → ¬ nI N ≤ x → ∃ n, n < N ∧ x = nI n := by
    intro x h0 h1
    rcases pk_ix x (n := N) (by omega) with z | z | z
    · exact absurd z h0
    · exact absurd z h1
    · exact z
  obtain ⟨n, hn, rfl⟩ := ix v1 n0 n1
  obtain ⟨y, hy, rfl⟩ := ix v2 m0 m1
  obtain ⟨z, hz, rfl⟩ := ix v3 l0 l1
  have hi : vp_in (nI n) 12 := cb_in (by omega) (by omega)
  have hcl : (nI n).toNatClampNeg = n := cb_cl (by omega)
  subst e1
  have hst := hB.2.2.2.2.2.1
  have hva := hB.2.2.2.2.2.2
  refine And.intro hi (nm_r (e' := upd a_yesTo n (nI y)) (by rw [hcl]) (And.intro hi (nm_r (e' := upd a_noTo n (nI z)) (by rw [hcl]) (xw_restart_p (by decide) _ ?_))))
  refine br_f hc (br_f n0 (br_f n1 (br_f (by decide) (br_f m0 (br_f m1 (br_f (by decide) (br_f l0 (br_f l1 (br_f (by decide) ?_)))))))))
  refine And.intro hi (nm_r (e' := upd a_yesTo n (nI y)) (by rw [hcl]) (And.intro hi (nm_r (e' := upd a_noTo n (nI z)) (by rw [hcl]) (yw_restart _ fun pa _ => ⟨rfl, ?_⟩))))
  exact cb_mk (P := 0) (pr := 0) (g := cb_ge g n y z) ⟨cb_ge_G hB.1 hy hz, cb_ge_A hB.2.1, hB.2.2.1, by omega, by omega, hst, fun j => cb_cp_r hva hst 4 j⟩ (.inl rfl)
theorem i_vc_field {k : Nat} {u : SX} {v : SY} (I : i_Rel k u v) (hk : k + 5 ≤ 2562) (v1 : Int32) (v2 : Int32) : wpX_field (fun r => wpY_field (fun r' => r' = r ∧ i_Rel (k + 5) u v) v v1 v2) u v1 v2 := by
  have J : i_Rel (k + 5) u v := i_up I
  revert J
  refine cb_el (Q := fun u v => i_Rel (k + 5) u v → wpX_field (fun r => wpY_field (fun r' => r' = r ∧ i_Rel (k + 5) u v) v v1 v2) u v1 v2) ?_ I
  intro N Bu P pr g f_tests f_jumps f_copy f_chosen f_truth f_queued f_pending a_kinds a_as a_bs a_yesTo a_noTo a_start a_values a_log a_reached a_raised a_sets a_strides a_queue a_stack a_waiting a_base a_weights a_origin a_nextYes a_nextNo a_decided a_path a_next b_reached b_raised b_sets hB hM J
  have hN12 := hB.1.2.1
  by_cases n0 : v1 < 0
  · exact br_t n0 (br_t rfl (br_t n0 (br_t rfl ⟨rfl, J⟩)))
  refine br_f n0 ?_
  by_cases n1 : nI N ≤ v1
  · exact br_t n1 (br_t rfl (br_f n0 (br_t n1 (br_t rfl ⟨rfl, J⟩))))
  refine br_f n1 (br_f (by decide) ?_)
  have hi : vp_in v1 12 := by
    rcases pk_ix v1 (n := N) (by omega) with z | z | ⟨n, hn, z⟩
    · exact absurd z n0
    · exact absurd z n1
    · rw [z]; exact cb_in (by omega) (by omega)
  by_cases e0 : v2 = 0
  · subst e0; exact br_f (by decide) (br_f (by decide) (br_t rfl (And.intro hi (br_f n0 (br_f n1 (br_f (by decide) (br_t rfl (And.intro hi ⟨rfl, J⟩))))))))
  by_cases e1 : v2 = 1
  · subst e1; exact br_f (by decide) (br_f (by decide) (br_f e0 (br_t rfl (And.intro hi (br_f n0 (br_f n1 (br_f (by decide) (br_f e0 (br_t rfl (And.intro hi ⟨rfl, J⟩))))))))))
  by_cases e2 : v2 = 2
  · subst e2; exact br_f (by decide) (br_f (by decide) (br_f e0 (br_f e1 (br_t rfl (And.intro hi (br_f n0 (br_f n1 (br_f (by decide) (br_f e0 (br_f e1 (br_t rfl (And.intro hi ⟨rfl, J⟩))))))))))))
  by_cases e3 : v2 = 3
  · subst e3; exact br_f (by decide) (br_f (by decide) (br_f e0 (br_f e1 (br_f e2 (br_t rfl (And.intro hi (br_f n0 (br_f n1 (br_f (by decide) (br_f e0 (br_f e1 (br_f e2 (br_t rfl (And.intro hi ⟨rfl, J⟩))))))))))))))
  by_cases e4 : v2 = 4
  · subst e4; exact br_f (by decide) (br_f (by decide) (br_f e0 (br_f e1 (br_f e2 (br_f e3 (br_t rfl (And.intro hi (br_f n0 (br_f n1 (br_f (by decide) (br_f e0 (br_f e1 (br_f e2 (br_f e3 (br_t rfl (And.intro hi ⟨rfl, J⟩))))))))))))))))
  have Y : wpY_field (fun r' => r' = (-1) ∧ i_Rel (k + 5) (nI N, nI Bu, nI P, f_tests, f_jumps, nI pr, f_copy, f_chosen, f_truth, f_queued, f_pending, a_kinds, a_as, a_bs, a_yesTo, a_noTo, a_start, a_values, a_log, a_reached, a_raised, a_sets, a_strides, a_queue, a_stack, a_waiting, a_base, a_weights, a_origin, a_nextYes, a_nextNo, a_decided) (nI N, nI Bu, f_chosen, nI pr, nI P, f_tests, f_jumps, a_kinds, a_as, a_bs, a_yesTo, a_noTo, a_start, a_values, a_log, a_path, a_next, b_reached, b_raised, b_sets)) (nI N, nI Bu, f_chosen, nI pr, nI P, f_tests, f_jumps, a_kinds, a_as, a_bs, a_yesTo, a_noTo, a_start, a_values, a_log, a_path, a_next, b_reached, b_raised, b_sets) v1 v2 :=
    br_f n0 (br_f n1 (br_f (by decide) (br_f e0 (br_f e1 (br_f e2 (br_f e3 (br_f e4 ⟨rfl, J⟩)))))))
  exact br_c (fun _ => Y) fun _ => br_c (fun _ => Y) fun _ => br_f e0 (br_f e1 (br_f e2 (br_f e3 (br_f e4 trivial))))
theorem i_vc_store {k : Nat} {u : SX} {v : SY} (I : i_Rel k u v) (hk : k + 5 ≤ 2562) (v1 : Int32) (v2 : Int32) : wpX_store (fun u' => wpY_store (fun v' => i_Rel (k + 5) u' v') v v1 v2) u v1 v2 := by
  refine cb_el (Q := fun u v => wpX_store (fun u' => wpY_store (fun v' => i_Rel (k + 5) u' v') v v1 v2) u v1 v2) ?_ I
  intro N Bu P pr g f_tests f_jumps f_copy f_chosen f_truth f_queued f_pending a_kinds a_as a_bs a_yesTo a_noTo a_start a_values a_log a_reached a_raised a_sets a_strides a_queue a_stack a_waiting a_base a_weights a_origin a_nextYes a_nextNo a_decided a_path a_next b_reached b_raised b_sets hB hM
  have hi : vp_in (v1 &&& 3) 4 := pk_andIn v1 2 (by decide) (by omega)
  exact And.intro hi (nm_e (And.intro hi (nm_e (cb_mk ⟨hB.1, hB.2.1, hB.2.2.1, hB.2.2.2.1, hB.2.2.2.2.1, cb_vr hB.2.2.2.2.2.1 (cb_a7 v2), hB.2.2.2.2.2.2⟩ hM))))
theorem i_vc_revert {k : Nat} {u : SX} {v : SY} (I : i_Rel k u v) (hk : k + 5 ≤ 2562) : wpX_revert (fun r u' => wpY_revert (fun r' v' => r' = r ∧ i_Rel (k + 5) u' v') v) u := by
  refine cb_el (Q := fun u v => wpX_revert (fun r u' => wpY_revert (fun r' v' => r' = r ∧ i_Rel (k + 5) u' v') v) u) ?_ I
  intro N Bu P pr g f_tests f_jumps f_copy f_chosen f_truth f_queued f_pending a_kinds a_as a_bs a_yesTo a_noTo a_start a_values a_log a_reached a_raised a_sets a_strides a_queue a_stack a_waiting a_base a_weights a_origin a_nextYes a_nextNo a_decided a_path a_next b_reached b_raised b_sets hB hM
  have hst := hB.2.2.2.2.2.1
  have hva := hB.2.2.2.2.2.2
  have hNpos := hB.1.1
  by_cases hc : 0 ≤ f_chosen
  · refine br_t hc (xw_restart_p (by decide) _ (br_t hc (yw_restart _ fun pa _ => ⟨rfl, ?_⟩)))
    exact cb_mk (P := 0) (pr := 0) (g := g) ⟨hB.1, hB.2.1, hB.2.2.1, by omega, by omega, hst, fun j => cb_cp_r hva hst 4 j⟩ (.inl rfl)
  · exact br_f hc (br_f hc ⟨rfl, cb_mk hB hM⟩)
theorem i_vc_chosen {k : Nat} {u : SX} {v : SY} (I : i_Rel k u v) (hk : k + 5 ≤ 2562) : wpX_chosen (fun r => wpY_chosen (fun r' => r' = r ∧ i_Rel (k + 5) u v) v) u := by
  have J : i_Rel (k + 5) u v := i_up I
  revert J
  refine cb_el (Q := fun u v => i_Rel (k + 5) u v → wpX_chosen (fun r => wpY_chosen (fun r' => r' = r ∧ i_Rel (k + 5) u v) v) u) ?_ I
  intro N Bu P pr g f_tests f_jumps f_copy f_chosen f_truth f_queued f_pending a_kinds a_as a_bs a_yesTo a_noTo a_start a_values a_log a_reached a_raised a_sets a_strides a_queue a_stack a_waiting a_base a_weights a_origin a_nextYes a_nextNo a_decided a_path a_next b_reached b_raised b_sets hB hM J
  exact ⟨rfl, J⟩
theorem i_vc_at {k : Nat} {u : SX} {v : SY} (I : i_Rel k u v) (hk : k + 5 ≤ 2562) : wpX_at (fun r => wpY_at (fun r' => r' = r ∧ i_Rel (k + 5) u v) v) u := by
  have J : i_Rel (k + 5) u v := i_up I
  revert J
  refine cb_el (Q := fun u v => i_Rel (k + 5) u v → wpX_at (fun r => wpY_at (fun r' => r' = r ∧ i_Rel (k + 5) u v) v) u) ?_ I
  intro N Bu P pr g f_tests f_jumps f_copy f_chosen f_truth f_queued f_pending a_kinds a_as a_bs a_yesTo a_noTo a_start a_values a_log a_reached a_raised a_sets a_strides a_queue a_stack a_waiting a_base a_weights a_origin a_nextYes a_nextNo a_decided a_path a_next b_reached b_raised b_sets hB hM J
  exact ⟨rfl, J⟩
theorem i_vc_value {k : Nat} {u : SX} {v : SY} (I : i_Rel k u v) (hk : k + 5 ≤ 2562) (v1 : Int32) (v2 : Int32) : wpX_value (fun r => wpY_value (fun r' => r' = r ∧ i_Rel (k + 5) u v) v v1 (lw_bz v2)) u v1 (lw_bz v2) := by
  have J : i_Rel (k + 5) u v := i_up I
  revert J
  refine cb_el (Q := fun u v => i_Rel (k + 5) u v → wpX_value (fun r => wpY_value (fun r' => r' = r ∧ i_Rel (k + 5) u v) v v1 (lw_bz v2)) u v1 (lw_bz v2)) ?_ I
  intro N Bu P pr g f_tests f_jumps f_copy f_chosen f_truth f_queued f_pending a_kinds a_as a_bs a_yesTo a_noTo a_start a_values a_log a_reached a_raised a_sets a_strides a_queue a_stack a_waiting a_base a_weights a_origin a_nextYes a_nextNo a_decided a_path a_next b_reached b_raised b_sets hB hM J
  have hi : vp_in (v1 &&& 3) 4 := pk_andIn v1 2 (by decide) (by omega)
  exact br_c (fun z => And.intro hi (br_t z (And.intro hi ⟨rfl, J⟩))) fun z => And.intro hi (br_f z (And.intro hi ⟨rfl, J⟩))
theorem i_vc_count {k : Nat} {u : SX} {v : SY} (I : i_Rel k u v) (hk : k + 5 ≤ 2562) (v1 : Int32) : wpX_count (fun r => wpY_count (fun r' => r' = r ∧ i_Rel (k + 5) u v) v v1) u v1 := by
  have J : i_Rel (k + 5) u v := i_up I
  revert J
  refine cb_el (Q := fun u v => i_Rel (k + 5) u v → wpX_count (fun r => wpY_count (fun r' => r' = r ∧ i_Rel (k + 5) u v) v v1) u v1) ?_ I
  intro N Bu P pr g f_tests f_jumps f_copy f_chosen f_truth f_queued f_pending a_kinds a_as a_bs a_yesTo a_noTo a_start a_values a_log a_reached a_raised a_sets a_strides a_queue a_stack a_waiting a_base a_weights a_origin a_nextYes a_nextNo a_decided a_path a_next b_reached b_raised b_sets hB hM J
  exact br_c (fun z => br_t z ⟨rfl, J⟩) fun z => br_c (fun y => br_f z (br_t y ⟨rfl, J⟩)) fun y => br_c (fun x => br_f z (br_f y (br_t x ⟨rfl, J⟩))) fun x => br_f z (br_f y (br_f x ⟨rfl, J⟩))
theorem i_vc_print {k : Nat} {u : SX} {v : SY} (I : i_Rel k u v) (hk : k + 5 ≤ 2562) (v1 : Int32) : wpX_print (fun r => wpY_print (fun r' => r' = r ∧ i_Rel (k + 5) u v) v v1) u v1 := by
  have J : i_Rel (k + 5) u v := i_up I
  revert J
  refine cb_el (Q := fun u v => i_Rel (k + 5) u v → wpX_print (fun r => wpY_print (fun r' => r' = r ∧ i_Rel (k + 5) u v) v v1) u v1) ?_ I
  intro N Bu P pr g f_tests f_jumps f_copy f_chosen f_truth f_queued f_pending a_kinds a_as a_bs a_yesTo a_noTo a_start a_values a_log a_reached a_raised a_sets a_strides a_queue a_stack a_waiting a_base a_weights a_origin a_nextYes a_nextNo a_decided a_path a_next b_reached b_raised b_sets hB hM J
  have hP := hB.2.2.2.1
  refine br_c (fun z => br_t z ⟨rfl, J⟩) fun z => br_c (fun y => ?_) fun y => br_f z (br_f y ⟨rfl, J⟩)
  have hi : vp_in v1 32 := by
    obtain ⟨j, hj, rfl⟩ := nI_of z
    rw [nI_ltI hj (by omega)] at y
    exact cb_in (by omega) (by omega)
  exact And.intro hi (br_f z (br_t y (And.intro hi ⟨rfl, J⟩)))
theorem i_vc_restart {k : Nat} {u : SX} {v : SY} (I : i_Rel k u v) (hk : k + 5 ≤ 2562) : wpX_restart (fun u' => wpY_restart (fun v' => i_Rel (k + 5) u' v') v) u := by
  refine cb_el (Q := fun u v => wpX_restart (fun u' => wpY_restart (fun v' => i_Rel (k + 5) u' v') v) u) ?_ I
  intro N Bu P pr g f_tests f_jumps f_copy f_chosen f_truth f_queued f_pending a_kinds a_as a_bs a_yesTo a_noTo a_start a_values a_log a_reached a_raised a_sets a_strides a_queue a_stack a_waiting a_base a_weights a_origin a_nextYes a_nextNo a_decided a_path a_next b_reached b_raised b_sets hB hM
  have hG := hB.1
  have hst := hB.2.2.2.2.2.1
  have hva := hB.2.2.2.2.2.2
  have hNpos := hB.1.1
  have hN12 := hB.1.2.1
  rcases hM with e | ⟨d, x, e, hO, hC⟩
  · subst e
    refine xw_restart_p (by decide) _ (yw_restart _ fun pa _ => ?_)
    exact cb_mk (P := 0) (pr := 0) (g := g) ⟨hB.1, hB.2.1, hB.2.2.1, by omega, by omega, hst, fun j => cb_cp_r hva hst 4 j⟩ (.inl rfl)
  · subst e
    have hO' := hO
    obtain ⟨hdN, hd, hRd, hXQ, hXL, hXO, hXN, hre, hYQ⟩ := hO
    have hw0 := cb_wt0 hG d
    have ecopy : (a_base 0 + a_weights 0) - 1 = nI (cb_bo g d 0 + (cb_wt' g d 0 - 1)) := by
      obtain ⟨b1, b2, _⟩ := hXL.2 0 (by omega)
      rw [b1, b2, nI_add, show (1 : Int32) = nI 1 from rfl, pk_sub (by omega)]
      congr 1; omega
    refine xw_restart_o (nI_pos' (by omega)) _ (yw_restart _ fun pa hpa => ?_)
    rw [ecopy]
    refine cb_mk (P := 0) (pr := 0) (g := g) ⟨hB.1, hB.2.1, hB.2.2.1, by omega, by omega, hst, fun j => cb_cp_r hva hst 4 j⟩ (.inr ⟨d, cb_wt' g d 0 - 1, rfl, hO', rfl, by omega, fun q hq => ?_⟩)
    rw [hpa q (cb_Rq_R hG hRd hq).2, cb_an_0 hG hRd hq]
    rfl
theorem i_vc_optimize {k : Nat} {u : SX} {v : SY} (I : i_Rel k u v) (hk : k + 5 ≤ 2562) (v1 : Int32) : wpX_optimize (fun r u' => wpY_optimize (fun r' v' => r' = r ∧ i_Rel (k + 5) u' v') v v1) u v1 := by
  refine cb_el (Q := fun u v => wpX_optimize (fun r u' => wpY_optimize (fun r' v' => r' = r ∧ i_Rel (k + 5) u' v') v v1) u v1) ?_ I
  intro N Bu P pr g f_tests f_jumps f_copy f_chosen f_truth f_queued f_pending a_kinds a_as a_bs a_yesTo a_noTo a_start a_values a_log a_reached a_raised a_sets a_strides a_queue a_stack a_waiting a_base a_weights a_origin a_nextYes a_nextNo a_decided a_path a_next b_reached b_raised b_sets hB hM
  have hG := hB.1
  have hA := hB.2.1
  have hst := hB.2.2.2.2.2.1
  have hva := hB.2.2.2.2.2.2
  have hNpos := hB.1.1
  have hN12 := hB.1.2.1
  by_cases hc : 0 ≤ f_chosen
  · exact br_t hc (br_t hc ⟨rfl, cb_mk hB hM⟩)
  have e1 := cb_M_neg hM hN12 hc
  by_cases n0 : v1 < 0
  · exact br_f hc (br_t n0 (br_t rfl (br_f hc (br_t n0 (br_t rfl ⟨rfl, cb_mk hB hM⟩)))))
  by_cases n1 : nI N ≤ v1
  · exact br_f hc (br_f n0 (br_t n1 (br_t rfl (br_f hc (br_f n0 (br_t n1 (br_t rfl ⟨rfl, cb_mk hB hM⟩)))))))
  obtain ⟨d, hdN, rfl⟩ : ∃ n, n < N ∧ v1 = nI n := by
    rcases pk_ix v1 (n := N) (by omega) with z | z | z
    · exact absurd z n0
    · exact absurd z n1
    · exact z
  subst e1
  refine xw_optimize hG hA hdN hB.2.2.1 _ ?_ ?_ ?_ ?_ ?_
  · intro z
    exact yw_optimize hG hA hdN hB.2.2.1 _ (fun _ => ⟨rfl, cb_mk hB hM⟩) (fun y => absurd y z) (fun y => absurd y z) (fun y => absurd y z) (fun y => absurd y z)
  · intro z y _ _ _
    exact yw_optimize hG hA hdN hB.2.2.1 _ (fun x => absurd z x) (fun _ _ _ => ⟨rfl, cb_mk hB (.inl rfl)⟩) (fun _ x => absurd x y) (fun _ x => absurd x y) (fun _ x => absurd x y)
  · intro z y w _ _ _ _ _ _ _ _ _ _
    exact yw_optimize hG hA hdN hB.2.2.1 _ (fun x => absurd z x) (fun _ x => absurd y x) (fun _ _ _ _ _ _ => ⟨rfl, cb_mk hB (.inl rfl)⟩) (fun _ _ x => absurd w x) (fun _ _ x => absurd w x)
  · intro z y w s _ _ _ _ _ _ _ _ _ _ _ _
    exact yw_optimize hG hA hdN hB.2.2.1 _ (fun x => absurd z x) (fun _ x => absurd y x) (fun _ _ x => absurd x w) (fun _ _ _ _ _ _ _ => ⟨rfl, cb_mk hB (.inl rfl)⟩) (fun _ _ _ x => absurd x s)
  · intro z hRd w s f_truth f_queued f_pending a_reached a_raised a_sets a_strides a_queue a_stack a_waiting a_base a_weights a_origin a_nextYes a_nextNo a_decided hXQ hXL hXO hXN
    refine yw_optimize hG hA hdN hB.2.2.1 _ (fun x => absurd z x) (fun _ x => absurd hRd x) (fun _ _ x => absurd x w) (fun _ _ _ x => absurd s x) (fun _ _ _ _ pa re ra se hpa hre hYQ => ⟨rfl, ?_⟩)
    have hg := hG.2.2 d
    have hw0 := cb_wt0 hG d
    refine cb_mk (P := 0) (pr := 0) (g := g) ⟨hB.1, hB.2.1, hB.2.2.1, by omega, by omega, hst, fun j => cb_cp_r hva hst 4 j⟩ (.inr ⟨d, cb_wt' g d 0 - 1, rfl, ⟨hdN, by omega, hRd, hXQ, hXL, hXO, hXN, hre, hYQ⟩, rfl, by omega, fun q hq => ?_⟩)
    rw [hpa q (cb_Rq_R hG hRd hq).2, cb_an_0 hG hRd hq]
    rfl
theorem i_vc_answers {k : Nat} {u : SX} {v : SY} (I : i_Rel k u v) (hk : k + 5 ≤ 2562) (v1 : Int32) (v2 : Int32) (v3 : Int32) : wpX_answers (fun r => wpY_answers (fun r' => r' = r ∧ i_Rel (k + 5) u v) v v1 v2 v3) u v1 v2 v3 := by
  have J : i_Rel (k + 5) u v := i_up I
  revert J
  refine cb_el (Q := fun u v => i_Rel (k + 5) u v → wpX_answers (fun r => wpY_answers (fun r' => r' = r ∧ i_Rel (k + 5) u v) v v1 v2 v3) u v1 v2 v3) ?_ I
  intro N Bu P pr g f_tests f_jumps f_copy f_chosen f_truth f_queued f_pending a_kinds a_as a_bs a_yesTo a_noTo a_start a_values a_log a_reached a_raised a_sets a_strides a_queue a_stack a_waiting a_base a_weights a_origin a_nextYes a_nextNo a_decided a_path a_next b_reached b_raised b_sets hB hM J
  have hN12 := hB.1.2.1
  by_cases hc : f_chosen < 0
  · exact br_t hc (br_t hc ⟨rfl, J⟩)
  by_cases n0 : v1 < 0
  · exact br_f hc (br_t n0 (br_t rfl (br_f hc (br_t n0 (br_t rfl ⟨rfl, J⟩)))))
  by_cases n1 : nI N ≤ v1
  · exact br_f hc (br_f n0 (br_t n1 (br_t rfl (br_f hc (br_f n0 (br_t n1 (br_t rfl ⟨rfl, J⟩)))))))
  obtain ⟨n, hn, rfl⟩ : ∃ n, n < N ∧ v1 = nI n := by
    rcases pk_ix v1 (n := N) (by omega) with z | z | z
    · exact absurd z n0
    · exact absurd z n1
    · exact z
  obtain ⟨d, x, e, hO, hC⟩ := cb_M_pos hM (fun z => hc (by rw [z]; decide))
  obtain ⟨hdN, hd, hRd, hXQ, hXL, hXO, hXN, hre, hYQ⟩ := hO
  obtain ⟨a, ha, ea⟩ : ∃ a, a < 4 ∧ v2 &&& 3 = nI a := pk_andE v2 2 (by decide)
  obtain ⟨b, hb, eb⟩ := cb_a7 v3
  have ei : nI n * 32 + (v2 &&& 3) * 8 + (v3 &&& 7) = nI (n * 32 + (a * 8 + b)) := by
    rw [ea, eb, show (32 : Int32) = nI 32 from rfl, show (8 : Int32) = nI 8 from rfl, pk_mul, pk_mul, nI_add, nI_add]
    congr 1; omega
  have hi : vp_in (nI (n * 32 + (a * 8 + b))) 384 := cb_in (by omega) (by omega)
  have hcl : (nI (n * 32 + (a * 8 + b))).toNatClampNeg = n * 32 + (a * 8 + b) := cb_cl (by omega)
  obtain ⟨x1, x2⟩ := hXQ n (a * 8 + b) (by omega) (by omega)
  obtain ⟨y1, y2⟩ := hYQ n (a * 8 + b) (by omega) (by omega)
  refine br_f hc (br_f n0 (br_f n1 (br_f (by decide) (nm_r ei (And.intro hi ?_)))))
  rw [hcl]
  refine br_c (fun z => br_f hc (br_f n0 (br_f n1 (br_f (by decide) (nm_r ei (And.intro hi (br_t ?_ ⟨rfl, J⟩))))))) (fun z => And.intro hi (br_f hc (br_f n0 (br_f n1 (br_f (by decide) (nm_r ei (And.intro hi (br_f ?_ (And.intro hi ⟨?_, J⟩)))))))))
  · rw [hcl]; exact Classical.byContradiction fun w => x1.mpr (y1.mp w) z
  · rw [hcl]; exact y1.mpr (x1.mp z)
  · rw [hcl, y2, x2 (x1.mp z)]
theorem i_vc_weight {k : Nat} {u : SX} {v : SY} (I : i_Rel k u v) (hk : k + 5 ≤ 2562) (v1 : Int32) : wpX_weight (fun r => wpY_weight (fun r' => r' = r ∧ i_Rel (k + 5) u v) v v1) u v1 := by
  have J : i_Rel (k + 5) u v := i_up I
  revert J
  refine cb_el (Q := fun u v => i_Rel (k + 5) u v → wpX_weight (fun r => wpY_weight (fun r' => r' = r ∧ i_Rel (k + 5) u v) v v1) u v1) ?_ I
  intro N Bu P pr g f_tests f_jumps f_copy f_chosen f_truth f_queued f_pending a_kinds a_as a_bs a_yesTo a_noTo a_start a_values a_log a_reached a_raised a_sets a_strides a_queue a_stack a_waiting a_base a_weights a_origin a_nextYes a_nextNo a_decided a_path a_next b_reached b_raised b_sets hB hM J
  have hN12 := hB.1.2.1
  by_cases hc : f_chosen < 0
  · exact br_t hc (br_t hc ⟨rfl, J⟩)
  by_cases n0 : v1 < 0
  · exact br_f hc (br_t n0 (br_t rfl (br_f hc (br_t n0 (br_t rfl ⟨rfl, J⟩)))))
  by_cases n1 : nI N ≤ v1
  · exact br_f hc (br_f n0 (br_t n1 (br_t rfl (br_f hc (br_f n0 (br_t n1 (br_t rfl ⟨rfl, J⟩)))))))
  obtain ⟨n, hn, rfl⟩ : ∃ n, n < N ∧ v1 = nI n := by
    rcases pk_ix v1 (n := N) (by omega) with z | z | z
    · exact absurd z n0
    · exact absurd z n1
    · exact z
  obtain ⟨d, x, e, hO, hC⟩ := cb_M_pos hM (fun z => hc (by rw [z]; decide))
  obtain ⟨hdN, hd, hRd, hXQ, hXL, hXO, hXN, hre, hYQ⟩ := hO
  refine br_f hc (br_f n0 (br_f n1 (br_f (by decide) (And.intro (cb_in (by omega) (by omega)) ?_))))
  refine br_f hc (br_f n0 (br_f n1 (br_f (by decide) (yw_weightOf hre hYQ (by omega) _ ⟨?_, J⟩))))
  rw [cb_cl (by omega), (hXL.2 n hn).2.1, lN_i]
theorem i_vc_known {k : Nat} {u : SX} {v : SY} (I : i_Rel k u v) (hk : k + 5 ≤ 2562) (v1 : Int32) (v2 : Int32) : wpX_known (fun r => wpY_known (fun r' => r' = r ∧ i_Rel (k + 5) u v) v v1 v2) u v1 v2 := by
  have J : i_Rel (k + 5) u v := i_up I
  revert J
  refine cb_el (Q := fun u v => i_Rel (k + 5) u v → wpX_known (fun r => wpY_known (fun r' => r' = r ∧ i_Rel (k + 5) u v) v v1 v2) u v1 v2) ?_ I
  intro N Bu P pr g f_tests f_jumps f_copy f_chosen f_truth f_queued f_pending a_kinds a_as a_bs a_yesTo a_noTo a_start a_values a_log a_reached a_raised a_sets a_strides a_queue a_stack a_waiting a_base a_weights a_origin a_nextYes a_nextNo a_decided a_path a_next b_reached b_raised b_sets hB hM J
  have hN12 := hB.1.2.1
  have hpr := hB.2.2.2.2.1
  have hG := hB.1
  obtain ⟨a, ha, ea⟩ : ∃ a, a < 4 ∧ v1 &&& 3 = nI a := pk_andE v1 2 (by decide)
  obtain ⟨b, hb, eb⟩ := cb_a7 v2
  have ei : (v1 &&& 3) * 8 + (v2 &&& 7) = nI (a * 8 + b) := by
    rw [ea, eb, show (8 : Int32) = nI 8 from rfl, pk_mul, nI_add]
  refine nm_r ei ?_
  by_cases hc : f_chosen < 0
  · exact br_t hc (nm_r ei (br_t hc ⟨rfl, J⟩))
  obtain ⟨d, x, e, hO, hC⟩ := cb_M_pos hM (fun z => hc (by rw [z]; decide))
  obtain ⟨hdN, hd, hRd, hXQ, hXL, hXO, hXN, hre, hYQ⟩ := hO
  obtain ⟨hc1, hx, hpa⟩ := hC
  have hi : vp_in (nI (pr * 32 + (a * 8 + b))) 384 := cb_in (by omega) (by omega)
  have hcl : (nI (pr * 32 + (a * 8 + b))).toNatClampNeg = pr * 32 + (a * 8 + b) := cb_cl (by omega)
  obtain ⟨x1, x2⟩ := hXQ pr (a * 8 + b) (by omega) (by omega)
  obtain ⟨y1, y2⟩ := hYQ pr (a * 8 + b) (by omega) (by omega)
  refine br_f hc ?_
  rw [cb_ix, hcl]
  refine And.intro hi (br_c (fun z => nm_r ei (br_f hc ?_)) (fun z => ?_))
  · rw [cb_ix, hcl]
    exact And.intro hi (br_t (Classical.byContradiction fun w => x1.mpr (y1.mp w) z) ⟨rfl, J⟩)
  · have hr := x1.mp z
    have ho := hXO pr hpr x hx
    rw [hc1] at J ⊢
    refine xw_answerAt hG hRd hXQ hXL hr hx ho _ (nm_r ei (br_f hc ?_))
    rw [cb_ix, hcl]
    refine And.intro hi (br_f (y1.mpr hr) (And.intro (cb_in (by omega) (by omega)) ⟨?_, J⟩))
    rw [cb_cl (by omega)]
    exact hpa _ hr
theorem i_vc_run {k : Nat} {u : SX} {v : SY} (I : i_Rel k u v) (hk : k + 5 ≤ 2562) (v1 : Int32) : wpX_run (fun r u' => wpY_run (fun r' v' => r' = r ∧ i_Rel (k + 5) u' v') v v1) u v1 := by
  obtain ⟨L, hL0, hL, h⟩ := cb_clp 0 200 v1 (by omega) (by omega)
  have I0 : i_Rel 0 u v := I
  obtain ⟨r, u', v', hR, hX, hY⟩ := zw_run hL L 0 u v (by omega) I0
  have hR' : i_Rel (k + 5) u' v' := hR
  clear I I0 hR
  obtain ⟨x1, x2, x3, x4, x5, x6, x7, x8, x9, x10, x11, x12, x13, x14, x15, x16, x17, x18, x19, x20, x21, x22, x23, x24, x25, x26, x27, x28, x29, x30, x31, x32⟩ := u
  obtain ⟨y1, y2, y3, y4, y5, y6, y7, y8, y9, y10, y11, y12, y13, y14, y15, y16, y17, y18, y19, y20⟩ := v
  have hX2 : ∀ post : Int32 → SX → Prop, post r u' → wX_run_25 post (nI L) (L + 1) (nI 0) x1 x2 x3 x4 x5 x6 x7 x8 x9 x10 x11 x12 x13 x14 x15 x16 x17 x18 x19 x20 x21 x22 x23 x24 x25 x26 x27 x28 x29 x30 x31 x32 := hX
  have hY2 : ∀ post : Int32 → SY → Prop, post r v' → wY_run_25 post (nI L) (L + 1) (nI 0) y1 y2 y3 y4 y5 y6 y7 y8 y9 y10 y11 y12 y13 y14 y15 y16 y17 y18 y19 y20 := hY
  clear hX hY
  rcases h with ⟨h1, h2, e⟩ | ⟨h1, h2, e⟩ | ⟨h1, e⟩
  · subst e
    exact br_t h1 (br_t h2 ⟨L + 1, hX2 _ (br_t h1 (br_t h2 ⟨L + 1, hY2 _ ⟨rfl, hR'⟩⟩))⟩)
  · subst e
    exact br_t h1 (br_f h2 ⟨201, hX2 _ (br_t h1 (br_f h2 ⟨201, hY2 _ ⟨rfl, hR'⟩⟩))⟩)
  · subst e
    exact br_f h1 ⟨1, hX2 _ (br_f h1 ⟨1, hY2 _ ⟨rfl, hR'⟩⟩)⟩
end zwOwed
end
